section
/-! rows of kit/rows (starting text) -/
theorem pk_us {f : Nat → Int32} {k : Nat} {x : Int32} : upd f k x k = x := if_pos rfl
theorem pk_un {f : Nat → Int32} {k j : Nat} {x : Int32} (h : j ≠ k) : upd f k x j = f j := if_neg h
theorem pk_sub {a b : Nat} (h : b ≤ a) : nI a - nI b = nI (a - b) := by
  obtain ⟨c, rfl⟩ : ∃ c, a = c + b := ⟨a - b, by omega⟩
  rw [← nI_add, Int32.add_sub_cancel, Nat.add_sub_cancel]
theorem pk_m1 (n : Nat) : nI (n + 1) + (-1) = nI n := by
  rw [← nI_1, Int32.add_assoc, show (1 : Int32) + (-1) = 0 from rfl, Int32.add_zero]
theorem pk_mul (a b : Nat) : nI a * nI b = nI (a * b) := (Int32.ofNat_mul a b).symm
theorem pk_div {a d : Nat} (ha : a < 2 ^ 31) (h0 : 0 < d) (hd : d < 2 ^ 31) : nI a / nI d = nI (a / d) := by
  apply Int32.toInt_inj.mp
  rw [lg_idiv_nonneg (by rw [nI_toInt ha]; omega) (by rw [nI_toInt hd]; omega), nI_toInt ha, nI_toInt hd, nI_toInt (Nat.lt_of_le_of_lt (Nat.div_le_self a d) ha)]
  first | rfl | exact (Int.natCast_ediv _ _).symm
theorem pk_rem {a d : Nat} (ha : a < 2 ^ 31) (h0 : 0 < d) (hd : d < 2 ^ 31) : nI a - nI a / nI d * nI d = nI (a % d) := by
  rw [pk_div ha h0 hd, pk_mul, pk_sub (Nat.div_mul_le_self a d)]
  exact congrArg nI (by have := Nat.div_add_mod' a d; omega)
theorem pk_le {x y : Int32} {A B : Prop} (a b : Nat) (f : a ≤ b → A) (g : b < a → B) (hx : x = nI a := by rfl) (hy : y = nI b := by rfl) (ha : a < 2 ^ 31 := by omega) (hb : b < 2 ^ 31 := by omega) : (x ≤ y → A) ∧ (¬ x ≤ y → B) := by
  subst hx hy
  rw [nI_leI ha hb]
  exact ⟨f, fun z => g (by omega)⟩
theorem pk_lt {x y : Int32} {A B : Prop} (a b : Nat) (f : a < b → A) (g : b ≤ a → B) (hx : x = nI a := by rfl) (hy : y = nI b := by rfl) (ha : a < 2 ^ 31 := by omega) (hb : b < 2 ^ 31 := by omega) : (x < y → A) ∧ (¬ x < y → B) := by
  subst hx hy
  rw [nI_ltI ha hb]
  exact ⟨f, fun z => g (by omega)⟩
theorem pk_eq {x y : Int32} {A B : Prop} (a b : Nat) (f : a = b → A) (g : a ≠ b → B) (hx : x = nI a := by rfl) (hy : y = nI b := by rfl) (ha : a < 2 ^ 31 := by omega) (hb : b < 2 ^ 31 := by omega) : (x = y → A) ∧ (¬ x = y → B) := by
  subst hx hy
  rw [nI_eq ha hb]
  exact ⟨f, g⟩
theorem pk_in {x : Int32} (n N : Nat) (h : n < N) (hx : x = nI n := by rfl) (hN : N < 2 ^ 31 := by omega) : vp_in x N := by
  subst hx
  exact vp_in_nI h hN
theorem pk_cl {x : Int32} (n : Nat) (hx : x = nI n := by rfl) (h : n < 2 ^ 31 := by omega) : x.toNatClampNeg = n := by
  subst hx
  exact nI_clamp h
theorem pk_tn {n : Nat} (h : n < 2 ^ 32) : (nI n).toBitVec.toNat = n := Nat.mod_eq_of_lt h
theorem pk_and (x : Int32) {m : Int32} (k : Nat) (hm : m.toBitVec.toNat = 2 ^ k - 1) : x &&& m = nI (x.toBitVec.toNat % 2 ^ k) := by
  apply Int32.toBitVec_inj.mp
  apply BitVec.eq_of_toNat_eq
  rw [Int32.toBitVec_and, BitVec.toNat_and, hm, Nat.and_two_pow_sub_one_eq_mod]
  show _ = (BitVec.ofNat 32 _).toNat
  rw [BitVec.toNat_ofNat]
  exact (Nat.mod_eq_of_lt (Nat.lt_of_le_of_lt (Nat.mod_le _ _) x.toBitVec.isLt)).symm
theorem pk_andN {n : Nat} (h : n < 2 ^ 32) {m : Int32} (k : Nat) (hm : m.toBitVec.toNat = 2 ^ k - 1) : nI n &&& m = nI (n % 2 ^ k) := by
  rw [pk_and _ k hm, pk_tn h]
theorem pk_shl (a s : Int32) (k : Nat) (hs : (s.toBitVec.smod 32).toNat = k) : (a <<< s).toBitVec.toNat = a.toBitVec.toNat * 2 ^ k % 2 ^ 32 := by
  show (a.toBitVec <<< (s.toBitVec.smod 32).toNat).toNat = _
  rw [hs, BitVec.toNat_shiftLeft, Nat.shiftLeft_eq]
theorem pk_shlN {n : Nat} (s : Int32) (k : Nat) (hs : (s.toBitVec.smod 32).toNat = k) (h : n * 2 ^ k < 2 ^ 32) : nI n <<< s = nI (n * 2 ^ k) := by
  apply Int32.toBitVec_inj.mp
  apply BitVec.eq_of_toNat_eq
  have hn : n < 2 ^ 32 := Nat.lt_of_le_of_lt (Nat.le_mul_of_pos_right n (Nat.two_pow_pos k)) h
  rw [pk_shl _ _ k hs, pk_tn hn, pk_tn h, Nat.mod_eq_of_lt h]
theorem pk_shr (a s : Int32) (k : Nat) (hs : (s.toBitVec.smod 32).toNat = k) : (a >>> s).toInt = a.toInt >>> k := by
  show (a.toBitVec.sshiftRight (s.toBitVec.smod 32).toNat).toInt = _
  rw [hs, BitVec.toInt_sshiftRight]
  rfl
theorem pk_shrN {n : Nat} (h : n < 2 ^ 31) (s : Int32) (k : Nat) (hs : (s.toBitVec.smod 32).toNat = k) : nI n >>> s = nI (n / 2 ^ k) := by
  apply Int32.toInt_inj.mp
  have h2 : n / 2 ^ k ≤ n := Nat.div_le_self _ _
  rw [pk_shr _ _ k hs, nI_toInt h, nI_toInt (by omega), Int.shiftRight_eq_div_pow]
  rfl
theorem pk_vb (z : Int32) : vp_nar .byte z.toInt8.toInt32 = z.toInt8.toInt32 := by rw [vp_nar_byte]; simp
theorem pk_vs (z : Int32) : vp_nar .short z.toInt16.toInt32 = z.toInt16.toInt32 := by rw [vp_nar_short]; simp
theorem s_l : ∀ n, n < 32 → ((nI n &&& 31).toBitVec.smod 32).toNat = n := by decide +kernel
theorem nx_and (a b : Nat) : nI a &&& nI b = nI (a &&& b) := by
  apply Int32.toBitVec_inj.1
  show BitVec.ofNat 32 a &&& BitVec.ofNat 32 b = BitVec.ofNat 32 (a &&& b)
  apply BitVec.eq_of_getLsbD_eq
  intro i hi
  simp [hi]
theorem nx_xor (a b : Nat) : nI a ^^^ nI b = nI (a ^^^ b) := by
  apply Int32.toBitVec_inj.1
  show BitVec.ofNat 32 a ^^^ BitVec.ofNat 32 b = BitVec.ofNat 32 (a ^^^ b)
  apply BitVec.eq_of_getLsbD_eq
  intro i hi
  simp [hi]
/-! own rows on ints -/
theorem lc_nor (a b : Nat) : nI a ||| nI b = nI (a ||| b) := by
  apply Int32.toBitVec_inj.1
  show BitVec.ofNat 32 a ||| BitVec.ofNat 32 b = BitVec.ofNat 32 (a ||| b)
  apply BitVec.eq_of_getLsbD_eq
  intro i hi
  simp [hi]
def lc_bI (c : Bool) : Int32 := cond c 1 0
theorem lc_bI_nI (c : Bool) : lc_bI c = nI c.toNat := by cases c <;> rfl
theorem lc_bI_0 (c : Bool) : lc_bI c = 0 ↔ c = false := by cases c <;> decide
theorem lc_bI_1 (c : Bool) : lc_bI c = 1 ↔ c = true := by cases c <;> decide
theorem lc_narb (c : Bool) : vp_nar .boolean (lc_bI c) = lc_bI c := by cases c <;> rfl
theorem lc_shl {l : Nat} (h : l ≤ 30) : (1 : Int32) <<< (nI l &&& 31) = nI (2 ^ l) := by
  have e := pk_shlN (n := 1) (nI l &&& 31) l (s_l l (by omega)) (by
    rw [Nat.one_mul]
    exact Nat.pow_lt_pow_right (by omega) (by omega))
  rw [Nat.one_mul] at e
  exact e
theorem lc_bit {x i : Nat} (hx : x < 2 ^ 31) (hi : i < 32) : (nI x >>> (nI i &&& 31)) &&& 1 = lc_bI (x.testBit i) := by
  rw [pk_shrN hx (nI i &&& 31) i (s_l i hi), lc_bI_nI, Nat.toNat_testBit]
  show nI (x / 2 ^ i) &&& nI 1 = _
  rw [nx_and, Nat.and_one_is_mod]
theorem lc_bit1 {x i : Nat} (hx : x < 2 ^ 31) (hi : i < 32) : (nI x >>> (nI i &&& 31)) &&& 1 = 1 ↔ x.testBit i = true := by
  rw [lc_bit hx hi, lc_bI_1]
theorem lc_bit0 {x i : Nat} (hx : x < 2 ^ 31) (hi : i < 32) : (nI x >>> (nI i &&& 31)) &&& 1 = 0 ↔ x.testBit i = false := by
  rw [lc_bit hx hi, lc_bI_0]
theorem lc_i16 {x : Nat} (h : x < 32768) : (nI x).toInt16.toInt32 = nI x := by
  have e := nI_toInt (n := x) (by omega)
  exact lg_i2s_small (by rw [e]; omega) (by rw [e]; omega)
theorem lc_i8 {x : Nat} (h : x < 128) : (nI x).toInt8.toInt32 = nI x := by
  have e := nI_toInt (n := x) (by omega)
  exact lg_i2b_small (by rw [e]; omega) (by rw [e]; omega)
theorem lc_nars {x : Nat} (h : x < 32768) : vp_nar .short (nI x) = nI x := by rw [vp_nar_short, lc_i16 h]
theorem lc_narb8 {x : Nat} (h : x < 128) : vp_nar .byte (nI x) = nI x := by rw [vp_nar_byte, lc_i8 h]
theorem lc_10 {n : Nat} (h : n ≤ 10) : 2 ^ n ≤ 1024 := Nat.pow_le_pow_right (n := 2) (j := 10) (by omega) h
theorem lc_w31 {n x : Nat} (h : n ≤ 10) (hx : x < 2 ^ n) : x < 2 ^ 31 := Nat.lt_trans (Nat.lt_of_lt_of_le hx (lc_10 h)) (by omega)
theorem lc_w1024 {n x : Nat} (h : n ≤ 10) (hx : x < 2 ^ n) : x < 1024 := Nat.lt_of_lt_of_le hx (lc_10 h)
end
section
/-! words as naturals: xor, selection, xor sums, the linear map of a basis -/
theorem lc_xx (a b : Nat) : (a ^^^ b) ^^^ b = a := by rw [Nat.xor_assoc, Nat.xor_self, Nat.xor_zero]
theorem lc_xl (a b : Nat) : a ^^^ (a ^^^ b) = b := by rw [← Nat.xor_assoc, Nat.xor_self, Nat.zero_xor]
theorem lc_x0 {a b : Nat} : a ^^^ b = 0 ↔ a = b := by
  constructor
  · intro h
    have e := lc_xx a b
    rw [h, Nat.zero_xor] at e
    exact e.symm
  · intro h
    rw [h]
    exact Nat.xor_self b
theorem lc_x4 (a b c d : Nat) : (a ^^^ b) ^^^ (c ^^^ d) = (a ^^^ c) ^^^ (b ^^^ d) := by
  apply Nat.eq_of_testBit_eq
  intro i
  simp only [Nat.testBit_xor]
  cases a.testBit i <;> cases b.testBit i <;> cases c.testBit i <;> cases d.testBit i <;> rfl
theorem lc_xswap (a b c : Nat) : (a ^^^ b) ^^^ c = (a ^^^ c) ^^^ b := by rw [Nat.xor_assoc, Nat.xor_comm b c, ← Nat.xor_assoc]
def lc_sel (c : Bool) (w : Nat) : Nat := cond c w 0
theorem lc_sel_t (w : Nat) : lc_sel true w = w := rfl
theorem lc_sel_f (w : Nat) : lc_sel false w = 0 := rfl
theorem lc_sel_0 (c : Bool) : lc_sel c 0 = 0 := by cases c <;> rfl
theorem lc_sel_bit (c : Bool) (w i : Nat) : (lc_sel c w).testBit i = (c && w.testBit i) := by cases c <;> simp [lc_sel]
theorem lc_sel_xor (c d : Bool) (w : Nat) : lc_sel (c ^^ d) w = lc_sel c w ^^^ lc_sel d w := by cases c <;> cases d <;> simp [lc_sel]
theorem lc_sel_x (c : Bool) (u v : Nat) : lc_sel c (u ^^^ v) = lc_sel c u ^^^ lc_sel c v := by cases c <;> simp [lc_sel]
theorem lc_sel_sel (c d : Bool) (w : Nat) : lc_sel c (lc_sel d w) = lc_sel (c && d) w := by cases c <;> cases d <;> rfl
theorem lc_sel_lt {c : Bool} {w m : Nat} (h : w < 2 ^ m) : lc_sel c w < 2 ^ m := by
  cases c
  · exact Nat.two_pow_pos m
  · exact h
def lc_xs : Nat → (Nat → Bool) → Bool
  | 0, _ => false
  | n + 1, f => lc_xs n f ^^ f n
theorem lc_xs_congr {n : Nat} {f g : Nat → Bool} (h : ∀ i, i < n → f i = g i) : lc_xs n f = lc_xs n g := by
  induction n with
  | zero => rfl
  | succ n ih =>
    simp only [lc_xs]
    rw [ih (fun i hi => h i (by omega)), h n (by omega)]
theorem lc_xs_f (n : Nat) : lc_xs n (fun _ => false) = false := by
  induction n with
  | zero => rfl
  | succ n ih => simp only [lc_xs, ih]; rfl
theorem lc_xs_0 {n : Nat} {f : Nat → Bool} (h : ∀ i, i < n → f i = false) : lc_xs n f = false := (lc_xs_congr h).trans (lc_xs_f n)
theorem lc_xs_1 {n : Nat} {f : Nat → Bool} {p : Nat} (hp : p < n) (h : ∀ i, i < n → i ≠ p → f i = false) : lc_xs n f = f p := by
  induction n with
  | zero => omega
  | succ n ih =>
    simp only [lc_xs]
    by_cases e : p = n
    · subst e
      rw [lc_xs_0 (fun i hi => h i (by omega) (by omega)), Bool.false_xor]
    · rw [ih (by omega) (fun i hi => h i (by omega)), h n (by omega) (fun z => e z.symm), Bool.xor_false]
theorem lc_xs_xor (n : Nat) (f g : Nat → Bool) : lc_xs n (fun i => f i ^^ g i) = (lc_xs n f ^^ lc_xs n g) := by
  induction n with
  | zero => rfl
  | succ n ih =>
    simp only [lc_xs, ih]
    cases lc_xs n f <;> cases lc_xs n g <;> cases f n <;> cases g n <;> rfl
theorem lc_xs_and (n : Nat) (f : Nat → Bool) (c : Bool) : lc_xs n (fun i => c && f i) = (c && lc_xs n f) := by
  cases c
  · exact lc_xs_0 (fun i _ => Bool.false_and _)
  · rw [Bool.true_and]
    exact lc_xs_congr (fun i _ => Bool.true_and _)
def lc_lin : Nat → (Nat → Nat) → Nat → Nat
  | 0, _, _ => 0
  | n + 1, b, x => lc_lin n b x ^^^ lc_sel (x.testBit n) (b n)
theorem lc_lin_xor (n : Nat) (b : Nat → Nat) (x y : Nat) : lc_lin n b (x ^^^ y) = lc_lin n b x ^^^ lc_lin n b y := by
  induction n with
  | zero => exact (Nat.zero_xor 0).symm
  | succ n ih =>
    simp only [lc_lin, ih, Nat.testBit_xor, lc_sel_xor]
    exact lc_x4 _ _ _ _
theorem lc_lin_0 (n : Nat) (b : Nat → Nat) : lc_lin n b 0 = 0 := by
  induction n with
  | zero => rfl
  | succ n ih => simp only [lc_lin, ih, Nat.zero_testBit, lc_sel_f]; rfl
theorem lc_lin_bit (n : Nat) (b : Nat → Nat) (x j : Nat) : (lc_lin n b x).testBit j = lc_xs n (fun i => x.testBit i && (b i).testBit j) := by
  induction n with
  | zero => exact Nat.zero_testBit j
  | succ n ih => simp only [lc_lin, lc_xs, Nat.testBit_xor, lc_sel_bit, ih]
theorem lc_lin_lt {n m : Nat} {b : Nat → Nat} {x : Nat} (h : ∀ i, i < n → b i < 2 ^ m) : lc_lin n b x < 2 ^ m := by
  induction n with
  | zero => exact Nat.two_pow_pos m
  | succ n ih => exact Nat.xor_lt_two_pow (ih (fun i hi => h i (by omega))) (lc_sel_lt (h n (by omega)))
theorem lc_lin_cx {n : Nat} {b : Nat → Nat} {x y : Nat} (h : ∀ i, i < n → b i ≠ 0 → x.testBit i = y.testBit i) : lc_lin n b x = lc_lin n b y := by
  induction n with
  | zero => rfl
  | succ n ih =>
    simp only [lc_lin]
    rw [ih (fun i hi => h i (by omega))]
    by_cases z : b n = 0
    · rw [z, lc_sel_0, lc_sel_0]
    · rw [h n (by omega) z]
theorem lc_lin_cb {n : Nat} {b b' : Nat → Nat} {x : Nat} (h : ∀ i, i < n → b i = b' i) : lc_lin n b x = lc_lin n b' x := by
  induction n with
  | zero => rfl
  | succ n ih =>
    simp only [lc_lin]
    rw [ih (fun i hi => h i (by omega)), h n (by omega)]
theorem lc_lin_pow {n : Nat} {b : Nat → Nat} {p : Nat} (hp : p < n) : lc_lin n b (2 ^ p) = b p := by
  apply Nat.eq_of_testBit_eq
  intro j
  rw [lc_lin_bit, lc_xs_1 hp]
  · rw [Nat.testBit_two_pow_self, Bool.true_and]
  · intro i _ hi
    rw [Nat.testBit_two_pow_of_ne (fun z => hi z.symm), Bool.false_and]
theorem lc_lin_z (n x : Nat) : lc_lin n (fun _ => 0) x = 0 := by
  induction n with
  | zero => rfl
  | succ n ih => simp only [lc_lin, ih, lc_sel_0]; rfl
def lc_dt (n x y : Nat) : Bool := lc_xs n (fun i => x.testBit i && y.testBit i)
theorem lc_dt_comm (n x y : Nat) : lc_dt n x y = lc_dt n y x := lc_xs_congr (fun i _ => Bool.and_comm _ _)
theorem lc_dt_xl (n x x' y : Nat) : lc_dt n (x ^^^ x') y = (lc_dt n x y ^^ lc_dt n x' y) := by
  unfold lc_dt
  rw [← lc_xs_xor]
  apply lc_xs_congr
  intro i _
  rw [Nat.testBit_xor]
  cases x.testBit i <;> cases x'.testBit i <;> cases y.testBit i <;> rfl
theorem lc_dt_0 (n y : Nat) : lc_dt n 0 y = false := lc_xs_0 (fun i _ => by rw [Nat.zero_testBit, Bool.false_and])
theorem lc_dt_sel (n : Nat) (c : Bool) (w y : Nat) : lc_dt n (lc_sel c w) y = (c && lc_dt n w y) := by
  cases c
  · exact lc_dt_0 n y
  · rfl
theorem lc_dt_lin (m n : Nat) (b : Nat → Nat) (x y : Nat) : lc_dt m (lc_lin n b x) y = lc_xs n (fun i => x.testBit i && lc_dt m (b i) y) := by
  induction n with
  | zero => exact lc_dt_0 m y
  | succ n ih => simp only [lc_lin, lc_xs, lc_dt_xl, lc_dt_sel, ih]
/-! reduced bases -/
def lc_Red (n : Nat) (b : Nat → Nat) : Prop := (∀ i, n ≤ i → b i = 0) ∧ ∀ i, b i ≠ 0 → (b i).testBit i = true ∧ b i < 2 ^ (i + 1) ∧ ∀ j, j ≠ i → (b j).testBit i = false
theorem lc_Red_0 (n : Nat) : lc_Red n (fun _ => 0) := ⟨fun _ _ => rfl, fun _ h => absurd rfl h⟩
theorem lc_Red_piv {n : Nat} {b : Nat → Nat} (h : lc_Red n b) {i : Nat} (hi : b i ≠ 0) : i < n := by
  rcases Nat.lt_or_ge i n with z | z
  · exact z
  · exact absurd (h.1 i z) hi
theorem lc_Red_lt {n : Nat} {b : Nat → Nat} (h : lc_Red n b) (i : Nat) : b i < 2 ^ n := by
  by_cases z : b i = 0
  · rw [z]; exact Nat.two_pow_pos n
  · exact Nat.lt_of_lt_of_le (h.2 i z).2.1 (Nat.pow_le_pow_right (by omega) (lc_Red_piv h z))
theorem lc_Red_bit {n : Nat} {b : Nat → Nat} (h : lc_Red n b) {i : Nat} (hi : b i ≠ 0) (x : Nat) : (lc_lin n b x).testBit i = x.testBit i := by
  rw [lc_lin_bit, lc_xs_1 (lc_Red_piv h hi)]
  · rw [(h.2 i hi).1, Bool.and_true]
  · intro j _ hj
    rw [(h.2 i hi).2.2 j hj, Bool.and_false]
theorem lc_Red_ll {n : Nat} {b : Nat → Nat} (h : lc_Red n b) (x : Nat) : lc_lin n b (lc_lin n b x) = lc_lin n b x := lc_lin_cx (fun _ _ hi => lc_Red_bit h hi x)
theorem lc_Red_b {n : Nat} {b : Nat → Nat} (h : lc_Red n b) (i : Nat) : lc_lin n b (b i) = b i := by
  by_cases z : b i = 0
  · rw [z, lc_lin_0]
  · refine Eq.trans ?_ (lc_lin_pow (b := b) (lc_Red_piv h z))
    apply lc_lin_cx
    intro j _ hj
    by_cases e : i = j
    · subst e
      rw [(h.2 i z).1, Nat.testBit_two_pow_self]
    · rw [(h.2 j hj).2.2 i e, Nat.testBit_two_pow_of_ne e]
abbrev lc_M (n : Nat) (b : Nat → Nat) (x : Nat) : Prop := lc_lin n b x = x
theorem lc_M_0 (n : Nat) (b : Nat → Nat) : lc_M n b 0 := lc_lin_0 n b
theorem lc_M_x {n : Nat} {b : Nat → Nat} {x y : Nat} (hx : lc_M n b x) (hy : lc_M n b y) : lc_M n b (x ^^^ y) := by
  show lc_lin n b (x ^^^ y) = x ^^^ y
  rw [lc_lin_xor, hx, hy]
theorem lc_M_sel {n : Nat} {b : Nat → Nat} {x : Nat} {c : Bool} (hx : lc_M n b x) : lc_M n b (lc_sel c x) := by
  cases c
  · exact lc_M_0 n b
  · exact hx
theorem lc_M_iff {n : Nat} {b : Nat → Nat} {x y : Nat} (hy : lc_M n b y) : lc_M n b (x ^^^ y) ↔ lc_M n b x := by
  constructor
  · intro h
    have e := lc_M_x h hy
    rw [lc_xx] at e
    exact e
  · intro h
    exact lc_M_x h hy
theorem lc_M_lt {n : Nat} {b : Nat → Nat} (h : lc_Red n b) {x : Nat} (hx : lc_M n b x) : x < 2 ^ n := by
  rw [← hx]
  exact lc_lin_lt (fun i _ => lc_Red_lt h i)
theorem lc_M_z {n x : Nat} : lc_M n (fun _ => 0) x ↔ x = 0 := by
  show lc_lin n (fun _ => 0) x = x ↔ _
  rw [lc_lin_z]
  exact ⟨fun h => h.symm, fun h => h.symm⟩
theorem lc_top {n : Nat} {b : Nat → Nat} (h : lc_Red n b) {x p : Nat} (hx : lc_M n b x) (hl : x < 2 ^ (p + 1)) (hp : x.testBit p = true) : b p ≠ 0 := by
  intro z
  have e : (lc_lin n b x).testBit p = false := by
    rw [lc_lin_bit]
    apply lc_xs_0
    intro i _
    rcases Nat.lt_trichotomy i p with c | c | c
    · have : (b i).testBit p = false := by
        by_cases y : b i = 0
        · rw [y, Nat.zero_testBit]
        · exact Nat.testBit_lt_two_pow (Nat.lt_of_lt_of_le (h.2 i y).2.1 (Nat.pow_le_pow_right (by omega) c))
      rw [this, Bool.and_false]
    · rw [c, z, Nat.zero_testBit, Bool.and_false]
    · rw [Nat.testBit_lt_two_pow (Nat.lt_of_lt_of_le hl (Nat.pow_le_pow_right (by omega) c)), Bool.false_and]
  rw [hx, hp] at e
  exact Bool.noConfusion e
/-! what is left of a word -/
def lc_rs (n : Nat) (b : Nat → Nat) (w : Nat) : Nat := w ^^^ lc_lin n b w
theorem lc_rs_M {n : Nat} {b : Nat → Nat} {w : Nat} : lc_rs n b w = 0 ↔ lc_M n b w := lc_x0.trans ⟨fun h => h.symm, fun h => h.symm⟩
theorem lc_rs_lt {n : Nat} {b : Nat → Nat} (h : lc_Red n b) {w : Nat} (hw : w < 2 ^ n) : lc_rs n b w < 2 ^ n := Nat.xor_lt_two_pow hw (lc_lin_lt (fun i _ => lc_Red_lt h i))
theorem lc_rs_lin {n : Nat} {b : Nat → Nat} (h : lc_Red n b) (w : Nat) : lc_lin n b (lc_rs n b w) = 0 := by
  unfold lc_rs
  rw [lc_lin_xor, lc_Red_ll h, Nat.xor_self]
theorem lc_rs_piv {n : Nat} {b : Nat → Nat} (h : lc_Red n b) {i : Nat} (hi : b i ≠ 0) (w : Nat) : (lc_rs n b w).testBit i = false := by
  unfold lc_rs
  rw [Nat.testBit_xor, lc_Red_bit h hi, Bool.xor_self]
theorem lc_rs_xor (n : Nat) (b : Nat → Nat) (x y : Nat) : lc_rs n b (x ^^^ y) = lc_rs n b x ^^^ lc_rs n b y := by
  unfold lc_rs
  rw [lc_lin_xor]
  exact lc_x4 _ _ _ _
theorem lc_rs_rs {n : Nat} {b : Nat → Nat} (h : lc_Red n b) (w : Nat) : lc_rs n b (lc_rs n b w) = lc_rs n b w := by
  rw [lc_rs, lc_rs_lin h, Nat.xor_zero]
theorem lc_rs_eq {n : Nat} {b : Nat → Nat} {x y : Nat} : lc_rs n b x = lc_rs n b y ↔ lc_M n b (x ^^^ y) := by
  rw [← lc_rs_M, lc_rs_xor, lc_x0]
/-! one word more -/
def lc_ins (b : Nat → Nat) (l q : Nat) : Nat → Nat := fun i => b i ^^^ lc_sel ((b i).testBit q ^^ decide (i = q)) l
theorem lc_ins_lin0 (b : Nat → Nat) (l q x m : Nat) : lc_lin m (lc_ins b l q) x = lc_lin m b x ^^^ lc_sel (lc_xs m (fun i => x.testBit i && ((b i).testBit q ^^ decide (i = q)))) l := by
  induction m with
  | zero => exact (Nat.zero_xor 0).symm
  | succ m ih =>
    simp only [lc_lin, lc_xs, ih]
    rw [lc_ins, lc_sel_x, lc_sel_sel, lc_sel_xor]
    exact lc_x4 _ _ _ _
theorem lc_ins_lin {n q : Nat} (b : Nat → Nat) (l x : Nat) (hq : q < n) : lc_lin n (lc_ins b l q) x = lc_lin n b x ^^^ lc_sel ((lc_rs n b x).testBit q) l := by
  rw [lc_ins_lin0]
  congr 2
  rw [lc_rs, Nat.testBit_xor, lc_lin_bit, Bool.xor_comm]
  have e : lc_xs n (fun i => x.testBit i && decide (i = q)) = x.testBit q := by
    rw [lc_xs_1 hq]
    · simp
    · intro i _ hi
      simp [hi]
  rw [← e, ← lc_xs_xor]
  apply lc_xs_congr
  intro i _
  cases x.testBit i <;> rfl
theorem lc_ins_M {n q l x : Nat} {b : Nat → Nat} (hq : q < n) (hl : l.testBit q = true) (h0 : lc_lin n b l = 0) : lc_M n (lc_ins b l q) x ↔ lc_M n b x ∨ lc_M n b (x ^^^ l) := by
  show lc_lin n (lc_ins b l q) x = x ↔ lc_lin n b x = x ∨ lc_lin n b (x ^^^ l) = x ^^^ l
  rw [lc_ins_lin b l x hq, lc_lin_xor, h0, Nat.xor_zero]
  cases c : (lc_rs n b x).testBit q
  · rw [lc_sel_f, Nat.xor_zero]
    constructor
    · exact Or.inl
    · intro h
      rcases h with h | h
      · exact h
      · rw [lc_rs, h, lc_xl, hl] at c
        exact Bool.noConfusion c
  · rw [lc_sel_t]
    constructor
    · intro h
      exact Or.inr (by rw [← h, lc_xx, h])
    · intro h
      rcases h with h | h
      · rw [lc_rs, h, Nat.xor_self, Nat.zero_testBit] at c
        exact Bool.noConfusion c
      · rw [h, lc_xx]
theorem lc_ins_Red {n l : Nat} {b : Nat → Nat} (h : lc_Red n b) (hn : l < 2 ^ n) (h0 : l ≠ 0) (hp : ∀ i, b i ≠ 0 → l.testBit i = false) : lc_Red n (lc_ins b l l.log2) := by
  have hq : l.log2 < n := (Nat.log2_lt h0).mpr hn
  have ht := Nat.testBit_log2 h0
  have hl : l < 2 ^ (l.log2 + 1) := Nat.lt_log2_self
  generalize l.log2 = q at *
  have bq : b q = 0 := by
    by_cases z : b q = 0
    · exact z
    · rw [hp q z] at ht
      exact Bool.noConfusion ht
  have eq : lc_ins b l q q = l := by
    simp only [lc_ins, bq, Nat.zero_testBit, decide_true, Bool.false_xor, lc_sel_t, Nat.zero_xor]
  have en : ∀ i, i ≠ q → lc_ins b l q i = b i ^^^ lc_sel ((b i).testBit q) l := by
    intro i hi
    simp only [lc_ins, decide_eq_false hi, Bool.xor_false]
  refine ⟨?_, ?_⟩
  · intro i hi
    rw [en i (by omega), h.1 i hi, Nat.zero_testBit, lc_sel_f, Nat.xor_zero]
  · intro i hi
    by_cases e : i = q
    · subst e
      rw [eq]
      refine ⟨ht, hl, ?_⟩
      intro j hj
      rw [en j hj, Nat.testBit_xor, lc_sel_bit, ht, Bool.and_true, Bool.xor_self]
    · rw [en i e] at hi ⊢
      have bi : b i ≠ 0 := by
        intro z
        apply hi
        rw [z, Nat.zero_testBit, lc_sel_f, Nat.xor_zero]
      refine ⟨?_, ?_, ?_⟩
      · rw [Nat.testBit_xor, lc_sel_bit, hp i bi, Bool.and_false, Bool.xor_false]
        exact (h.2 i bi).1
      · apply Nat.xor_lt_two_pow (h.2 i bi).2.1
        cases c : (b i).testBit q
        · exact Nat.two_pow_pos _
        · have : q < i := by
            rcases Nat.lt_or_ge q i with y | y
            · exact y
            · have := Nat.testBit_lt_two_pow (x := b i) (i := q) (Nat.lt_of_lt_of_le (h.2 i bi).2.1 (Nat.pow_le_pow_right (by omega) (by omega)))
              rw [this] at c
              exact Bool.noConfusion c
          exact Nat.lt_of_lt_of_le hl (Nat.pow_le_pow_right (by omega) (by omega))
      · intro j hj
        by_cases y : j = q
        · rw [y, eq]
          exact hp i bi
        · rw [en j y, Nat.testBit_xor, lc_sel_bit, hp i bi, Bool.and_false, Bool.xor_false]
          exact (h.2 i bi).2.2 j hj
def lc_inc (n : Nat) (b : Nat → Nat) (w : Nat) : Nat → Nat := if lc_rs n b w = 0 then b else lc_ins b (lc_rs n b w) (lc_rs n b w).log2
theorem lc_inc_Red {n w : Nat} {b : Nat → Nat} (h : lc_Red n b) (hw : w < 2 ^ n) : lc_Red n (lc_inc n b w) := by
  unfold lc_inc
  split
  · exact h
  · rename_i z
    exact lc_ins_Red h (lc_rs_lt h hw) z (fun i hi => lc_rs_piv h hi w)
theorem lc_inc_M {n w x : Nat} {b : Nat → Nat} (h : lc_Red n b) (hw : w < 2 ^ n) : lc_M n (lc_inc n b w) x ↔ lc_M n b x ∨ lc_M n b (x ^^^ w) := by
  unfold lc_inc
  split
  · rename_i z
    rw [lc_M_iff (lc_rs_M.mp z), or_self]
  · rename_i z
    rw [lc_ins_M ((Nat.log2_lt z).mpr (lc_rs_lt h hw)) (Nat.testBit_log2 z) (lc_rs_lin h w)]
    have e : x ^^^ lc_rs n b w = (x ^^^ w) ^^^ lc_lin n b w := by rw [lc_rs, Nat.xor_assoc]
    rw [e, lc_M_iff (lc_Red_ll h w)]
theorem lc_inc_0 (n : Nat) (b : Nat → Nat) : lc_inc n b 0 = b := by
  unfold lc_inc
  rw [if_pos (lc_rs_M.mpr (lc_M_0 n b))]
end
section
/-! many words more; images of linear maps -/
def lc_incs (n : Nat) (b : Nat → Nat) (ws : Nat → Nat) : Nat → (Nat → Nat)
  | 0 => b
  | m + 1 => lc_inc n (lc_incs n b ws m) (ws m)
theorem lc_incs_Red {n : Nat} {b ws : Nat → Nat} (h : lc_Red n b) {m : Nat} (hw : ∀ t, t < m → ws t < 2 ^ n) : lc_Red n (lc_incs n b ws m) := by
  induction m with
  | zero => exact h
  | succ m ih => exact lc_inc_Red (ih (fun t ht => hw t (by omega))) (hw m (by omega))
theorem lc_incs_up {n : Nat} {b ws : Nat → Nat} (h : lc_Red n b) {m x : Nat} (hw : ∀ t, t < m → ws t < 2 ^ n) (hx : lc_M n b x) : lc_M n (lc_incs n b ws m) x := by
  induction m with
  | zero => exact hx
  | succ m ih => exact (lc_inc_M (lc_incs_Red h (fun t ht => hw t (by omega))) (hw m (by omega))).mpr (Or.inl (ih (fun t ht => hw t (by omega))))
theorem lc_incs_w {n : Nat} {b ws : Nat → Nat} (h : lc_Red n b) {m : Nat} (hw : ∀ t, t < m → ws t < 2 ^ n) {t : Nat} (ht : t < m) : lc_M n (lc_incs n b ws m) (ws t) := by
  induction m with
  | zero => omega
  | succ m ih =>
    refine (lc_inc_M (lc_incs_Red h (fun t ht => hw t (by omega))) (hw m (by omega))).mpr ?_
    by_cases e : t = m
    · subst e
      rw [Nat.xor_self]
      exact Or.inr (lc_M_0 _ _)
    · exact Or.inl (ih (fun t ht => hw t (by omega)) (by omega))
theorem lc_incs_least {n : Nat} {b ws : Nat → Nat} (h : lc_Red n b) {m : Nat} (hw : ∀ t, t < m → ws t < 2 ^ n) {D : Nat → Prop} (hx : ∀ x y, D x → D y → D (x ^^^ y)) (h0 : ∀ x, lc_M n b x → D x) (h1 : ∀ t, t < m → D (ws t)) : ∀ x, lc_M n (lc_incs n b ws m) x → D x := by
  induction m with
  | zero => exact h0
  | succ m ih =>
    intro x h2
    have ih' := ih (fun t ht => hw t (by omega)) (fun t ht => h1 t (by omega))
    rcases (lc_inc_M (lc_incs_Red h (fun t ht => hw t (by omega))) (hw m (by omega))).mp h2 with c | c
    · exact ih' x c
    · have e := hx _ _ (ih' _ c) (h1 m (by omega))
      rw [lc_xx] at e
      exact e
theorem lc_f0 {f : Nat → Nat} (hf : ∀ x y, f (x ^^^ y) = f x ^^^ f y) : f 0 = 0 := by
  have e := hf 0 0
  rw [Nat.xor_self, Nat.xor_self] at e
  exact e
theorem lc_img {n : Nat} {b : Nat → Nat} (h : lc_Red n b) {f : Nat → Nat} (hf : ∀ x y, f (x ^^^ y) = f x ^^^ f y) (hl : ∀ i, i < n → f (b i) < 2 ^ n) {y : Nat} : lc_M n (lc_incs n (fun _ => 0) (fun i => f (b i)) n) y ↔ ∃ x, lc_M n b x ∧ f x = y := by
  constructor
  · refine lc_incs_least (lc_Red_0 n) hl (D := fun y => ∃ x, lc_M n b x ∧ f x = y) ?_ ?_ ?_ y
    · rintro x y ⟨x', hx, rfl⟩ ⟨y', hy, rfl⟩
      exact ⟨x' ^^^ y', lc_M_x hx hy, hf _ _⟩
    · intro x hx
      rw [lc_M_z.mp hx]
      exact ⟨0, lc_M_0 n b, lc_f0 hf⟩
    · intro t _
      exact ⟨b t, lc_Red_b h t, rfl⟩
  · rintro ⟨x, hx, rfl⟩
    have k : ∀ m, m ≤ n → lc_M n (lc_incs n (fun _ => 0) (fun i => f (b i)) n) (f (lc_lin m b x)) := by
      intro m
      induction m with
      | zero =>
        intro _
        show lc_M n _ (f 0)
        rw [lc_f0 hf]
        exact lc_M_0 _ _
      | succ m ih =>
        intro hm
        rw [lc_lin, hf]
        refine lc_M_x (ih (by omega)) ?_
        cases x.testBit m
        · rw [lc_sel_f, lc_f0 hf]
          exact lc_M_0 _ _
        · exact lc_incs_w (ws := fun i => f (b i)) (lc_Red_0 n) hl (by omega)
    have e := k n (Nat.le_refl n)
    rw [hx] at e
    exact e
/-! counting -/
def lc_cnt : Nat → (Nat → Bool) → Nat
  | 0, _ => 0
  | n + 1, p => lc_cnt n p + (p n).toNat
theorem lc_cnt_congr {n : Nat} {p q : Nat → Bool} (h : ∀ i, i < n → p i = q i) : lc_cnt n p = lc_cnt n q := by
  induction n with
  | zero => rfl
  | succ n ih =>
    simp only [lc_cnt]
    rw [ih (fun i hi => h i (by omega)), h n (by omega)]
theorem lc_cnt_le (n : Nat) (p : Nat → Bool) : lc_cnt n p ≤ n := by
  induction n with
  | zero => exact Nat.le_refl 0
  | succ n ih =>
    simp only [lc_cnt]
    have := Bool.toNat_le (p n)
    omega
theorem lc_cnt_mono {m n : Nat} (p : Nat → Bool) (h : m ≤ n) : lc_cnt m p ≤ lc_cnt n p := by
  induction n with
  | zero => rw [Nat.le_zero.mp h]; exact Nat.le_refl _
  | succ n ih =>
    by_cases e : m = n + 1
    · rw [e]; exact Nat.le_refl _
    · have := ih (by omega)
      simp only [lc_cnt]
      omega
theorem lc_cnt_lt {m n : Nat} {p : Nat → Bool} (h : m < n) (hp : p m = true) : lc_cnt m p < lc_cnt n p := by
  have e := lc_cnt_mono p (show m + 1 ≤ n from h)
  simp only [lc_cnt, hp, Bool.toNat_true] at e
  omega
theorem lc_cnt_0 {n : Nat} {p : Nat → Bool} (h : ∀ i, i < n → p i = false) : lc_cnt n p = 0 := by
  induction n with
  | zero => rfl
  | succ n ih =>
    simp only [lc_cnt]
    rw [ih (fun i hi => h i (by omega)), h n (by omega)]
    rfl
theorem lc_cnt_t (n : Nat) : lc_cnt n (fun _ => true) = n := by
  induction n with
  | zero => rfl
  | succ n ih => simp only [lc_cnt, ih, Bool.toNat_true]
theorem lc_cnt_rm {n z : Nat} {q : Nat → Bool} (hz : z < n) (hq : q z = true) : lc_cnt n q = lc_cnt n (fun x => q x && !decide (x = z)) + 1 := by
  induction n with
  | zero => omega
  | succ n ih =>
    simp only [lc_cnt]
    by_cases e : z = n
    · subst e
      rw [hq, lc_cnt_congr (n := z) (p := fun x => q x && !decide (x = z)) (q := q)]
      · simp
      · intro i hi
        have : i ≠ z := by omega
        simp [this]
    · rw [ih (by omega)]
      have : n ≠ z := fun y => e y.symm
      simp [this]
      omega
theorem lc_cnt_inj {K N : Nat} {p q : Nat → Bool} (f : Nat → Nat) (h1 : ∀ i, i < K → p i = true → f i < N ∧ q (f i) = true) (h2 : ∀ i j, i < K → j < K → p i = true → p j = true → f i = f j → i = j) : lc_cnt K p ≤ lc_cnt N q := by
  induction K generalizing q with
  | zero => exact Nat.zero_le _
  | succ K ih =>
    simp only [lc_cnt]
    cases c : p K
    · rw [Bool.toNat_false, Nat.add_zero]
      exact ih (fun i hi => h1 i (by omega)) (fun i j hi hj => h2 i j (by omega) (by omega))
    · rw [Bool.toNat_true, lc_cnt_rm (h1 K (by omega) c).1 (h1 K (by omega) c).2]
      apply Nat.add_le_add_right
      apply ih
      · intro i hi hp
        refine ⟨(h1 i (by omega) hp).1, ?_⟩
        have : f i ≠ f K := by
          intro y
          have := h2 i K (by omega) (by omega) hp c y
          omega
        simp [(h1 i (by omega) hp).2, this]
      · exact fun i j hi hj => h2 i j (by omega) (by omega)
theorem lc_cnt_sur {K N : Nat} {p q : Nat → Bool} (f : Nat → Nat) (h : ∀ x, x < N → q x = true → ∃ i, i < K ∧ p i = true ∧ f i = x) : lc_cnt N q ≤ lc_cnt K p := by
  induction K generalizing q with
  | zero =>
    rw [lc_cnt_0]
    · exact Nat.zero_le _
    · intro x hx
      cases c : q x
      · rfl
      · obtain ⟨i, hi, _⟩ := h x hx c
        omega
  | succ K ih =>
    simp only [lc_cnt]
    by_cases c : p K = true ∧ f K < N ∧ q (f K) = true
    · rw [c.1, lc_cnt_rm c.2.1 c.2.2, Bool.toNat_true]
      apply Nat.add_le_add_right
      apply ih
      intro x hx hq
      simp only [Bool.and_eq_true, Bool.not_eq_true', decide_eq_false_iff_not] at hq
      obtain ⟨i, hi, hp, rfl⟩ := h x hx hq.1
      refine ⟨i, ?_, hp, rfl⟩
      have : i ≠ K := fun y => hq.2 (by rw [y])
      omega
    · apply Nat.le_trans _ (Nat.le_add_right _ _)
      apply ih
      intro x hx hq
      obtain ⟨i, hi, hp, rfl⟩ := h x hx hq
      refine ⟨i, ?_, hp, rfl⟩
      have : i ≠ K := fun y => c (by subst y; exact ⟨hp, hx, hq⟩)
      omega
theorem lc_cnt_bij {K N : Nat} {p q : Nat → Bool} (f : Nat → Nat) (h1 : ∀ i, i < K → p i = true → f i < N ∧ q (f i) = true) (h2 : ∀ i j, i < K → j < K → p i = true → p j = true → f i = f j → i = j) (h : ∀ x, x < N → q x = true → ∃ i, i < K ∧ p i = true ∧ f i = x) : lc_cnt K p = lc_cnt N q :=
  Nat.le_antisymm (lc_cnt_inj f h1 h2) (lc_cnt_sur f h)
/-! the words of a code in order -/
def lc_dim (n : Nat) (b : Nat → Nat) : Nat := lc_cnt n (fun i => !decide (b i = 0))
theorem lc_dim_s (p : Nat) (b : Nat → Nat) : lc_dim (p + 1) b = if b p = 0 then lc_dim p b else lc_dim p b + 1 := by
  unfold lc_dim
  simp only [lc_cnt]
  split
  · rename_i h; simp [h]
  · rename_i h; simp [h]
theorem lc_dim_le (n : Nat) (b : Nat → Nat) : lc_dim n b ≤ n := lc_cnt_le _ _
def lc_W : Nat → (Nat → Nat) → Nat → Nat
  | 0, _, _ => 0
  | p + 1, b, i => lc_W p b i ^^^ lc_sel (!decide (b p = 0) && i.testBit (lc_dim p b)) (b p)
theorem lc_W_z {p : Nat} {b : Nat → Nat} {i : Nat} (h : b p = 0) : lc_W (p + 1) b i = lc_W p b i := by
  simp only [lc_W, h, lc_sel_0, Nat.xor_zero]
theorem lc_W_nz {p : Nat} {b : Nat → Nat} {i : Nat} (h : b p ≠ 0) : lc_W (p + 1) b i = lc_W p b i ^^^ lc_sel (i.testBit (lc_dim p b)) (b p) := by
  simp [lc_W, h]
theorem lc_W_M {n : Nat} {b : Nat → Nat} (h : lc_Red n b) (p i : Nat) : lc_M n b (lc_W p b i) := by
  induction p with
  | zero => exact lc_M_0 n b
  | succ p ih => exact lc_M_x ih (lc_M_sel (lc_Red_b h p))
theorem lc_W_lt {n : Nat} {b : Nat → Nat} (h : lc_Red n b) (p i : Nat) : lc_W p b i < 2 ^ p := by
  induction p with
  | zero => exact Nat.one_pos
  | succ p ih =>
    refine Nat.xor_lt_two_pow (Nat.lt_of_lt_of_le ih (Nat.pow_le_pow_right (by omega) (by omega))) (lc_sel_lt ?_)
    by_cases z : b p = 0
    · rw [z]; exact Nat.two_pow_pos _
    · exact (h.2 p z).2.1
theorem lc_W_low {b : Nat → Nat} {p i j : Nat} (h : ∀ t, t < lc_dim p b → i.testBit t = j.testBit t) : lc_W p b i = lc_W p b j := by
  induction p with
  | zero => rfl
  | succ p ih =>
    by_cases z : b p = 0
    · rw [lc_W_z z, lc_W_z z]
      refine ih (fun t ht => h t ?_)
      rw [lc_dim_s, if_pos z]
      exact ht
    · have e : lc_dim (p + 1) b = lc_dim p b + 1 := by rw [lc_dim_s, if_neg z]
      rw [lc_W_nz z, lc_W_nz z, h (lc_dim p b) (by omega), ih (fun t ht => h t (by omega))]
theorem lc_W_0 (p : Nat) (b : Nat → Nat) : lc_W p b 0 = 0 := by
  induction p with
  | zero => rfl
  | succ p ih => simp only [lc_W, ih, Nat.zero_testBit, Bool.and_false, lc_sel_f]; rfl
theorem lc_pw {d i : Nat} (h : 2 ^ d ≤ i) (h2 : i < 2 ^ (d + 1)) : ∃ j, j < 2 ^ d ∧ i = 2 ^ d + j ∧ i.testBit d = true ∧ ∀ t, t < d → i.testBit t = j.testBit t := by
  rw [Nat.pow_succ] at h2
  obtain ⟨j, rfl⟩ : ∃ j, i = 2 ^ d + j := ⟨i - 2 ^ d, by omega⟩
  refine ⟨j, by omega, rfl, ?_, ?_⟩
  · rw [Nat.testBit_two_pow_add_eq, Nat.testBit_lt_two_pow (show j < 2 ^ d by omega)]
    rfl
  · intro t ht
    exact Nat.testBit_two_pow_add_gt ht j
theorem lc_lt_pow {x p : Nat} (h : x < 2 ^ (p + 1)) (hb : x.testBit p = false) : x < 2 ^ p := by
  rcases Nat.lt_or_ge x (2 ^ p) with c | c
  · exact c
  · obtain ⟨_, _, _, e, _⟩ := lc_pw c h
    rw [e] at hb
    exact Bool.noConfusion hb
theorem lc_W_sur {n : Nat} {b : Nat → Nat} (h : lc_Red n b) (p : Nat) : ∀ x, x < 2 ^ p → lc_M n b x → ∃ i, i < 2 ^ lc_dim p b ∧ lc_W p b i = x := by
  induction p with
  | zero =>
    intro x hx _
    exact ⟨0, Nat.one_pos, by have : x = 0 := by omega
                              rw [this]; rfl⟩
  | succ p ih =>
    intro x hx hM
    cases c : x.testBit p
    · obtain ⟨i, hi, e⟩ := ih x (lc_lt_pow hx c) hM
      by_cases z : b p = 0
      · refine ⟨i, ?_, by rw [lc_W_z z]; exact e⟩
        rw [lc_dim_s, if_pos z]
        exact hi
      · refine ⟨i, ?_, ?_⟩
        · rw [lc_dim_s, if_neg z]
          exact Nat.lt_of_lt_of_le hi (Nat.pow_le_pow_right (by omega) (by omega))
        · rw [lc_W_nz z, Nat.testBit_lt_two_pow hi, lc_sel_f, Nat.xor_zero]
          exact e
    · have z := lc_top h hM hx c
      obtain ⟨i, hi, e⟩ := ih (x ^^^ b p) (lc_lt_pow (Nat.xor_lt_two_pow hx (h.2 p z).2.1) (by rw [Nat.testBit_xor, c, (h.2 p z).1]; rfl)) (lc_M_x hM (lc_Red_b h p))
      have hlt : 2 ^ lc_dim p b + i < 2 ^ (lc_dim p b + 1) := by rw [Nat.pow_succ]; omega
      refine ⟨2 ^ lc_dim p b + i, ?_, ?_⟩
      · rw [lc_dim_s, if_neg z]
        exact hlt
      · rw [lc_W_nz z, Nat.testBit_two_pow_add_eq, Nat.testBit_lt_two_pow hi, lc_W_low (j := i), e]
        · exact lc_xx _ _
        · intro t ht
          exact Nat.testBit_two_pow_add_gt ht i
/-! order by the highest place that differs -/
theorem lc_lt_bit : ∀ (m : Nat) {x y t : Nat}, x < 2 ^ m → y < 2 ^ m → x.testBit t = false → y.testBit t = true → (∀ j, t < j → x.testBit j = y.testBit j) → x < y := by
  intro m
  induction m with
  | zero =>
    intro x y t hx hy h0 h1 _
    have : y = 0 := by omega
    rw [this, Nat.zero_testBit] at h1
    exact Bool.noConfusion h1
  | succ m ih =>
    intro x y t hx hy h0 h1 h
    by_cases e : t = m
    · subst e
      exact Nat.lt_of_lt_of_le (lc_lt_pow hx h0) (Nat.ge_two_pow_of_testBit h1)
    · have htm : t < m := by
        rcases Nat.lt_or_ge t m with c | c
        · exact c
        · rw [Nat.testBit_lt_two_pow (Nat.lt_of_lt_of_le hy (Nat.pow_le_pow_right (by omega) (by omega)))] at h1
          exact Bool.noConfusion h1
      have em := h m htm
      cases c : y.testBit m
      · exact ih (lc_lt_pow hx (em.trans c)) (lc_lt_pow hy c) h0 h1 h
      · obtain ⟨x', hx', rfl, _, bx⟩ := lc_pw (Nat.ge_two_pow_of_testBit (em.trans c)) hx
        obtain ⟨y', hy', rfl, _, bY⟩ := lc_pw (Nat.ge_two_pow_of_testBit c) hy
        apply Nat.add_lt_add_left
        refine ih hx' hy' (t := t) ?_ ?_ ?_
        · rw [← bx t htm]; exact h0
        · rw [← bY t htm]; exact h1
        · intro j hj
          rcases Nat.lt_or_ge j m with d | d
          · rw [← bx j d, ← bY j d]; exact h j hj
          · rw [Nat.testBit_lt_two_pow (Nat.lt_of_lt_of_le hx' (Nat.pow_le_pow_right (by omega) d)), Nat.testBit_lt_two_pow (Nat.lt_of_lt_of_le hy' (Nat.pow_le_pow_right (by omega) d))]
theorem lc_diff {x y : Nat} (h : x < y) : ∃ t, x.testBit t = false ∧ y.testBit t = true ∧ (∀ j, t < j → x.testBit j = y.testBit j) ∧ x ^^^ y < 2 ^ (t + 1) ∧ (x ^^^ y).testBit t = true := by
  have h0 : x ^^^ y ≠ 0 := fun z => by have := lc_x0.mp z; omega
  have ht := Nat.testBit_log2 h0
  have hl : x ^^^ y < 2 ^ ((x ^^^ y).log2 + 1) := Nat.lt_log2_self
  have hj : ∀ j, (x ^^^ y).log2 < j → x.testBit j = y.testBit j := by
    intro j hj
    have e := Nat.testBit_lt_two_pow (Nat.lt_of_lt_of_le hl (Nat.pow_le_pow_right (by omega) hj))
    rw [Nat.testBit_xor] at e
    cases c : x.testBit j <;> cases d : y.testBit j <;> rw [c, d] at e <;> first | rfl | exact Bool.noConfusion e
  refine ⟨(x ^^^ y).log2, ?_, ?_, hj, hl, ht⟩
  all_goals
    generalize (x ^^^ y).log2 = t at *
    rw [Nat.testBit_xor] at ht
    have hm : y < 2 ^ y := Nat.lt_two_pow_self
    cases c : x.testBit t <;> cases d : y.testBit t <;> rw [c, d] at ht <;> first | rfl | exact Bool.noConfusion ht | (
      have := lc_lt_bit y hm (Nat.lt_trans h hm) d c (fun j h => (hj j h).symm)
      omega)
theorem lc_W_mono {n : Nat} {b : Nat → Nat} (h : lc_Red n b) (p : Nat) : ∀ i j, i < j → j < 2 ^ lc_dim p b → lc_W p b i < lc_W p b j := by
  induction p with
  | zero =>
    intro i j hij hj
    have : lc_dim 0 b = 0 := rfl
    rw [this] at hj
    omega
  | succ p ih =>
    intro i j hij hj
    by_cases z : b p = 0
    · rw [lc_W_z z, lc_W_z z]
      rw [lc_dim_s, if_pos z] at hj
      exact ih i j hij hj
    · rw [lc_dim_s, if_neg z] at hj
      rw [lc_W_nz z, lc_W_nz z]
      rcases Nat.lt_or_ge j (2 ^ lc_dim p b) with c | c
      · rw [Nat.testBit_lt_two_pow c, Nat.testBit_lt_two_pow (Nat.lt_trans hij c), lc_sel_f, Nat.xor_zero, Nat.xor_zero]
        exact ih i j hij c
      · obtain ⟨j', hj', rfl, tj, bj⟩ := lc_pw c hj
        have wj := lc_W_low (b := b) (p := p) bj
        rw [tj, wj, lc_sel_t]
        rcases Nat.lt_or_ge i (2 ^ lc_dim p b) with d | d
        · rw [Nat.testBit_lt_two_pow d, lc_sel_f, Nat.xor_zero]
          refine Nat.lt_of_lt_of_le (lc_W_lt h p i) (Nat.ge_two_pow_of_testBit ?_)
          rw [Nat.testBit_xor, (h.2 p z).1, Nat.testBit_lt_two_pow (lc_W_lt h p j')]
          rfl
        · obtain ⟨i', hi', rfl, ti, bi⟩ := lc_pw d (Nat.lt_trans hij hj)
          have wi := lc_W_low (b := b) (p := p) bi
          rw [ti, wi, lc_sel_t]
          have hw := ih i' j' (by omega) hj'
          obtain ⟨t, t0, t1, tj, tl, tb⟩ := lc_diff hw
          have bt := lc_top h (lc_M_x (lc_W_M h p i') (lc_W_M h p j')) tl tb
          have htp : t ≠ p := by
            intro e
            subst e
            rw [Nat.testBit_lt_two_pow (lc_W_lt h t j')] at t1
            exact Bool.noConfusion t1
          have bp : (b p).testBit t = false := (h.2 t bt).2.2 p (fun e => htp e.symm)
          have l1 := fun k => Nat.xor_lt_two_pow (Nat.lt_of_lt_of_le (lc_W_lt h p k) (Nat.pow_le_pow_right (by omega) (show p ≤ p + 1 by omega))) (h.2 p z).2.1
          refine lc_lt_bit (p + 1) (l1 i') (l1 j') (t := t) ?_ ?_ ?_
          · rw [Nat.testBit_xor, t0, bp]; rfl
          · rw [Nat.testBit_xor, t1, bp]; rfl
          · intro k hk
            rw [Nat.testBit_xor, Nat.testBit_xor, tj k hk]
theorem lc_W_inj {n : Nat} {b : Nat → Nat} (h : lc_Red n b) (p : Nat) {i j : Nat} (hi : i < 2 ^ lc_dim p b) (hj : j < 2 ^ lc_dim p b) (e : lc_W p b i = lc_W p b j) : i = j := by
  rcases Nat.lt_trichotomy i j with c | c | c
  · have := lc_W_mono h p i j c hj
    omega
  · exact c
  · have := lc_W_mono h p j i c hi
    omega
theorem lc_cnt_W {n : Nat} {b : Nat → Nat} (h : lc_Red n b) (P : Nat → Bool) : lc_cnt (2 ^ lc_dim n b) (fun i => P (lc_W n b i)) = lc_cnt (2 ^ n) (fun x => decide (lc_M n b x) && P x) := by
  refine lc_cnt_bij (lc_W n b) ?_ ?_ ?_
  · intro i _ hp
    exact ⟨lc_W_lt h n i, by rw [decide_eq_true (lc_W_M h n i), hp]; rfl⟩
  · intro i j hi hj _ _ e
    exact lc_W_inj h n hi hj e
  · intro x hx hq
    rw [Bool.and_eq_true, decide_eq_true_eq] at hq
    obtain ⟨i, hi, e⟩ := lc_W_sur h n x hx hq.1
    exact ⟨i, hi, by rw [e]; exact hq.2, e⟩
theorem lc_card {n : Nat} {b : Nat → Nat} (h : lc_Red n b) : lc_cnt (2 ^ n) (fun x => decide (lc_M n b x)) = 2 ^ lc_dim n b := by
  have e := lc_cnt_W h (fun _ => true)
  rw [lc_cnt_t] at e
  rw [e]
  exact lc_cnt_congr (fun i _ => (Bool.and_true _).symm)
end
section
/-! words from bits -/
def lc_mk : Nat → (Nat → Bool) → Nat
  | 0, _ => 0
  | n + 1, f => lc_mk n f ^^^ lc_sel (f n) (2 ^ n)
theorem lc_mk_bit (n : Nat) (f : Nat → Bool) (j : Nat) : (lc_mk n f).testBit j = (decide (j < n) && f j) := by
  induction n with
  | zero => simp [lc_mk]
  | succ n ih =>
    rw [lc_mk, Nat.testBit_xor, ih, lc_sel_bit, Nat.testBit_two_pow]
    rcases Nat.lt_trichotomy j n with c | c | c
    · have h1 : j < n + 1 := by omega
      have h2 : n ≠ j := by omega
      simp [c, h1, h2]
    · subst c
      simp
    · have h1 : ¬ j < n + 1 := by omega
      have h2 : n ≠ j := by omega
      have h3 : ¬ j < n := by omega
      simp [h1, h2, h3]
theorem lc_mk_lt (n : Nat) (f : Nat → Bool) : lc_mk n f < 2 ^ n := by
  apply Nat.lt_pow_two_of_testBit
  intro i hi
  have : ¬ i < n := by omega
  rw [lc_mk_bit, decide_eq_false this, Bool.false_and]
/-! free places -/
def lc_zr (p : Nat) (b : Nat → Nat) : Nat := lc_cnt p (fun i => decide (b i = 0))
theorem lc_zr_s (p : Nat) (b : Nat → Nat) : lc_zr (p + 1) b = if b p = 0 then lc_zr p b + 1 else lc_zr p b := by
  unfold lc_zr
  simp only [lc_cnt]
  split
  · rename_i h; simp [h]
  · rename_i h; simp [h]
theorem lc_zr_le (n : Nat) (b : Nat → Nat) : lc_zr n b ≤ n := lc_cnt_le _ _
theorem lc_zr_dim (n : Nat) (b : Nat → Nat) : lc_zr n b + lc_dim n b = n := by
  induction n with
  | zero => rfl
  | succ n ih =>
    rw [lc_zr_s, lc_dim_s]
    split <;> omega
theorem lc_zr_lt {p n : Nat} {b : Nat → Nat} (h : p < n) (hb : b p = 0) : lc_zr p b < lc_zr n b := lc_cnt_lt h (decide_eq_true hb)
def lc_np : Nat → (Nat → Nat) → Nat → Nat
  | 0, _, _ => 0
  | p + 1, b, t => if b p = 0 ∧ lc_zr p b = t then p else lc_np p b t
theorem lc_np_zr {n p : Nat} {b : Nat → Nat} (h : p < n) (hb : b p = 0) : lc_np n b (lc_zr p b) = p := by
  induction n with
  | zero => omega
  | succ n ih =>
    by_cases e : p = n
    · subst e
      exact if_pos ⟨hb, rfl⟩
    · rw [lc_np, if_neg]
      · exact ih (by omega)
      · rintro ⟨_, z⟩
        have := lc_zr_lt (show p < n by omega) hb
        omega
theorem lc_np_sp {n t : Nat} {b : Nat → Nat} (h : t < lc_zr n b) : lc_np n b t < n ∧ b (lc_np n b t) = 0 ∧ lc_zr (lc_np n b t) b = t := by
  induction n with
  | zero =>
    have : lc_zr 0 b = 0 := rfl
    omega
  | succ n ih =>
    rw [lc_np]
    by_cases c : b n = 0 ∧ lc_zr n b = t
    · rw [if_pos c]
      exact ⟨by omega, c⟩
    · rw [if_neg c]
      rw [lc_zr_s] at h
      have h' : t < lc_zr n b := by
        by_cases z : b n = 0
        · rw [if_pos z] at h
          have : lc_zr n b ≠ t := fun y => c ⟨z, y⟩
          omega
        · rw [if_neg z] at h
          exact h
      have := ih h'
      exact ⟨by omega, this.2⟩
/-! check words -/
def lc_hl (b : Nat → Nat) (p : Nat) : Nat → Nat
  | 0 => 2 ^ p
  | i + 1 => if (b i).testBit p = true then lc_hl b p i ||| 2 ^ i else lc_hl b p i
theorem lc_hl_bit (b : Nat → Nat) (p m j : Nat) : (lc_hl b p m).testBit j = (decide (j = p) || (decide (j < m) && (b j).testBit p)) := by
  induction m with
  | zero =>
    rw [lc_hl, Nat.testBit_two_pow]
    by_cases e : p = j
    · simp [e]
    · have : j ≠ p := fun z => e z.symm
      simp [e, this]
  | succ m ih =>
    rw [lc_hl]
    by_cases e : j = m
    · subst e
      split
      · rename_i c
        rw [Nat.testBit_or, Nat.testBit_two_pow_self, c]
        simp
      · rename_i c
        rw [ih]
        simp [c]
    · have e1 : decide (j < m + 1) = decide (j < m) := by
        by_cases y : j < m
        · rw [decide_eq_true y, decide_eq_true (show j < m + 1 by omega)]
        · rw [decide_eq_false y, decide_eq_false (show ¬ j < m + 1 by omega)]
      split
      · rw [Nat.testBit_or, ih, Nat.testBit_two_pow_of_ne (fun z => e z.symm), Bool.or_false, e1]
      · rw [ih, e1]
def lc_h (n : Nat) (b : Nat → Nat) (p : Nat) : Nat := lc_hl b p n
theorem lc_h_bit (n : Nat) (b : Nat → Nat) (p j : Nat) : (lc_h n b p).testBit j = (decide (j = p) || (decide (j < n) && (b j).testBit p)) := lc_hl_bit b p n j
theorem lc_h_lt {n p : Nat} (b : Nat → Nat) (hp : p < n) : lc_h n b p < 2 ^ n := by
  apply Nat.lt_pow_two_of_testBit
  intro i hi
  have h1 : i ≠ p := by omega
  have h2 : ¬ i < n := by omega
  rw [lc_h_bit, decide_eq_false h1, decide_eq_false h2]
  rfl
theorem lc_h_dt {n p : Nat} {b : Nat → Nat} (hp : p < n) (hb : b p = 0) (y : Nat) : lc_dt n (lc_h n b p) y = (lc_rs n b y).testBit p := by
  have e : lc_xs n (fun i => y.testBit i && decide (i = p)) = y.testBit p := by
    rw [lc_xs_1 hp]
    · simp
    · intro i _ hi
      simp [hi]
  rw [lc_rs, Nat.testBit_xor, lc_lin_bit, ← e, ← lc_xs_xor]
  apply lc_xs_congr
  intro i hi
  rw [lc_h_bit, decide_eq_true hi]
  by_cases c : i = p
  · subst c
    rw [hb]
    simp
  · simp [c, Bool.and_comm]
def lc_hs (n : Nat) (b : Nat → Nat) (t : Nat) : Nat := lc_h n b (lc_np n b t)
theorem lc_hs_lt {n : Nat} {b : Nat → Nat} : ∀ t, t < lc_zr n b → lc_hs n b t < 2 ^ n := fun _ h => lc_h_lt b (lc_np_sp h).1
theorem lc_hs_dt {n t : Nat} {b : Nat → Nat} (h : t < lc_zr n b) (y : Nat) : lc_dt n (lc_hs n b t) y = (lc_rs n b y).testBit (lc_np n b t) := lc_h_dt (lc_np_sp h).1 (lc_np_sp h).2.1 y
theorem lc_chk {n x : Nat} {b : Nat → Nat} (h : lc_Red n b) (hx : x < 2 ^ n) : lc_M n b x ↔ ∀ t, t < lc_zr n b → lc_dt n (lc_hs n b t) x = false := by
  rw [← lc_rs_M]
  constructor
  · intro e t ht
    rw [lc_hs_dt ht, e, Nat.zero_testBit]
  · intro k
    apply Nat.eq_of_testBit_eq
    intro j
    rw [Nat.zero_testBit]
    rcases Nat.lt_or_ge j n with c | c
    · by_cases z : b j = 0
      · have ht := lc_zr_lt c z
        have e := k _ ht
        rw [lc_hs_dt ht, lc_np_zr c z] at e
        exact e
      · exact lc_rs_piv h z x
    · exact Nat.testBit_lt_two_pow (Nat.lt_of_lt_of_le (lc_rs_lt h hx) (Nat.pow_le_pow_right (by omega) c))
/-! the dual -/
theorem lc_D_iff {n y : Nat} {b : Nat → Nat} (h : lc_Red n b) : (∀ i, lc_dt n (b i) y = false) ↔ ∀ x, lc_M n b x → lc_dt n x y = false := by
  constructor
  · intro k x hx
    rw [← hx, lc_dt_lin]
    apply lc_xs_0
    intro i _
    rw [k i, Bool.and_false]
  · intro k i
    exact k _ (lc_Red_b h i)
def lc_dual (n : Nat) (b : Nat → Nat) : Nat → Nat := lc_incs n (fun _ => 0) (lc_hs n b) (lc_zr n b)
theorem lc_dual_Red (n : Nat) (b : Nat → Nat) : lc_Red n (lc_dual n b) := lc_incs_Red (lc_Red_0 n) lc_hs_lt
theorem lc_dual_M {n y : Nat} {b : Nat → Nat} (h : lc_Red n b) (hy : y < 2 ^ n) : lc_M n (lc_dual n b) y ↔ ∀ i, lc_dt n (b i) y = false := by
  constructor
  · refine lc_incs_least (lc_Red_0 n) lc_hs_lt (D := fun y => ∀ i, lc_dt n (b i) y = false) ?_ ?_ ?_ y
    · intro x y hx hy i
      rw [lc_dt_comm, lc_dt_xl, lc_dt_comm n x, lc_dt_comm n y, hx i, hy i]
      rfl
    · intro x hx i
      rw [lc_M_z.mp hx, lc_dt_comm, lc_dt_0]
    · intro t ht i
      rw [lc_dt_comm, lc_hs_dt ht, lc_rs_M.mpr (lc_Red_b h i), Nat.zero_testBit]
  · intro k
    let hh : Nat → Nat := fun p => if b p = 0 then lc_h n b p else 0
    have e : lc_lin n hh y = y := by
      apply Nat.eq_of_testBit_eq
      intro j
      rcases Nat.lt_or_ge j n with c | c
      · rw [lc_lin_bit]
        by_cases z : b j = 0
        · rw [lc_xs_1 c]
          · show (y.testBit j && (if b j = 0 then lc_h n b j else 0).testBit j) = _
            rw [if_pos z, lc_h_bit]
            simp
          · intro i hi hij
            show (y.testBit i && (if b i = 0 then lc_h n b i else 0).testBit j) = false
            split
            · rw [lc_h_bit, z, Nat.zero_testBit, decide_eq_false (fun q => hij q.symm)]
              simp
            · rw [Nat.zero_testBit, Bool.and_false]
        · have e1 : lc_xs n (fun i => y.testBit i && decide (i = j)) = y.testBit j := by
            rw [lc_xs_1 c]
            · simp
            · intro i _ hi
              simp [hi]
          have e2 := k j
          rw [lc_dt_comm, lc_dt] at e2
          have e3 := lc_xs_xor n (fun i => y.testBit i && (b j).testBit i) (fun i => y.testBit i && decide (i = j))
          rw [e1, e2, Bool.false_xor] at e3
          rw [← e3]
          apply lc_xs_congr
          intro i hi
          show (y.testBit i && (if b i = 0 then lc_h n b i else 0).testBit j) = _
          split
          · rename_i bi
            have hij : j ≠ i := fun q => z (by rw [q]; exact bi)
            rw [lc_h_bit, decide_eq_false hij, decide_eq_true c, decide_eq_false (fun q => hij q.symm)]
            simp
          · rename_i bi
            rw [Nat.zero_testBit]
            by_cases q : i = j
            · subst q
              rw [(h.2 i bi).1, decide_eq_true rfl]
              simp
            · rw [(h.2 i bi).2.2 j (fun w => q w.symm), decide_eq_false q]
              simp
      · rw [Nat.testBit_lt_two_pow (Nat.lt_of_lt_of_le hy (Nat.pow_le_pow_right (by omega) c))]
        rw [lc_lin_bit]
        apply lc_xs_0
        intro i hi
        show (y.testBit i && (if b i = 0 then lc_h n b i else 0).testBit j) = false
        split
        · rw [Nat.testBit_lt_two_pow (Nat.lt_of_lt_of_le (lc_h_lt b hi) (Nat.pow_le_pow_right (by omega) c)), Bool.and_false]
        · rw [Nat.zero_testBit, Bool.and_false]
    have k2 : ∀ m, m ≤ n → lc_M n (lc_dual n b) (lc_lin m hh y) := by
      intro m
      induction m with
      | zero => intro _; exact lc_M_0 _ _
      | succ m ih =>
        intro hm
        rw [lc_lin]
        refine lc_M_x (ih (by omega)) (lc_M_sel ?_)
        show lc_M n (lc_dual n b) (if b m = 0 then lc_h n b m else 0)
        split
        · rename_i z
          have e4 := lc_incs_w (b := fun _ => 0) (ws := lc_hs n b) (lc_Red_0 n) lc_hs_lt (lc_zr_lt (show m < n by omega) z)
          rw [lc_hs, lc_np_zr (by omega) z] at e4
          exact e4
        · exact lc_M_0 _ _
    have k3 := k2 n (Nat.le_refl n)
    rw [e] at k3
    exact k3
def lc_both (n : Nat) (b0 b1 : Nat → Nat) : Nat → Nat := lc_incs n (lc_dual n b1) (lc_hs n b0) (lc_zr n b0)
def lc_meet (n : Nat) (b0 b1 : Nat → Nat) : Nat → Nat := lc_dual n (lc_both n b0 b1)
theorem lc_both_Red (n : Nat) (b0 b1 : Nat → Nat) : lc_Red n (lc_both n b0 b1) := lc_incs_Red (lc_dual_Red n b1) lc_hs_lt
theorem lc_meet_Red (n : Nat) (b0 b1 : Nat → Nat) : lc_Red n (lc_meet n b0 b1) := lc_dual_Red n _
theorem lc_meet_M {n x : Nat} {b0 b1 : Nat → Nat} (h0 : lc_Red n b0) (h1 : lc_Red n b1) (hx : x < 2 ^ n) : lc_M n (lc_meet n b0 b1) x ↔ lc_M n b0 x ∧ lc_M n b1 x := by
  rw [lc_meet, lc_dual_M (lc_both_Red n b0 b1) hx, lc_D_iff (lc_both_Red n b0 b1)]
  constructor
  · intro k
    refine ⟨(lc_chk h0 hx).mpr ?_, (lc_chk h1 hx).mpr ?_⟩
    · intro t ht
      exact k _ (lc_incs_w (lc_dual_Red n b1) lc_hs_lt ht)
    · intro t ht
      exact k _ (lc_incs_up (lc_dual_Red n b1) lc_hs_lt (lc_incs_w (lc_Red_0 n) lc_hs_lt ht))
  · rintro ⟨m0, m1⟩
    have cl : ∀ u v, lc_dt n u x = false → lc_dt n v x = false → lc_dt n (u ^^^ v) x = false := by
      intro u v hu hv
      rw [lc_dt_xl, hu, hv]
      rfl
    refine lc_incs_least (lc_dual_Red n b1) lc_hs_lt (D := fun u => lc_dt n u x = false) cl ?_ ((lc_chk h0 hx).mp m0)
    refine lc_incs_least (lc_Red_0 n) lc_hs_lt (D := fun u => lc_dt n u x = false) cl ?_ ((lc_chk h1 hx).mp m1)
    intro u hu
    rw [lc_M_z.mp hu]
    exact lc_dt_0 n x
/-! coset numbers -/
def lc_cs (n : Nat) (b : Nat → Nat) (y : Nat) : Nat := lc_mk (lc_zr n b) (fun t => (lc_rs n b y).testBit (lc_np n b t))
def lc_sp (n : Nat) (b : Nat → Nat) (s : Nat) : Nat := lc_mk n (fun p => decide (b p = 0) && s.testBit (lc_zr p b))
theorem lc_cs_lt (n : Nat) (b : Nat → Nat) (y : Nat) : lc_cs n b y < 2 ^ lc_zr n b := lc_mk_lt _ _
theorem lc_sp_lt (n : Nat) (b : Nat → Nat) (s : Nat) : lc_sp n b s < 2 ^ n := lc_mk_lt _ _
theorem lc_cs_eq {n x y : Nat} {b : Nat → Nat} (h : lc_Red n b) (hx : x < 2 ^ n) (hy : y < 2 ^ n) : lc_cs n b x = lc_cs n b y ↔ lc_rs n b x = lc_rs n b y := by
  constructor
  · intro e
    apply Nat.eq_of_testBit_eq
    intro j
    rcases Nat.lt_or_ge j n with c | c
    · by_cases z : b j = 0
      · have e1 := congrArg (fun u => u.testBit (lc_zr j b)) e
        simp only [lc_cs, lc_mk_bit, decide_eq_true (lc_zr_lt c z), Bool.true_and, lc_np_zr c z] at e1
        exact e1
      · rw [lc_rs_piv h z, lc_rs_piv h z]
    · rw [Nat.testBit_lt_two_pow (Nat.lt_of_lt_of_le (lc_rs_lt h hx) (Nat.pow_le_pow_right (by omega) c)), Nat.testBit_lt_two_pow (Nat.lt_of_lt_of_le (lc_rs_lt h hy) (Nat.pow_le_pow_right (by omega) c))]
  · intro e
    rw [lc_cs, lc_cs, e]
theorem lc_sp_rs (n : Nat) (b : Nat → Nat) (s : Nat) : lc_rs n b (lc_sp n b s) = lc_sp n b s := by
  have e : lc_lin n b (lc_sp n b s) = lc_lin n b 0 := by
    apply lc_lin_cx
    intro i _ hi
    rw [lc_sp, lc_mk_bit, decide_eq_false hi, Nat.zero_testBit, Bool.false_and, Bool.and_false]
  rw [lc_rs, e, lc_lin_0, Nat.xor_zero]
theorem lc_cs_sp {n s : Nat} {b : Nat → Nat} (hs : s < 2 ^ lc_zr n b) : lc_cs n b (lc_sp n b s) = s := by
  apply Nat.eq_of_testBit_eq
  intro t
  rw [lc_cs, lc_mk_bit, lc_sp_rs]
  rcases Nat.lt_or_ge t (lc_zr n b) with c | c
  · have k := lc_np_sp c
    rw [lc_sp, lc_mk_bit, decide_eq_true c, decide_eq_true k.1, decide_eq_true k.2.1, k.2.2]
    rfl
  · have c' : ¬ t < lc_zr n b := by omega
    rw [decide_eq_false c', Bool.false_and, Nat.testBit_lt_two_pow (Nat.lt_of_lt_of_le hs (Nat.pow_le_pow_right (by omega) c))]
theorem lc_sp_cs {n x : Nat} {b : Nat → Nat} (h : lc_Red n b) (hx : x < 2 ^ n) (e : lc_rs n b x = x) : lc_sp n b (lc_cs n b x) = x := by
  have k := (lc_cs_eq h (lc_sp_lt n b _) hx).mp (lc_cs_sp (lc_cs_lt n b x))
  rw [lc_sp_rs, e] at k
  exact k
theorem lc_rs_le {n : Nat} {b : Nat → Nat} (h : lc_Red n b) (y : Nat) : lc_rs n b y ≤ y := by
  rcases Nat.lt_or_ge y (lc_rs n b y) with c | c
  · obtain ⟨t, _, t1, _, tl, tb⟩ := lc_diff c
    have e : y ^^^ lc_rs n b y = lc_lin n b y := lc_xl _ _
    rw [e] at tl tb
    rw [lc_rs_piv h (lc_top h (lc_Red_ll h y) tl tb)] at t1
    exact Bool.noConfusion t1
  · exact c
end
section
/-! weights -/
def lc_wt : Nat → Nat → Nat
  | 0, _ => 0
  | n + 1, x => lc_wt n x + (x.testBit n).toNat
theorem lc_wt_le (n x : Nat) : lc_wt n x ≤ n := by
  induction n with
  | zero => exact Nat.le_refl 0
  | succ n ih =>
    simp only [lc_wt]
    have := Bool.toNat_le (x.testBit n)
    omega
theorem lc_wt_congr {n x y : Nat} (h : ∀ i, i < n → x.testBit i = y.testBit i) : lc_wt n x = lc_wt n y := by
  induction n with
  | zero => rfl
  | succ n ih =>
    simp only [lc_wt]
    rw [ih (fun i hi => h i (by omega)), h n (by omega)]
theorem lc_wt_0 (n : Nat) : lc_wt n 0 = 0 := by
  induction n with
  | zero => rfl
  | succ n ih => simp only [lc_wt, ih, Nat.zero_testBit]; rfl
theorem lc_wt_ext {n m x : Nat} (h : n ≤ m) (hx : x < 2 ^ n) : lc_wt m x = lc_wt n x := by
  induction m with
  | zero =>
    have : n = 0 := by omega
    rw [this]
  | succ m ih =>
    by_cases e : n = m + 1
    · rw [e]
    · simp only [lc_wt]
      rw [ih (by omega), Nat.testBit_lt_two_pow (Nat.lt_of_lt_of_le hx (Nat.pow_le_pow_right (by omega) (by omega)))]
      rfl
theorem lc_wt_pos {n x : Nat} (hx : x < 2 ^ n) (h : x ≠ 0) : 0 < lc_wt n x := by
  induction n with
  | zero => omega
  | succ n ih =>
    simp only [lc_wt]
    cases c : x.testBit n
    · have := ih (lc_lt_pow hx c)
      omega
    · rw [Bool.toNat_true]
      omega
theorem lc_wt_dt (n x y : Nat) : lc_wt n (x &&& y) % 2 = (lc_dt n x y).toNat := by
  induction n with
  | zero => rfl
  | succ n ih =>
    simp only [lc_wt, lc_dt, lc_xs, Nat.testBit_and]
    rw [lc_dt] at ih
    generalize (lc_xs n fun i => x.testBit i && y.testBit i) = c at *
    cases (x.testBit n && y.testBit n) <;> cases c <;> simp at * <;> omega
/-! least values -/
def lc_mn (f : Nat → Nat) : Nat → Nat
  | 0 => 11
  | K + 1 => if lc_mn f K ≤ f K then lc_mn f K else f K
theorem lc_mn_le {f : Nat → Nat} {K i : Nat} (h : i < K) : lc_mn f K ≤ f i := by
  induction K with
  | zero => omega
  | succ K ih =>
    rw [lc_mn]
    by_cases e : i = K
    · subst e
      split <;> omega
    · have := ih (by omega)
      split <;> omega
theorem lc_mn_at (f : Nat → Nat) (K : Nat) : lc_mn f K = 11 ∨ ∃ i, i < K ∧ lc_mn f K = f i := by
  induction K with
  | zero => exact Or.inl rfl
  | succ K ih =>
    rw [lc_mn]
    split
    · rcases ih with h | ⟨i, hi, h⟩
      · exact Or.inl h
      · exact Or.inr ⟨i, by omega, h⟩
    · exact Or.inr ⟨K, by omega, rfl⟩
def lc_mw (n : Nat) (b : Nat → Nat) (x : Nat) : Nat := lc_mn (fun i => lc_wt n (x ^^^ lc_W n b i)) (2 ^ lc_dim n b)
theorem lc_mw_le {n x y : Nat} {b : Nat → Nat} (h : lc_Red n b) (e : lc_rs n b y = lc_rs n b x) : lc_mw n b x ≤ lc_wt n y := by
  have hM : lc_M n b (x ^^^ y) := lc_rs_eq.mp e.symm
  obtain ⟨i, hi, ew⟩ := lc_W_sur h n _ (lc_M_lt h hM) hM
  have k := lc_mn_le (f := fun i => lc_wt n (x ^^^ lc_W n b i)) hi
  rw [ew, lc_xl] at k
  exact k
theorem lc_mw_at {n x : Nat} {b : Nat → Nat} (h : lc_Red n b) (hn : n ≤ 10) (hx : x < 2 ^ n) : ∃ y, y < 2 ^ n ∧ lc_rs n b y = lc_rs n b x ∧ lc_wt n y = lc_mw n b x := by
  rcases lc_mn_at (fun i => lc_wt n (x ^^^ lc_W n b i)) (2 ^ lc_dim n b) with e | ⟨i, hi, e⟩
  · have k := lc_mw_le h (x := x) (y := x) rfl
    have := lc_wt_le n x
    rw [lc_mw, e] at k
    omega
  · refine ⟨x ^^^ lc_W n b i, Nat.xor_lt_two_pow hx (lc_W_lt h n i), ?_, e.symm⟩
    rw [lc_rs_eq, lc_xswap, Nat.xor_self, Nat.zero_xor]
    exact lc_W_M h n i
theorem lc_mw_bd {n x : Nat} {b : Nat → Nat} (h : lc_Red n b) : lc_mw n b x ≤ n := Nat.le_trans (lc_mw_le h (x := x) (y := x) rfl) (lc_wt_le n x)
theorem lc_mw_eq {n x d : Nat} {b : Nat → Nat} (h : lc_Red n b) (hn : n ≤ 10) (hx : x < 2 ^ n) (h1 : ∃ y, y < 2 ^ n ∧ lc_rs n b y = lc_rs n b x ∧ lc_wt n y = d) (h2 : ∀ y, y < 2 ^ n → lc_rs n b y = lc_rs n b x → d ≤ lc_wt n y) : d = lc_mw n b x := by
  obtain ⟨y, hy, e, w⟩ := h1
  obtain ⟨y', hy', e', w'⟩ := lc_mw_at h hn hx
  have a := lc_mw_le h e
  have c := h2 y' hy' e'
  omega
theorem lc_cosets {n : Nat} {b : Nat → Nat} (h : lc_Red n b) (P : Nat → Bool) : lc_cnt (2 ^ lc_zr n b) (fun s => P (lc_sp n b s)) = lc_cnt (2 ^ n) (fun x => decide (lc_rs n b x = x) && P x) := by
  refine lc_cnt_bij (lc_sp n b) ?_ ?_ ?_
  · intro s _ hp
    exact ⟨lc_sp_lt n b s, by rw [decide_eq_true (lc_sp_rs n b s), hp]; rfl⟩
  · intro i j hi hj _ _ e
    rw [← lc_cs_sp hi, ← lc_cs_sp hj, e]
  · intro x hx hq
    rw [Bool.and_eq_true, decide_eq_true_eq] at hq
    have e := lc_sp_cs h hx hq.1
    exact ⟨lc_cs n b x, lc_cs_lt n b x, by rw [e]; exact hq.2, e⟩
/-! information sets -/
theorem lc_inf {n s : Nat} {b : Nat → Nat} (h : lc_Red n b) : lc_dim n (lc_incs n (fun _ => 0) (fun i => b i &&& s) n) = lc_dim n b ↔ ∀ x, lc_M n b x → x ≠ 0 → x &&& s ≠ 0 := by
  have hl : ∀ i, i < n → b i &&& s < 2 ^ n := fun i _ => Nat.lt_of_le_of_lt Nat.and_le_left (lc_Red_lt h i)
  have hf : ∀ x y, (fun x => x &&& s) (x ^^^ y) = (fun x => x &&& s) x ^^^ (fun x => x &&& s) y := fun x y => Nat.and_xor_distrib_right
  have hi := fun y => lc_img h (f := fun x => x &&& s) hf hl (y := y)
  have hR := lc_incs_Red (ws := fun i => b i &&& s) (lc_Red_0 n) hl
  generalize lc_incs n (fun _ => 0) (fun i => b i &&& s) n = b' at *
  have c1 := lc_card h
  have c2 := lc_card hR
  constructor
  · intro e x hx h0 hz
    rw [e, ← c1] at c2
    have k : lc_cnt (2 ^ n) (fun x => decide (lc_M n b' x)) ≤ lc_cnt (2 ^ n) (fun y => decide (lc_M n b y) && !decide (y = x)) := by
      refine lc_cnt_sur (fun y => y &&& s) ?_
      intro y _ hy
      obtain ⟨z, hz1, hz2⟩ := (hi y).mp (of_decide_eq_true hy)
      by_cases q : z = x
      · refine ⟨0, Nat.two_pow_pos n, ?_, ?_⟩
        · rw [decide_eq_true (lc_M_0 n b), decide_eq_false (fun w => h0 w.symm)]
          rfl
        · rw [Nat.zero_and, ← hz2, q, hz]
      · exact ⟨z, lc_M_lt h hz1, by rw [decide_eq_true hz1, decide_eq_false q]; rfl, hz2⟩
    have r := lc_cnt_rm (q := fun y => decide (lc_M n b y)) (lc_M_lt h hx) (decide_eq_true hx)
    omega
  · intro k
    have e : lc_cnt (2 ^ n) (fun x => decide (lc_M n b x)) = lc_cnt (2 ^ n) (fun x => decide (lc_M n b' x)) := by
      refine lc_cnt_bij (fun y => y &&& s) ?_ ?_ ?_
      · intro x hx hp
        have hm := of_decide_eq_true hp
        exact ⟨Nat.lt_of_le_of_lt Nat.and_le_left hx, decide_eq_true ((hi _).mpr ⟨x, hm, rfl⟩)⟩
      · intro x y _ _ hx hy e
        have e2 : (x ^^^ y) &&& s = 0 := by rw [Nat.and_xor_distrib_right, e, Nat.xor_self]
        have e3 : ¬ (x ^^^ y) ≠ 0 := fun q => k _ (lc_M_x (of_decide_eq_true hx) (of_decide_eq_true hy)) q e2
        exact lc_x0.mp (Classical.not_not.mp e3)
      · intro y _ hy
        obtain ⟨z, hz1, hz2⟩ := (hi y).mp (of_decide_eq_true hy)
        exact ⟨z, lc_M_lt h hz1, decide_eq_true hz1, hz2⟩
    rw [c1, c2] at e
    exact ((Nat.pow_right_inj (by omega)).mp e).symm
/-! sums of integers -/
def lc_sm : Nat → (Nat → Int) → Int
  | 0, _ => 0
  | n + 1, f => lc_sm n f + f n
theorem lc_sm_congr {n : Nat} {f g : Nat → Int} (h : ∀ i, i < n → f i = g i) : lc_sm n f = lc_sm n g := by
  induction n with
  | zero => rfl
  | succ n ih =>
    simp only [lc_sm]
    rw [ih (fun i hi => h i (by omega)), h n (by omega)]
theorem lc_sm_0 {n : Nat} {f : Nat → Int} (h : ∀ i, i < n → f i = 0) : lc_sm n f = 0 := by
  induction n with
  | zero => rfl
  | succ n ih =>
    simp only [lc_sm]
    rw [ih (fun i hi => h i (by omega)), h n (by omega)]
    rfl
theorem lc_sm_1 {n p : Nat} {f : Nat → Int} (hp : p < n) (h : ∀ i, i < n → i ≠ p → f i = 0) : lc_sm n f = f p := by
  induction n with
  | zero => omega
  | succ n ih =>
    simp only [lc_sm]
    by_cases e : p = n
    · subst e
      rw [lc_sm_0 (fun i hi => h i (by omega) (by omega)), Int.zero_add]
    · rw [ih (by omega) (fun i hi => h i (by omega)), h n (by omega) (fun z => e z.symm), Int.add_zero]
theorem lc_sm_add (n : Nat) (f g : Nat → Int) : lc_sm n (fun i => f i + g i) = lc_sm n f + lc_sm n g := by
  induction n with
  | zero => rfl
  | succ n ih =>
    simp only [lc_sm, ih]
    omega
theorem lc_sm_mul (n : Nat) (c : Int) (f : Nat → Int) : lc_sm n (fun i => c * f i) = c * lc_sm n f := by
  induction n with
  | zero => exact (Int.mul_zero c).symm
  | succ n ih => simp only [lc_sm, ih, Int.mul_add]
theorem lc_sm_swap (n m : Nat) (f : Nat → Nat → Int) : lc_sm n (fun i => lc_sm m (fun j => f i j)) = lc_sm m (fun j => lc_sm n (fun i => f i j)) := by
  induction n with
  | zero => exact (lc_sm_0 (fun _ _ => rfl)).symm
  | succ n ih =>
    simp only [lc_sm, ih]
    exact (lc_sm_add m _ _).symm
theorem lc_sm_cat (a c : Nat) (f : Nat → Int) : lc_sm (a + c) f = lc_sm a f + lc_sm c (fun i => f (a + i)) := by
  induction c with
  | zero => exact (Int.add_zero _).symm
  | succ c ih =>
    rw [← Nat.add_assoc]
    simp only [lc_sm, ih]
    omega
def lc_sg (c : Bool) : Int := cond c (-1) 1
theorem lc_sg_x (c d : Bool) : lc_sg (c ^^ d) = lc_sg d * lc_sg c := by cases c <;> cases d <;> rfl
def lc_al : Nat → (Nat → Bool) → Bool
  | 0, _ => true
  | n + 1, f => lc_al n f && f n
theorem lc_al_iff {n : Nat} {f : Nat → Bool} : lc_al n f = true ↔ ∀ i, i < n → f i = true := by
  induction n with
  | zero => exact ⟨fun _ i hi => by omega, fun _ => rfl⟩
  | succ n ih =>
    rw [lc_al, Bool.and_eq_true, ih]
    constructor
    · rintro ⟨h1, h2⟩ i hi
      by_cases e : i = n
      · rw [e]; exact h2
      · exact h1 i (by omega)
    · intro h
      exact ⟨fun i hi => h i (by omega), h n (by omega)⟩
theorem lc_pw_bit {k a t : Nat} (ht : t < k) : (2 ^ k + a).testBit t = a.testBit t := Nat.testBit_two_pow_add_gt ht a
theorem lc_pw_top {k a : Nat} (ha : a < 2 ^ k) : (2 ^ k + a).testBit k = true := by
  rw [Nat.testBit_two_pow_add_eq, Nat.testBit_lt_two_pow ha]
  rfl
theorem lc_lin_c {n : Nat} {b : Nat → Nat} {x y : Nat} (h : ∀ i, i < n → x.testBit i = y.testBit i) : lc_lin n b x = lc_lin n b y := lc_lin_cx (fun i hi _ => h i hi)
/-- the signs of all sums of k rows -/
theorem lc_sgn (n : Nat) (row : Nat → Nat) (y k : Nat) : lc_sm (2 ^ k) (fun a => lc_sg (lc_dt n (lc_lin k row a) y)) = if lc_al k (fun t => !lc_dt n (row t) y) = true then ((2 ^ k : Nat) : Int) else 0 := by
  induction k with
  | zero =>
    show (0 : Int) + lc_sg (lc_dt n (lc_lin 0 row 0) y) = _
    rw [lc_lin, lc_dt_0]
    rfl
  | succ k ih =>
    have e1 : lc_sm (2 ^ k) (fun a => lc_sg (lc_dt n (lc_lin (k + 1) row a) y)) = lc_sm (2 ^ k) (fun a => lc_sg (lc_dt n (lc_lin k row a) y)) := by
      apply lc_sm_congr
      intro a ha
      rw [lc_lin, Nat.testBit_lt_two_pow ha, lc_sel_f, Nat.xor_zero]
    have e2 : lc_sm (2 ^ k) (fun a => lc_sg (lc_dt n (lc_lin (k + 1) row (2 ^ k + a)) y)) = lc_sg (lc_dt n (row k) y) * lc_sm (2 ^ k) (fun a => lc_sg (lc_dt n (lc_lin k row a) y)) := by
      rw [← lc_sm_mul]
      apply lc_sm_congr
      intro a ha
      rw [lc_lin, lc_pw_top ha, lc_sel_t, lc_dt_xl, lc_sg_x, lc_lin_c (fun i hi => lc_pw_bit hi)]
    rw [Nat.pow_succ, Nat.mul_two, lc_sm_cat, e1, e2, ih]
    rw [lc_al]
    by_cases hA : lc_al k (fun t => !lc_dt n (row t) y) = true
    · rw [if_pos hA, hA, Bool.true_and]
      cases lc_dt n (row k) y
      · rw [if_pos (show (!false) = true from rfl)]
        show ((2 ^ k : Nat) : Int) + 1 * ((2 ^ k : Nat) : Int) = ((2 ^ k + 2 ^ k : Nat) : Int)
        omega
      · rw [if_neg (fun q => Bool.noConfusion q)]
        show ((2 ^ k : Nat) : Int) + -1 * ((2 ^ k : Nat) : Int) = 0
        omega
    · rw [if_neg hA, if_neg (fun q => hA (Bool.and_eq_true _ _ ▸ q).1)]
      omega
def lc_bin : Nat → Nat → Nat
  | _, 0 => 1
  | 0, _ + 1 => 0
  | m + 1, s + 1 => lc_bin m s + lc_bin m (s + 1)
/-- the signed sum that the transform takes -/
def lc_Kt (n w j s : Nat) : Int := (if s % 2 = 0 then (1 : Int) else -1) * ((lc_bin j s : Int) * (lc_bin (n - j) (w - s) : Int))
def lc_Kr (n w j : Nat) : Int := lc_sm (w + 1) (lc_Kt n w j)
theorem lc_Kr_0 : ∀ w, w < 11 → lc_Kr 0 w 0 = if w = 0 then 1 else 0 := by decide +kernel
theorem lc_Kr_a : ∀ n, n < 10 → ∀ j, j < n + 1 → ∀ w, w < 11 → lc_Kr (n + 1) w j = lc_Kr n w j + (if w = 0 then 0 else lc_Kr n (w - 1) j) := by decide +kernel
theorem lc_Kr_b : ∀ n, n < 10 → ∀ j, j < n + 1 → ∀ w, w < 11 → lc_Kr (n + 1) w (j + 1) = lc_Kr n w j - (if w = 0 then 0 else lc_Kr n (w - 1) j) := by decide +kernel
theorem lc_S (x : Nat) : ∀ n, n ≤ 10 → ∀ w, w < 11 → lc_sm (2 ^ n) (fun y => if lc_wt n y = w then lc_sg (lc_dt n x y) else 0) = lc_Kr n w (lc_wt n x) := by
  intro n
  induction n with
  | zero =>
    intro _ w hw
    show (0 : Int) + (if lc_wt 0 0 = w then lc_sg (lc_dt 0 x 0) else 0) = lc_Kr 0 w 0
    rw [lc_Kr_0 w hw, Int.zero_add]
    by_cases e : w = 0
    · subst e
      rfl
    · have e' : ¬ lc_wt 0 0 = w := fun z => e z.symm
      rw [if_neg e, if_neg e']
  | succ n ih =>
    intro hn w hw
    have e1 : lc_sm (2 ^ n) (fun y => if lc_wt (n + 1) y = w then lc_sg (lc_dt (n + 1) x y) else 0) = lc_Kr n w (lc_wt n x) := by
      rw [← ih (by omega) w hw]
      apply lc_sm_congr
      intro y hy
      rw [lc_wt, lc_dt, lc_xs, Nat.testBit_lt_two_pow hy, Bool.and_false, Bool.xor_false]
      rfl
    have e2 : lc_sm (2 ^ n) (fun y => if lc_wt (n + 1) (2 ^ n + y) = w then lc_sg (lc_dt (n + 1) x (2 ^ n + y)) else 0) = lc_sg (x.testBit n) * (if w = 0 then 0 else lc_Kr n (w - 1) (lc_wt n x)) := by
      by_cases z : w = 0
      · rw [if_pos z, Int.mul_zero]
        apply lc_sm_0
        intro y hy
        rw [if_neg]
        rw [lc_wt, lc_pw_top hy, Bool.toNat_true]
        omega
      · rw [if_neg z, ← ih (by omega) (w - 1) (by omega), ← lc_sm_mul]
        apply lc_sm_congr
        intro y hy
        have q1 : lc_wt n (2 ^ n + y) = lc_wt n y := lc_wt_congr (fun i hi => lc_pw_bit hi)
        have q2 : lc_xs n (fun i => x.testBit i && (2 ^ n + y).testBit i) = lc_dt n x y := lc_xs_congr (fun i hi => by rw [lc_pw_bit hi])
        rw [lc_wt, lc_dt, lc_xs, lc_pw_top hy, q1, q2, Bool.toNat_true, Bool.and_true, lc_sg_x]
        by_cases q : lc_wt n y = w - 1
        · have q' : lc_wt n y + 1 = w := by omega
          rw [if_pos q, if_pos q']
        · have q' : ¬ lc_wt n y + 1 = w := by omega
          rw [if_neg q, if_neg q', Int.mul_zero]
    rw [Nat.pow_succ, Nat.mul_two, lc_sm_cat, e1, e2, lc_wt]
    have hj : lc_wt n x < n + 1 := by have := lc_wt_le n x; omega
    cases x.testBit n
    · show _ + 1 * _ = lc_Kr (n + 1) w (lc_wt n x)
      rw [lc_Kr_a n (by omega) _ hj w hw, Int.one_mul]
    · show _ + -1 * _ = lc_Kr (n + 1) w (lc_wt n x + 1)
      rw [lc_Kr_b n (by omega) _ hj w hw]
      omega
theorem lc_sm_wt {n K : Nat} {v : Nat → Nat} (hv : ∀ a, a < K → v a ≤ n) (g : Nat → Int) : lc_sm (n + 1) (fun j => (lc_cnt K (fun a => decide (v a = j)) : Int) * g j) = lc_sm K (fun a => g (v a)) := by
  induction K with
  | zero => exact lc_sm_0 (fun i _ => Int.zero_mul _)
  | succ K ih =>
    show lc_sm (n + 1) _ = lc_sm K (fun a => g (v a)) + g (v K)
    rw [← ih (fun a ha => hv a (by omega))]
    have e : g (v K) = lc_sm (n + 1) (fun j => ((decide (v K = j)).toNat : Int) * g j) := by
      rw [lc_sm_1 (p := v K)]
      · simp
      · have := hv K (by omega)
        omega
      · intro i _ hi
        have : ¬ v K = i := fun z => hi z.symm
        simp [this]
    rw [e, ← lc_sm_add]
    apply lc_sm_congr
    intro j _
    rw [lc_cnt, Int.natCast_add, Int.add_mul]
theorem lc_sm_cnt (n : Nat) (p : Nat → Bool) (c : Int) : lc_sm n (fun i => if p i = true then c else 0) = c * (lc_cnt n p : Int) := by
  induction n with
  | zero => exact (Int.mul_zero c).symm
  | succ n ih =>
    rw [lc_sm, ih, lc_cnt, Int.natCast_add, Int.mul_add]
    cases p n
    · simp
    · simp
/-- the transform of the weights of all sums of k rows counts the words orthogonal to the rows -/
theorem lc_mac {n k w : Nat} (hn : n ≤ 10) (hw : w < 11) (row : Nat → Nat) : lc_sm (n + 1) (fun j => (lc_cnt (2 ^ k) (fun a => decide (lc_wt n (lc_lin k row a) = j)) : Int) * lc_Kr n w j) = ((2 ^ k * lc_cnt (2 ^ n) (fun y => decide (lc_wt n y = w) && lc_al k (fun t => !lc_dt n (row t) y)) : Nat) : Int) := by
  rw [lc_sm_wt (v := fun a => lc_wt n (lc_lin k row a)) (fun a _ => lc_wt_le n _) (fun j => lc_Kr n w j)]
  have e1 : lc_sm (2 ^ k) (fun a => lc_Kr n w (lc_wt n (lc_lin k row a))) = lc_sm (2 ^ k) (fun a => lc_sm (2 ^ n) (fun y => if lc_wt n y = w then lc_sg (lc_dt n (lc_lin k row a) y) else 0)) := lc_sm_congr (fun a _ => (lc_S _ n hn w hw).symm)
  rw [e1, lc_sm_swap, Int.natCast_mul, ← lc_sm_cnt]
  apply lc_sm_congr
  intro y _
  by_cases z : lc_wt n y = w
  · rw [decide_eq_true z, Bool.true_and, ← lc_sgn]
    apply lc_sm_congr
    intro a _
    rw [if_pos z]
  · rw [decide_eq_false z, Bool.false_and, if_neg (fun q => Bool.noConfusion q)]
    apply lc_sm_0
    intro a _
    rw [if_neg z]
end
section
/-! shortening: the first word with the place, and the map that adds it -/
def lc_one (b : Nat → Nat) (p : Nat) : Nat → Nat
  | 0 => 0
  | i + 1 => if lc_one b p i = 0 ∧ (b i).testBit p = true then b i else lc_one b p i
theorem lc_one_up {b : Nat → Nat} {p i : Nat} (h : lc_one b p i ≠ 0) : ∀ m, i ≤ m → lc_one b p m = lc_one b p i := by
  intro m
  induction m with
  | zero =>
    intro hm
    rw [Nat.le_zero.mp hm]
  | succ m ih =>
    intro hm
    by_cases e : i = m + 1
    · rw [e]
    · have k := ih (by omega)
      rw [lc_one, if_neg]
      · exact k
      · rintro ⟨z, _⟩
        exact h (k ▸ z)
theorem lc_one_bit {b : Nat → Nat} {p : Nat} (i : Nat) (h : lc_one b p i ≠ 0) : (lc_one b p i).testBit p = true := by
  induction i with
  | zero => exact absurd rfl h
  | succ i ih =>
    rw [lc_one] at h ⊢
    split
    · rename_i c
      exact c.2
    · rename_i c
      rw [if_neg c] at h
      exact ih h
theorem lc_one_M {n : Nat} {b : Nat → Nat} (h : lc_Red n b) (p i : Nat) : lc_M n b (lc_one b p i) := by
  induction i with
  | zero => exact lc_M_0 n b
  | succ i ih =>
    rw [lc_one]
    split
    · exact lc_Red_b h i
    · exact ih
theorem lc_one_has {b : Nat → Nat} {p j : Nat} (h : (b j).testBit p = true) : ∀ i, j < i → lc_one b p i ≠ 0 := by
  intro i
  induction i with
  | zero => intro hj; omega
  | succ i ih =>
    intro hj
    rw [lc_one]
    split
    · rename_i c
      intro z
      rw [z, Nat.zero_testBit] at c
      exact Bool.noConfusion c.2
    · rename_i c
      by_cases e : j = i
      · subst e
        exact fun z => c ⟨z, h⟩
      · exact ih (by omega)
def lc_sf (one p x : Nat) : Nat := x ^^^ lc_sel (x.testBit p) one
theorem lc_sf_x (one p x y : Nat) : lc_sf one p (x ^^^ y) = lc_sf one p x ^^^ lc_sf one p y := by
  unfold lc_sf
  rw [Nat.testBit_xor, lc_sel_xor]
  exact lc_x4 _ _ _ _
theorem lc_sf_lt {n one p x : Nat} (h1 : one < 2 ^ n) (hx : x < 2 ^ n) : lc_sf one p x < 2 ^ n := Nat.xor_lt_two_pow hx (lc_sel_lt h1)
def lc_short (n : Nat) (b : Nat → Nat) (p : Nat) : Nat → Nat := lc_incs n (fun _ => 0) (fun i => lc_sf (lc_one b p n) p (b i)) n
theorem lc_short_lt {n : Nat} {b : Nat → Nat} (h : lc_Red n b) (p : Nat) : ∀ i, i < n → lc_sf (lc_one b p n) p (b i) < 2 ^ n := fun i _ => lc_sf_lt (lc_M_lt h (lc_one_M h p n)) (lc_Red_lt h i)
theorem lc_short_Red {n : Nat} {b : Nat → Nat} (h : lc_Red n b) (p : Nat) : lc_Red n (lc_short n b p) := lc_incs_Red (lc_Red_0 n) (lc_short_lt h p)
theorem lc_short_M {n y : Nat} {b : Nat → Nat} (h : lc_Red n b) (p : Nat) : lc_M n (lc_short n b p) y ↔ lc_M n b y ∧ y.testBit p = false := by
  rw [lc_short, lc_img h (f := lc_sf (lc_one b p n) p) (lc_sf_x _ _) (lc_short_lt h p)]
  constructor
  · rintro ⟨x, hx, rfl⟩
    refine ⟨lc_M_x hx (lc_M_sel (lc_one_M h p n)), ?_⟩
    rw [lc_sf, Nat.testBit_xor, lc_sel_bit]
    cases c : x.testBit p
    · rfl
    · have k : lc_one b p n ≠ 0 := by
        intro z
        have e : (lc_lin n b x).testBit p = false := by
          rw [lc_lin_bit]
          apply lc_xs_0
          intro i hi
          cases d : (b i).testBit p
          · exact Bool.and_false _
          · exact absurd z (lc_one_has d n hi)
        rw [hx, c] at e
        exact Bool.noConfusion e
      rw [lc_one_bit n k]
      rfl
  · rintro ⟨hy, e⟩
    exact ⟨y, hy, by rw [lc_sf, e, lc_sel_f, Nat.xor_zero]⟩
/-! puncturing -/
def lc_pm (p : Nat) : Nat := 2 ^ p ^^^ 4294967295
def lc_punc (n : Nat) (b : Nat → Nat) (p : Nat) : Nat → Nat := lc_incs n (fun _ => 0) (fun i => b i &&& lc_pm p) n
theorem lc_punc_lt {n : Nat} {b : Nat → Nat} (h : lc_Red n b) (p : Nat) : ∀ i, i < n → b i &&& lc_pm p < 2 ^ n := fun i _ => Nat.lt_of_le_of_lt Nat.and_le_left (lc_Red_lt h i)
theorem lc_punc_Red {n : Nat} {b : Nat → Nat} (h : lc_Red n b) (p : Nat) : lc_Red n (lc_punc n b p) := lc_incs_Red (lc_Red_0 n) (lc_punc_lt h p)
theorem lc_punc_M {n y : Nat} {b : Nat → Nat} (h : lc_Red n b) (p : Nat) : lc_M n (lc_punc n b p) y ↔ ∃ x, lc_M n b x ∧ x &&& lc_pm p = y :=
  lc_img h (f := fun x => x &&& lc_pm p) (fun _ _ => Nat.and_xor_distrib_right) (lc_punc_lt h p)
/-! exchanging two places -/
def lc_ef (i j x : Nat) : Nat := x ^^^ lc_sel (x.testBit i ^^ x.testBit j) (2 ^ i ^^^ 2 ^ j)
theorem lc_ef_x (i j x y : Nat) : lc_ef i j (x ^^^ y) = lc_ef i j x ^^^ lc_ef i j y := by
  unfold lc_ef
  have e : ((x ^^^ y).testBit i ^^ (x ^^^ y).testBit j) = ((x.testBit i ^^ x.testBit j) ^^ (y.testBit i ^^ y.testBit j)) := by
    rw [Nat.testBit_xor, Nat.testBit_xor]
    cases x.testBit i <;> cases x.testBit j <;> cases y.testBit i <;> cases y.testBit j <;> rfl
  rw [e, lc_sel_xor]
  exact lc_x4 _ _ _ _
theorem lc_ef_lt {n i j x : Nat} (hi : i < n) (hj : j < n) (hx : x < 2 ^ n) : lc_ef i j x < 2 ^ n :=
  Nat.xor_lt_two_pow hx (lc_sel_lt (Nat.xor_lt_two_pow (Nat.pow_lt_pow_right (by omega) hi) (Nat.pow_lt_pow_right (by omega) hj)))
theorem lc_ef_or {i j x : Nat} (h : ¬ x.testBit i = x.testBit j) : 2 ^ i ||| 2 ^ j = 2 ^ i ^^^ 2 ^ j := by
  have hij : i ≠ j := fun e => h (by rw [e])
  apply Nat.eq_of_testBit_eq
  intro t
  rw [Nat.testBit_or, Nat.testBit_xor, Nat.testBit_two_pow, Nat.testBit_two_pow]
  by_cases c : i = t
  · have d : ¬ j = t := fun e => hij (c.trans e.symm)
    simp [c, d]
  · simp [c]
theorem lc_ef_same {i j x : Nat} (h : x.testBit i = x.testBit j) : lc_ef i j x = x := by
  rw [lc_ef, h, Bool.xor_self, lc_sel_f, Nat.xor_zero]
theorem lc_ef_diff {i j x : Nat} (h : ¬ x.testBit i = x.testBit j) : lc_ef i j x = x ^^^ (2 ^ i ^^^ 2 ^ j) := by
  have e : (x.testBit i ^^ x.testBit j) = true := by
    cases c : x.testBit i <;> cases d : x.testBit j
    · exact absurd (c.trans d.symm) h
    · rfl
    · rfl
    · exact absurd (c.trans d.symm) h
  rw [lc_ef, e, lc_sel_t]
def lc_exch (n : Nat) (b : Nat → Nat) (i j : Nat) : Nat → Nat := lc_incs n (fun _ => 0) (fun t => lc_ef i j (b t)) n
theorem lc_exch_lt {n i j : Nat} {b : Nat → Nat} (h : lc_Red n b) (hi : i < n) (hj : j < n) : ∀ t, t < n → lc_ef i j (b t) < 2 ^ n := fun t _ => lc_ef_lt hi hj (lc_Red_lt h t)
theorem lc_exch_Red {n i j : Nat} {b : Nat → Nat} (h : lc_Red n b) (hi : i < n) (hj : j < n) : lc_Red n (lc_exch n b i j) := lc_incs_Red (lc_Red_0 n) (lc_exch_lt h hi hj)
theorem lc_exch_M {n i j y : Nat} {b : Nat → Nat} (h : lc_Red n b) (hi : i < n) (hj : j < n) : lc_M n (lc_exch n b i j) y ↔ ∃ x, lc_M n b x ∧ lc_ef i j x = y :=
  lc_img h (f := lc_ef i j) (lc_ef_x i j) (lc_exch_lt h hi hj)
/-! the rows of a basis -/
def lc_fl (b : Nat → Nat) (i : Nat) : Nat := if b i = 0 then 1 else 0
theorem lc_fl_0 {b : Nat → Nat} {i : Nat} : lc_fl b i = 0 ↔ b i ≠ 0 := by
  unfold lc_fl
  split
  · rename_i h; simp [h]
  · rename_i h; simp [h]
theorem lc_zr_fl (p : Nat) (b : Nat → Nat) : lc_zr p (lc_fl b) = lc_dim p b := by
  unfold lc_zr lc_dim
  apply lc_cnt_congr
  intro i _
  by_cases z : b i = 0
  · rw [decide_eq_true z, decide_eq_false (fun q => lc_fl_0.mp q z)]
    rfl
  · rw [decide_eq_false z, decide_eq_true (lc_fl_0.mpr z)]
    rfl
def lc_rw (n : Nat) (b : Nat → Nat) (t : Nat) : Nat := b (lc_np n (lc_fl b) t)
theorem lc_rw_at {n i : Nat} {b : Nat → Nat} (hi : i < n) (hb : b i ≠ 0) : lc_rw n b (lc_dim i b) = b i := by
  rw [lc_rw, ← lc_zr_fl, lc_np_zr hi (lc_fl_0.mpr hb)]
theorem lc_rw_sp {n t : Nat} {b : Nat → Nat} (h : t < lc_dim n b) : ∃ i, i < n ∧ b i ≠ 0 ∧ lc_dim i b = t ∧ lc_rw n b t = b i := by
  rw [← lc_zr_fl] at h
  have k := lc_np_sp h
  exact ⟨_, k.1, lc_fl_0.mp k.2.1, by rw [← lc_zr_fl]; exact k.2.2, rfl⟩
theorem lc_rw_W {n : Nat} {b : Nat → Nat} (a : Nat) : ∀ p, p ≤ n → lc_W p b a = lc_lin (lc_dim p b) (lc_rw n b) a := by
  intro p
  induction p with
  | zero => intro _; rfl
  | succ p ih =>
    intro hp
    rw [lc_dim_s]
    by_cases z : b p = 0
    · rw [if_pos z, lc_W_z z]
      exact ih (by omega)
    · rw [if_neg z, lc_W_nz z, lc_lin, ih (by omega), lc_rw_at (by omega) z]
/-! rows of the dual -/
theorem lc_du_zero {n z : Nat} {b : Nat → Nat} (h : lc_Red n b) (h1 : ∀ i, lc_dt n (b i) z = false) (h2 : ∀ p, p < n → b p = 0 → z.testBit p = false) (hz : z < 2 ^ n) : z = 0 := by
  apply Nat.eq_of_testBit_eq
  intro j
  rw [Nat.zero_testBit]
  rcases Nat.lt_or_ge j n with c | c
  · by_cases y : b j = 0
    · exact h2 j c y
    · have k := h1 j
      rw [lc_dt, lc_xs_1 c, (h.2 j y).1, Bool.true_and] at k
      · exact k
      · intro i hi hij
        by_cases w : b i = 0
        · rw [h2 i hi w, Bool.and_false]
        · rw [(h.2 i w).2.2 j (fun q => hij q.symm), Bool.false_and]
  · exact Nat.testBit_lt_two_pow (Nat.lt_of_lt_of_le hz (Nat.pow_le_pow_right (by omega) c))
theorem lc_hs_bit {n s t : Nat} {b : Nat → Nat} (hs : s < lc_zr n b) (ht : t < lc_zr n b) : (lc_hs n b s).testBit (lc_np n b t) = decide (s = t) := by
  have ks := lc_np_sp hs
  have kt := lc_np_sp ht
  rw [lc_hs, lc_h_bit, kt.2.1, Nat.zero_testBit, Bool.and_false, Bool.or_false]
  by_cases e : s = t
  · rw [e, decide_eq_true rfl, decide_eq_true rfl]
  · rw [decide_eq_false e, decide_eq_false]
    intro q
    apply e
    rw [← ks.2.2, ← kt.2.2, q]
theorem lc_hl_lin {n t : Nat} {b : Nat → Nat} (a : Nat) (ht : t < lc_zr n b) : (lc_lin (lc_zr n b) (lc_hs n b) a).testBit (lc_np n b t) = a.testBit t := by
  rw [lc_lin_bit, lc_xs_1 ht]
  · rw [lc_hs_bit ht ht, decide_eq_true rfl, Bool.and_true]
  · intro s hs e
    rw [lc_hs_bit hs ht, decide_eq_false e, Bool.and_false]
theorem lc_hd {n a : Nat} {b : Nat → Nat} (h : lc_Red n b) : ∀ i, lc_dt n (b i) (lc_lin (lc_zr n b) (lc_hs n b) a) = false := by
  intro i
  rw [lc_dt_comm, lc_dt_lin]
  apply lc_xs_0
  intro t ht
  rw [lc_hs_dt ht, lc_rs_M.mpr (lc_Red_b h i), Nat.zero_testBit, Bool.and_false]
theorem lc_cnt_dual {n : Nat} {b : Nat → Nat} (h : lc_Red n b) (P : Nat → Bool) : lc_cnt (2 ^ lc_zr n b) (fun a => P (lc_lin (lc_zr n b) (lc_hs n b) a)) = lc_cnt (2 ^ n) (fun y => P y && lc_al n (fun i => !lc_dt n (b i) y)) := by
  have hlt : ∀ a, lc_lin (lc_zr n b) (lc_hs n b) a < 2 ^ n := fun a => lc_lin_lt lc_hs_lt
  refine lc_cnt_bij (fun a => lc_lin (lc_zr n b) (lc_hs n b) a) ?_ ?_ ?_
  · intro a _ hp
    refine ⟨hlt a, ?_⟩
    rw [hp, Bool.true_and, lc_al_iff]
    intro i _
    rw [lc_hd h i]
    rfl
  · intro i j hi hj _ _ e
    apply Nat.eq_of_testBit_eq
    intro t
    rcases Nat.lt_or_ge t (lc_zr n b) with c | c
    · rw [← lc_hl_lin i c, ← lc_hl_lin j c, e]
    · rw [Nat.testBit_lt_two_pow (Nat.lt_of_lt_of_le hi (Nat.pow_le_pow_right (by omega) c)), Nat.testBit_lt_two_pow (Nat.lt_of_lt_of_le hj (Nat.pow_le_pow_right (by omega) c))]
  · intro y hy hq
    rw [Bool.and_eq_true, lc_al_iff] at hq
    have hd : ∀ i, lc_dt n (b i) y = false := by
      intro i
      rcases Nat.lt_or_ge i n with c | c
      · have := hq.2 i c
        rw [Bool.not_eq_true'] at this
        exact this
      · rw [h.1 i c, lc_dt_0]
    have e : lc_lin (lc_zr n b) (lc_hs n b) (lc_mk (lc_zr n b) (fun t => y.testBit (lc_np n b t))) = y := by
      rw [← lc_x0]
      apply lc_du_zero h
      · intro i
        rw [lc_dt_comm, lc_dt_xl, lc_dt_comm, lc_hd h i, lc_dt_comm, hd i]
        rfl
      · intro p hp hb
        have ht := lc_zr_lt hp hb
        have k := lc_hl_lin (lc_mk (lc_zr n b) (fun t => y.testBit (lc_np n b t))) ht
        rw [lc_mk_bit, decide_eq_true ht, Bool.true_and, lc_np_zr hp hb] at k
        rw [Nat.testBit_xor, k, Bool.xor_self]
      · exact Nat.xor_lt_two_pow (hlt _) hy
    exact ⟨_, lc_mk_lt _ _, by rw [e]; exact hq.1, e⟩
theorem lc_al_M {n y : Nat} {b : Nat → Nat} (h : lc_Red n b) (hy : y < 2 ^ n) : lc_al (lc_zr n b) (fun t => !lc_dt n (lc_hs n b t) y) = decide (lc_M n b y) := by
  apply Bool.eq_iff_iff.mpr
  rw [lc_al_iff, decide_eq_true_eq, lc_chk h hy]
  constructor
  · intro k t ht
    have := k t ht
    rw [Bool.not_eq_true'] at this
    exact this
  · intro k t ht
    rw [k t ht]
    rfl
theorem lc_al_D {n y : Nat} {b : Nat → Nat} : lc_al (lc_dim n b) (fun t => !lc_dt n (lc_rw n b t) y) = lc_al n (fun i => !lc_dt n (b i) y) := by
  apply Bool.eq_iff_iff.mpr
  rw [lc_al_iff, lc_al_iff]
  constructor
  · intro k i hi
    by_cases z : b i = 0
    · rw [z, lc_dt_0]
      rfl
    · have e := k (lc_dim i b) (lc_cnt_lt hi (by simp [z]))
      rw [lc_rw_at hi z] at e
      exact e
  · intro k t ht
    obtain ⟨i, hi, _, _, e⟩ := lc_rw_sp ht
    rw [e]
    exact k i hi
/-! gray code -/
def lc_gr (i : Nat) : Nat := i ^^^ (i / 2)
theorem lc_gr_step : ∀ i, i < 32 → 0 < i → ∃ t, t < 5 ∧ i.testBit t = true ∧ (∀ s, s < t → i.testBit s = false) ∧ lc_gr i = lc_gr (i - 1) ^^^ 2 ^ t := by decide +kernel
theorem lc_gr_lt {k i : Nat} (h : i < 2 ^ k) : lc_gr i < 2 ^ k := Nat.xor_lt_two_pow h (Nat.lt_of_le_of_lt (Nat.div_le_self _ _) h)
theorem lc_gr_inj : ∀ i, i < 32 → ∀ j, j < 32 → lc_gr i = lc_gr j → i = j := by decide +kernel
theorem lc_gr_sur : ∀ k, k < 6 → ∀ x, x < 2 ^ k → ∃ i, i < 2 ^ k ∧ lc_gr i = x := by decide +kernel
theorem lc_gr_cnt {k : Nat} (hk : k < 6) (P : Nat → Bool) : lc_cnt (2 ^ k) (fun i => P (lc_gr i)) = lc_cnt (2 ^ k) P := by
  have h32 : 2 ^ k ≤ 32 := Nat.pow_le_pow_right (n := 2) (j := 5) (by omega) (by omega)
  refine lc_cnt_bij lc_gr ?_ ?_ ?_
  · intro i hi hp
    exact ⟨lc_gr_lt hi, hp⟩
  · intro i j hi hj _ _ e
    exact lc_gr_inj i (by omega) j (by omega) e
  · intro x hx hq
    obtain ⟨i, hi, e⟩ := lc_gr_sur k hk x hx
    exact ⟨i, hi, by rw [e]; exact hq, e⟩
/-! the next word of the same weight -/
def lc_gp (x : Nat) : Nat :=
  (x + (x &&& (4294967296 - x))) ||| (((x ^^^ (x + (x &&& (4294967296 - x)))) / (x &&& (4294967296 - x))) / 4)
def lc_nx (w : Nat) : Nat → Nat → Nat
  | 0, z => z
  | f + 1, z => if lc_wt 11 z = w then z else lc_nx w f (z + 1)
theorem lc_nx_sp (w : Nat) : ∀ f z y, z ≤ y → y < lc_nx w f z → lc_wt 11 y ≠ w := by
  intro f
  induction f with
  | zero =>
    intro z y h1 h2
    rw [lc_nx] at h2
    omega
  | succ f ih =>
    intro z y h1 h2
    rw [lc_nx] at h2
    by_cases c : lc_wt 11 z = w
    · rw [if_pos c] at h2
      omega
    · rw [if_neg c] at h2
      by_cases e : y = z
      · rw [e]; exact c
      · exact ih (z + 1) y (by omega) h2
def lc_gt (x : Nat) : Bool := decide (x < lc_gp x) && decide (lc_gp x < 2048) && decide (0 < x &&& (4294967296 - x)) && decide ((x &&& (4294967296 - x)) ≤ x) && decide (lc_wt 11 (lc_gp x) = lc_wt 11 x) && decide (lc_nx (lc_wt 11 x) 1100 (x + 1) = lc_gp x)
theorem lc_gt_all : ∀ x, x < 1023 → lc_gt (x + 1) = true := by decide +kernel
theorem lc_gp_sp {x : Nat} (h0 : 0 < x) (hx : x < 1024) : x < lc_gp x ∧ lc_gp x < 2048 ∧ 0 < x &&& (4294967296 - x) ∧ (x &&& (4294967296 - x)) ≤ x ∧ lc_wt 11 (lc_gp x) = lc_wt 11 x ∧ ∀ z, x < z → z < lc_gp x → lc_wt 11 z ≠ lc_wt 11 x := by
  have k := lc_gt_all (x - 1) (by omega)
  rw [Nat.sub_add_cancel (by omega)] at k
  simp only [lc_gt, Bool.and_eq_true, decide_eq_true_eq] at k
  obtain ⟨⟨⟨⟨⟨k1, k2⟩, k3⟩, k4⟩, k5⟩, k6⟩ := k
  refine ⟨k1, k2, k3, k4, k5, ?_⟩
  intro z h1 h2
  exact lc_nx_sp (lc_wt 11 x) 1100 (x + 1) z h1 (by rw [k6]; exact h2)
theorem lc_g0 : ∀ w, w < 11 → lc_wt 10 (2 ^ w - 1) = w ∧ lc_nx w 1100 0 = 2 ^ w - 1 := by decide +kernel
end
section
/-! the component: the bases as one array, its private methods -/
def lc_xb (b : Nat → Nat → Nat) : Nat → Int32 := fun j => nI (b (j / 10) (j % 10))
def lc_setc (b : Nat → Nat → Nat) (c : Nat) (v : Nat → Nat) : Nat → Nat → Nat := fun d => if d = c then v else b d
theorem lc_setc_s (b : Nat → Nat → Nat) (c : Nat) (v : Nat → Nat) : lc_setc b c v c = v := if_pos rfl
theorem lc_setc_n {b : Nat → Nat → Nat} {c d : Nat} {v : Nat → Nat} (h : d ≠ c) : lc_setc b c v d = b d := if_neg h
theorem lc_setc_2 (b : Nat → Nat → Nat) (c : Nat) (u v : Nat → Nat) : lc_setc (lc_setc b c u) c v = lc_setc b c v := by
  funext d
  unfold lc_setc
  split <;> rfl
theorem xb_ext {b b' : Nat → Nat → Nat} (h : ∀ d j, j < 10 → b d j = b' d j) : lc_xb b = lc_xb b' := by
  funext j
  unfold lc_xb
  rw [h _ _ (Nat.mod_lt j (by omega))]
theorem xb_ix (c i : Nat) : (10 : Int32) * nI c + nI i = nI (10 * c + i) := by
  show nI 10 * nI c + nI i = _
  rw [pk_mul, nI_add]
theorem xb_rd {b : Nat → Nat → Nat} {c i : Nat} (hc : c < 3) (hi : i < 10) : lc_xb b ((10 : Int32) * nI c + nI i).toNatClampNeg = nI (b c i) := by
  rw [xb_ix, nI_clamp (by omega)]
  unfold lc_xb
  rw [show (10 * c + i) / 10 = c by omega, show (10 * c + i) % 10 = i by omega]
theorem xb_in {c i : Nat} (hc : c < 3) (hi : i < 10) : vp_in ((10 : Int32) * nI c + nI i) 30 := by
  rw [xb_ix]
  exact vp_in_nI (by omega) (by omega)
theorem xb_wr {B B' : Nat → Nat → Nat} {c i v : Nat} (hc : c < 3) (hi : i < 10) (h1 : B' c i = v) (h2 : ∀ d j, j < 10 → ¬ (d = c ∧ j = i) → B' d j = B d j) : upd (lc_xb B) ((10 : Int32) * nI c + nI i).toNatClampNeg (nI v) = lc_xb B' := by
  rw [xb_ix, nI_clamp (by omega)]
  funext j
  unfold upd lc_xb
  by_cases e : j = 10 * c + i
  · rw [if_pos e, e, show (10 * c + i) / 10 = c by omega, show (10 * c + i) % 10 = i by omega, h1]
  · rw [if_neg e, h2 _ _ (Nat.mod_lt j (by omega)) (by rintro ⟨p, q⟩; omega)]
section
variable {n : Nat} {b : Nat → Nat → Nat} {fn r : Int32} {A ck wg ot ch ld ro : Nat → Int32}
theorem xw_badCode {post : Int32 → Prop} {c : Nat} (hc : c < 2) (H : post 0) : wpX_badCode post (fn, r, A, ck, wg, ot, ch, ld, ro) (nI c) :=
  br_f (nI_pos (by omega)) (br_t (nI_le (b := 1) (by omega) (by omega)) H)
theorem xw_badCodeN {post : Int32 → Prop} {v : Int32} (hv : v < 0 ∨ ¬ v ≤ 1) (H : post 1) : wpX_badCode post (fn, r, A, ck, wg, ot, ch, ld, ro) v := by
  by_cases h : v < 0
  · exact br_t h H
  · exact br_f h (br_f (hv.resolve_left h) H)
theorem xw_badWord {post : Int32 → Prop} {w : Nat} (hn : n ≤ 10) (hw : w < 2 ^ n) (H : post 0) : wpX_badWord post (nI n, r, A, ck, wg, ot, ch, ld, ro) (nI w) := by
  refine br_f (nI_pos (lc_w31 hn hw)) (br_t ?_ H)
  rw [lc_shl (by omega)]
  exact nI_lt hw (by have := lc_10 hn; omega)
theorem xw_badWordN {post : Int32 → Prop} {v : Int32} (hn : n ≤ 10) (hv : v < 0 ∨ ¬ v < nI (2 ^ n)) (H : post 1) : wpX_badWord post (nI n, r, A, ck, wg, ot, ch, ld, ro) v := by
  by_cases h : v < 0
  · exact br_t h H
  · refine br_f h (br_f ?_ H)
    rw [lc_shl (by omega)]
    exact hv.resolve_left h
theorem xw_badPlace {post : Int32 → Prop} {p : Nat} (hn : n ≤ 10) (hp : p < n) (H : post 0) : wpX_badPlace post (nI n, r, A, ck, wg, ot, ch, ld, ro) (nI p) :=
  br_f (nI_pos (by omega)) (br_t (nI_lt hp (by omega)) H)
theorem xw_badPlaceN {post : Int32 → Prop} {v : Int32} (hv : v < 0 ∨ ¬ v < nI n) (H : post 1) : wpX_badPlace post (nI n, r, A, ck, wg, ot, ch, ld, ro) v := by
  by_cases h : v < 0
  · exact br_t h H
  · exact br_f h (br_f (hv.resolve_left h) H)
theorem xw_size4 {post : Int32 → Prop} {x : Nat} (hx : x < 2 ^ 31) (H : post (nI (lc_wt 10 x))) : ∀ d i, i + d = 10 → ∀ m, d < m → wX_sizeOf_4 post (nI x) fn r A ck wg ot ch ld ro m (nI (lc_wt i x)) (nI i) := by
  intro d
  induction d with
  | zero =>
    intro i hi m hm
    obtain ⟨m, rfl⟩ : ∃ k, m = k + 1 := ⟨m - 1, by omega⟩
    have e : i = 10 := by omega
    subst e
    exact br_t (nI_le (a := 10) (b := 10) (by omega) (by omega)) H
  | succ d ih =>
    intro i hi m hm
    obtain ⟨m, rfl⟩ : ∃ k, m = k + 1 := ⟨m - 1, by omega⟩
    refine br_f (nI_ge (b := 10) (by omega) (by omega)) (nm_r (e' := nI (lc_wt (i + 1) x)) ?_ (nm_r (nI_1 i) (ih (i + 1) (by omega) m (by omega))))
    rw [lc_bit hx (by omega), lc_bI_nI, nI_add]
    rfl
theorem xw_size {post : Int32 → Prop} {x : Nat} (hx : x < 2 ^ 31) (H : post (nI (lc_wt 10 x))) : wpX_sizeOf post (fn, r, A, ck, wg, ot, ch, ld, ro) (nI x) :=
  ⟨11, xw_size4 hx H 10 0 rfl 11 (by omega)⟩
theorem lc_part {n : Nat} {b : Nat → Nat} (h : lc_Red n b) {i m : Nat} (hi : b i ≠ 0) (hm : i < m) (x : Nat) : (lc_lin m b x).testBit i = x.testBit i := by
  rw [lc_lin_bit, lc_xs_1 hm]
  · rw [(h.2 i hi).1, Bool.and_true]
  · intro j _ hj
    rw [(h.2 i hi).2.2 j hj, Bool.and_false]
theorem xw_rest10 {post : Int32 → Prop} {c w : Nat} (hn : n ≤ 10) (hc : c < 3) (hR : lc_Red n (b c)) (hw : w < 2 ^ n) (H : post (nI (lc_rs n (b c) w))) : ∀ i, i ≤ n → ∀ m, i < m → wX_rest_10 post (nI c) fn r (lc_xb b) ck wg ot ch ld ro m (nI (w ^^^ (lc_lin n (b c) w ^^^ lc_lin i (b c) w))) (nI i + (-1)) := by
  intro i
  induction i with
  | zero =>
    intro _ m hm
    obtain ⟨m, rfl⟩ : ∃ k, m = k + 1 := ⟨m - 1, by omega⟩
    refine br_t (by decide) ?_
    rw [lc_lin, Nat.xor_zero]
    exact H
  | succ j ih =>
    intro hj m hm
    obtain ⟨m, rfl⟩ : ∃ k, m = k + 1 := ⟨m - 1, by omega⟩
    rw [pk_m1]
    have hlt : ∀ k, lc_lin k (b c) w < 2 ^ n := fun k => lc_lin_lt (fun i _ => lc_Red_lt hR i)
    have hx : w ^^^ (lc_lin n (b c) w ^^^ lc_lin (j + 1) (b c) w) < 2 ^ n := Nat.xor_lt_two_pow hw (Nat.xor_lt_two_pow (hlt _) (hlt _))
    have IH := ih (by omega) m (by omega)
    refine br_f (nI_pos (by omega)) ?_
    by_cases z : b c j = 0
    · have e : lc_lin (j + 1) (b c) w = lc_lin j (b c) w := by rw [lc_lin, z, lc_sel_0, Nat.xor_zero]
      rw [e]
      refine br_c (fun _ => ⟨xb_in hc (by omega), br_t ?_ (nm_e IH)⟩) (fun _ => nm_e IH)
      rw [xb_rd hc (by omega), z]
      rfl
    · have hb : (w ^^^ (lc_lin n (b c) w ^^^ lc_lin (j + 1) (b c) w)).testBit j = w.testBit j := by
        rw [Nat.testBit_xor, Nat.testBit_xor, lc_part hR z (by omega), lc_part hR z (by omega), Bool.xor_self, Bool.xor_false]
      cases wj : w.testBit j
      · have e : lc_lin (j + 1) (b c) w = lc_lin j (b c) w := by rw [lc_lin, wj, lc_sel_f, Nat.xor_zero]
        refine br_f ?_ (nm_e ?_)
        · rw [lc_bit1 (lc_w31 hn hx) (by omega), hb, wj]
          exact Bool.noConfusion
        · rw [e]; exact IH
      · refine br_t ?_ ⟨xb_in hc (by omega), br_f ?_ ⟨xb_in hc (by omega), nm_r (e' := nI (w ^^^ (lc_lin n (b c) w ^^^ lc_lin j (b c) w))) ?_ (nm_e IH)⟩⟩
        · rw [lc_bit1 (lc_w31 hn hx) (by omega), hb, wj]
        · rw [xb_rd hc (by omega)]
          exact nI_ne0 (by omega) (lc_w31 hn (lc_Red_lt hR j))
        · rw [xb_rd hc (by omega), nx_xor, lc_lin, wj, lc_sel_t]
          congr 1
          rw [Nat.xor_assoc, Nat.xor_assoc, lc_xx]
theorem xw_rest {post : Int32 → Prop} {c w : Nat} (hn : n ≤ 10) (hc : c < 3) (hR : lc_Red n (b c)) (hw : w < 2 ^ n) (H : post (nI (lc_rs n (b c) w))) : wpX_rest post (nI n, r, lc_xb b, ck, wg, ot, ch, ld, ro) (nI c) (nI w) := by
  refine nm_r (e' := nI n + (-1)) (Int32.sub_eq_add_neg ..) ⟨n + 1, ?_⟩
  have k := xw_rest10 (fn := nI n) (r := r) (ck := ck) (wg := wg) (ot := ot) (ch := ch) (ld := ld) (ro := ro) hn hc hR hw H n (Nat.le_refl n) (n + 1) (by omega)
  rw [Nat.xor_self, Nat.xor_zero] at k
  exact k
theorem xw_highest3 {post : Int32 → Prop} {l : Nat} (hl : l < 2 ^ 31) (h0 : l ≠ 0) (H : post (nI l.log2)) : ∀ i, l.log2 ≤ i → i < 32 → ∀ m, i < m → wX_highest_3 post (nI l) fn r A ck wg ot ch ld ro m (nI i) := by
  intro i
  induction i with
  | zero =>
    intro hi _ m hm
    obtain ⟨m, rfl⟩ : ∃ k, m = k + 1 := ⟨m - 1, by omega⟩
    have e : l.log2 = 0 := by omega
    rw [e] at H
    exact br_t (by decide) H
  | succ i ih =>
    intro hi h32 m hm
    obtain ⟨m, rfl⟩ : ∃ k, m = k + 1 := ⟨m - 1, by omega⟩
    refine br_f (nI_nle (by omega) (by omega)) ?_
    cases c : l.testBit (i + 1)
    · refine br_t ((lc_bit0 hl h32).mpr c) (nm_r (pk_m1 i) (ih ?_ (by omega) m (by omega)))
      have : l.log2 ≠ i + 1 := by
        intro e
        have := Nat.testBit_log2 h0
        rw [e, c] at this
        exact Bool.noConfusion this
      omega
    · refine br_f (fun q => ?_) ?_
      · rw [lc_bit0 hl h32, c] at q
        exact Bool.noConfusion q
      · have := (Nat.le_log2 h0).mpr (Nat.ge_two_pow_of_testBit c)
        have e : l.log2 = i + 1 := by omega
        rw [e] at H
        exact H
theorem xw_highest {post : Int32 → Prop} {l : Nat} (hl : l < 1024) (h0 : l ≠ 0) (H : post (nI l.log2)) : wpX_highest post (fn, r, A, ck, wg, ot, ch, ld, ro) (nI l) :=
  ⟨10, xw_highest3 (by omega) h0 H 9 (by have := (Nat.log2_lt (k := 10) h0).mpr hl; omega) (by omega) 10 (by omega)⟩
theorem xw_inc22 {post : SX → Prop} {c l q : Nat} (hn : n ≤ 10) (hc : c < 3) (hR : lc_Red n (b c)) (hl : l < 2 ^ n) (hq : q < n) (hb : b c q = 0) (H : post (nI n, r, lc_xb (lc_setc b c (lc_ins (b c) l q)), ck, wg, ot, ch, ld, ro)) : ∀ d i, i + d = n → ∀ B : Nat → Nat → Nat, (∀ e j, j < 10 → B e j = if e = c ∧ j < i then b c j ^^^ lc_sel ((b c j).testBit q) l else b e j) → ∀ m, d < m → wX_include_22 post (nI c) (nI l) (nI q) (nI n) r m (nI i) (lc_xb B) ck wg ot ch ld ro := by
  intro d
  induction d with
  | zero =>
    intro i hi B hB m hm
    obtain ⟨m, rfl⟩ : ∃ k, m = k + 1 := ⟨m - 1, by omega⟩
    have e : i = n := by omega
    subst e
    refine br_t (nI_le (Nat.le_refl _) (by omega)) ⟨xb_in hc (by omega), nm_r ?_ H⟩
    rw [pk_vs, lc_i16 (by have := lc_w1024 hn hl; omega)]
    apply xb_wr hc (by omega)
    · rw [lc_setc_s, lc_ins, hb, Nat.zero_testBit, decide_eq_true rfl]
      exact Nat.zero_xor l
    · intro e j hj hne
      rw [hB e j hj]
      by_cases ec : e = c
      · subst ec
        have hjq : ¬ j = q := fun y => hne ⟨rfl, y⟩
        rw [lc_setc_s, lc_ins, decide_eq_false hjq, Bool.xor_false]
        split
        · rfl
        · rename_i hji
          rw [hR.1 j (by omega), Nat.zero_testBit]
          exact Nat.zero_xor 0
      · rw [lc_setc_n ec, if_neg (fun y => ec y.1)]
  | succ d ih =>
    intro i hi B hB m hm
    obtain ⟨m, rfl⟩ : ∃ k, m = k + 1 := ⟨m - 1, by omega⟩
    have rd : lc_xb B ((10 : Int32) * nI c + nI i).toNatClampNeg = nI (b c i) := by
      rw [xb_rd hc (by omega), hB c i (by omega), if_neg (by omega)]
    have hx := lc_Red_lt hR i
    refine br_f (nI_ge (by omega) (by omega)) ⟨xb_in hc (by omega), ?_⟩
    cases t : (b c i).testBit q
    · refine br_f ?_ (nm_r (nI_1 i) (ih (i + 1) (by omega) B ?_ m (by omega)))
      · rw [rd, lc_bit1 (lc_w31 hn hx) (by omega), t]
        exact Bool.noConfusion
      · intro e j hj
        rw [hB e j hj]
        by_cases ej : e = c ∧ j = i
        · rw [if_neg (by omega), if_pos (by omega), ej.1, ej.2, t, lc_sel_f, Nat.xor_zero]
        · by_cases ei : e = c ∧ j < i
          · rw [if_pos ei, if_pos (by omega)]
          · rw [if_neg ei, if_neg (by omega)]
    · refine br_t ?_ ⟨xb_in hc (by omega), xb_in hc (by omega), nm_r (e' := lc_xb (fun e j => if e = c ∧ j = i then b c i ^^^ l else B e j)) ?_ (nm_r (nI_1 i) (ih (i + 1) (by omega) _ ?_ m (by omega)))⟩
      · rw [rd, lc_bit1 (lc_w31 hn hx) (by omega), t]
      · rw [rd, nx_xor, pk_vs, lc_i16 (by have := lc_w1024 hn (Nat.xor_lt_two_pow hx hl); omega)]
        apply xb_wr hc (by omega)
        · exact if_pos ⟨rfl, rfl⟩
        · intro e j _ h
          exact if_neg h
      · intro e j hj
        try dsimp only
        by_cases ej : e = c ∧ j = i
        · rw [if_pos ej, if_pos (by omega), ej.2, t, lc_sel_t]
        · rw [if_neg ej, hB e j hj]
          by_cases ei : e = c ∧ j < i
          · rw [if_pos ei, if_pos (by omega)]
          · rw [if_neg ei, if_neg (by omega)]
theorem xw_inc {post : SX → Prop} {c w : Nat} (hn : n ≤ 10) (hc : c < 3) (hR : lc_Red n (b c)) (hw : w < 2 ^ n) (H : post (nI n, r, lc_xb (lc_setc b c (lc_inc n (b c) w)), ck, wg, ot, ch, ld, ro)) : wpX_include post (nI n, r, lc_xb b, ck, wg, ot, ch, ld, ro) (nI c) (nI w) := by
  refine xw_rest hn hc hR hw ?_
  have hl := lc_rs_lt hR hw
  by_cases z : lc_rs n (b c) w = 0
  · refine br_t (by rw [z]; rfl) ?_
    have e : lc_setc b c (lc_inc n (b c) w) = b := by
      funext d
      unfold lc_setc
      split
      · rename_i h
        rw [h, lc_inc, if_pos z]
      · rfl
    rw [e] at H
    exact H
  · refine br_f (nI_ne0 (by omega) (lc_w31 hn hl)) (xw_highest (lc_w1024 hn hl) z ⟨n + 1, ?_⟩)
    have e : lc_inc n (b c) w = lc_ins (b c) (lc_rs n (b c) w) (lc_rs n (b c) w).log2 := if_neg z
    rw [e] at H
    refine xw_inc22 hn hc hR hl ((Nat.log2_lt z).mpr hl) ?_ H n 0 (by omega) b ?_ (n + 1) (by omega)
    · by_cases y : b c (lc_rs n (b c) w).log2 = 0
      · exact y
      · have k := Nat.testBit_log2 z
        rw [lc_rs_piv hR y] at k
        exact Bool.noConfusion k
    · intro e j _
      rw [if_neg (by omega)]
theorem xw_dim4 {post : Int32 → Prop} {c : Nat} (hn : n ≤ 10) (hc : c < 3) (hR : lc_Red n (b c)) (H : post (nI (lc_dim n (b c)))) : ∀ d i, i + d = n → ∀ m, d < m → wX_dimensionOf_4 post (nI c) (nI n) r (lc_xb b) ck wg ot ch ld ro m (nI (lc_dim i (b c))) (nI i) := by
  intro d
  induction d with
  | zero =>
    intro i hi m hm
    obtain ⟨m, rfl⟩ : ∃ k, m = k + 1 := ⟨m - 1, by omega⟩
    have e : i = n := by omega
    subst e
    exact br_t (nI_le (Nat.le_refl _) (by omega)) H
  | succ d ih =>
    intro i hi m hm
    obtain ⟨m, rfl⟩ : ∃ k, m = k + 1 := ⟨m - 1, by omega⟩
    have IH := ih (i + 1) (by omega) m (by omega)
    refine br_f (nI_ge (by omega) (by omega)) ⟨xb_in hc (by omega), ?_⟩
    by_cases z : b c i = 0
    · refine br_t (by rw [xb_rd hc (by omega), z]; rfl) (nm_r (nI_1 i) ?_)
      rw [lc_dim_s, if_pos z] at IH
      exact IH
    · refine br_f ?_ (nm_r (nI_1 _) (nm_r (nI_1 i) ?_))
      · rw [xb_rd hc (by omega)]
        exact nI_ne0 (by omega) (lc_w31 hn (lc_Red_lt hR i))
      · rw [lc_dim_s, if_neg z] at IH
        exact IH
theorem xw_dim {post : Int32 → Prop} {c : Nat} (hn : n ≤ 10) (hc : c < 3) (hR : lc_Red n (b c)) (H : post (nI (lc_dim n (b c)))) : wpX_dimensionOf post (nI n, r, lc_xb b, ck, wg, ot, ch, ld, ro) (nI c) :=
  ⟨n + 1, xw_dim4 hn hc hR H n 0 (by omega) (n + 1) (by omega)⟩
theorem xw_empty2 {post : SX → Prop} {c : Nat} (hc : c < 3) (H : post (fn, r, lc_xb (lc_setc b c (fun _ => 0)), ck, wg, ot, ch, ld, ro)) : ∀ d i, i + d = 10 → ∀ B : Nat → Nat → Nat, (∀ e j, j < 10 → B e j = if e = c ∧ j < i then 0 else b e j) → ∀ m, d < m → wX_empty_2 post (nI c) fn r m (nI i) (lc_xb B) ck wg ot ch ld ro := by
  intro d
  induction d with
  | zero =>
    intro i hi B hB m hm
    obtain ⟨m, rfl⟩ : ∃ k, m = k + 1 := ⟨m - 1, by omega⟩
    have e : i = 10 := by omega
    subst e
    refine br_t (nI_le (a := 10) (b := 10) (by omega) (by omega)) ?_
    have e : lc_xb B = lc_xb (lc_setc b c (fun _ => 0)) := by
      apply xb_ext
      intro e j hj
      rw [hB e j hj]
      by_cases ec : e = c
      · rw [if_pos ⟨ec, hj⟩, ec, lc_setc_s]
      · rw [if_neg (fun y => ec y.1), lc_setc_n ec]
    rw [e]
    exact H
  | succ d ih =>
    intro i hi B hB m hm
    obtain ⟨m, rfl⟩ : ∃ k, m = k + 1 := ⟨m - 1, by omega⟩
    refine br_f (nI_ge (b := 10) (by omega) (by omega)) ⟨xb_in hc (by omega), nm_r (e' := lc_xb (fun e j => if e = c ∧ j = i then 0 else B e j)) ?_ (nm_r (nI_1 i) (ih (i + 1) (by omega) _ ?_ m (by omega)))⟩
    · have k : vp_nar .short 0 = nI 0 := lc_nars (x := 0) (by omega)
      rw [k]
      apply xb_wr hc (by omega)
      · exact if_pos ⟨rfl, rfl⟩
      · intro e j _ h
        exact if_neg h
    · intro e j hj
      try dsimp only
      by_cases ej : e = c ∧ j = i
      · rw [if_pos ej, if_pos (by omega)]
      · rw [if_neg ej, hB e j hj]
        by_cases ei : e = c ∧ j < i
        · rw [if_pos ei, if_pos (by omega)]
        · rw [if_neg ei, if_neg (by omega)]
theorem xw_empty {post : SX → Prop} {c : Nat} (hc : c < 3) (H : post (fn, r, lc_xb (lc_setc b c (fun _ => 0)), ck, wg, ot, ch, ld, ro)) : wpX_empty post (fn, r, lc_xb b, ck, wg, ot, ch, ld, ro) (nI c) :=
  ⟨11, xw_empty2 hc H 10 0 rfl b (fun e j _ => by rw [if_neg (by omega)]) 11 (by omega)⟩
theorem xw_take2 {post : SX → Prop} {c : Nat} (hc : c < 2) (hb : ∀ j, j < 10 → b 2 j < 32768) (H : post (fn, r, lc_xb (lc_setc b c (b 2)), ck, wg, ot, ch, ld, ro)) : ∀ d i, i + d = 10 → ∀ B : Nat → Nat → Nat, (∀ e j, j < 10 → B e j = if e = c ∧ j < i then b 2 j else b e j) → ∀ m, d < m → wX_take_2 post (nI 2) (nI c) fn r m (nI i) (lc_xb B) ck wg ot ch ld ro := by
  intro d
  induction d with
  | zero =>
    intro i hi B hB m hm
    obtain ⟨m, rfl⟩ : ∃ k, m = k + 1 := ⟨m - 1, by omega⟩
    have e : i = 10 := by omega
    subst e
    refine br_t (nI_le (a := 10) (b := 10) (by omega) (by omega)) ?_
    have e : lc_xb B = lc_xb (lc_setc b c (b 2)) := by
      apply xb_ext
      intro e j hj
      rw [hB e j hj]
      by_cases ec : e = c
      · rw [if_pos ⟨ec, hj⟩, ec, lc_setc_s]
      · rw [if_neg (fun y => ec y.1), lc_setc_n ec]
    rw [e]
    exact H
  | succ d ih =>
    intro i hi B hB m hm
    obtain ⟨m, rfl⟩ : ∃ k, m = k + 1 := ⟨m - 1, by omega⟩
    refine br_f (nI_ge (b := 10) (by omega) (by omega)) ⟨xb_in (by omega) (by omega), xb_in (by omega) (by omega), nm_r (e' := lc_xb (fun e j => if e = c ∧ j = i then b 2 i else B e j)) ?_ (nm_r (nI_1 i) (ih (i + 1) (by omega) _ ?_ m (by omega)))⟩
    · rw [xb_rd (by omega) (by omega), hB 2 i (by omega), if_neg (by omega), lc_nars (hb i (by omega))]
      apply xb_wr (by omega) (by omega)
      · exact if_pos ⟨rfl, rfl⟩
      · intro e j _ h
        exact if_neg h
    · intro e j hj
      try dsimp only
      by_cases ej : e = c ∧ j = i
      · rw [if_pos ej, if_pos (by omega), ej.2]
      · rw [if_neg ej, hB e j hj]
        by_cases ei : e = c ∧ j < i
        · rw [if_pos ei, if_pos (by omega)]
        · rw [if_neg ei, if_neg (by omega)]
theorem xw_take {post : SX → Prop} {c : Nat} (hn : n ≤ 10) (hc : c < 2) (hR : lc_Red n (b 2)) (H : post (fn, r, lc_xb (lc_setc b c (b 2)), ck, wg, ot, ch, ld, ro)) : wpX_take post (fn, r, lc_xb b, ck, wg, ot, ch, ld, ro) (nI 2) (nI c) :=
  ⟨11, xw_take2 hc (fun j _ => by have := lc_w1024 hn (lc_Red_lt hR j); omega) H 10 0 rfl b (fun e j _ => by rw [if_neg (by omega)]) 11 (by omega)⟩
theorem xw_fc36 {post : SX → Prop} {J : Int32 → Int32 → (Nat → Int32) → (Nat → Int32) → (Nat → Int32) → (Nat → Int32) → (Nat → Int32) → (Nat → Int32) → (Nat → Int32) → Prop} {c p z : Nat} (hn : n ≤ 10) (hc : c < 3) (hR : lc_Red n (b c)) (hp : p < n) (hz : z < 10) (H : J (nI (p + 1)) (nI (z + 1)) (lc_xb b) (upd ck z (nI (lc_h n (b c) p))) wg ot ch ld ro) : ∀ d i, i + d = n → ∀ m, d < m → wX_findChecks_36 post J (nI c) (nI p) (nI n) (nI z) (lc_xb b) ck wg ot ch ld ro m (nI (lc_hl (b c) p i)) (nI i) := by
  intro d
  induction d with
  | zero =>
    intro i hi m hm
    obtain ⟨m, rfl⟩ : ∃ k, m = k + 1 := ⟨m - 1, by omega⟩
    have e : i = n := by omega
    subst e
    refine br_t (nI_le (Nat.le_refl _) (by omega)) ⟨vp_in_nI hz (by omega), nm_r ?_ (nm_r (nI_1 z) (nm_r (nI_1 p) H))⟩
    have k := lc_w1024 hn (lc_h_lt (b c) hp)
    rw [pk_vs, lc_i16 (by rw [lc_h] at k; omega), nI_clamp (by omega)]
    rfl
  | succ d ih =>
    intro i hi m hm
    obtain ⟨m, rfl⟩ : ∃ k, m = k + 1 := ⟨m - 1, by omega⟩
    have IH := ih (i + 1) (by omega) m (by omega)
    refine br_f (nI_ge (by omega) (by omega)) ⟨xb_in hc (by omega), ?_⟩
    rw [lc_hl] at IH
    cases t : (b c i).testBit p
    · rw [t, if_neg (fun q => Bool.noConfusion q)] at IH
      refine br_f ?_ (nm_r (nI_1 i) IH)
      rw [xb_rd hc (by omega), lc_bit1 (lc_w31 hn (lc_Red_lt hR i)) (by omega), t]
      exact Bool.noConfusion
    · rw [t, if_pos rfl] at IH
      refine br_t ?_ (nm_r ?_ (nm_r (nI_1 i) IH))
      · rw [xb_rd hc (by omega), lc_bit1 (lc_w31 hn (lc_Red_lt hR i)) (by omega), t]
      · rw [lc_shl (by omega), lc_nor]
theorem xw_fc7 {post : SX → Prop} {c : Nat} (hn : n ≤ 10) (hc : c < 3) (hR : lc_Red n (b c)) (H : ∀ ck', (∀ t, t < lc_zr n (b c) → ck' t = nI (lc_hs n (b c) t)) → post (nI n, nI (lc_zr n (b c)), lc_xb b, ck', wg, ot, ch, ld, ro)) : ∀ d p, p + d = n → ∀ ck', (∀ i, i < p → b c i = 0 → ck' (lc_zr i (b c)) = nI (lc_h n (b c) i)) → ∀ m, d < m → wX_findChecks_7 post (nI c) (nI n) m (nI p) (nI (lc_zr p (b c))) (lc_xb b) ck' wg ot ch ld ro := by
  intro d
  induction d with
  | zero =>
    intro p hp ck' hk m hm
    obtain ⟨m, rfl⟩ : ∃ k, m = k + 1 := ⟨m - 1, by omega⟩
    have e : p = n := by omega
    subst e
    refine br_t (nI_le (Nat.le_refl _) (by omega)) (H ck' ?_)
    intro t ht
    have k := lc_np_sp ht
    have e := hk _ k.1 k.2.1
    rw [k.2.2] at e
    exact e
  | succ d ih =>
    intro p hp ck' hk m hm
    obtain ⟨m, rfl⟩ : ∃ k, m = k + 1 := ⟨m - 1, by omega⟩
    refine br_f (nI_ge (by omega) (by omega)) ⟨xb_in hc (by omega), ?_⟩
    have hz := lc_zr_le p (b c)
    by_cases z : b c p = 0
    · refine br_t (by rw [xb_rd hc (by omega), z]; rfl) (nm_r (e' := nI (lc_hl (b c) p 0)) (lc_shl (by omega)) ⟨n + 1, ?_⟩)
      refine xw_fc36 hn hc hR (by omega) (by omega) ?_ n 0 (by omega) (n + 1) (by omega)
      have k := ih (p + 1) (by omega) (upd ck' (lc_zr p (b c)) (nI (lc_h n (b c) p))) ?_ m (by omega)
      · rw [lc_zr_s, if_pos z] at k
        exact k
      · intro i hi hb
        by_cases e : i = p
        · rw [e]; exact pk_us
        · have hlt := lc_zr_lt (show i < p by omega) hb
          rw [pk_un (by omega)]
          exact hk i (by omega) hb
    · refine br_f ?_ (nm_r (nI_1 p) ?_)
      · rw [xb_rd hc (by omega)]
        exact nI_ne0 (by omega) (lc_w31 hn (lc_Red_lt hR p))
      · have k := ih (p + 1) (by omega) ck' ?_ m (by omega)
        · rw [lc_zr_s, if_neg z] at k
          exact k
        · intro i hi hb
          by_cases e : i = p
          · rw [e] at hb
            exact absurd hb z
          · exact hk i (by omega) hb
theorem xw_fc {post : SX → Prop} {c : Nat} (hn : n ≤ 10) (hc : c < 3) (hR : lc_Red n (b c)) (H : ∀ ck', (∀ t, t < lc_zr n (b c) → ck' t = nI (lc_hs n (b c) t)) → post (nI n, nI (lc_zr n (b c)), lc_xb b, ck', wg, ot, ch, ld, ro)) : wpX_findChecks post (nI n, r, lc_xb b, ck, wg, ot, ch, ld, ro) (nI c) :=
  ⟨n + 1, xw_fc7 hn hc hR H n 0 (by omega) ck (fun i hi => by omega) (n + 1) (by omega)⟩
end
end
section
/-! the component: the methods that change a code -/
section
variable {n : Nat} {b : Nat → Nat → Nat} {fn r : Int32} {A ck wg ot ch ld ro : Nat → Int32}
theorem xw_incs {post : SX → Prop} {c t w : Nat} {v ws : Nat → Nat} (hn : n ≤ 10) (hc : c < 3) (hv : lc_Red n v) (hw : ∀ s, s < t + 1 → ws s < 2 ^ n) (ew : w = ws t) (H : post (nI n, r, lc_xb (lc_setc b c (lc_incs n v ws (t + 1))), ck, wg, ot, ch, ld, ro)) : wpX_include post (nI n, r, lc_xb (lc_setc b c (lc_incs n v ws t)), ck, wg, ot, ch, ld, ro) (nI c) (nI w) := by
  subst ew
  refine xw_inc hn hc ?_ (hw t (by omega)) ?_
  · rw [lc_setc_s]
    exact lc_incs_Red hv (fun s hs => hw s (by omega))
  · rw [lc_setc_2, lc_setc_s]
    exact H
theorem xw_dimv {post : Int32 → Prop} {c : Nat} {v : Nat → Nat} (hn : n ≤ 10) (hc : c < 3) (e : b c = v) (hR : lc_Red n v) (H : post (nI (lc_dim n v))) : wpX_dimensionOf post (nI n, r, lc_xb b, ck, wg, ot, ch, ld, ro) (nI c) := by
  subst e
  exact xw_dim hn hc hR H
theorem xw_takev {post : SX → Prop} {c : Nat} {v : Nat → Nat} (hn : n ≤ 10) (hc : c < 2) (e : b 2 = v) (hR : lc_Red n v) (H : post (fn, r, lc_xb (lc_setc b c v), ck, wg, ot, ch, ld, ro)) : wpX_take post (fn, r, lc_xb b, ck, wg, ot, ch, ld, ro) (nI 2) (nI c) := by
  subst e
  exact xw_take hn hc hR H
/-- the end of the methods that work in basis 2 -/
theorem xw_end {post : Int32 → SX → Prop} {c : Nat} {v : Nat → Nat} (hn : n ≤ 10) (hc : c < 2) (hR : lc_Red n v) (H : post (nI (lc_dim n v)) (nI n, r, lc_xb (lc_setc (lc_setc b 2 v) c v), ck, wg, ot, ch, ld, ro)) : wpX_take (fun u => match u with | (f_n, f_checks, a_basis, a_check, a_weight, a_other, a_choices, a_leader, a_row) => (wpX_dimensionOf (fun r_44 => (post r_44 (f_n, f_checks, a_basis, a_check, a_weight, a_other, a_choices, a_leader, a_row))) (f_n, f_checks, a_basis, a_check, a_weight, a_other, a_choices, a_leader, a_row) (nI c))) (nI n, r, lc_xb (lc_setc b 2 v), ck, wg, ot, ch, ld, ro) (nI 2) (nI c) := by
  refine xw_takev hn hc (lc_setc_s b 2 v) hR ?_
  exact xw_dimv hn (by omega) (lc_setc_s _ c v) hR H
theorem xw_add {post : Int32 → SX → Prop} {c w : Nat} (hn : n ≤ 10) (hc : c < 2) (hR : lc_Red n (b c)) (hw : w < 2 ^ n) (H : post (nI (lc_dim n (lc_inc n (b c) w))) (nI n, r, lc_xb (lc_setc b c (lc_inc n (b c) w)), ck, wg, ot, ch, ld, ro)) : wpX_add post (nI n, r, lc_xb b, ck, wg, ot, ch, ld, ro) (nI c) (nI w) := by
  unfold wpX_add
  try dsimp only
  refine xw_badCode hc (br_t rfl (xw_badWord hn hw (br_t rfl (xw_inc hn (by omega) hR hw ?_))))
  exact xw_dimv hn (by omega) (lc_setc_s b c _) (lc_inc_Red hR hw) H
theorem xw_clear {post : Int32 → SX → Prop} {c : Nat} (hn : n ≤ 10) (hc : c < 2) (hR : lc_Red n (b c)) (H : post (nI (lc_dim n (b c))) (nI n, r, lc_xb (lc_setc b c (fun _ => 0)), ck, wg, ot, ch, ld, ro)) : wpX_clear post (nI n, r, lc_xb b, ck, wg, ot, ch, ld, ro) (nI c) := by
  unfold wpX_clear
  try dsimp only
  refine xw_badCode hc (br_t rfl (xw_dim hn (by omega) hR ?_))
  exact xw_empty (by omega) H
theorem xw_turn12 {post : SX → Prop} {c R : Nat} {v ws : Nat → Nat} (hn : n ≤ 10) (hc : c < 3) (hv : lc_Red n v) (hw : ∀ s, s < R → ws s < 2 ^ n) (hR : R ≤ 10) (hk : ∀ s, s < R → ck s = nI (ws s)) (H : post (nI n, nI R, lc_xb (lc_setc b c (lc_incs n v ws R)), ck, wg, ot, ch, ld, ro)) : ∀ d t, t + d = R → ∀ m, d < m → wX_turnOver_12 post (nI c) m (nI t) (nI n) (nI R) (lc_xb (lc_setc b c (lc_incs n v ws t))) ck wg ot ch ld ro := by
  intro d
  induction d with
  | zero =>
    intro t ht m hm
    obtain ⟨m, rfl⟩ : ∃ k, m = k + 1 := ⟨m - 1, by omega⟩
    have e : t = R := by omega
    subst e
    exact br_t (nI_le (Nat.le_refl _) (by omega)) H
  | succ d ih =>
    intro t ht m hm
    obtain ⟨m, rfl⟩ : ∃ k, m = k + 1 := ⟨m - 1, by omega⟩
    refine br_f (nI_ge (by omega) (by omega)) ⟨vp_in_nI (by omega) (by omega), ?_⟩
    rw [nI_clamp (by omega), hk t (by omega)]
    refine xw_incs hn hc hv (fun s hs => hw s (by omega)) rfl ?_
    exact nm_r (nI_1 t) (ih (t + 1) (by omega) m (by omega))
theorem xw_turn {post : SX → Prop} {c : Nat} (hn : n ≤ 10) (hc : c < 3) (hR : lc_Red n (b c)) (H : ∀ ck', post (nI n, nI (lc_zr n (b c)), lc_xb (lc_setc b c (lc_dual n (b c))), ck', wg, ot, ch, ld, ro)) : wpX_turnOver post (nI n, r, lc_xb b, ck, wg, ot, ch, ld, ro) (nI c) := by
  unfold wpX_turnOver
  try dsimp only
  refine xw_fc hn hc hR ?_
  intro ck' hk
  refine xw_empty hc ⟨n + 1, ?_⟩
  have hz := lc_zr_le n (b c)
  exact xw_turn12 (v := fun _ => 0) hn hc (lc_Red_0 n) lc_hs_lt (by omega) hk (H ck') (lc_zr n (b c)) 0 (by omega) (n + 1) (by omega)
theorem xw_dualize {post : Int32 → SX → Prop} {c : Nat} (hn : n ≤ 10) (hc : c < 2) (hR : lc_Red n (b c)) (H : ∀ ck', post (nI (lc_dim n (lc_dual n (b c)))) (nI n, nI (lc_zr n (b c)), lc_xb (lc_setc b c (lc_dual n (b c))), ck', wg, ot, ch, ld, ro)) : wpX_dualize post (nI n, r, lc_xb b, ck, wg, ot, ch, ld, ro) (nI c) := by
  unfold wpX_dualize
  try dsimp only
  refine xw_badCode hc (br_t rfl (xw_turn hn (by omega) hR ?_))
  intro ck'
  exact xw_dimv hn (by omega) (lc_setc_s b c _) (lc_dual_Red n _) (H ck')
theorem xw_shorten28 {post : Int32 → SX → Prop} {c p : Nat} (hn : n ≤ 10) (hc : c < 2) (hp : p < n) (hR : lc_Red n (b c)) (H : post (nI (lc_dim n (lc_short n (b c) p))) (nI n, r, lc_xb (lc_setc (lc_setc b 2 (lc_short n (b c) p)) c (lc_short n (b c) p)), ck, wg, ot, ch, ld, ro)) : ∀ d i, i + d = n → ∀ m, d < m → wX_shorten_28 post (nI c) (nI p) m (nI (lc_one (b c) p i)) (nI i) (nI n) r (lc_xb (lc_setc b 2 (lc_incs n (fun _ => 0) (fun i => lc_sf (lc_one (b c) p n) p (b c i)) i))) ck wg ot ch ld ro := by
  intro d
  induction d with
  | zero =>
    intro i hi m hm
    obtain ⟨m, rfl⟩ : ∃ k, m = k + 1 := ⟨m - 1, by omega⟩
    have e : i = n := by omega
    subst e
    exact br_t (nI_le (Nat.le_refl _) (by omega)) (xw_end hn hc (lc_short_Red hR p) H)
  | succ d ih =>
    intro i hi m hm
    obtain ⟨m, rfl⟩ : ∃ k, m = k + 1 := ⟨m - 1, by omega⟩
    have IH := ih (i + 1) (by omega) m (by omega)
    have hx := lc_Red_lt hR i
    refine br_f (nI_ge (by omega) (by omega)) ⟨xb_in (by omega) (by omega), nm_r (e' := nI (b c i)) ?_ ?_⟩
    · rw [xb_rd (by omega) (by omega), lc_setc_n (by omega)]
    · cases t : (b c i).testBit p
      · have e1 : lc_one (b c) p (i + 1) = lc_one (b c) p i := by
          rw [lc_one, if_neg]
          rintro ⟨_, q⟩
          rw [t] at q
          exact Bool.noConfusion q
        rw [e1] at IH
        refine br_t ((lc_bit0 (lc_w31 hn hx) (by omega)).mpr t) (xw_incs hn (by omega) (lc_Red_0 n) (fun s hs => lc_short_lt hR p s (by omega)) ?_ (nm_r (nI_1 i) IH))
        try dsimp only
        rw [lc_sf, t, lc_sel_f, Nat.xor_zero]
      · refine br_f (fun q => ?_) ?_
        · rw [lc_bit0 (lc_w31 hn hx) (by omega), t] at q
          exact Bool.noConfusion q
        · by_cases o : lc_one (b c) p i = 0
          · have e1 : lc_one (b c) p (i + 1) = b c i := by rw [lc_one, if_pos ⟨o, t⟩]
            have nz : lc_one (b c) p (i + 1) ≠ 0 := by
              rw [e1]
              intro q
              rw [q, Nat.zero_testBit] at t
              exact Bool.noConfusion t
            have e2 : lc_incs n (fun _ => 0) (fun i => lc_sf (lc_one (b c) p n) p (b c i)) (i + 1) = lc_incs n (fun _ => 0) (fun i => lc_sf (lc_one (b c) p n) p (b c i)) i := by
              rw [lc_incs]
              have : lc_sf (lc_one (b c) p n) p (b c i) = 0 := by rw [lc_one_up nz n (by omega), e1, lc_sf, t, lc_sel_t, Nat.xor_self]
              rw [this, lc_inc_0]
            rw [e1, e2] at IH
            exact br_t (by rw [o]; rfl) (nm_r (nI_1 i) IH)
          · have e1 : lc_one (b c) p (i + 1) = lc_one (b c) p i := lc_one_up o (i + 1) (by omega)
            rw [e1] at IH
            refine br_f (nI_ne0 (by omega) (lc_w31 hn (lc_M_lt hR (lc_one_M hR p i)))) ?_
            rw [nx_xor]
            refine xw_incs hn (by omega) (lc_Red_0 n) (fun s hs => lc_short_lt hR p s (by omega)) ?_ (nm_r (nI_1 i) IH)
            try dsimp only
            rw [lc_sf, t, lc_sel_t, lc_one_up o n (by omega)]
theorem xw_shorten {post : Int32 → SX → Prop} {c p : Nat} (hn : n ≤ 10) (hc : c < 2) (hp : p < n) (hR : lc_Red n (b c)) (H : post (nI (lc_dim n (lc_short n (b c) p))) (nI n, r, lc_xb (lc_setc (lc_setc b 2 (lc_short n (b c) p)) c (lc_short n (b c) p)), ck, wg, ot, ch, ld, ro)) : wpX_shorten post (nI n, r, lc_xb b, ck, wg, ot, ch, ld, ro) (nI c) (nI p) := by
  unfold wpX_shorten
  try dsimp only
  refine xw_badCode hc (br_t rfl (xw_badPlace hn hp (br_t rfl (xw_empty (c := 2) (by omega) ⟨n + 1, ?_⟩))))
  exact xw_shorten28 hn hc hp hR H n 0 (by omega) (n + 1) (by omega)
theorem xw_punc25 {post : Int32 → SX → Prop} {c p : Nat} (hn : n ≤ 10) (hc : c < 2) (hp : p < n) (hR : lc_Red n (b c)) (H : post (nI (lc_dim n (lc_punc n (b c) p))) (nI n, r, lc_xb (lc_setc (lc_setc b 2 (lc_punc n (b c) p)) c (lc_punc n (b c) p)), ck, wg, ot, ch, ld, ro)) : ∀ d i, i + d = n → ∀ m, d < m → wX_puncture_25 post (nI c) (nI p) m (nI i) (nI n) r (lc_xb (lc_setc b 2 (lc_incs n (fun _ => 0) (fun i => b c i &&& lc_pm p) i))) ck wg ot ch ld ro := by
  intro d
  induction d with
  | zero =>
    intro i hi m hm
    obtain ⟨m, rfl⟩ : ∃ k, m = k + 1 := ⟨m - 1, by omega⟩
    have e : i = n := by omega
    subst e
    exact br_t (nI_le (Nat.le_refl _) (by omega)) (xw_end hn hc (lc_punc_Red hR p) H)
  | succ d ih =>
    intro i hi m hm
    obtain ⟨m, rfl⟩ : ∃ k, m = k + 1 := ⟨m - 1, by omega⟩
    have IH := ih (i + 1) (by omega) m (by omega)
    refine br_f (nI_ge (by omega) (by omega)) ⟨xb_in (by omega) (by omega), ?_⟩
    rw [xb_rd (by omega) (by omega), lc_setc_n (by omega), lc_shl (by omega)]
    have e : nI (b c i) &&& (nI (2 ^ p) ^^^ -1) = nI (b c i &&& lc_pm p) := by
      show nI (b c i) &&& (nI (2 ^ p) ^^^ nI 4294967295) = _
      rw [nx_xor, nx_and]
      rfl
    rw [e]
    exact xw_incs hn (by omega) (lc_Red_0 n) (fun s hs => lc_punc_lt hR p s (by omega)) rfl (nm_r (nI_1 i) IH)
theorem xw_puncture {post : Int32 → SX → Prop} {c p : Nat} (hn : n ≤ 10) (hc : c < 2) (hp : p < n) (hR : lc_Red n (b c)) (H : post (nI (lc_dim n (lc_punc n (b c) p))) (nI n, r, lc_xb (lc_setc (lc_setc b 2 (lc_punc n (b c) p)) c (lc_punc n (b c) p)), ck, wg, ot, ch, ld, ro)) : wpX_puncture post (nI n, r, lc_xb b, ck, wg, ot, ch, ld, ro) (nI c) (nI p) := by
  unfold wpX_puncture
  try dsimp only
  refine xw_badCode hc (br_t rfl (xw_badPlace hn hp (br_t rfl (xw_empty (c := 2) (by omega) ⟨n + 1, ?_⟩))))
  exact xw_punc25 hn hc hp hR H n 0 (by omega) (n + 1) (by omega)
theorem lc_beq {x i j : Nat} (hx : x < 2 ^ 31) (hi : i < 32) (hj : j < 32) : ((nI x >>> (nI i &&& 31)) &&& 1 = (nI x >>> (nI j &&& 31)) &&& 1) ↔ x.testBit i = x.testBit j := by
  rw [lc_bit hx hi, lc_bit hx hj]
  cases x.testBit i <;> cases x.testBit j <;> decide
theorem xw_exch34 {post : Int32 → SX → Prop} {c p q : Nat} (hn : n ≤ 10) (hc : c < 2) (hp : p < n) (hq : q < n) (hR : lc_Red n (b c)) (H : post (nI (lc_dim n (lc_exch n (b c) p q))) (nI n, r, lc_xb (lc_setc (lc_setc b 2 (lc_exch n (b c) p q)) c (lc_exch n (b c) p q)), ck, wg, ot, ch, ld, ro)) : ∀ d i, i + d = n → ∀ m, d < m → wX_exchange_34 post (nI c) (nI p) (nI q) m (nI i) (nI n) r (lc_xb (lc_setc b 2 (lc_incs n (fun _ => 0) (fun i => lc_ef p q (b c i)) i))) ck wg ot ch ld ro := by
  intro d
  induction d with
  | zero =>
    intro i hi m hm
    obtain ⟨m, rfl⟩ : ∃ k, m = k + 1 := ⟨m - 1, by omega⟩
    have e : i = n := by omega
    subst e
    exact br_t (nI_le (Nat.le_refl _) (by omega)) (xw_end hn hc (lc_exch_Red hR hp hq) H)
  | succ d ih =>
    intro i hi m hm
    obtain ⟨m, rfl⟩ : ∃ k, m = k + 1 := ⟨m - 1, by omega⟩
    have IH := ih (i + 1) (by omega) m (by omega)
    have hx := lc_Red_lt hR i
    refine br_f (nI_ge (by omega) (by omega)) ⟨xb_in (by omega) (by omega), nm_r (e' := nI (b c i)) ?_ ?_⟩
    · rw [xb_rd (by omega) (by omega), lc_setc_n (by omega)]
    · by_cases t : (b c i).testBit p = (b c i).testBit q
      · refine br_t ((lc_beq (lc_w31 hn hx) (by omega) (by omega)).mpr t) ?_
        unfold wX_exchange_77
        refine br_t rfl ?_
        unfold wX_exchange_101
        exact xw_incs (c := 2) hn (by omega) (lc_Red_0 n) (fun s hs => lc_exch_lt hR hp hq s (by omega)) (lc_ef_same t).symm (nm_r (nI_1 i) IH)
      · refine br_f (fun z => t ((lc_beq (lc_w31 hn hx) (by omega) (by omega)).mp z)) ?_
        unfold wX_exchange_77
        refine br_f (by decide) ?_
        unfold wX_exchange_101
        rw [lc_shl (by omega), lc_shl (by omega), lc_nor, nx_xor]
        refine xw_incs (c := 2) hn (by omega) (lc_Red_0 n) (fun s hs => lc_exch_lt hR hp hq s (by omega)) ?_ (nm_r (nI_1 i) IH)
        try dsimp only
        rw [lc_ef_diff t, lc_ef_or t]
theorem xw_exchange {post : Int32 → SX → Prop} {c p q : Nat} (hn : n ≤ 10) (hc : c < 2) (hp : p < n) (hq : q < n) (hR : lc_Red n (b c)) (H : post (nI (lc_dim n (lc_exch n (b c) p q))) (nI n, r, lc_xb (lc_setc (lc_setc b 2 (lc_exch n (b c) p q)) c (lc_exch n (b c) p q)), ck, wg, ot, ch, ld, ro)) : wpX_exchange post (nI n, r, lc_xb b, ck, wg, ot, ch, ld, ro) (nI c) (nI p) (nI q) := by
  unfold wpX_exchange
  try dsimp only
  refine xw_badCode hc (br_t rfl (xw_badPlace hn hp (br_t rfl (xw_badPlace hn hq (br_t rfl (xw_empty (c := 2) (by omega) ⟨n + 1, ?_⟩))))))
  exact xw_exch34 hn hc hp hq hR H n 0 (by omega) (n + 1) (by omega)
theorem xw_meet44 {post : Int32 → SX → Prop} {R : Nat} {v ws : Nat → Nat} (hn : n ≤ 10) (hv : lc_Red n v) (hw : ∀ s, s < R → ws s < 2 ^ n) (hR : R ≤ 10) (hk : ∀ s, s < R → ck s = nI (ws s)) (H : ∀ r' ck', post (nI (lc_dim n (lc_dual n (lc_incs n v ws R)))) (nI n, r', lc_xb (lc_setc (lc_setc b 2 (lc_dual n (lc_incs n v ws R))) 0 (lc_dual n (lc_incs n v ws R))), ck', wg, ot, ch, ld, ro)) : ∀ d t, t + d = R → ∀ m, d < m → wX_meet_44 post m (nI t) (nI n) (nI R) (lc_xb (lc_setc b 2 (lc_incs n v ws t))) ck wg ot ch ld ro := by
  intro d
  induction d with
  | zero =>
    intro t ht m hm
    obtain ⟨m, rfl⟩ : ∃ k, m = k + 1 := ⟨m - 1, by omega⟩
    have e : t = R := by omega
    subst e
    refine br_t (nI_le (Nat.le_refl _) (by omega)) (xw_turn (c := 2) hn (by omega) ?_ ?_)
    · rw [lc_setc_s]
      exact lc_incs_Red hv hw
    · intro ck'
      rw [lc_setc_2, lc_setc_s]
      exact xw_end (c := 0) hn (by omega) (lc_dual_Red n _) (H _ ck')
  | succ d ih =>
    intro t ht m hm
    obtain ⟨m, rfl⟩ : ∃ k, m = k + 1 := ⟨m - 1, by omega⟩
    refine br_f (nI_ge (by omega) (by omega)) ⟨vp_in_nI (by omega) (by omega), ?_⟩
    rw [nI_clamp (by omega), hk t (by omega)]
    refine xw_incs (c := 2) hn (by omega) hv (fun s hs => hw s (by omega)) rfl ?_
    exact nm_r (nI_1 t) (ih (t + 1) (by omega) m (by omega))
theorem xw_meet12 {post : Int32 → SX → Prop} {R : Nat} {ws : Nat → Nat} (hn : n ≤ 10) (hb : lc_Red n (b 0)) (hw : ∀ s, s < R → ws s < 2 ^ n) (hR : R ≤ 10) (hk : ∀ s, s < R → ck s = nI (ws s)) (H : ∀ r' ck', post (nI (lc_dim n (lc_dual n (lc_incs n (lc_incs n (fun _ => 0) ws R) (lc_hs n (b 0)) (lc_zr n (b 0)))))) (nI n, r', lc_xb (lc_setc (lc_setc b 2 (lc_dual n (lc_incs n (lc_incs n (fun _ => 0) ws R) (lc_hs n (b 0)) (lc_zr n (b 0))))) 0 (lc_dual n (lc_incs n (lc_incs n (fun _ => 0) ws R) (lc_hs n (b 0)) (lc_zr n (b 0))))), ck', wg, ot, ch, ld, ro)) : ∀ d t, t + d = R → ∀ m, d < m → wX_meet_12 post m (nI t) (nI n) (nI R) (lc_xb (lc_setc b 2 (lc_incs n (fun _ => 0) ws t))) ck wg ot ch ld ro := by
  intro d
  induction d with
  | zero =>
    intro t ht m hm
    obtain ⟨m, rfl⟩ : ∃ k, m = k + 1 := ⟨m - 1, by omega⟩
    have e : t = R := by omega
    subst e
    have e0 : lc_setc b 2 (lc_incs n (fun _ => 0) ws t) 0 = b 0 := lc_setc_n (by omega)
    have hz := lc_zr_le n (b 0)
    refine br_t (nI_le (Nat.le_refl _) (by omega)) (xw_fc (c := 0) hn (by omega) (by rw [e0]; exact hb) ?_)
    rw [e0]
    intro ck' hk'
    exact ⟨n + 1, xw_meet44 (v := lc_incs n (fun _ => 0) ws t) hn (lc_incs_Red (lc_Red_0 n) hw) lc_hs_lt (by omega) hk' H (lc_zr n (b 0)) 0 (by omega) (n + 1) (by omega)⟩
  | succ d ih =>
    intro t ht m hm
    obtain ⟨m, rfl⟩ : ∃ k, m = k + 1 := ⟨m - 1, by omega⟩
    refine br_f (nI_ge (by omega) (by omega)) ⟨vp_in_nI (by omega) (by omega), ?_⟩
    rw [nI_clamp (by omega), hk t (by omega)]
    refine xw_incs (c := 2) hn (by omega) (lc_Red_0 n) (fun s hs => hw s (by omega)) rfl ?_
    exact nm_r (nI_1 t) (ih (t + 1) (by omega) m (by omega))
theorem xw_meet {post : Int32 → SX → Prop} (hn : n ≤ 10) (h0 : lc_Red n (b 0)) (h1 : lc_Red n (b 1)) (H : ∀ r' ck', post (nI (lc_dim n (lc_meet n (b 0) (b 1)))) (nI n, r', lc_xb (lc_setc (lc_setc b 2 (lc_meet n (b 0) (b 1))) 0 (lc_meet n (b 0) (b 1))), ck', wg, ot, ch, ld, ro)) : wpX_meet post (nI n, r, lc_xb b, ck, wg, ot, ch, ld, ro) := by
  unfold wpX_meet
  try dsimp only
  refine xw_fc (c := 1) hn (by omega) h1 ?_
  intro ck' hk
  have hz := lc_zr_le n (b 1)
  refine xw_empty (c := 2) (by omega) ⟨n + 1, ?_⟩
  exact xw_meet12 hn h0 lc_hs_lt (by omega) hk H (lc_zr n (b 1)) 0 (by omega) (n + 1) (by omega)
theorem xw_has {post : Int32 → Prop} {c w : Nat} (hn : n ≤ 10) (hc : c < 2) (hR : lc_Red n (b c)) (hw : w < 2 ^ n) (H : post (lc_bI (decide (lc_M n (b c) w)))) : wpX_has post (nI n, r, lc_xb b, ck, wg, ot, ch, ld, ro) (nI c) (nI w) := by
  unfold wpX_has
  try dsimp only
  refine xw_badCode hc (br_t rfl (xw_badWord hn hw (br_t rfl (xw_rest hn (by omega) hR hw ?_))))
  by_cases z : lc_rs n (b c) w = 0
  · rw [decide_eq_true (lc_rs_M.mp z)] at H
    exact br_t (by rw [z]; rfl) H
  · rw [decide_eq_false (fun q => z (lc_rs_M.mpr q))] at H
    exact br_f (nI_ne0 (by omega) (lc_w31 hn (lc_rs_lt hR hw))) H
theorem xw_word36 {post : Int32 → Prop} {c i : Nat} (hn : n ≤ 10) (hc : c < 3) (hR : lc_Red n (b c)) (hi : i < 2 ^ 31) (H : post (nI (lc_W n (b c) i))) : ∀ d p, p + d = n → ∀ m, d < m → wX_wordAt_36 post (nI c) (nI i) (nI n) r (lc_xb b) ck wg ot ch ld ro m (nI (lc_W p (b c) i)) (nI (lc_dim p (b c))) (nI p) := by
  intro d
  induction d with
  | zero =>
    intro p hp m hm
    obtain ⟨m, rfl⟩ : ∃ k, m = k + 1 := ⟨m - 1, by omega⟩
    have e : p = n := by omega
    subst e
    exact br_t (nI_le (Nat.le_refl _) (by omega)) H
  | succ d ih =>
    intro p hp m hm
    obtain ⟨m, rfl⟩ : ∃ k, m = k + 1 := ⟨m - 1, by omega⟩
    have IH := ih (p + 1) (by omega) m (by omega)
    have hd := lc_dim_le p (b c)
    refine br_f (nI_ge (by omega) (by omega)) ⟨xb_in hc (by omega), ?_⟩
    by_cases z : b c p = 0
    · rw [lc_W_z z, lc_dim_s, if_pos z] at IH
      exact br_t (by rw [xb_rd hc (by omega), z]; rfl) (nm_r (nI_1 p) IH)
    · rw [lc_W_nz z, lc_dim_s, if_neg z] at IH
      refine br_f ?_ ?_
      · rw [xb_rd hc (by omega)]
        exact nI_ne0 (by omega) (lc_w31 hn (lc_Red_lt hR p))
      · cases t : i.testBit (lc_dim p (b c))
        · rw [t, lc_sel_f, Nat.xor_zero] at IH
          refine br_f (fun q => ?_) (nm_r (nI_1 _) (nm_r (nI_1 p) IH))
          rw [lc_bit1 hi (by omega), t] at q
          exact Bool.noConfusion q
        · rw [t, lc_sel_t] at IH
          refine br_t ((lc_bit1 hi (by omega)).mpr t) ⟨xb_in hc (by omega), nm_r ?_ (nm_r (nI_1 _) (nm_r (nI_1 p) IH))⟩
          rw [xb_rd hc (by omega), nx_xor]
theorem xw_wordAt {post : Int32 → Prop} {c i : Nat} (hn : n ≤ 10) (hc : c < 2) (hR : lc_Red n (b c)) (hi : i < 2 ^ lc_dim n (b c)) (H : post (nI (lc_W n (b c) i))) : wpX_wordAt post (nI n, r, lc_xb b, ck, wg, ot, ch, ld, ro) (nI c) (nI i) := by
  unfold wpX_wordAt
  try dsimp only
  have hd := lc_dim_le n (b c)
  have h2 := lc_10 (n := lc_dim n (b c)) (by omega)
  refine xw_badCode hc (br_t rfl (br_f (nI_pos (by omega)) (xw_dim hn (by omega) hR ?_)))
  refine br_t ?_ ⟨n + 1, xw_word36 hn (by omega) hR (by omega) H n 0 (by omega) (n + 1) (by omega)⟩
  rw [lc_shl (by omega)]
  exact nI_lt hi (by omega)
theorem xw_wordAtN {post : Int32 → Prop} {c : Nat} {v : Int32} (hn : n ≤ 10) (hc : c < 2) (hR : lc_Red n (b c)) (hv : v < 0 ∨ ¬ v < nI (2 ^ lc_dim n (b c))) (H : post (-4)) : wpX_wordAt post (nI n, r, lc_xb b, ck, wg, ot, ch, ld, ro) (nI c) v := by
  unfold wpX_wordAt
  try dsimp only
  have hd := lc_dim_le n (b c)
  refine xw_badCode hc (br_t rfl ?_)
  by_cases h : v < 0
  · exact br_t h H
  · refine br_f h (xw_dim hn (by omega) hR (br_f ?_ H))
    rw [lc_shl (by omega)]
    exact hv.resolve_left h
end
end
section
/-! the component: weights -/
def lc_tab (ch : Nat → Int32) : Prop := ∀ m s, m ≤ 10 → s ≤ m → ch (11 * m + s) = nI (lc_bin m s)
theorem lc_bin_0 : ∀ m, m < 11 → ∀ s, s < 11 → m < s → lc_bin m s = 0 := by decide +kernel
def lc_cw (n : Nat) (b : Nat → Nat) (w : Nat) : Nat := lc_cnt (2 ^ n) (fun y => decide (lc_M n b y) && decide (lc_wt n y = w))
def lc_dw (n : Nat) (b : Nat → Nat) (w : Nat) : Nat := lc_cnt (2 ^ n) (fun y => decide (lc_wt n y = w) && lc_al n (fun i => !lc_dt n (b i) y))
theorem lc_iadd (S : Int) (a b : Nat) : Int32.ofInt S + nI a * nI b = Int32.ofInt (S + 1 * ((a : Int) * (b : Int))) := by
  unfold nI
  rw [Int.one_mul, Int32.ofInt_add, Int32.ofInt_mul, Int32.ofInt_eq_ofNat, Int32.ofInt_eq_ofNat]
theorem lc_isub (S : Int) (a b : Nat) : Int32.ofInt S - nI a * nI b = Int32.ofInt (S + -1 * ((a : Int) * (b : Int))) := by
  have e : S + -1 * ((a : Int) * (b : Int)) = S - (a : Int) * (b : Int) := by omega
  unfold nI
  rw [e, Int32.ofInt_sub, Int32.ofInt_mul, Int32.ofInt_eq_ofNat, Int32.ofInt_eq_ofNat]
theorem lc_imul (S K : Int) (a : Nat) : Int32.ofInt S + nI a * Int32.ofInt K = Int32.ofInt (S + (a : Int) * K) := by
  unfold nI
  rw [Int32.ofInt_add, Int32.ofInt_mul, Int32.ofInt_eq_ofNat]
theorem lc_iN (a : Nat) : Int32.ofInt (a : Int) = nI a := Int32.ofInt_eq_ofNat
theorem lc_odd {s : Nat} (h : s < 2 ^ 31) : nI s &&& 1 = 0 ↔ s % 2 = 0 := by
  show nI s &&& nI 1 = nI 0 ↔ _
  rw [nx_and, Nat.and_one_is_mod, nI_eq (by omega) (by omega)]
section
variable {n : Nat} {b : Nat → Nat → Nat} {fn r : Int32} {A ck wg ot ch ld ro : Nat → Int32}
theorem xw_pack10d {post : Int32 → SX → Prop} {c R : Nat} {ws : Nat → Nat} (hn : n ≤ 10) (hR : R ≤ n) (hw : ∀ t, t < R → ws t < 2 ^ n) (hk : ∀ t, t < R → ck t = nI (ws t)) (H : ∀ ro', (∀ t, t < R → ro' t = nI (ws t)) → post (nI R) (nI n, nI R, A, ck, wg, ot, ch, ld, ro')) : ∀ d i, i + d = n → ∀ ro', (∀ t, t < R → t < i → ro' t = nI (ws t)) → ∀ k, k = (if i < R then i else R) → ∀ m, d < m → wX_packRows_10 post (nI c) (nI 1) (nI n) (nI R) m (nI k) (nI i) A ck wg ot ch ld ro' := by
  intro d
  induction d with
  | zero =>
    intro i hi ro' hr k hk' m hm
    obtain ⟨m, rfl⟩ : ∃ k, m = k + 1 := ⟨m - 1, by omega⟩
    have e : k = R := by rw [hk']; split <;> omega
    subst e
    exact br_t (nI_le (by omega) (by omega)) (H ro' (fun t ht => hr t ht (by omega)))
  | succ d ih =>
    intro i hi ro' hr k hk' m hm
    obtain ⟨m, rfl⟩ : ∃ k, m = k + 1 := ⟨m - 1, by omega⟩
    refine br_f (nI_ge (by omega) (by omega)) (br_f (by decide) ?_)
    by_cases c : R ≤ i
    · refine br_t (nI_le c (by omega)) ?_
      unfold wX_packRows_48
      refine br_f (by decide) (nm_r (nI_1 i) (ih (i + 1) (by omega) ro' (fun t ht _ => hr t ht (by omega)) k ?_ m (by omega)))
      rw [hk', if_neg (by omega), if_neg (by omega)]
    · rw [if_pos (by omega)] at hk'
      subst hk'
      have hl := lc_w1024 hn (hw k (by omega))
      refine br_f (nI_ge (by omega) (by omega)) ⟨vp_in_nI (by omega) (by omega), vp_in_nI (by omega) (by omega), nm_r (e' := upd ro' k (nI (ws k))) ?_ (nm_r (nI_1 k) ?_)⟩
      · rw [nI_clamp (by omega), hk k (by omega), lc_nars (by omega)]
      · unfold wX_packRows_48
        refine br_f (by decide) (nm_r (nI_1 k) (ih (k + 1) (by omega) _ ?_ (k + 1) ?_ m (by omega)))
        · intro t ht hti
          by_cases e : t = k
          · rw [e]; exact pk_us
          · rw [pk_un e]; exact hr t ht (by omega)
        · split <;> omega
theorem xw_pack10b {post : Int32 → SX → Prop} {c : Nat} (hn : n ≤ 10) (hc : c < 3) (hR : lc_Red n (b c)) (H : ∀ ro', (∀ t, t < lc_dim n (b c) → ro' t = nI (lc_rw n (b c) t)) → post (nI (lc_dim n (b c))) (nI n, r, lc_xb b, ck, wg, ot, ch, ld, ro')) : ∀ d i, i + d = n → ∀ ro', (∀ t, t < lc_dim i (b c) → ro' t = nI (lc_rw n (b c) t)) → ∀ m, d < m → wX_packRows_10 post (nI c) (nI 0) (nI n) r m (nI (lc_dim i (b c))) (nI i) (lc_xb b) ck wg ot ch ld ro' := by
  intro d
  induction d with
  | zero =>
    intro i hi ro' hr m hm
    obtain ⟨m, rfl⟩ : ∃ k, m = k + 1 := ⟨m - 1, by omega⟩
    have e : i = n := by omega
    subst e
    exact br_t (nI_le (by omega) (by omega)) (H ro' hr)
  | succ d ih =>
    intro i hi ro' hr m hm
    obtain ⟨m, rfl⟩ : ∃ k, m = k + 1 := ⟨m - 1, by omega⟩
    have hd := lc_dim_le i (b c)
    refine br_f (nI_ge (by omega) (by omega)) (br_t rfl ?_)
    unfold wX_packRows_48
    refine br_t rfl ⟨xb_in hc (by omega), ?_⟩
    have IH := fun ro' h => ih (i + 1) (by omega) ro' h m (by omega)
    by_cases z : b c i = 0
    · rw [lc_dim_s, if_pos z] at IH
      exact br_t (by rw [xb_rd hc (by omega), z]; rfl) (nm_r (nI_1 i) (IH ro' hr))
    · rw [lc_dim_s, if_neg z] at IH
      have hl := lc_w1024 hn (lc_Red_lt hR i)
      refine br_f ?_ ⟨xb_in hc (by omega), vp_in_nI (by omega) (by omega), nm_r (e' := upd ro' (lc_dim i (b c)) (nI (b c i))) ?_ (nm_r (nI_1 _) (nm_r (nI_1 i) (IH _ ?_)))⟩
      · rw [xb_rd hc (by omega)]
        exact nI_ne0 (by omega) (by omega)
      · rw [xb_rd hc (by omega), nI_clamp (by omega), lc_nars (by omega)]
      · intro t ht
        by_cases e : t = lc_dim i (b c)
        · rw [e, lc_rw_at (by omega) z]; exact pk_us
        · rw [pk_un e]; exact hr t (by omega)
theorem xw_packd {post : Int32 → SX → Prop} {c : Nat} (hn : n ≤ 10) (hc : c < 3) (hR : lc_Red n (b c)) (H : ∀ ck' ro', (∀ t, t < lc_zr n (b c) → ro' t = nI (lc_hs n (b c) t)) → post (nI (lc_zr n (b c))) (nI n, nI (lc_zr n (b c)), lc_xb b, ck', wg, ot, ch, ld, ro')) : wpX_packRows post (nI n, r, lc_xb b, ck, wg, ot, ch, ld, ro) (nI c) (nI 1) := by
  unfold wpX_packRows
  try dsimp only
  refine xw_fc hn hc hR ?_
  intro ck' hk
  have hz := lc_zr_le n (b c)
  refine ⟨n + 1, xw_pack10d hn hz lc_hs_lt hk (H ck') n 0 (by omega) ro (fun t _ h => by omega) 0 ?_ (n + 1) (by omega)⟩
  split <;> omega
theorem xw_packb {post : Int32 → SX → Prop} {c : Nat} (hn : n ≤ 10) (hc : c < 3) (hR : lc_Red n (b c)) (H : ∀ ck' ro', (∀ t, t < lc_dim n (b c) → ro' t = nI (lc_rw n (b c) t)) → post (nI (lc_dim n (b c))) (nI n, nI (lc_zr n (b c)), lc_xb b, ck', wg, ot, ch, ld, ro')) : wpX_packRows post (nI n, r, lc_xb b, ck, wg, ot, ch, ld, ro) (nI c) (nI 0) := by
  unfold wpX_packRows
  try dsimp only
  refine xw_fc hn hc hR ?_
  intro ck' hk
  have h0 : ∀ t, t < lc_dim 0 (b c) → ro t = nI (lc_rw n (b c) t) := fun t h => absurd h (Nat.not_lt_zero t)
  exact ⟨n + 1, xw_pack10b hn hc hR (H ck') n 0 (by omega) ro h0 (n + 1) (by omega)⟩
theorem xw_cr42 {post : SX → Prop} {J : Int32 → Int32 → (Nat → Int32) → (Nat → Int32) → (Nat → Int32) → (Nat → Int32) → (Nat → Int32) → (Nat → Int32) → (Nat → Int32) → Prop} {kk : Int32} {y i t u : Nat} (hi : i < 2 ^ 31) (ht : t < 10) (h1 : i.testBit t = true) (h0 : ∀ s, s < t → i.testBit s = false) (hr : ro t = nI u) (hy : y ^^^ u < 1024) (H : J (nI (y ^^^ u)) (nI (i + 1)) A ck (upd wg (lc_wt 10 (y ^^^ u)) (wg (lc_wt 10 (y ^^^ u)) + 1)) ot ch ld ro) : ∀ d s, s + d = t → ∀ m, d < m → wX_countRows_42 post J kk (nI y) (nI i) fn r A ck wg ot ch ld ro m (nI s) := by
  intro d
  induction d with
  | zero =>
    intro s hs m hm
    obtain ⟨m, rfl⟩ : ∃ k, m = k + 1 := ⟨m - 1, by omega⟩
    have e : s = t := by omega
    subst e
    have hwt := lc_wt_le 10 (y ^^^ u)
    refine br_f (fun q => ?_) ⟨vp_in_nI (by omega) (by omega), nm_r (e' := nI (y ^^^ u)) ?_ (xw_size (by omega) ⟨vp_in_nI (by omega) (by omega), vp_in_nI (by omega) (by omega), nm_r ?_ (nm_r (nI_1 i) H)⟩)⟩
    · rw [lc_bit0 hi (by omega), h1] at q
      exact Bool.noConfusion q
    · rw [nI_clamp (by omega), hr, nx_xor]
    · rw [nI_clamp (by omega)]
  | succ d ih =>
    intro s hs m hm
    obtain ⟨m, rfl⟩ : ∃ k, m = k + 1 := ⟨m - 1, by omega⟩
    exact br_t ((lc_bit0 hi (by omega)).mpr (h0 s (by omega))) (nm_r (nI_1 s) (ih (s + 1) (by omega) m (by omega)))
theorem xw_cr32 {post : SX → Prop} {k : Nat} {rows : Nat → Nat} (hn : n ≤ 10) (hk : k ≤ 5) (hw : ∀ t, t < k → rows t < 2 ^ n) (hr : ∀ t, t < k → ro t = nI (rows t)) (H : ∀ wg', (∀ j, j < 11 → wg' j = nI (lc_cnt (2 ^ k) (fun a => decide (lc_wt 10 (lc_lin k rows (lc_gr a)) = j)))) → post (fn, r, A, ck, wg', ot, ch, ld, ro)) : ∀ d i, i + d = 2 ^ k → 0 < i → ∀ wg', (∀ j, j < 11 → wg' j = nI (lc_cnt i (fun a => decide (lc_wt 10 (lc_lin k rows (lc_gr a)) = j)))) → ∀ m, d < m → wX_countRows_32 post (nI k) fn r m (nI (lc_lin k rows (lc_gr (i - 1)))) (nI i) A ck wg' ot ch ld ro := by
  have h32 : 2 ^ k ≤ 32 := Nat.pow_le_pow_right (n := 2) (j := 5) (by omega) hk
  intro d
  induction d with
  | zero =>
    intro i hi h0 wg' hg m hm
    obtain ⟨m, rfl⟩ : ∃ k, m = k + 1 := ⟨m - 1, by omega⟩
    have e : i = 2 ^ k := by omega
    rw [e] at hg ⊢
    refine br_t ?_ (H wg' hg)
    rw [lc_shl (by omega)]
    exact nI_le (Nat.le_refl _) (by omega)
  | succ d ih =>
    intro i hi h0 wg' hg m hm
    obtain ⟨m, rfl⟩ : ∃ k, m = k + 1 := ⟨m - 1, by omega⟩
    obtain ⟨t, ht5, h1, hz, eg⟩ := lc_gr_step i (by omega) h0
    have htk : t < k := by
      have h2 := Nat.ge_two_pow_of_testBit h1
      rcases Nat.lt_or_ge t k with q | q
      · exact q
      · have := Nat.pow_le_pow_right (n := 2) (by omega) q
        omega
    have hlt : ∀ a, lc_lin k rows a < 1024 := fun a => lc_w1024 hn (lc_lin_lt hw)
    have el : lc_lin k rows (lc_gr i) = lc_lin k rows (lc_gr (i - 1)) ^^^ rows t := by rw [eg, lc_lin_xor, lc_lin_pow htk]
    refine br_f ?_ ⟨t + 1, ?_⟩
    · rw [lc_shl (by omega)]
      exact nI_ge (by omega) (by omega)
    · refine xw_cr42 (t := t) (by omega) (by omega) h1 hz (hr t htk) (by rw [← el]; exact hlt _) ?_ t 0 (by omega) (t + 1) (by omega)
      rw [← el]
      refine ih (i + 1) (by omega) (by omega) _ ?_ m (by omega)
      intro j hj
      rw [lc_cnt]
      by_cases e : j = lc_wt 10 (lc_lin k rows (lc_gr i))
      · subst e
        rw [pk_us, hg _ hj, decide_eq_true rfl]
        exact nI_1 _
      · rw [pk_un e, hg j hj, decide_eq_false (fun q => e q.symm)]
        rfl
theorem xw_cr2 {post : SX → Prop} {k : Nat} {rows : Nat → Nat} (hn : n ≤ 10) (hk : k ≤ 5) (hw : ∀ t, t < k → rows t < 2 ^ n) (hr : ∀ t, t < k → ro t = nI (rows t)) (H : ∀ wg', (∀ j, j < 11 → wg' j = nI (lc_cnt (2 ^ k) (fun a => decide (lc_wt 10 (lc_lin k rows (lc_gr a)) = j)))) → post (fn, r, A, ck, wg', ot, ch, ld, ro)) : ∀ d i, i + d = 11 → ∀ wg', (∀ j, j < i → wg' j = 0) → ∀ m, d < m → wX_countRows_2 post (nI k) fn r m (nI i) A ck wg' ot ch ld ro := by
  intro d
  induction d with
  | zero =>
    intro i hi wg' hg m hm
    obtain ⟨m, rfl⟩ : ∃ k, m = k + 1 := ⟨m - 1, by omega⟩
    have e : i = 11 := by omega
    subst e
    have hp := Nat.two_pow_pos k
    refine br_t (nI_lt (a := 10) (by omega) (by omega)) (nm_e ⟨2 ^ k, ?_⟩)
    have key := xw_cr32 (fn := fn) (r := r) (A := A) (ck := ck) (ot := ot) (ch := ch) (ld := ld) hn hk hw hr H (2 ^ k - 1) 1 (by omega) (by omega) (upd wg' 0 1) ?_ (2 ^ k) (by omega)
    · have e : lc_lin k rows (lc_gr (1 - 1)) = 0 := lc_lin_0 k rows
      rw [e] at key
      exact key
    · intro j hj
      have e : lc_wt 10 (lc_lin k rows (lc_gr 0)) = 0 := by
        have : lc_lin k rows (lc_gr 0) = 0 := lc_lin_0 k rows
        rw [this]
        exact lc_wt_0 10
      rw [lc_cnt, lc_cnt, e]
      by_cases z : j = 0
      · rw [z]
        rfl
      · rw [pk_un z, hg j hj, decide_eq_false (fun q => z q.symm)]
        rfl
  | succ d ih =>
    intro i hi wg' hg m hm
    obtain ⟨m, rfl⟩ : ∃ k, m = k + 1 := ⟨m - 1, by omega⟩
    refine br_f (nI_nlt (a := 10) (by omega) (by omega)) ⟨vp_in_nI (by omega) (by omega), nm_r (e' := upd wg' i 0) (by rw [nI_clamp (by omega)]) (nm_r (nI_1 i) (ih (i + 1) (by omega) _ ?_ m (by omega)))⟩
    intro j hj
    by_cases e : j = i
    · rw [e]; exact pk_us
    · rw [pk_un e]; exact hg j (by omega)
theorem xw_countRows {post : SX → Prop} {k : Nat} {rows : Nat → Nat} (hn : n ≤ 10) (hk : k ≤ 5) (hw : ∀ t, t < k → rows t < 2 ^ n) (hr : ∀ t, t < k → ro t = nI (rows t)) (H : ∀ wg', (∀ j, j ≤ n → wg' j = nI (lc_cnt (2 ^ k) (fun a => decide (lc_wt n (lc_lin k rows a) = j)))) → post (fn, r, A, ck, wg', ot, ch, ld, ro)) : wpX_countRows post (fn, r, A, ck, wg, ot, ch, ld, ro) (nI k) := by
  refine ⟨12, xw_cr2 hn hk hw hr ?_ 11 0 rfl wg (fun j hj => by omega) 12 (by omega)⟩
  intro wg' hg
  refine H wg' ?_
  intro j hj
  rw [hg j (by omega), lc_gr_cnt (by omega) (fun a => decide (lc_wt 10 (lc_lin k rows a) = j))]
  congr 1
  apply lc_cnt_congr
  intro a _
  rw [lc_wt_ext hn (lc_lin_lt hw)]
theorem xw_choose {post : Int32 → Prop} {m s : Nat} (hm : m ≤ 10) (hs : s ≤ 10) (ht : lc_tab ch) (H : post (nI (lc_bin m s))) : wpX_choose post (fn, r, A, ck, wg, ot, ch, ld, ro) (nI m) (nI s) := by
  have e : (11 : Int32) * nI m + nI s = nI (11 * m + s) := by
    show nI 11 * nI m + nI s = _
    rw [pk_mul, nI_add]
  refine br_f (nI_pos (by omega)) ?_
  by_cases c : s ≤ m
  · refine br_t (nI_le c (by omega)) ?_
    rw [e, nI_clamp (by omega), ht m s hm c]
    exact ⟨vp_in_nI (by omega) (by omega), H⟩
  · refine br_f (nI_ge (by omega) (by omega)) ?_
    rw [lc_bin_0 m (by omega) s (by omega) (by omega)] at H
    exact H
theorem xw_signed5 {post : Int32 → Prop} {w j : Nat} (hn : n ≤ 10) (hw : w ≤ n) (hj : j ≤ n) (ht : lc_tab ch) (H : post (Int32.ofInt (lc_Kr n w j))) : ∀ d s, s + d = w + 1 → ∀ m, d < m → wX_signed_5 post (nI w) (nI j) (nI n) r A ck wg ot ch ld ro m (Int32.ofInt (lc_sm s (lc_Kt n w j))) (nI s) := by
  intro d
  induction d with
  | zero =>
    intro s hs m hm
    obtain ⟨m, rfl⟩ : ∃ k, m = k + 1 := ⟨m - 1, by omega⟩
    have e : s = w + 1 := by omega
    subst e
    exact br_t (nI_lt (by omega) (by omega)) H
  | succ d ih =>
    intro s hs m hm
    obtain ⟨m, rfl⟩ : ∃ k, m = k + 1 := ⟨m - 1, by omega⟩
    have IH := ih (s + 1) (by omega) m (by omega)
    refine br_f (nI_nlt (by omega) (by omega)) (xw_choose (by omega) (by omega) ht ?_)
    rw [pk_sub hj, pk_sub (by omega)]
    refine xw_choose (by omega) (by omega) ht ?_
    by_cases c : s % 2 = 0
    · refine br_t ((lc_odd (by omega)).mpr c) (nm_r ?_ (nm_r (nI_1 s) IH))
      rw [lc_iadd, lc_sm, lc_Kt, if_pos c]
    · refine br_f (fun q => c ((lc_odd (by omega)).mp q)) (nm_r ?_ (nm_r (nI_1 s) IH))
      rw [lc_isub, lc_sm, lc_Kt, if_neg c]
theorem xw_signed {post : Int32 → Prop} {w j : Nat} (hn : n ≤ 10) (hw : w ≤ n) (hj : j ≤ n) (ht : lc_tab ch) (H : post (Int32.ofInt (lc_Kr n w j))) : wpX_signed post (nI n, r, A, ck, wg, ot, ch, ld, ro) (nI w) (nI j) :=
  ⟨w + 2, xw_signed5 hn hw hj ht H (w + 1) 0 (by omega) (w + 2) (by omega)⟩
theorem xw_tr65 {post : SX → Prop} {F : Nat → Nat} (hn : n ≤ 10) (ho : ∀ w, w ≤ n → ot w = nI (F w)) (H : ∀ wg', (∀ w, w ≤ n → wg' w = nI (F w)) → post (nI n, r, A, ck, wg', ot, ch, ld, ro)) : ∀ d w, w + d = n + 1 → ∀ wg', (∀ v, v < w → wg' v = nI (F v)) → ∀ m, d < m → wX_transform_65 post (nI n) r m (nI w) A ck wg' ot ch ld ro := by
  intro d
  induction d with
  | zero =>
    intro w hw wg' hg m hm
    obtain ⟨m, rfl⟩ : ∃ k, m = k + 1 := ⟨m - 1, by omega⟩
    exact br_t (nI_lt (by omega) (by omega)) (H wg' (fun v hv => hg v (by omega)))
  | succ d ih =>
    intro w hw wg' hg m hm
    obtain ⟨m, rfl⟩ : ∃ k, m = k + 1 := ⟨m - 1, by omega⟩
    refine br_f (nI_nlt (by omega) (by omega)) ⟨vp_in_nI (by omega) (by omega), vp_in_nI (by omega) (by omega), nm_r (e' := upd wg' w (nI (F w))) (by rw [nI_clamp (by omega), ho w (by omega)]) (nm_r (nI_1 w) (ih (w + 1) (by omega) _ ?_ m (by omega)))⟩
    intro v hv
    by_cases e : v = w
    · rw [e]; exact pk_us
    · rw [pk_un e]; exact hg v (by omega)
theorem xw_tr15 {post : SX → Prop} {J : Int32 → (Nat → Int32) → (Nat → Int32) → (Nat → Int32) → (Nat → Int32) → (Nat → Int32) → (Nat → Int32) → (Nat → Int32) → Prop} {k w F : Nat} {P : Nat → Nat} (hn : n ≤ 10) (hk : k ≤ 5) (hw : w ≤ n) (ht : lc_tab ch) (hg : ∀ j, j ≤ n → wg j = nI (P j)) (hF : lc_sm (n + 1) (fun j => (P j : Int) * lc_Kr n w j) = ((2 ^ k * F : Nat) : Int)) (hb : 2 ^ k * F < 2 ^ 31) (H : J (nI (w + 1)) A ck wg (upd ot w (nI F)) ch ld ro) : ∀ d j, j + d = n + 1 → ∀ m, d < m → wX_transform_15 post J (nI k) (nI w) (nI n) r A ck wg ot ch ld ro m (Int32.ofInt (lc_sm j (fun j => (P j : Int) * lc_Kr n w j))) (nI j) := by
  intro d
  induction d with
  | zero =>
    intro j hj m hm
    obtain ⟨m, rfl⟩ : ∃ k, m = k + 1 := ⟨m - 1, by omega⟩
    have e : j = n + 1 := by omega
    subst e
    refine br_t (nI_lt (by omega) (by omega)) ⟨vp_in_nI (by omega) (by omega), nm_r (e' := upd ot w (nI F)) ?_ (nm_r (nI_1 w) H)⟩
    rw [hF, lc_iN, nI_clamp (by omega), pk_shrN hb (nI k &&& 31) k (s_l k (by omega)), Nat.mul_div_cancel_left _ (Nat.two_pow_pos k)]
  | succ d ih =>
    intro j hj m hm
    obtain ⟨m, rfl⟩ : ∃ k, m = k + 1 := ⟨m - 1, by omega⟩
    have IH := ih (j + 1) (by omega) m (by omega)
    refine br_f (nI_nlt (by omega) (by omega)) ⟨vp_in_nI (by omega) (by omega), xw_signed hn hw (by omega) ht (nm_r ?_ (nm_r (nI_1 j) IH))⟩
    rw [nI_clamp (by omega), hg j (by omega), lc_imul, lc_sm]
theorem xw_tr2 {post : SX → Prop} {k : Nat} {P F : Nat → Nat} (hn : n ≤ 10) (hk : k ≤ 5) (ht : lc_tab ch) (hg : ∀ j, j ≤ n → wg j = nI (P j)) (hF : ∀ w, w ≤ n → lc_sm (n + 1) (fun j => (P j : Int) * lc_Kr n w j) = ((2 ^ k * F w : Nat) : Int)) (hb : ∀ w, w ≤ n → 2 ^ k * F w < 2 ^ 31) (H : ∀ wg' ot', (∀ w, w ≤ n → wg' w = nI (F w)) → post (nI n, r, A, ck, wg', ot', ch, ld, ro)) : ∀ d w, w + d = n + 1 → ∀ ot', (∀ v, v < w → ot' v = nI (F v)) → ∀ m, d < m → wX_transform_2 post (nI k) (nI n) r m (nI w) A ck wg ot' ch ld ro := by
  intro d
  induction d with
  | zero =>
    intro w hw ot' ho m hm
    obtain ⟨m, rfl⟩ : ∃ k, m = k + 1 := ⟨m - 1, by omega⟩
    refine br_t (nI_lt (by omega) (by omega)) ⟨n + 2, ?_⟩
    exact xw_tr65 hn (fun v hv => ho v (by omega)) (fun wg' h => H wg' ot' h) (n + 1) 0 (by omega) wg (fun v hv => by omega) (n + 2) (by omega)
  | succ d ih =>
    intro w hw ot' ho m hm
    obtain ⟨m, rfl⟩ : ∃ k, m = k + 1 := ⟨m - 1, by omega⟩
    refine br_f (nI_nlt (by omega) (by omega)) ⟨n + 2, ?_⟩
    refine xw_tr15 hn hk (by omega) ht hg (hF w (by omega)) (hb w (by omega)) ?_ (n + 1) 0 (by omega) (n + 2) (by omega)
    refine ih (w + 1) (by omega) _ ?_ m (by omega)
    intro v hv
    by_cases e : v = w
    · rw [e]; exact pk_us
    · rw [pk_un e]; exact ho v (by omega)
theorem xw_transform {post : SX → Prop} {k : Nat} {P F : Nat → Nat} (hn : n ≤ 10) (hk : k ≤ 5) (ht : lc_tab ch) (hg : ∀ j, j ≤ n → wg j = nI (P j)) (hF : ∀ w, w ≤ n → lc_sm (n + 1) (fun j => (P j : Int) * lc_Kr n w j) = ((2 ^ k * F w : Nat) : Int)) (hb : ∀ w, w ≤ n → 2 ^ k * F w < 2 ^ 31) (H : ∀ wg' ot', (∀ w, w ≤ n → wg' w = nI (F w)) → post (nI n, r, A, ck, wg', ot', ch, ld, ro)) : wpX_transform post (nI n, r, A, ck, wg, ot, ch, ld, ro) (nI k) :=
  ⟨n + 2, xw_tr2 hn hk ht hg hF hb H (n + 1) 0 (by omega) ot (fun v hv => by omega) (n + 2) (by omega)⟩
theorem lc_F_bd {n k : Nat} (hn : n ≤ 10) (hk : k ≤ 5) (p : Nat → Bool) : 2 ^ k * lc_cnt (2 ^ n) p < 2 ^ 31 := by
  have h1 : 2 ^ k ≤ 32 := Nat.pow_le_pow_right (n := 2) (j := 5) (by omega) hk
  have h2 : lc_cnt (2 ^ n) p ≤ 1024 := Nat.le_trans (lc_cnt_le _ _) (lc_10 hn)
  exact Nat.lt_of_le_of_lt (Nat.mul_le_mul h1 h2) (by omega)
def lc_tw (n : Nat) (b : Nat → Nat) (du : Bool) (w : Nat) : Nat := cond du (lc_dw n b w) (lc_cw n b w)
theorem xw_co0 {post : Int32 → SX → Prop} {c w : Nat} {du : Bool} (hn : n ≤ 10) (hc : c < 3) (hR : lc_Red n (b c)) (ht : lc_tab ch) (hw : w ≤ n) (hk : lc_dim n (b c) ≤ 5) (H : ∀ r' ck' wg' ot' ro', (∀ w, w ≤ n → wg' w = nI (lc_tw n (b c) du w)) → post (nI (lc_tw n (b c) du w)) (nI n, r', lc_xb b, ck', wg', ot', ch, ld, ro')) : wX_countOf_38 post (nI c) (lc_bI du) (nI w) 0 (nI n) r (lc_xb b) ck wg ot ch ld ro := by
  unfold wX_countOf_38
  refine xw_packb hn hc hR ?_
  intro ck' ro' hr
  have hlt : ∀ t, t < lc_dim n (b c) → lc_rw n (b c) t < 2 ^ n := fun t _ => lc_Red_lt hR _
  refine xw_countRows hn hk hlt hr ?_
  intro wg' hg
  cases du
  · have e : ∀ v, v ≤ n → wg' v = nI (lc_cw n (b c) v) := by
      intro v hv
      rw [hg v hv]
      unfold lc_cw
      rw [← lc_cnt_W hR (fun y => decide (lc_wt n y = v))]
      congr 1
      apply lc_cnt_congr
      intro a _
      rw [lc_rw_W a n (Nat.le_refl n)]
    refine br_t rfl ⟨vp_in_nI (by omega) (by omega), ?_⟩
    rw [nI_clamp (by omega), e w hw]
    exact H _ ck' wg' ot ro' e
  · refine br_f (by decide) ?_
    refine xw_transform (F := lc_dw n (b c)) hn hk ht hg ?_ ?_ ?_
    · intro v hv
      rw [lc_mac hn (by omega)]
      congr 2
      apply lc_cnt_congr
      intro y _
      rw [lc_al_D]
    · intro v _
      exact lc_F_bd hn hk _
    · intro wg2 ot2 h2
      refine ⟨vp_in_nI (by omega) (by omega), ?_⟩
      rw [nI_clamp (by omega), h2 w hw]
      exact H _ ck' wg2 ot2 ro' h2
theorem xw_co1 {post : Int32 → SX → Prop} {c w : Nat} {du : Bool} (hn : n ≤ 10) (hc : c < 3) (hR : lc_Red n (b c)) (ht : lc_tab ch) (hw : w ≤ n) (hk : lc_zr n (b c) ≤ 5) (H : ∀ r' ck' wg' ot' ro', (∀ w, w ≤ n → wg' w = nI (lc_tw n (b c) du w)) → post (nI (lc_tw n (b c) du w)) (nI n, r', lc_xb b, ck', wg', ot', ch, ld, ro')) : wX_countOf_38 post (nI c) (lc_bI du) (nI w) 1 (nI n) r (lc_xb b) ck wg ot ch ld ro := by
  unfold wX_countOf_38
  refine xw_packd hn hc hR ?_
  intro ck' ro' hr
  refine xw_countRows hn hk lc_hs_lt hr ?_
  intro wg' hg
  cases du
  · refine br_f (by decide) ?_
    refine xw_transform (F := lc_cw n (b c)) hn hk ht hg ?_ ?_ ?_
    · intro v hv
      rw [lc_mac hn (by omega)]
      congr 2
      apply lc_cnt_congr
      intro y hy
      rw [lc_al_M hR hy, Bool.and_comm]
    · intro v _
      exact lc_F_bd hn hk _
    · intro wg2 ot2 h2
      refine ⟨vp_in_nI (by omega) (by omega), ?_⟩
      rw [nI_clamp (by omega), h2 w hw]
      exact H _ ck' wg2 ot2 ro' h2
  · have e : ∀ v, v ≤ n → wg' v = nI (lc_dw n (b c) v) := by
      intro v hv
      rw [hg v hv, lc_cnt_dual hR (fun y => decide (lc_wt n y = v))]
      rfl
    refine br_t rfl ⟨vp_in_nI (by omega) (by omega), ?_⟩
    rw [nI_clamp (by omega), e w hw]
    exact H _ ck' wg' ot ro' e
theorem xw_countOf {post : Int32 → SX → Prop} {c w : Nat} {du : Bool} (hn : n ≤ 10) (hc : c < 3) (hR : lc_Red n (b c)) (ht : lc_tab ch) (hw : w ≤ n) (H : ∀ r' ck' wg' ot' ro', (∀ w, w ≤ n → wg' w = nI (lc_tw n (b c) du w)) → post (nI (lc_tw n (b c) du w)) (nI n, r', lc_xb b, ck', wg', ot', ch, ld, ro')) : wpX_countOf post (nI n, r, lc_xb b, ck, wg, ot, ch, ld, ro) (nI c) (lc_bI du) (nI w) := by
  have hd := lc_dim_le n (b c)
  have hz := lc_zr_dim n (b c)
  refine br_f (nI_pos (by omega)) (br_t (nI_le hw (by omega)) (xw_dim hn hc hR ?_))
  rw [pk_sub hd]
  by_cases q : lc_dim n (b c) ≤ n - lc_dim n (b c)
  · exact br_t (nI_le q (by omega)) (xw_co0 hn hc hR ht hw (by omega) H)
  · exact br_f (nI_ge (by omega) (by omega)) (xw_co1 hn hc hR ht hw (by omega) H)
theorem xw_countOfN {post : Int32 → SX → Prop} {c : Int32} {w du : Int32} (hw : w < 0 ∨ ¬ w ≤ fn) (H : post 0 (fn, r, A, ck, wg, ot, ch, ld, ro)) : wpX_countOf post (fn, r, A, ck, wg, ot, ch, ld, ro) c du w := by
  by_cases h : w < 0
  · exact br_t h H
  · exact br_f h (br_f (hw.resolve_left h) H)
theorem xw_lw20 {post : Int32 → SX → Prop} {F : Nat → Nat} (hn : n ≤ 10) (hF : ∀ w, F w < 2 ^ 31) (hg : ∀ w, w ≤ n → wg w = nI (F w)) (H : ∀ v, ((v = -4 ∧ ∀ w, 1 ≤ w → w ≤ n → F w = 0) ∨ ∃ w, 1 ≤ w ∧ w ≤ n ∧ v = nI w ∧ F w ≠ 0 ∧ ∀ u, 1 ≤ u → u < w → F u = 0) → post v (nI n, r, A, ck, wg, ot, ch, ld, ro)) : ∀ d w, w + d = n + 1 → 1 ≤ w → (∀ u, 1 ≤ u → u < w → F u = 0) → ∀ m, d < m → wX_leastWeight_20 post (nI n) r A ck wg ot ch ld ro m (nI w) := by
  intro d
  induction d with
  | zero =>
    intro w hw h1 hu m hm
    obtain ⟨m, rfl⟩ : ∃ k, m = k + 1 := ⟨m - 1, by omega⟩
    exact br_t (nI_lt (by omega) (by omega)) (H _ (Or.inl ⟨rfl, fun u h1 h2 => hu u h1 (by omega)⟩))
  | succ d ih =>
    intro w hw h1 hu m hm
    obtain ⟨m, rfl⟩ : ∃ k, m = k + 1 := ⟨m - 1, by omega⟩
    refine br_f (nI_nlt (by omega) (by omega)) ⟨vp_in_nI (by omega) (by omega), ?_⟩
    rw [nI_clamp (by omega), hg w (by omega)]
    by_cases z : F w = 0
    · refine br_t (by rw [z]; decide) (nm_r (nI_1 w) (ih (w + 1) (by omega) (by omega) ?_ m (by omega)))
      intro u hu1 hu2
      by_cases e : u = w
      · rw [e]; exact z
      · exact hu u hu1 (by omega)
    · exact br_f (nI_nle (by omega) (hF w)) (H _ (Or.inr ⟨w, h1, by omega, rfl, z, hu⟩))
end
end
section
/-! the component: cosets -/
theorem lc_mk_or (t : Nat) (f : Nat → Bool) : lc_mk t f ||| (f t).toNat * 2 ^ t = lc_mk (t + 1) f := by
  apply Nat.eq_of_testBit_eq
  intro j
  rw [lc_mk, Nat.testBit_or, Nat.testBit_xor, lc_mk_bit, lc_sel_bit]
  cases c : f t
  · simp
  · rw [Bool.toNat_true, Nat.one_mul, Bool.true_and, Nat.testBit_two_pow]
    by_cases e : t = j
    · subst e
      simp
    · simp [e]
theorem lc_and1 (s : Nat) : nI s &&& 1 = nI (s % 2) := by
  show nI s &&& nI 1 = _
  rw [nx_and, Nat.and_one_is_mod]
theorem lc_neg {x : Nat} (h : x < 4294967296) : -nI x = nI (4294967296 - x) := by
  rw [← pk_sub (by omega), ← Int32.zero_sub]
  rfl
def lc_led (n : Nat) (b : Nat → Nat) (P : Nat → Prop) (ld : Nat → Int32) : Prop := ∀ s, s < 2 ^ lc_zr n b → (ld s = -1 ∧ ∀ y, y < 2 ^ n → lc_cs n b y = s → ¬ P y) ∨ ∃ d, d ≤ 10 ∧ ld s = nI d ∧ (∃ y, y < 2 ^ n ∧ lc_cs n b y = s ∧ lc_wt n y = d ∧ P y) ∧ ∀ y, y < 2 ^ n → lc_cs n b y = s → d ≤ lc_wt n y
theorem lc_led_congr {n : Nat} {b : Nat → Nat} {P Q : Nat → Prop} {ld : Nat → Int32} (h : lc_led n b P ld) (e : ∀ y, y < 2 ^ n → (P y ↔ Q y)) : lc_led n b Q ld := by
  intro s hs
  rcases h s hs with ⟨h1, h2⟩ | ⟨d, hd, h1, ⟨y, hy, h2, h3, h4⟩, h5⟩
  · exact Or.inl ⟨h1, fun y hy hc q => h2 y hy hc ((e y hy).mpr q)⟩
  · exact Or.inr ⟨d, hd, h1, ⟨y, hy, h2, h3, (e y hy).mp h4⟩, h5⟩
theorem lc_led_old {n x : Nat} {b : Nat → Nat} {P : Nat → Prop} {ld : Nat → Int32} (h : lc_led n b P ld) (hx : x < 2 ^ n) (h0 : ld (lc_cs n b x) ≠ -1) : lc_led n b (fun y => P y ∨ y = x) ld := by
  intro s hs
  rcases h s hs with ⟨h1, h2⟩ | ⟨d, hd, h1, ⟨y, hy, h2, h3, h4⟩, h5⟩
  · refine Or.inl ⟨h1, fun y hy hc q => ?_⟩
    rcases q with q | q
    · exact h2 y hy hc q
    · subst q
      rw [hc] at h0
      exact h0 h1
  · exact Or.inr ⟨d, hd, h1, ⟨y, hy, h2, h3, Or.inl h4⟩, h5⟩
theorem lc_led_new {n x w : Nat} {b : Nat → Nat} {P : Nat → Prop} {ld : Nat → Int32} (h : lc_led n b P ld) (hx : x < 2 ^ n) (hw : lc_wt n x = w) (hw10 : w ≤ 10) (hP : ∀ y, lc_wt n y < w → P y) (h0 : ld (lc_cs n b x) = -1) : lc_led n b (fun y => P y ∨ y = x) (upd ld (lc_cs n b x) (nI w)) := by
  intro s hs
  by_cases e : s = lc_cs n b x
  · subst e
    refine Or.inr ⟨w, hw10, pk_us, ⟨x, hx, rfl, hw, Or.inr rfl⟩, ?_⟩
    intro y hy hc
    rcases h _ hs with ⟨_, h2⟩ | ⟨d, hd, h1, _⟩
    · have := h2 y hy hc
      rcases Nat.lt_or_ge (lc_wt n y) w with q | q
      · exact absurd (hP y q) this
      · exact q
    · rw [h1] at h0
      have k := nI_pos (n := d) (by omega)
      rw [h0] at k
      exact absurd (by decide) k
  · rw [pk_un e]
    rcases h s hs with ⟨h1, h2⟩ | ⟨d, hd, h1, ⟨y, hy, h2, h3, h4⟩, h5⟩
    · refine Or.inl ⟨h1, fun y hy hc q => ?_⟩
      rcases q with q | q
      · exact h2 y hy hc q
      · subst q
        exact e hc.symm
    · exact Or.inr ⟨d, hd, h1, ⟨y, hy, h2, h3, Or.inl h4⟩, h5⟩
theorem lc_led_end {n : Nat} {b : Nat → Nat} {ld : Nat → Int32} (hR : lc_Red n b) (hn : n ≤ 10) (h : lc_led n b (fun y => lc_wt n y < n + 1) ld) : ∀ s, s < 2 ^ lc_zr n b → ld s = nI (lc_mw n b (lc_sp n b s)) := by
  intro s hs
  rcases h s hs with ⟨_, h2⟩ | ⟨d, hd, h1, ⟨y, hy, h2, h3, _⟩, h5⟩
  · have := lc_wt_le n (lc_sp n b s)
    exact absurd (by omega) (h2 _ (lc_sp_lt n b s) (lc_cs_sp hs))
  · rw [h1]
    congr 1
    apply lc_mw_eq hR hn (lc_sp_lt n b s)
    · exact ⟨y, hy, (lc_cs_eq hR hy (lc_sp_lt n b s)).mp (by rw [h2, lc_cs_sp hs]), h3⟩
    · intro y' hy' e
      exact h5 y' hy' (by rw [(lc_cs_eq hR hy' (lc_sp_lt n b s)).mpr e, lc_cs_sp hs])
def lc_pr (n w x y : Nat) : Prop := lc_wt n y < w ∨ (lc_wt n y = w ∧ y < x)
theorem lc_pr_next {n w x y : Nat} (hn : n ≤ 10) (h0 : 0 < x) (hx : x < 2 ^ n) (hw : lc_wt n x = w) (hy : y < 2 ^ n) : (lc_pr n w x y ∨ y = x) ↔ (lc_wt n y < w ∨ (lc_wt n y = w ∧ y < lc_gp x)) := by
  have g := lc_gp_sp h0 (lc_w1024 hn hx)
  have e : ∀ z, z < 2 ^ n → lc_wt 11 z = lc_wt n z := fun z hz => lc_wt_ext (by omega) hz
  constructor
  · rintro ((q | ⟨q1, q2⟩) | q)
    · exact Or.inl q
    · exact Or.inr ⟨q1, by omega⟩
    · subst q
      exact Or.inr ⟨hw, g.1⟩
  · rintro (q | ⟨q1, q2⟩)
    · exact Or.inl (Or.inl q)
    · rcases Nat.lt_trichotomy y x with c | c | c
      · exact Or.inl (Or.inr ⟨q1, c⟩)
      · exact Or.inr c
      · exact absurd (by rw [e y hy, e x hx, q1, hw]) (g.2.2.2.2.2 y c q2)
theorem lc_gp_wt {n w x : Nat} (hn : n ≤ 10) (h0 : 0 < x) (hx : x < 2 ^ n) (hw : lc_wt n x = w) (hg : lc_gp x < 2 ^ n) : lc_wt n (lc_gp x) = w := by
  have g := lc_gp_sp h0 (lc_w1024 hn hx)
  have k := g.2.2.2.2.1
  rw [lc_wt_ext (show n ≤ 11 by omega) hg, lc_wt_ext (show n ≤ 11 by omega) hx] at k
  omega
theorem lc_start {n w : Nat} (hn : n ≤ 10) (hw : w ≤ n) : 2 ^ w - 1 < 2 ^ n ∧ lc_wt n (2 ^ w - 1) = w ∧ ∀ y, y < 2 ^ n → y < 2 ^ w - 1 → lc_wt n y ≠ w := by
  have h1 := Nat.pow_le_pow_right (n := 2) (by omega) hw
  have hp := Nat.two_pow_pos w
  have k := lc_g0 w (by omega)
  refine ⟨by omega, ?_, ?_⟩
  · have e := k.1
    rw [lc_wt_ext hn (show 2 ^ w - 1 < 2 ^ n by omega)] at e
    exact e
  · intro y hy hlt
    have e := lc_nx_sp w 1100 0 y (Nat.zero_le y) (by rw [k.2]; exact hlt)
    rw [lc_wt_ext (show n ≤ 11 by omega) hy] at e
    exact e
section
variable {n : Nat} {b : Nat → Nat → Nat} {g : Nat → Nat} {fn r : Int32} {A ck wg ot ch ld ro : Nat → Int32}
theorem xw_cos4 {post : Int32 → Prop} {y : Nat} (hn : n ≤ 10) (hy : y < 2 ^ n) (hk : ∀ t, t < lc_zr n g → ck t = nI (lc_hs n g t)) (H : post (nI (lc_cs n g y))) : ∀ d t, t + d = lc_zr n g → ∀ m, d < m → wX_cosetOf_4 post (nI y) fn (nI (lc_zr n g)) A ck wg ot ch ld ro m (nI (lc_mk t (fun t => (lc_rs n g y).testBit (lc_np n g t)))) (nI t) := by
  have hz := lc_zr_le n g
  intro d
  induction d with
  | zero =>
    intro t ht m hm
    obtain ⟨m, rfl⟩ : ∃ k, m = k + 1 := ⟨m - 1, by omega⟩
    have e : t = lc_zr n g := by omega
    subst e
    exact br_t (nI_le (Nat.le_refl _) (by omega)) H
  | succ d ih =>
    intro t ht m hm
    obtain ⟨m, rfl⟩ : ∃ k, m = k + 1 := ⟨m - 1, by omega⟩
    have htz : t < lc_zr n g := by omega
    have hl : lc_hs n g t &&& y < 2 ^ n := Nat.lt_of_le_of_lt Nat.and_le_right hy
    refine br_f (nI_ge (by omega) (by omega)) ⟨vp_in_nI (by omega) (by omega), ?_⟩
    rw [nI_clamp (by omega), hk t htz, nx_and]
    refine xw_size (lc_w31 hn hl) (nm_r (e' := nI (lc_mk (t + 1) (fun t => (lc_rs n g y).testBit (lc_np n g t)))) ?_ (nm_r (nI_1 t) (ih (t + 1) (by omega) m (by omega))))
    have hb : ((lc_rs n g y).testBit (lc_np n g t)).toNat * 2 ^ t < 2 ^ 32 := by
      have h1 := Bool.toNat_le ((lc_rs n g y).testBit (lc_np n g t))
      have h2 := lc_10 (n := t) (by omega)
      exact Nat.lt_of_le_of_lt (Nat.mul_le_mul h1 h2) (by omega)
    rw [lc_and1, lc_wt_ext hn hl, lc_wt_dt, lc_hs_dt htz, pk_shlN (nI t &&& 31) t (s_l t (by omega)) hb, lc_nor]
    congr 1
    exact lc_mk_or t (fun t => (lc_rs n g y).testBit (lc_np n g t))
theorem xw_coset {post : Int32 → Prop} {y : Nat} (hn : n ≤ 10) (hy : y < 2 ^ n) (hk : ∀ t, t < lc_zr n g → ck t = nI (lc_hs n g t)) (H : post (nI (lc_cs n g y))) : wpX_cosetOf post (fn, nI (lc_zr n g), A, ck, wg, ot, ch, ld, ro) (nI y) :=
  ⟨lc_zr n g + 1, xw_cos4 hn hy hk H (lc_zr n g) 0 (by omega) _ (by omega)⟩
theorem xw_next {post : Int32 → Prop} {x : Nat} (hn : n ≤ 10) (h0 : 0 < x) (hx : x < 2 ^ n) (H : post (nI (if lc_gp x < 2 ^ n then lc_gp x else 0))) : wpX_nextSame post (nI n, r, A, ck, wg, ot, ch, ld, ro) (nI x) := by
  have hx2 := lc_w1024 hn hx
  have gp := lc_gp_sp h0 hx2
  have h10 := lc_10 hn
  refine nm_r (e' := nI (x &&& (4294967296 - x))) (by rw [lc_neg (by omega), nx_and]) ?_
  refine nm_r (e' := nI (x + (x &&& (4294967296 - x)))) (nI_add _ _) ?_
  refine br_f (nI_nle gp.2.2.1 (by omega)) ⟨nI_ne0 gp.2.2.1 (by omega), ?_⟩
  have hq : x ^^^ (x + (x &&& (4294967296 - x))) < 2 ^ 31 := Nat.lt_trans (Nat.xor_lt_two_pow (n := 11) (by omega) (by omega)) (by omega)
  have e : nI (x + (x &&& (4294967296 - x))) ||| (((nI x ^^^ nI (x + (x &&& (4294967296 - x)))) / nI (x &&& (4294967296 - x))) >>> ((2 : Int32) &&& 31)) = nI (lc_gp x) := by
    rw [nx_xor, pk_div hq gp.2.2.1 (by omega), pk_shrN (Nat.lt_of_le_of_lt (Nat.div_le_self _ _) hq) ((2 : Int32) &&& 31) 2 (by decide), lc_nor]
    rfl
  rw [e]
  unfold wX_nextSame_26
  rw [lc_shl (by omega)]
  by_cases q : lc_gp x < 2 ^ n
  · rw [if_pos q] at H
    exact br_f (nI_ge q (by omega)) H
  · rw [if_neg q] at H
    exact br_t (nI_le (by omega) (by omega)) H
theorem xw_settle6 {post : SX → Prop} {w : Nat} (hn : n ≤ 10) (hw : w ≤ n) (hk : ∀ t, t < lc_zr n g → ck t = nI (lc_hs n g t)) (H : ∀ ld', lc_led n g (fun y => lc_wt n y < w + 1) ld' → post (nI n, nI (lc_zr n g), A, ck, wg, ot, ch, ld', ro)) : ∀ d x, 2 ^ n ≤ x + d → 0 < x → x < 2 ^ n → lc_wt n x = w → ∀ ld', lc_led n g (lc_pr n w x) ld' → ∀ m, d + 1 < m → wX_settle_6 post (nI w) (nI n) (nI (lc_zr n g)) m (nI x) A ck wg ot ch ld' ro := by
  have hz := lc_10 (n := lc_zr n g) (Nat.le_trans (lc_zr_le n g) hn)
  intro d
  induction d with
  | zero =>
    intro x hd h0 hx
    omega
  | succ d ih =>
    intro x hd h0 hx hwx ld' hl m hm
    obtain ⟨m, rfl⟩ : ∃ k, m = k + 1 := ⟨m - 1, by omega⟩
    have gp := lc_gp_sp h0 (lc_w1024 hn hx)
    have hc := lc_cs_lt n g x
    have go : ∀ ld2, lc_led n g (fun y => lc_pr n w x y ∨ y = x) ld2 → wX_settle_6 post (nI w) (nI n) (nI (lc_zr n g)) m (nI (if lc_gp x < 2 ^ n then lc_gp x else 0)) A ck wg ot ch ld2 ro := by
      intro ld2 h2
      have h3 := lc_led_congr h2 (fun y hy => lc_pr_next hn h0 hx hwx hy)
      by_cases q : lc_gp x < 2 ^ n
      · rw [if_pos q]
        exact ih (lc_gp x) (by omega) (by omega) q (lc_gp_wt hn h0 hx hwx q) ld2 h3 m (by omega)
      · rw [if_neg q]
        obtain ⟨m, rfl⟩ : ∃ k, m = k + 1 := ⟨m - 1, by omega⟩
        refine br_t (by decide) (H ld2 (lc_led_congr h3 ?_))
        intro y hy
        constructor
        · rintro (z | ⟨z, _⟩) <;> omega
        · intro z
          rcases Nat.lt_or_ge (lc_wt n y) w with u | u
          · exact Or.inl u
          · exact Or.inr ⟨by omega, by omega⟩
    refine br_f (nI_nle h0 (lc_w31 hn hx)) (xw_coset hn hx hk ⟨vp_in_nI (by omega) (by omega), ?_⟩)
    rw [nI_clamp (by omega)]
    rcases hl _ hc with ⟨h1, h2⟩ | ⟨e, he, h1, h2⟩
    · rw [h1]
      refine br_f (by decide) ?_
      unfold wX_settle_41
      refine ⟨vp_in_nI (by omega) (by omega), nm_r (e' := upd ld' (lc_cs n g x) (nI w)) ?_ (xw_next hn h0 hx (go _ ?_))⟩
      · rw [nI_clamp (by omega), pk_vb, lc_i8 (by omega)]
      · exact lc_led_new hl hx hwx (by omega) (fun y hy => Or.inl hy) h1
    · have h1' : 0 ≤ ld' (lc_cs n g x) := by rw [h1]; exact nI_pos' (by omega)
      refine br_t h1' ⟨vp_in_nI (by omega) (by omega), ?_⟩
      unfold wX_settle_41
      refine ⟨vp_in_nI (by omega) (by omega), nm_r (e' := ld') ?_ (xw_next hn h0 hx (go _ ?_))⟩
      · rw [nI_clamp (by omega), h1, lc_narb8 (by omega)]
        funext j
        by_cases q : j = lc_cs n g x
        · rw [q, pk_us, h1]
        · exact pk_un q
      · refine lc_led_old hl hx ?_
        rw [h1]
        intro q
        have k := nI_pos (n := e) (by omega)
        rw [q] at k
        exact absurd (by decide) k
theorem xw_settle {post : SX → Prop} {w : Nat} (hn : n ≤ 10) (h1 : 1 ≤ w) (hw : w ≤ n) (hk : ∀ t, t < lc_zr n g → ck t = nI (lc_hs n g t)) (hl : lc_led n g (fun y => lc_wt n y < w) ld) (H : ∀ ld', lc_led n g (fun y => lc_wt n y < w + 1) ld' → post (nI n, nI (lc_zr n g), A, ck, wg, ot, ch, ld', ro)) : wpX_settle post (nI n, nI (lc_zr n g), A, ck, wg, ot, ch, ld, ro) (nI w) := by
  have hs := lc_start hn hw
  have hp : 2 ≤ 2 ^ w := Nat.pow_le_pow_right (n := 2) (i := 1) (by omega) h1
  refine nm_r (e' := nI (2 ^ w - 1)) ?_ ⟨2 ^ n + 2, ?_⟩
  · rw [lc_shl (by omega)]
    exact pk_sub (a := 2 ^ w) (b := 1) (by omega)
  · refine xw_settle6 hn hw hk H (2 ^ n) (2 ^ w - 1) (by omega) (by omega) hs.1 hs.2.1 ld ?_ (2 ^ n + 2) (by omega)
    refine lc_led_congr hl ?_
    intro y hy
    constructor
    · exact Or.inl
    · rintro (q | ⟨q1, q2⟩)
      · exact q
      · exact absurd q1 (hs.2.2 y hy q2)
theorem xw_fl41 {post : SX → Prop} (hn : n ≤ 10) (hk : ∀ t, t < lc_zr n g → ck t = nI (lc_hs n g t)) (H : ∀ ld', lc_led n g (fun y => lc_wt n y < n + 1) ld' → post (nI n, nI (lc_zr n g), A, ck, wg, ot, ch, ld', ro)) : ∀ d w, w + d = n + 1 → 1 ≤ w → ∀ ld', lc_led n g (fun y => lc_wt n y < w) ld' → ∀ m, d < m → wX_findLeaders_41 post m (nI w) (nI n) (nI (lc_zr n g)) A ck wg ot ch ld' ro := by
  intro d
  induction d with
  | zero =>
    intro w hw h1 ld' hl m hm
    obtain ⟨m, rfl⟩ : ∃ k, m = k + 1 := ⟨m - 1, by omega⟩
    have e : w = n + 1 := by omega
    subst e
    exact br_t (nI_lt (by omega) (by omega)) (H ld' hl)
  | succ d ih =>
    intro w hw h1 ld' hl m hm
    obtain ⟨m, rfl⟩ : ∃ k, m = k + 1 := ⟨m - 1, by omega⟩
    refine br_f (nI_nlt (by omega) (by omega)) (xw_settle hn h1 (by omega) hk hl ?_)
    intro ld2 h2
    exact nm_r (nI_1 w) (ih (w + 1) (by omega) (by omega) ld2 h2 m (by omega))
theorem lc_cs_0 (n : Nat) (g : Nat → Nat) : lc_cs n g 0 = 0 := by
  apply Nat.eq_of_testBit_eq
  intro j
  rw [lc_cs, lc_mk_bit, lc_rs_M.mpr (lc_M_0 n g), Nat.zero_testBit, Nat.zero_testBit, Bool.and_false]
theorem xw_fl14 {post : SX → Prop} (hn : n ≤ 10) (hk : ∀ t, t < lc_zr n g → ck t = nI (lc_hs n g t)) (H : ∀ ld', lc_led n g (fun y => lc_wt n y < n + 1) ld' → post (nI n, nI (lc_zr n g), A, ck, wg, ot, ch, ld', ro)) : ∀ d s, s + d = 2 ^ lc_zr n g → ∀ ld', (∀ i, i < s → ld' i = -1) → ∀ m, d < m → wX_findLeaders_14 post (nI (2 ^ lc_zr n g)) (nI n) (nI (lc_zr n g)) m (nI s) A ck wg ot ch ld' ro := by
  have hz := lc_10 (n := lc_zr n g) (Nat.le_trans (lc_zr_le n g) hn)
  intro d
  induction d with
  | zero =>
    intro s hs ld' hl m hm
    obtain ⟨m, rfl⟩ : ∃ k, m = k + 1 := ⟨m - 1, by omega⟩
    refine br_t (nI_le (by omega) (by omega)) (nm_r (e' := upd ld' 0 (nI 0)) (by rw [show vp_nar .byte 0 = nI 0 from lc_narb8 (x := 0) (by omega)]) ⟨n + 1, ?_⟩)
    refine xw_fl41 hn hk H n 1 (by omega) (by omega) _ ?_ (n + 1) (by omega)
    intro i hi
    by_cases e : i = 0
    · subst e
      exact Or.inr ⟨0, by omega, pk_us, ⟨0, Nat.two_pow_pos n, lc_cs_0 n g, lc_wt_0 n, by show lc_wt n 0 < 1; rw [lc_wt_0]; omega⟩, fun _ _ _ => Nat.zero_le _⟩
    · refine Or.inl ⟨by rw [pk_un e]; exact hl i (by omega), ?_⟩
      intro y hy hc q
      by_cases z : y = 0
      · rw [z, lc_cs_0] at hc
        exact e hc.symm
      · have := lc_wt_pos hy z
        omega
  | succ d ih =>
    intro s hs ld' hl m hm
    obtain ⟨m, rfl⟩ : ∃ k, m = k + 1 := ⟨m - 1, by omega⟩
    refine br_f (nI_ge (by omega) (by omega)) ⟨vp_in_nI (by omega) (by omega), nm_r (e' := upd ld' s (-1)) ?_ (nm_r (nI_1 s) (ih (s + 1) (by omega) _ ?_ m (by omega)))⟩
    · rw [nI_clamp (by omega), show vp_nar .byte (-1) = -1 from by rw [vp_nar_byte]; decide]
    · intro i hi
      by_cases e : i = s
      · rw [e]; exact pk_us
      · rw [pk_un e]; exact hl i (by omega)
theorem xw_leaders {post : SX → Prop} {c : Nat} (hn : n ≤ 10) (hc : c < 3) (hR : lc_Red n (b c)) (H : ∀ ck' ld', (∀ s, s < 2 ^ lc_zr n (b c) → ld' s = nI (lc_mw n (b c) (lc_sp n (b c) s))) → post (nI n, nI (lc_zr n (b c)), lc_xb b, ck', wg, ot, ch, ld', ro)) : wpX_findLeaders post (nI n, r, lc_xb b, ck, wg, ot, ch, ld, ro) (nI c) := by
  unfold wpX_findLeaders
  try dsimp only
  refine xw_fc hn hc hR ?_
  intro ck' hk
  have hz := lc_zr_le n (b c)
  refine nm_r (lc_shl (by omega)) ⟨2 ^ lc_zr n (b c) + 1, ?_⟩
  exact xw_fl14 hn hk (fun ld' h => H ck' ld' (lc_led_end hR hn h)) (2 ^ lc_zr n (b c)) 0 (by omega) ld (fun i hi => by omega) _ (by omega)
theorem xw_cosets20 {post : Int32 → SX → Prop} {v : Int32} {R : Nat} (hR : R ≤ 10) (H : post (nI (lc_cnt (2 ^ R) (fun s => decide (ld s = v)))) (fn, nI R, A, ck, wg, ot, ch, ld, ro)) : ∀ d s, s + d = 2 ^ R → ∀ m, d < m → wX_cosets_20 post v fn (nI R) A ck wg ot ch ld ro m (nI (lc_cnt s (fun s => decide (ld s = v)))) (nI s) := by
  have h10 := lc_10 hR
  intro d
  induction d with
  | zero =>
    intro s hs m hm
    obtain ⟨m, rfl⟩ : ∃ k, m = k + 1 := ⟨m - 1, by omega⟩
    have e : s = 2 ^ R := by omega
    subst e
    refine br_t ?_ H
    rw [lc_shl (by omega)]
    exact nI_le (Nat.le_refl _) (by omega)
  | succ d ih =>
    intro s hs m hm
    obtain ⟨m, rfl⟩ : ∃ k, m = k + 1 := ⟨m - 1, by omega⟩
    have IH := ih (s + 1) (by omega) m (by omega)
    refine br_f ?_ ⟨vp_in_nI (by omega) (by omega), ?_⟩
    · rw [lc_shl (by omega)]
      exact nI_ge (by omega) (by omega)
    · rw [nI_clamp (by omega)]
      rw [lc_cnt] at IH
      by_cases q : ld s = v
      · rw [decide_eq_true q] at IH
        exact br_t q (nm_r (nI_1 _) (nm_r (nI_1 s) IH))
      · rw [decide_eq_false q] at IH
        exact br_f q (nm_r (nI_1 s) IH)
theorem xw_cosets {post : Int32 → SX → Prop} {c : Nat} {v : Int32} (hn : n ≤ 10) (hc : c < 2) (hR : lc_Red n (b c)) (H : ∀ ck' ld', post (nI (lc_cnt (2 ^ lc_zr n (b c)) (fun s => decide (nI (lc_mw n (b c) (lc_sp n (b c) s)) = v)))) (nI n, nI (lc_zr n (b c)), lc_xb b, ck', wg, ot, ch, ld', ro)) : wpX_cosets post (nI n, r, lc_xb b, ck, wg, ot, ch, ld, ro) (nI c) v := by
  unfold wpX_cosets
  try dsimp only
  refine xw_badCode hc (br_t rfl (xw_leaders hn (by omega) hR ?_))
  intro ck' ld' hl
  have hz := lc_zr_le n (b c)
  refine ⟨2 ^ lc_zr n (b c) + 1, xw_cosets20 (by omega) ?_ (2 ^ lc_zr n (b c)) 0 (by omega) _ (by omega)⟩
  have e : lc_cnt (2 ^ lc_zr n (b c)) (fun s => decide (ld' s = v)) = lc_cnt (2 ^ lc_zr n (b c)) (fun s => decide (nI (lc_mw n (b c) (lc_sp n (b c) s)) = v)) := lc_cnt_congr (fun s hs => by rw [hl s hs])
  rw [e]
  exact H ck' ld'
def lc_mx (f : Nat → Nat) : Nat → Nat
  | 0 => 0
  | K + 1 => if f K ≤ lc_mx f K then lc_mx f K else f K
theorem lc_mx_le {f : Nat → Nat} {K i : Nat} (h : i < K) : f i ≤ lc_mx f K := by
  induction K with
  | zero => omega
  | succ K ih =>
    rw [lc_mx]
    by_cases e : i = K
    · subst e
      split <;> omega
    · have := ih (by omega)
      split <;> omega
theorem lc_mx_at (f : Nat → Nat) (K : Nat) : lc_mx f K = 0 ∨ ∃ i, i < K ∧ lc_mx f K = f i := by
  induction K with
  | zero => exact Or.inl rfl
  | succ K ih =>
    rw [lc_mx]
    split
    · rcases ih with h | ⟨i, hi, h⟩
      · exact Or.inl h
      · exact Or.inr ⟨i, by omega, h⟩
    · exact Or.inr ⟨K, by omega, rfl⟩
theorem lc_mx_bd {f : Nat → Nat} {B : Nat} (h : ∀ i, f i ≤ B) (K : Nat) : lc_mx f K ≤ B := by
  induction K with
  | zero => exact Nat.zero_le _
  | succ K ih =>
    rw [lc_mx]
    split
    · exact ih
    · exact h K
theorem xw_radius19 {post : Int32 → SX → Prop} {f : Nat → Nat} {R : Nat} (hR : R ≤ 10) (hf : ∀ s, s < 2 ^ R → ld s = nI (f s)) (hb : ∀ i, f i ≤ 10) (H : post (nI (lc_mx f (2 ^ R))) (fn, nI R, A, ck, wg, ot, ch, ld, ro)) : ∀ d s, s + d = 2 ^ R → ∀ m, d < m → wX_radius_19 post fn (nI R) A ck wg ot ch ld ro m (nI (lc_mx f s)) (nI s) := by
  have h10 := lc_10 hR
  intro d
  induction d with
  | zero =>
    intro s hs m hm
    obtain ⟨m, rfl⟩ : ∃ k, m = k + 1 := ⟨m - 1, by omega⟩
    have e : s = 2 ^ R := by omega
    subst e
    refine br_t ?_ H
    rw [lc_shl (by omega)]
    exact nI_le (Nat.le_refl _) (by omega)
  | succ d ih =>
    intro s hs m hm
    obtain ⟨m, rfl⟩ : ∃ k, m = k + 1 := ⟨m - 1, by omega⟩
    have IH := ih (s + 1) (by omega) m (by omega)
    have b1 := hb s
    have b2 := lc_mx_bd hb s
    refine br_f ?_ ⟨vp_in_nI (by omega) (by omega), ?_⟩
    · rw [lc_shl (by omega)]
      exact nI_ge (by omega) (by omega)
    · rw [nI_clamp (by omega), hf s (by omega)]
      rw [lc_mx] at IH
      by_cases q : f s ≤ lc_mx f s
      · rw [if_pos q] at IH
        exact br_t (nI_le q (by omega)) (nm_r (nI_1 s) IH)
      · rw [if_neg q] at IH
        exact br_f (nI_ge (by omega) (by omega)) ⟨vp_in_nI (by omega) (by omega), nm_e (nm_r (nI_1 s) IH)⟩
theorem xw_radius {post : Int32 → SX → Prop} {c : Nat} (hn : n ≤ 10) (hc : c < 2) (hR : lc_Red n (b c)) (H : ∀ ck' ld', post (nI (lc_mx (fun s => lc_mw n (b c) (lc_sp n (b c) s)) (2 ^ lc_zr n (b c)))) (nI n, nI (lc_zr n (b c)), lc_xb b, ck', wg, ot, ch, ld', ro)) : wpX_radius post (nI n, r, lc_xb b, ck, wg, ot, ch, ld, ro) (nI c) := by
  unfold wpX_radius
  try dsimp only
  refine xw_badCode hc (br_t rfl (xw_leaders hn (by omega) hR ?_))
  intro ck' ld' hl
  have hz := lc_zr_le n (b c)
  exact ⟨2 ^ lc_zr n (b c) + 1, xw_radius19 (by omega) hl (fun i => Nat.le_trans (lc_mw_bd hR) hn) (H ck' ld') (2 ^ lc_zr n (b c)) 0 (by omega) _ (by omega)⟩
end
end
section
/-! the component: nearest words, information sets, the rest, the constructor -/
def lc_bst (E : Nat → Prop) (word : Nat) (best : Int32) : Prop := (best = -1 ∧ ∀ e, ¬ E e) ∨ ∃ z, z < 1024 ∧ best = nI z ∧ (∃ e, E e ∧ z = word ^^^ e) ∧ ∀ e, E e → z ≤ word ^^^ e
theorem lc_bst_congr {E F : Nat → Prop} {word : Nat} {best : Int32} (h : lc_bst E word best) (k : ∀ e, E e ↔ F e) : lc_bst F word best := by
  rcases h with ⟨h1, h2⟩ | ⟨z, hz, h1, ⟨e, he, h2⟩, h3⟩
  · exact Or.inl ⟨h1, fun e q => h2 e ((k e).mpr q)⟩
  · exact Or.inr ⟨z, hz, h1, ⟨e, (k e).mp he, h2⟩, fun e q => h3 e ((k e).mpr q)⟩
theorem lc_bst_new {E F : Nat → Prop} {word x : Nat} {best : Int32} (h : lc_bst E word best) (k : ∀ e, F e ↔ (E e ∨ e = x)) (hx : word ^^^ x < 1024) (hb : best = -1 ∨ ∃ z, best = nI z ∧ z < 1024 ∧ word ^^^ x < z) : lc_bst F word (nI (word ^^^ x)) := by
  refine Or.inr ⟨_, hx, rfl, ⟨x, (k x).mpr (Or.inr rfl), rfl⟩, ?_⟩
  intro e he
  rcases (k e).mp he with q | q
  · rcases h with ⟨_, h2⟩ | ⟨z, hz, h1, _, h3⟩
    · exact absurd q (h2 e)
    · rcases hb with c | ⟨z', c, hz', hlt⟩
      · rw [h1] at c
        have p := nI_pos (n := z) (by omega)
        rw [c] at p
        exact absurd (by decide) p
      · have ez : z = z' := (nI_eq (by omega) (by omega)).mp (h1.symm.trans c)
        have := h3 e q
        omega
  · rw [q]; exact Nat.le_refl _
theorem lc_bst_old {E F : Nat → Prop} {word x z : Nat} {best : Int32} (h : lc_bst E word best) (k : ∀ e, F e ↔ (E e ∨ e = x)) (hz : best = nI z) (hz2 : z < 1024) (hle : z ≤ word ^^^ x) : lc_bst F word best := by
  rcases h with ⟨h1, _⟩ | ⟨z', hz', h1, ⟨e, he, h2⟩, h3⟩
  · rw [h1] at hz
    have p := nI_pos (n := z) (by omega)
    rw [← hz] at p
    exact absurd (by decide) p
  · have ez : z' = z := (nI_eq (by omega) (by omega)).mp (h1.symm.trans hz)
    subst ez
    refine Or.inr ⟨z', hz', h1, ⟨e, (k e).mpr (Or.inl he), h2⟩, ?_⟩
    intro e2 he2
    rcases (k e2).mp he2 with q | q
    · exact h3 e2 q
    · rw [q]; exact hle
def lc_near (n : Nat) (g : Nat → Nat) (word z : Nat) : Prop := lc_M n g z ∧ ∀ z2, lc_M n g z2 → lc_wt n (z ^^^ word) < lc_wt n (z2 ^^^ word) ∨ (lc_wt n (z ^^^ word) = lc_wt n (z2 ^^^ word) ∧ z ≤ z2)
theorem lc_near_u {n word z z2 : Nat} {g : Nat → Nat} (h1 : lc_near n g word z) (h2 : lc_near n g word z2) : z = z2 := by
  have a := h1.2 z2 h2.1
  have c := h2.2 z h1.1
  omega
section
variable {n : Nat} {b : Nat → Nat → Nat} {g : Nat → Nat} {fn r : Int32} {A ck wg ot ch ld ro : Nat → Int32}
theorem xw_nat10 {post : Int32 → Prop} {w word num : Nat} (hn : n ≤ 10) (hw : w ≤ n) (hword : word < 2 ^ n) (hnum : num < 1024) (hk : ∀ t, t < lc_zr n g → ck t = nI (lc_hs n g t)) (H : ∀ best, lc_bst (fun e => e < 2 ^ n ∧ lc_cs n g e = num ∧ lc_wt n e = w) word best → post best) : ∀ d x, 2 ^ n ≤ x + d → 0 < x → x < 2 ^ n → lc_wt n x = w → ∀ best, lc_bst (fun e => e < 2 ^ n ∧ lc_cs n g e = num ∧ lc_wt n e = w ∧ e < x) word best → ∀ m, d + 1 < m → wX_nearestAt_10 post (nI word) (nI num) (nI n) (nI (lc_zr n g)) A ck wg ot ch ld ro m best (nI x) := by
  have hz := lc_10 (n := lc_zr n g) (Nat.le_trans (lc_zr_le n g) hn)
  intro d
  induction d with
  | zero =>
    intro x hd h0 hx
    omega
  | succ d ih =>
    intro x hd h0 hx hwx best hb m hm
    obtain ⟨m, rfl⟩ : ∃ k, m = k + 1 := ⟨m - 1, by omega⟩
    have gp := lc_gp_sp h0 (lc_w1024 hn hx)
    have hc := lc_cs_lt n g x
    have hxx := lc_w1024 hn (Nat.xor_lt_two_pow hword hx)
    have go : ∀ best2, lc_bst (fun e => e < 2 ^ n ∧ lc_cs n g e = num ∧ lc_wt n e = w ∧ e < x + 1) word best2 → wX_nearestAt_10 post (nI word) (nI num) (nI n) (nI (lc_zr n g)) A ck wg ot ch ld ro m best2 (nI (if lc_gp x < 2 ^ n then lc_gp x else 0)) := by
      intro best2 h2
      have h3 : lc_bst (fun e => e < 2 ^ n ∧ lc_cs n g e = num ∧ lc_wt n e = w ∧ e < lc_gp x) word best2 := by
        refine lc_bst_congr h2 ?_
        intro e
        constructor
        · rintro ⟨a1, a2, a3, a4⟩
          exact ⟨a1, a2, a3, by omega⟩
        · rintro ⟨a1, a2, a3, a4⟩
          refine ⟨a1, a2, a3, ?_⟩
          rcases (lc_pr_next hn h0 hx hwx a1).mpr (Or.inr ⟨a3, a4⟩) with (q | ⟨_, q⟩) | q
          · omega
          · omega
          · omega
      by_cases q : lc_gp x < 2 ^ n
      · rw [if_pos q]
        exact ih (lc_gp x) (by omega) (by omega) q (lc_gp_wt hn h0 hx hwx q) best2 h3 m (by omega)
      · rw [if_neg q]
        obtain ⟨m, rfl⟩ : ∃ k, m = k + 1 := ⟨m - 1, by omega⟩
        refine br_t (by decide) (H best2 (lc_bst_congr h3 ?_))
        intro e
        constructor
        · rintro ⟨a1, a2, a3, _⟩
          exact ⟨a1, a2, a3⟩
        · rintro ⟨a1, a2, a3⟩
          exact ⟨a1, a2, a3, by omega⟩
    have nxt : ∀ best2, lc_bst (fun e => e < 2 ^ n ∧ lc_cs n g e = num ∧ lc_wt n e = w ∧ e < x + 1) word best2 → wpX_nextSame (fun r_15 => (wX_nearestAt_10 post (nI word) (nI num) (nI n) (nI (lc_zr n g)) A ck wg ot ch ld ro m) best2 r_15) (nI n, nI (lc_zr n g), A, ck, wg, ot, ch, ld, ro) (nI x) := fun best2 h2 => xw_next hn h0 hx (go best2 h2)
    refine br_f (nI_nle h0 (lc_w31 hn hx)) (xw_coset hn hx hk (nm_r (e' := nI (word ^^^ x)) (nx_xor _ _) ?_))
    by_cases q : lc_cs n g x = num
    · have k : ∀ e, (e < 2 ^ n ∧ lc_cs n g e = num ∧ lc_wt n e = w ∧ e < x + 1) ↔ ((e < 2 ^ n ∧ lc_cs n g e = num ∧ lc_wt n e = w ∧ e < x) ∨ e = x) := by
        intro e
        constructor
        · rintro ⟨a1, a2, a3, a4⟩
          by_cases y : e = x
          · exact Or.inr y
          · exact Or.inl ⟨a1, a2, a3, by omega⟩
        · rintro (⟨a1, a2, a3, a4⟩ | y)
          · exact ⟨a1, a2, a3, by omega⟩
          · rw [y]; exact ⟨hx, q, hwx, by omega⟩
      refine br_t (by rw [q]) ?_
      rcases hb with ⟨h1, h2⟩ | ⟨z, hz2, h1, h2⟩
      · refine br_t (by rw [h1]; decide) ?_
        unfold wX_nearestAt_47 wX_nearestAt_54
        exact nxt _ (lc_bst_new (Or.inl ⟨h1, h2⟩) k hxx (Or.inl h1))
      · refine br_f (by rw [h1]; exact nI_pos (by omega)) ?_
        by_cases y : z ≤ word ^^^ x
        · refine br_t (by rw [h1]; exact nI_le y (by omega)) ?_
          unfold wX_nearestAt_52 wX_nearestAt_54
          exact nxt _ (lc_bst_old (Or.inr ⟨z, hz2, h1, h2⟩) k h1 hz2 y)
        · refine br_f (by rw [h1]; exact nI_ge (by omega) (by omega)) ?_
          unfold wX_nearestAt_47 wX_nearestAt_54
          exact nxt _ (lc_bst_new (Or.inr ⟨z, hz2, h1, h2⟩) k hxx (Or.inr ⟨z, h1, hz2, by omega⟩))
    · refine br_f (fun y => q ((nI_eq (by omega) (by omega)).mp y)) ?_
      unfold wX_nearestAt_52 wX_nearestAt_54
      refine nxt _ (lc_bst_congr hb ?_)
      intro e
      constructor
      · rintro ⟨a1, a2, a3, a4⟩
        exact ⟨a1, a2, a3, by omega⟩
      · rintro ⟨a1, a2, a3, a4⟩
        have : e ≠ x := fun y => q (by rw [← y]; exact a2)
        exact ⟨a1, a2, a3, by omega⟩
theorem xw_nearestAt {post : Int32 → Prop} {w word num : Nat} (hn : n ≤ 10) (h1 : 1 ≤ w) (hw : w ≤ n) (hword : word < 2 ^ n) (hnum : num < 1024) (hk : ∀ t, t < lc_zr n g → ck t = nI (lc_hs n g t)) (H : ∀ best, lc_bst (fun e => e < 2 ^ n ∧ lc_cs n g e = num ∧ lc_wt n e = w) word best → post best) : wpX_nearestAt post (nI n, nI (lc_zr n g), A, ck, wg, ot, ch, ld, ro) (nI word) (nI num) (nI w) := by
  have hs := lc_start hn hw
  have hp : 2 ≤ 2 ^ w := Nat.pow_le_pow_right (n := 2) (i := 1) (by omega) h1
  refine nm_r (e' := nI (2 ^ w - 1)) ?_ ⟨2 ^ n + 2, ?_⟩
  · rw [lc_shl (by omega)]
    exact pk_sub (a := 2 ^ w) (b := 1) (by omega)
  · refine xw_nat10 hn hw hword hnum hk H (2 ^ n) (2 ^ w - 1) (by omega) (by omega) hs.1 hs.2.1 (-1) ?_ (2 ^ n + 2) (by omega)
    refine Or.inl ⟨rfl, ?_⟩
    rintro e ⟨a1, _, a3, a4⟩
    exact hs.2.2 e a1 a4 a3
theorem xw_near43 {post : Int32 → SX → Prop} {word : Nat} (hR : lc_Red n g) (hn : n ≤ 10) (hword : word < 2 ^ n) (hk : ∀ t, t < lc_zr n g → ck t = nI (lc_hs n g t)) (H : ∀ z, lc_near n g word z → post (nI z) (nI n, nI (lc_zr n g), A, ck, wg, ot, ch, ld, ro)) : ∀ d w, w + d = n + 1 → 1 ≤ w → (∀ e, e < 2 ^ n → lc_cs n g e = lc_cs n g word → w ≤ lc_wt n e) → ∀ m, d + 1 < m → wX_nearest_43 post (nI word) (nI (lc_cs n g word)) (nI n) (nI (lc_zr n g)) A ck wg ot ch ld ro m (-1) (nI w) := by
  have hz := lc_10 (n := lc_zr n g) (Nat.le_trans (lc_zr_le n g) hn)
  have hc := lc_cs_lt n g word
  intro d
  induction d with
  | zero =>
    intro w hw h1 hm
    have := hm word hword rfl
    have := lc_wt_le n word
    omega
  | succ d ih =>
    intro w hw h1 hlow m hm
    obtain ⟨m, rfl⟩ : ∃ k, m = k + 1 := ⟨m - 1, by omega⟩
    refine br_f (nI_nlt (by omega) (by omega)) (br_f (by decide) (xw_nearestAt hn h1 (by omega) hword (by omega) hk ?_))
    intro best hb
    refine nm_r (nI_1 w) ?_
    rcases hb with ⟨e1, e2⟩ | ⟨z, hz2, e1, ⟨e, ⟨a1, a2, a3⟩, e3⟩, e4⟩
    · rw [e1]
      refine ih (w + 1) (by omega) (by omega) ?_ m (by omega)
      intro e he hce
      have h2 := hlow e he hce
      have h3 : lc_wt n e ≠ w := fun q => e2 e ⟨he, hce, q⟩
      omega
    · rw [e1]
      obtain ⟨m, rfl⟩ : ∃ k, m = k + 1 := ⟨m - 1, by omega⟩
      have ex : z ^^^ word = e := by rw [e3, lc_xswap, Nat.xor_self, Nat.zero_xor]
      have hp : post (nI z) (nI n, nI (lc_zr n g), A, ck, wg, ot, ch, ld, ro) := by
        apply H
        refine ⟨?_, ?_⟩
        · rw [e3]
          exact lc_rs_eq.mp ((lc_cs_eq hR hword a1).mp a2.symm)
        · intro z2 hz3
          have h2 : z2 ^^^ word < 2 ^ n := Nat.xor_lt_two_pow (lc_M_lt hR hz3) hword
          have h3 : lc_cs n g (z2 ^^^ word) = lc_cs n g word := by
            rw [lc_cs_eq hR h2 hword, lc_rs_eq, lc_xx]
            exact hz3
          have h4 := hlow _ h2 h3
          rw [ex, a3]
          rcases Nat.lt_or_ge w (lc_wt n (z2 ^^^ word)) with q | q
          · exact Or.inl q
          · refine Or.inr ⟨by omega, ?_⟩
            have h5 := e4 _ ⟨h2, h3, by omega⟩
            rw [Nat.xor_comm z2, lc_xl] at h5
            exact h5
      by_cases q : n < w + 1
      · exact br_t (nI_lt q (by omega)) hp
      · exact br_f (nI_nlt (by omega) (by omega)) (br_t (nI_pos' (by omega)) hp)
theorem xw_nearest {post : Int32 → SX → Prop} {c word : Nat} (hn : n ≤ 10) (hc : c < 2) (hR : lc_Red n (b c)) (hw : word < 2 ^ n) (H : ∀ z ck', lc_near n (b c) word z → post (nI z) (nI n, nI (lc_zr n (b c)), lc_xb b, ck', wg, ot, ch, ld, ro)) : wpX_nearest post (nI n, r, lc_xb b, ck, wg, ot, ch, ld, ro) (nI c) (nI word) := by
  unfold wpX_nearest
  try dsimp only
  refine xw_badCode hc (br_t rfl (xw_badWord hn hw (br_t rfl (xw_fc hn (by omega) hR ?_))))
  intro ck' hk
  refine xw_coset hn hw hk ?_
  have hcs := lc_cs_lt n (b c) word
  have hz := lc_10 (n := lc_zr n (b c)) (Nat.le_trans (lc_zr_le n (b c)) hn)
  by_cases q : lc_cs n (b c) word = 0
  · refine br_t (by rw [q]; rfl) ⟨1, ?_⟩
    have hM : lc_M n (b c) word := by
      have k := (lc_cs_eq hR hw (Nat.two_pow_pos n)).mp (q.trans (lc_cs_0 n (b c)).symm)
      rw [lc_rs_eq, Nat.xor_zero] at k
      exact k
    have hp := H word ck' ⟨hM, by
      intro z2 h2
      rw [Nat.xor_self, lc_wt_0]
      rcases Nat.eq_zero_or_pos (lc_wt n (z2 ^^^ word)) with y | y
      · refine Or.inr ⟨y.symm, ?_⟩
        by_cases z : z2 ^^^ word = 0
        · rw [lc_x0.mp z]; exact Nat.le_refl _
        · have := lc_wt_pos (Nat.xor_lt_two_pow (lc_M_lt hR h2) hw) z
          omega
      · exact Or.inl y⟩
    by_cases y : n < 1
    · exact br_t (nI_lt (b := 1) y (by omega)) hp
    · exact br_f (nI_nlt (b := 1) (by omega) (by omega)) (br_t (nI_pos' (lc_w31 hn hw)) hp)
  · refine br_f (nI_ne0 (by omega) (by omega)) ⟨n + 2, ?_⟩
    refine xw_near43 hR hn hw hk (fun z h => H z ck' h) n 1 (by omega) (by omega) ?_ (n + 2) (by omega)
    intro e he hce
    by_cases z : e = 0
    · rw [z, lc_cs_0] at hce
      exact absurd hce.symm q
    · exact lc_wt_pos he z
def lc_isI (n : Nat) (g : Nat → Nat) (s : Nat) : Bool := decide (lc_wt n s = lc_dim n g) && decide (lc_dim n (lc_incs n (fun _ => 0) (fun i => g i &&& s) n) = lc_dim n g)
theorem xw_inf25 {post : Int32 → SX → Prop} {c s : Nat} (hn : n ≤ 10) (hc : c < 2) (hR : lc_Red n (b c)) (H : post (lc_bI (decide (lc_dim n (lc_incs n (fun _ => 0) (fun i => b c i &&& s) n) = lc_dim n (b c)))) (nI n, r, lc_xb (lc_setc b 2 (lc_incs n (fun _ => 0) (fun i => b c i &&& s) n)), ck, wg, ot, ch, ld, ro)) : ∀ d i, i + d = n → ∀ m, d < m → wX_informs_25 post (nI c) (nI s) (nI (lc_dim n (b c))) m (nI i) (nI n) r (lc_xb (lc_setc b 2 (lc_incs n (fun _ => 0) (fun i => b c i &&& s) i))) ck wg ot ch ld ro := by
  have hl : ∀ i, i < n → b c i &&& s < 2 ^ n := fun i _ => Nat.lt_of_le_of_lt Nat.and_le_left (lc_Red_lt hR i)
  have hd := lc_dim_le n (b c)
  intro d
  induction d with
  | zero =>
    intro i hi m hm
    obtain ⟨m, rfl⟩ : ∃ k, m = k + 1 := ⟨m - 1, by omega⟩
    have e : i = n := by omega
    subst e
    have hd2 := lc_dim_le i (lc_incs i (fun _ => 0) (fun j => b c j &&& s) i)
    refine br_t (nI_le (Nat.le_refl _) (by omega)) (xw_dimv (c := 2) hn (by omega) (lc_setc_s b 2 _) (lc_incs_Red (lc_Red_0 i) hl) ?_)
    by_cases q : lc_dim i (lc_incs i (fun _ => 0) (fun j => b c j &&& s) i) = lc_dim i (b c)
    · rw [decide_eq_true q] at H
      exact br_t (by rw [q]) H
    · rw [decide_eq_false q] at H
      exact br_f (fun y => q ((nI_eq (by omega) (by omega)).mp y)) H
  | succ d ih =>
    intro i hi m hm
    obtain ⟨m, rfl⟩ : ∃ k, m = k + 1 := ⟨m - 1, by omega⟩
    refine br_f (nI_ge (by omega) (by omega)) ⟨xb_in (by omega) (by omega), ?_⟩
    rw [xb_rd (by omega) (by omega), lc_setc_n (by omega), nx_and]
    exact xw_incs (c := 2) hn (by omega) (lc_Red_0 n) (fun t ht => hl t (by omega)) rfl (nm_r (nI_1 i) (ih (i + 1) (by omega) m (by omega)))
theorem lc_setc_id (b : Nat → Nat → Nat) (c : Nat) : lc_setc b c (b c) = b := by
  funext d
  unfold lc_setc
  split
  · rename_i h; rw [h]
  · rfl
theorem xw_informs {post : Int32 → SX → Prop} {c s : Nat} (hn : n ≤ 10) (hc : c < 2) (hR : lc_Red n (b c)) (hs : s < 2 ^ n) (H : ∀ v, post (lc_bI (lc_isI n (b c) s)) (nI n, r, lc_xb (lc_setc b 2 v), ck, wg, ot, ch, ld, ro)) : wpX_informs post (nI n, r, lc_xb b, ck, wg, ot, ch, ld, ro) (nI c) (nI s) := by
  unfold wpX_informs
  try dsimp only
  have hd := lc_dim_le n (b c)
  have hw := lc_wt_le n s
  refine xw_dim hn (by omega) hR (xw_size (lc_w31 hn hs) ?_)
  rw [lc_wt_ext hn hs]
  by_cases q : lc_wt n s = lc_dim n (b c)
  · refine br_t (by rw [q]) (xw_empty (c := 2) (by omega) ⟨n + 1, ?_⟩)
    refine xw_inf25 hn hc hR ?_ n 0 (by omega) (n + 1) (by omega)
    have e : lc_isI n (b c) s = decide (lc_dim n (lc_incs n (fun _ => 0) (fun i => b c i &&& s) n) = lc_dim n (b c)) := by
      rw [lc_isI, decide_eq_true q, Bool.true_and]
    rw [← e]
    exact H _
  · refine br_f (fun y => q ((nI_eq (by omega) (by omega)).mp y)) ?_
    have e : lc_isI n (b c) s = false := by rw [lc_isI, decide_eq_false q, Bool.false_and]
    have k := H (b 2)
    rw [e, lc_setc_id] at k
    exact k
theorem xw_isInf {post : Int32 → SX → Prop} {c s : Nat} (hn : n ≤ 10) (hc : c < 2) (hR : lc_Red n (b c)) (hs : s < 2 ^ n) (H : ∀ v, post (lc_bI (lc_isI n (b c) s)) (nI n, r, lc_xb (lc_setc b 2 v), ck, wg, ot, ch, ld, ro)) : wpX_isInformation post (nI n, r, lc_xb b, ck, wg, ot, ch, ld, ro) (nI c) (nI s) := by
  unfold wpX_isInformation
  try dsimp only
  refine xw_badCode hc (br_t rfl (xw_badWord hn hs (br_t rfl (xw_informs hn hc hR hs ?_))))
  intro v
  have k := H v
  cases e : lc_isI n (b c) s
  · rw [e] at k
    exact br_t rfl k
  · rw [e] at k
    exact br_f (by decide) k
theorem xw_infs14 {post : Int32 → SX → Prop} {c : Nat} (hn : n ≤ 10) (hc : c < 2) (hR : lc_Red n (b c)) (H : ∀ v, post (nI (lc_cnt (2 ^ n) (lc_isI n (b c)))) (nI n, r, lc_xb (lc_setc b 2 v), ck, wg, ot, ch, ld, ro)) : ∀ d s, s + d = 2 ^ n → ∀ v m, d < m → wX_informationSets_14 post (nI c) m (nI (lc_cnt s (lc_isI n (b c)))) (nI s) (nI n) r (lc_xb (lc_setc b 2 v)) ck wg ot ch ld ro := by
  have h10 := lc_10 hn
  intro d
  induction d with
  | zero =>
    intro s hs v m hm
    obtain ⟨m, rfl⟩ : ∃ k, m = k + 1 := ⟨m - 1, by omega⟩
    have e : s = 2 ^ n := by omega
    subst e
    refine br_t ?_ (H v)
    rw [lc_shl (by omega)]
    exact nI_le (Nat.le_refl _) (by omega)
  | succ d ih =>
    intro s hs v m hm
    obtain ⟨m, rfl⟩ : ∃ k, m = k + 1 := ⟨m - 1, by omega⟩
    have ec : lc_setc b 2 v c = b c := lc_setc_n (by omega)
    refine br_f ?_ (xw_informs hn hc (by rw [ec]; exact hR) (by omega) ?_)
    · rw [lc_shl (by omega)]
      exact nI_ge (by omega) (by omega)
    · intro v2
      rw [ec, lc_setc_2]
      have IH := ih (s + 1) (by omega) v2 m (by omega)
      rw [lc_cnt] at IH
      cases e : lc_isI n (b c) s
      · rw [e] at IH
        exact br_t rfl (nm_r (nI_1 s) IH)
      · rw [e] at IH
        exact br_f (by decide) (nm_r (nI_1 _) (nm_r (nI_1 s) IH))
theorem xw_infs {post : Int32 → SX → Prop} {c : Nat} (hn : n ≤ 10) (hc : c < 2) (hR : lc_Red n (b c)) (H : ∀ v, post (nI (lc_cnt (2 ^ n) (lc_isI n (b c)))) (nI n, r, lc_xb (lc_setc b 2 v), ck, wg, ot, ch, ld, ro)) : wpX_informationSets post (nI n, r, lc_xb b, ck, wg, ot, ch, ld, ro) (nI c) := by
  unfold wpX_informationSets
  try dsimp only
  refine xw_badCode hc (br_t rfl ⟨2 ^ n + 1, ?_⟩)
  have k := xw_infs14 hn hc hR H (2 ^ n) 0 (by omega) (b 2) (2 ^ n + 1) (by omega)
  rw [lc_setc_id] at k
  exact k
theorem xw_orth4 {post : Int32 → Prop} (hn : n ≤ 10) (h0 : lc_Red n (b 0)) (h1 : lc_Red n (b 1)) (H : post (lc_bI (lc_al 100 (fun k => !lc_dt n (b 0 (k / 10)) (b 1 (k % 10)))))) : ∀ d k, k + d = 100 → ∀ m, d < m → wX_orthogonal_4 post (nI n) r (lc_xb b) ck wg ot ch ld ro m (lc_bI (lc_al k (fun k => !lc_dt n (b 0 (k / 10)) (b 1 (k % 10))))) (nI k) := by
  intro d
  induction d with
  | zero =>
    intro k hk m hm
    obtain ⟨m, rfl⟩ : ∃ k, m = k + 1 := ⟨m - 1, by omega⟩
    have e : k = 100 := by omega
    subst e
    refine br_t (nI_le (a := 100) (b := 100) (by omega) (by omega)) ?_
    cases q : lc_al 100 (fun k => !lc_dt n (b 0 (k / 10)) (b 1 (k % 10)))
    · rw [q] at H
      exact br_t rfl H
    · rw [q] at H
      exact br_f (by decide) H
  | succ d ih =>
    intro k hk m hm
    obtain ⟨m, rfl⟩ : ∃ k, m = k + 1 := ⟨m - 1, by omega⟩
    have IH := ih (k + 1) (by omega) m (by omega)
    have e1 : nI k / 10 = nI (k / 10) := pk_div (d := 10) (by omega) (by omega) (by omega)
    have e2 : (10 : Int32) + (nI k - nI k / 10 * 10) = nI (10 + k % 10) := by
      show nI 10 + (nI k - nI k / nI 10 * nI 10) = _
      rw [pk_rem (by omega) (by omega) (by omega), nI_add]
    have r1 : lc_xb b (nI (k / 10)).toNatClampNeg = nI (b 0 (k / 10)) := by
      rw [nI_clamp (by omega)]
      unfold lc_xb
      rw [show k / 10 / 10 = 0 by omega, show k / 10 % 10 = k / 10 by omega]
    have r2 : lc_xb b (nI (10 + k % 10)).toNatClampNeg = nI (b 1 (k % 10)) := by
      rw [nI_clamp (by omega)]
      unfold lc_xb
      rw [show (10 + k % 10) / 10 = 1 by omega, show (10 + k % 10) % 10 = k % 10 by omega]
    have hl : b 0 (k / 10) &&& b 1 (k % 10) < 2 ^ n := Nat.lt_of_le_of_lt Nat.and_le_left (lc_Red_lt h0 _)
    refine br_f (nI_ge (b := 100) (by omega) (by omega)) ⟨by decide, ?_⟩
    rw [e2, e1, r1, r2, nx_and]
    refine ⟨vp_in_nI (by omega) (by omega), by decide, vp_in_nI (by omega) (by omega), xw_size (lc_w31 hn hl) ?_⟩
    have ev : (nI (lc_wt 10 (b 0 (k / 10) &&& b 1 (k % 10))) &&& 1 = 0) ↔ lc_dt n (b 0 (k / 10)) (b 1 (k % 10)) = false := by
      have := lc_wt_le 10 (b 0 (k / 10) &&& b 1 (k % 10))
      rw [lc_odd (by omega), lc_wt_ext hn hl, lc_wt_dt]
      cases lc_dt n (b 0 (k / 10)) (b 1 (k % 10)) <;> decide
    rw [lc_al] at IH
    cases q : lc_al k (fun k => !lc_dt n (b 0 (k / 10)) (b 1 (k % 10)))
    · rw [q, Bool.false_and] at IH
      exact br_t rfl (nm_r (nI_1 k) IH)
    · rw [q, Bool.true_and] at IH
      refine br_f (by decide) ?_
      cases y : lc_dt n (b 0 (k / 10)) (b 1 (k % 10))
      · rw [y] at IH
        exact br_t (ev.mpr y) (nm_r (nI_1 k) IH)
      · rw [y] at IH
        refine br_f (fun z => ?_) (nm_r (nI_1 k) IH)
        rw [ev.mp z] at y
        exact Bool.noConfusion y
theorem xw_orth {post : Int32 → Prop} (hn : n ≤ 10) (h0 : lc_Red n (b 0)) (h1 : lc_Red n (b 1)) (H : post (lc_bI (lc_al 100 (fun k => !lc_dt n (b 0 (k / 10)) (b 1 (k % 10)))))) : wpX_orthogonal post (nI n, r, lc_xb b, ck, wg, ot, ch, ld, ro) :=
  ⟨101, xw_orth4 hn h0 h1 H 100 0 (by omega) 101 (by omega)⟩
theorem xw_dimension {post : Int32 → Prop} {c : Nat} (hn : n ≤ 10) (hc : c < 2) (hR : lc_Red n (b c)) (H : post (nI (lc_dim n (b c)))) : wpX_dimension post (nI n, r, lc_xb b, ck, wg, ot, ch, ld, ro) (nI c) := by
  unfold wpX_dimension
  try dsimp only
  exact xw_badCode hc (br_t rfl (xw_dim hn (by omega) hR H))
theorem xw_weights {post : Int32 → SX → Prop} {c w : Nat} (hn : n ≤ 10) (hc : c < 2) (hR : lc_Red n (b c)) (ht : lc_tab ch) (hw : w ≤ n) (H : ∀ r' ck' wg' ot' ro', post (nI (lc_cw n (b c) w)) (nI n, r', lc_xb b, ck', wg', ot', ch, ld, ro')) : wpX_weights post (nI n, r, lc_xb b, ck, wg, ot, ch, ld, ro) (nI c) (nI w) := by
  unfold wpX_weights
  try dsimp only
  exact xw_badCode hc (br_t rfl (xw_countOf (du := false) hn (by omega) hR ht hw (fun r' ck' wg' ot' ro' _ => H r' ck' wg' ot' ro')))
theorem xw_dualWeights {post : Int32 → SX → Prop} {c w : Nat} (hn : n ≤ 10) (hc : c < 2) (hR : lc_Red n (b c)) (ht : lc_tab ch) (hw : w ≤ n) (H : ∀ r' ck' wg' ot' ro', post (nI (lc_dw n (b c) w)) (nI n, r', lc_xb b, ck', wg', ot', ch, ld, ro')) : wpX_dualWeights post (nI n, r, lc_xb b, ck, wg, ot, ch, ld, ro) (nI c) (nI w) := by
  unfold wpX_dualWeights
  try dsimp only
  exact xw_badCode hc (br_t rfl (xw_countOf (du := true) hn (by omega) hR ht hw (fun r' ck' wg' ot' ro' _ => H r' ck' wg' ot' ro')))
theorem xw_weightsN {post : Int32 → SX → Prop} {c : Nat} {v : Int32} (hc : c < 2) (hv : v < 0 ∨ ¬ v ≤ nI n) (H : post 0 (nI n, r, lc_xb b, ck, wg, ot, ch, ld, ro)) : wpX_weights post (nI n, r, lc_xb b, ck, wg, ot, ch, ld, ro) (nI c) v := by
  unfold wpX_weights
  try dsimp only
  exact xw_badCode hc (br_t rfl (xw_countOfN hv H))
theorem xw_dualWeightsN {post : Int32 → SX → Prop} {c : Nat} {v : Int32} (hc : c < 2) (hv : v < 0 ∨ ¬ v ≤ nI n) (H : post 0 (nI n, r, lc_xb b, ck, wg, ot, ch, ld, ro)) : wpX_dualWeights post (nI n, r, lc_xb b, ck, wg, ot, ch, ld, ro) (nI c) v := by
  unfold wpX_dualWeights
  try dsimp only
  exact xw_badCode hc (br_t rfl (xw_countOfN hv H))
theorem xw_least {post : Int32 → SX → Prop} {c : Nat} (hn : n ≤ 10) (hc : c < 2) (hR : lc_Red n (b c)) (ht : lc_tab ch) (H : ∀ v r' ck' wg' ot' ro', ((v = -4 ∧ ∀ w, 1 ≤ w → w ≤ n → lc_cw n (b c) w = 0) ∨ ∃ w, 1 ≤ w ∧ w ≤ n ∧ v = nI w ∧ lc_cw n (b c) w ≠ 0 ∧ ∀ u, 1 ≤ u → u < w → lc_cw n (b c) u = 0) → post v (nI n, r', lc_xb b, ck', wg', ot', ch, ld, ro')) : wpX_leastWeight post (nI n, r, lc_xb b, ck, wg, ot, ch, ld, ro) (nI c) := by
  unfold wpX_leastWeight
  try dsimp only
  refine xw_badCode hc (br_t rfl (xw_countOf (du := false) (w := 0) hn (by omega) hR ht (by omega) ?_))
  intro r' ck' wg' ot' ro' hg
  refine ⟨n + 1, xw_lw20 (F := lc_cw n (b c)) hn ?_ hg (fun v h => H v r' ck' wg' ot' ro' h) n 1 (by omega) (by omega) (fun u h1 h2 => by omega) (n + 1) (by omega)⟩
  intro w
  have := lc_10 hn
  have k : lc_cw n (b c) w ≤ 2 ^ n := lc_cnt_le _ _
  omega
end
end
section
/-! the reference: its arrays, private methods, the methods that change a code -/
def lc_in (n : Nat) (b : Nat → Nat → Nat) (inn : Nat → Int32) : Prop := ∀ e x, e < 2 → x < 2 ^ n → inn (1024 * e + x) = lc_bI (decide (lc_M n (b e) x))
theorem lc_in_congr {n : Nat} {b b' : Nat → Nat → Nat} {inn : Nat → Int32} (h : lc_in n b inn) (k : ∀ e, e < 2 → b e = b' e) : lc_in n b' inn := by
  intro e x he hx
  rw [h e x he hx, k e he]
theorem lc_iy (c x : Nat) : (1024 : Int32) * nI c + nI x = nI (1024 * c + x) := by
  show nI 1024 * nI c + nI x = _
  rw [pk_mul, nI_add]
def lc_is (P : Prop) (v : Int32) : Prop := (P ∧ v = 1) ∨ (¬ P ∧ v = 0)
theorem lc_is_congr {P Q : Prop} {v : Int32} (h : lc_is P v) (e : P ↔ Q) : lc_is Q v := by
  rcases h with ⟨h1, h2⟩ | ⟨h1, h2⟩
  · exact Or.inl ⟨e.mp h1, h2⟩
  · exact Or.inr ⟨fun q => h1 (e.mpr q), h2⟩
theorem lc_is_dec {P : Prop} [Decidable P] {v : Int32} (h : lc_is P v) : v = lc_bI (decide P) := by
  rcases h with ⟨h1, h2⟩ | ⟨h1, h2⟩
  · rw [decide_eq_true h1]; exact h2
  · rw [decide_eq_false h1]; exact h2
theorem lc_is_bI {P : Prop} [Decidable P] : lc_is P (lc_bI (decide P)) := by
  by_cases h : P
  · rw [decide_eq_true h]; exact Or.inl ⟨h, rfl⟩
  · rw [decide_eq_false h]; exact Or.inr ⟨h, rfl⟩
def lc_md (n : Nat) (P : Nat → Prop) (md : Nat → Int32) : Prop := ∀ x, x < 2 ^ n → lc_is (P x) (md x)
theorem lc_md_congr {n : Nat} {P Q : Nat → Prop} {md : Nat → Int32} (h : lc_md n P md) (e : ∀ x, x < 2 ^ n → (P x ↔ Q x)) : lc_md n Q md := fun x hx => lc_is_congr (h x hx) (e x hx)
theorem lc_md_set {n y : Nat} {P : Nat → Prop} {md : Nat → Int32} (h : lc_md n P md) : lc_md n (fun x => P x ∨ x = y) (upd md y 1) := by
  intro x hx
  by_cases e : x = y
  · rw [e, pk_us]
    exact Or.inl ⟨Or.inr rfl, rfl⟩
  · rw [pk_un e]
    refine lc_is_congr (h x hx) ⟨Or.inl, fun q => q.resolve_right e⟩
theorem lc_nb1 : vp_nar .boolean 1 = 1 := lc_narb true
theorem lc_nb0 : vp_nar .boolean 0 = 0 := lc_narb false
def lc_id (n : Nat) (g : Nat → Nat) (x : Nat) : Bool := lc_al n (fun i => !lc_dt n (g i) x)
theorem lc_id_iff {n x : Nat} {g : Nat → Nat} (h : lc_Red n g) : lc_id n g x = true ↔ ∀ z, lc_M n g z → lc_dt n z x = false := by
  rw [← lc_D_iff h, lc_id, lc_al_iff]
  constructor
  · intro k i
    rcases Nat.lt_or_ge i n with c | c
    · have := k i c
      rw [Bool.not_eq_true'] at this
      exact this
    · rw [h.1 i c, lc_dt_0]
  · intro k i _
    rw [k i]
    rfl
section
variable {n : Nat} {b : Nat → Nat → Nat} {g : Nat → Nat} {fn fa cn : Int32} {inn md ls sn le : Nat → Int32}
theorem yw_bad {post : Int32 → Prop} {c : Nat} (hc : c < 2) (H : post 0) : wpY_bad post (fn, fa, cn, inn, md, ls, sn, le) (nI c) :=
  br_f (nI_pos (by omega)) (br_t (nI_le (b := 1) (by omega) (by omega)) H)
theorem yw_badN {post : Int32 → Prop} {v : Int32} (hv : v < 0 ∨ ¬ v ≤ 1) (H : post 1) : wpY_bad post (fn, fa, cn, inn, md, ls, sn, le) v := by
  by_cases h : v < 0
  · exact br_t h H
  · exact br_f h (br_f (hv.resolve_left h) H)
theorem yw_noWord {post : Int32 → Prop} {w : Nat} (hn : n ≤ 10) (hw : w < 2 ^ n) (H : post 0) : wpY_noWord post (fn, nI (2 ^ n), cn, inn, md, ls, sn, le) (nI w) :=
  br_f (nI_pos (lc_w31 hn hw)) (br_t (nI_lt hw (by have := lc_10 hn; omega)) H)
theorem yw_noWordN {post : Int32 → Prop} {v : Int32} (hv : v < 0 ∨ ¬ v < nI (2 ^ n)) (H : post 1) : wpY_noWord post (fn, nI (2 ^ n), cn, inn, md, ls, sn, le) v := by
  by_cases h : v < 0
  · exact br_t h H
  · exact br_f h (br_f (hv.resolve_left h) H)
theorem yw_noPlace {post : Int32 → Prop} {p : Nat} (hn : n ≤ 10) (hp : p < n) (H : post 0) : wpY_noPlace post (nI n, fa, cn, inn, md, ls, sn, le) (nI p) :=
  br_f (nI_pos (by omega)) (br_t (nI_lt hp (by omega)) H)
theorem yw_noPlaceN {post : Int32 → Prop} {v : Int32} (hv : v < 0 ∨ ¬ v < nI n) (H : post 1) : wpY_noPlace post (nI n, fa, cn, inn, md, ls, sn, le) v := by
  by_cases h : v < 0
  · exact br_t h H
  · exact br_f h (br_f (hv.resolve_left h) H)
theorem yw_weight4 {post : Int32 → Prop} {x : Nat} (hn : n ≤ 10) (hx : x < 2 ^ 31) (H : post (nI (lc_wt n x))) : ∀ d i, i + d = n → ∀ m, d < m → wY_weight_4 post (nI x) (nI n) fa cn inn md ls sn le m (nI (lc_wt i x)) (nI i) := by
  intro d
  induction d with
  | zero =>
    intro i hi m hm
    obtain ⟨m, rfl⟩ : ∃ k, m = k + 1 := ⟨m - 1, by omega⟩
    have e : i = n := by omega
    subst e
    exact br_t (nI_le (Nat.le_refl _) (by omega)) H
  | succ d ih =>
    intro i hi m hm
    obtain ⟨m, rfl⟩ : ∃ k, m = k + 1 := ⟨m - 1, by omega⟩
    refine br_f (nI_ge (by omega) (by omega)) (nm_r (e' := nI (lc_wt (i + 1) x)) ?_ (nm_r (nI_1 i) (ih (i + 1) (by omega) m (by omega))))
    rw [lc_bit hx (by omega), lc_bI_nI, nI_add]
    rfl
theorem yw_weight {post : Int32 → Prop} {x : Nat} (hn : n ≤ 10) (hx : x < 2 ^ n) (H : post (nI (lc_wt n x))) : wpY_weight post (nI n, fa, cn, inn, md, ls, sn, le) (nI x) :=
  ⟨n + 1, yw_weight4 hn (lc_w31 hn hx) H n 0 (by omega) (n + 1) (by omega)⟩
theorem yw_take7 {post : SY → Prop} {c : Nat} (hn : n ≤ 10) (hc : c < 2) (hR : lc_Red n g) (hin : ∀ x, x < 2 ^ n → inn (1024 * c + x) = lc_bI (decide (lc_M n g x))) (H : ∀ ls', (∀ i, i < 2 ^ lc_dim n g → ls' i = nI (lc_W n g i)) → post (nI n, nI (2 ^ n), nI (2 ^ lc_dim n g), inn, md, ls', sn, le)) : ∀ d x, x + d = 2 ^ n → ∀ j ls', j ≤ 2 ^ lc_dim n g → (∀ i, i < j → lc_W n g i < x) → (∀ i, j ≤ i → i < 2 ^ lc_dim n g → x ≤ lc_W n g i) → (∀ i, i < j → ls' i = nI (lc_W n g i)) → ∀ m, d < m → wY_take_7 post (nI c) (nI n) (nI (2 ^ n)) m (nI x) (nI j) inn md ls' sn le := by
  have h10 := lc_10 hn
  have hd10 := lc_10 (n := lc_dim n g) (Nat.le_trans (lc_dim_le n g) hn)
  intro d
  induction d with
  | zero =>
    intro x hx j ls' hj h1 h2 h3 m hm
    obtain ⟨m, rfl⟩ : ∃ k, m = k + 1 := ⟨m - 1, by omega⟩
    have ej : j = 2 ^ lc_dim n g := by
      rcases Nat.lt_or_ge j (2 ^ lc_dim n g) with q | q
      · have a := h2 j (Nat.le_refl j) q
        have c := lc_W_lt hR n j
        omega
      · omega
    subst ej
    exact br_t (nI_le (by omega) (by omega)) (H ls' h3)
  | succ d ih =>
    intro x hx j ls' hj h1 h2 h3 m hm
    obtain ⟨m, rfl⟩ : ∃ k, m = k + 1 := ⟨m - 1, by omega⟩
    refine br_f (nI_ge (by omega) (by omega)) ?_
    rw [lc_iy, nI_clamp (by omega), hin x (by omega)]
    refine ⟨vp_in_nI (by omega) (by omega), ?_⟩
    by_cases q : lc_M n g x
    · obtain ⟨i, hi, e⟩ := lc_W_sur hR n x (by omega) q
      have hij : i = j := by
        rcases Nat.lt_trichotomy i j with y | y | y
        · have := h1 i y
          omega
        · exact y
        · have a := lc_W_mono hR n j i y hi
          have c := h2 j (Nat.le_refl j) (by omega)
          omega
      subst hij
      rw [decide_eq_true q]
      refine br_f (by decide) ⟨vp_in_nI (by omega) (by omega), nm_r (e' := upd ls' i (nI x)) (by rw [nI_clamp (by omega)]) (nm_r (nI_1 i) (nm_r (nI_1 x) (ih (x + 1) (by omega) (i + 1) _ (by omega) ?_ ?_ ?_ m (by omega))))⟩
      · intro t ht
        by_cases y : t = i
        · rw [y]; omega
        · have := h1 t (by omega)
          omega
      · intro t ht htk
        have := lc_W_mono hR n i t (by omega) htk
        omega
      · intro t ht
        by_cases y : t = i
        · rw [y, e]; exact pk_us
        · rw [pk_un y]; exact h3 t (by omega)
    · rw [decide_eq_false q]
      refine br_t rfl (nm_r (nI_1 x) (ih (x + 1) (by omega) j ls' hj (fun i hi => Nat.lt_succ_of_lt (h1 i hi)) ?_ h3 m (by omega)))
      intro t ht htk
      have a := h2 t ht htk
      have c : lc_W n g t ≠ x := fun y => q (y ▸ lc_W_M hR n t)
      omega
theorem yw_take {post : SY → Prop} {c : Nat} (hn : n ≤ 10) (hc : c < 2) (hR : lc_Red n g) (hin : ∀ x, x < 2 ^ n → inn (1024 * c + x) = lc_bI (decide (lc_M n g x))) (H : ∀ ls', (∀ i, i < 2 ^ lc_dim n g → ls' i = nI (lc_W n g i)) → post (nI n, nI (2 ^ n), nI (2 ^ lc_dim n g), inn, md, ls', sn, le)) : wpY_take post (nI n, nI (2 ^ n), cn, inn, md, ls, sn, le) (nI c) :=
  ⟨2 ^ n + 1, yw_take7 hn hc hR hin H (2 ^ n) 0 (by omega) 0 ls (Nat.zero_le _) (fun i hi => by omega) (fun i _ _ => Nat.zero_le _) (fun i hi => by omega) _ (by omega)⟩
theorem yw_begin2 {post : SY → Prop} (hn : n ≤ 10) (H : ∀ md', (∀ x, x < 2 ^ n → md' x = 0) → post (fn, nI (2 ^ n), cn, inn, md', ls, sn, le)) : ∀ d x, x + d = 2 ^ n → ∀ md', (∀ y, y < x → md' y = 0) → ∀ m, d < m → wY_begin_2 post fn (nI (2 ^ n)) cn m (nI x) inn md' ls sn le := by
  have h10 := lc_10 hn
  intro d
  induction d with
  | zero =>
    intro x hx md' h m hm
    obtain ⟨m, rfl⟩ : ∃ k, m = k + 1 := ⟨m - 1, by omega⟩
    exact br_t (nI_le (by omega) (by omega)) (H md' (fun y hy => h y (by omega)))
  | succ d ih =>
    intro x hx md' h m hm
    obtain ⟨m, rfl⟩ : ∃ k, m = k + 1 := ⟨m - 1, by omega⟩
    refine br_f (nI_ge (by omega) (by omega)) ⟨vp_in_nI (by omega) (by omega), nm_r (e' := upd md' x 0) (by rw [nI_clamp (by omega), lc_nb0]) (nm_r (nI_1 x) (ih (x + 1) (by omega) _ ?_ m (by omega)))⟩
    intro y hy
    by_cases e : y = x
    · rw [e]; exact pk_us
    · rw [pk_un e]; exact h y (by omega)
theorem yw_begin {post : SY → Prop} (hn : n ≤ 10) (H : ∀ md', lc_md n (fun _ => False) md' → post (fn, nI (2 ^ n), cn, inn, md', ls, sn, le)) : wpY_begin post (fn, nI (2 ^ n), cn, inn, md, ls, sn, le) :=
  ⟨2 ^ n + 1, yw_begin2 hn (fun md' h => H md' (fun x hx => Or.inr ⟨fun q => q, h x hx⟩)) (2 ^ n) 0 (by omega) md (fun y hy => by omega) _ (by omega)⟩
theorem yw_dim17 {post : Int32 → SY → Prop} {k : Nat} (hk : k ≤ 10) (H : post (nI k) (fn, fa, nI (2 ^ k), inn, md, ls, sn, le)) : ∀ d i, i + d = k → ∀ m, d < m → wY_dimension_17 post fn fa (nI (2 ^ k)) inn md ls sn le m (nI i) := by
  have h10 := lc_10 hk
  intro d
  induction d with
  | zero =>
    intro i hi m hm
    obtain ⟨m, rfl⟩ : ∃ k, m = k + 1 := ⟨m - 1, by omega⟩
    have e : i = k := by omega
    subst e
    refine br_t ?_ H
    rw [lc_shl (by omega)]
    exact nI_le (Nat.le_refl _) (by omega)
  | succ d ih =>
    intro i hi m hm
    obtain ⟨m, rfl⟩ : ∃ k, m = k + 1 := ⟨m - 1, by omega⟩
    refine br_f ?_ (nm_r (nI_1 i) (ih (i + 1) (by omega) m (by omega)))
    rw [lc_shl (by omega)]
    exact nI_ge (Nat.pow_lt_pow_right (by omega) (by omega)) (by omega)
theorem yw_dimension {post : Int32 → SY → Prop} {c : Nat} (hn : n ≤ 10) (hc : c < 2) (hR : lc_Red n g) (hin : ∀ x, x < 2 ^ n → inn (1024 * c + x) = lc_bI (decide (lc_M n g x))) (H : ∀ cn' ls', post (nI (lc_dim n g)) (nI n, nI (2 ^ n), cn', inn, md, ls', sn, le)) : wpY_dimension post (nI n, nI (2 ^ n), cn, inn, md, ls, sn, le) (nI c) := by
  unfold wpY_dimension
  try dsimp only
  refine yw_bad hc (br_t rfl (yw_take hn hc hR hin ?_))
  intro ls' _
  have hd := lc_dim_le n g
  exact ⟨lc_dim n g + 1, yw_dim17 (by omega) (H _ ls') (lc_dim n g) 0 (by omega) _ (by omega)⟩
theorem yw_keep2 {post : Int32 → SY → Prop} {c : Nat} (hn : n ≤ 10) (hc : c < 2) (hR : lc_Red n g) (hin : lc_in n b inn) (hm : ∀ x, x < 2 ^ n → md x = lc_bI (decide (lc_M n g x))) (H : ∀ cn' in' ls', lc_in n (lc_setc b c g) in' → post (nI (lc_dim n g)) (nI n, nI (2 ^ n), cn', in', md, ls', sn, le)) : ∀ d x, x + d = 2 ^ n → ∀ in', (∀ e y, e < 2 → y < 2 ^ n → in' (1024 * e + y) = if e = c ∧ y < x then lc_bI (decide (lc_M n g y)) else inn (1024 * e + y)) → ∀ m, d < m → wY_keep_2 post (nI c) (nI n) (nI (2 ^ n)) cn m (nI x) in' md ls sn le := by
  have h10 := lc_10 hn
  intro d
  induction d with
  | zero =>
    intro x hx in' hi m hm'
    obtain ⟨m, rfl⟩ : ∃ k, m = k + 1 := ⟨m - 1, by omega⟩
    have hok : lc_in n (lc_setc b c g) in' := by
      intro e y he hy
      rw [hi e y he hy]
      by_cases q : e = c
      · rw [if_pos ⟨q, by omega⟩, q, lc_setc_s]
      · rw [if_neg (fun z => q z.1), lc_setc_n q]
        exact hin e y he hy
    refine br_t (nI_le (by omega) (by omega)) (yw_dimension hn hc hR ?_ ?_)
    · intro y hy
      have k := hok c y hc hy
      rw [lc_setc_s] at k
      exact k
    · intro cn' ls'
      exact H cn' in' ls' hok
  | succ d ih =>
    intro x hx in' hi m hm'
    obtain ⟨m, rfl⟩ : ∃ k, m = k + 1 := ⟨m - 1, by omega⟩
    refine br_f (nI_ge (by omega) (by omega)) ⟨vp_in_nI (by omega) (by omega), ?_⟩
    rw [lc_iy]
    refine ⟨vp_in_nI (by omega) (by omega), nm_r (e' := upd in' (1024 * c + x) (lc_bI (decide (lc_M n g x)))) ?_ (nm_r (nI_1 x) (ih (x + 1) (by omega) _ ?_ m (by omega)))⟩
    · rw [nI_clamp (by omega), nI_clamp (by omega), hm x (by omega), lc_narb]
    · intro e y he hy
      by_cases q : e = c ∧ y = x
      · rw [q.1, q.2, pk_us, if_pos ⟨rfl, by omega⟩]
      · rw [pk_un (by omega), hi e y he hy]
        by_cases z : e = c ∧ y < x
        · rw [if_pos z, if_pos ⟨z.1, by omega⟩]
        · rw [if_neg z, if_neg (by omega)]
theorem yw_keep {post : Int32 → SY → Prop} {c : Nat} (hn : n ≤ 10) (hc : c < 2) (hR : lc_Red n g) (hin : lc_in n b inn) (hm : lc_md n (lc_M n g) md) (H : ∀ cn' in' ls', lc_in n (lc_setc b c g) in' → post (nI (lc_dim n g)) (nI n, nI (2 ^ n), cn', in', md, ls', sn, le)) : wpY_keep post (nI n, nI (2 ^ n), cn, inn, md, ls, sn, le) (nI c) :=
  ⟨2 ^ n + 1, yw_keep2 hn hc hR hin (fun x hx => lc_is_dec (hm x hx)) H (2 ^ n) 0 (by omega) inn (fun e y _ _ => by rw [if_neg (by omega)]) _ (by omega)⟩
theorem yw_add29 {post : Int32 → SY → Prop} {c w : Nat} (hn : n ≤ 10) (hc : c < 2) (hR : lc_Red n (b c)) (hw : w < 2 ^ n) (hin : lc_in n b inn) (hl : ∀ i, i < 2 ^ lc_dim n (b c) → ls i = nI (lc_W n (b c) i)) (H : ∀ cn' in' md' ls', lc_in n (lc_setc b c (lc_inc n (b c) w)) in' → post (nI (lc_dim n (lc_inc n (b c) w))) (nI n, nI (2 ^ n), cn', in', md', ls', sn, le)) : ∀ d i, i + d = 2 ^ lc_dim n (b c) → ∀ md', lc_md n (fun x => ∃ t, t < i ∧ (x = lc_W n (b c) t ∨ x = lc_W n (b c) t ^^^ w)) md' → ∀ m, d < m → wY_add_29 post (nI c) (nI w) (nI n) (nI (2 ^ n)) (nI (2 ^ lc_dim n (b c))) m (nI i) inn md' ls sn le := by
  have h10 := lc_10 hn
  have hd10 := lc_10 (n := lc_dim n (b c)) (Nat.le_trans (lc_dim_le n (b c)) hn)
  intro d
  induction d with
  | zero =>
    intro i hi md' hm m hm'
    obtain ⟨m, rfl⟩ : ∃ k, m = k + 1 := ⟨m - 1, by omega⟩
    refine br_t (nI_le (by omega) (by omega)) (yw_keep hn hc (lc_inc_Red hR hw) hin (lc_md_congr hm ?_) (fun cn' in' ls' h => H cn' in' md' ls' h))
    intro x hx
    rw [lc_inc_M hR hw]
    constructor
    · rintro ⟨t, _, q | q⟩
      · exact Or.inl (q ▸ lc_W_M hR n t)
      · refine Or.inr ?_
        rw [q, lc_xx]
        exact lc_W_M hR n t
    · rintro (q | q)
      · obtain ⟨t, ht, e⟩ := lc_W_sur hR n x hx q
        exact ⟨t, by omega, Or.inl e.symm⟩
      · obtain ⟨t, ht, e⟩ := lc_W_sur hR n _ (lc_M_lt hR q) q
        exact ⟨t, by omega, Or.inr (by rw [e, lc_xx])⟩
  | succ d ih =>
    intro i hi md' hm m hm'
    obtain ⟨m, rfl⟩ : ∃ k, m = k + 1 := ⟨m - 1, by omega⟩
    have h1 := lc_W_lt hR n i
    have h2 := Nat.xor_lt_two_pow h1 hw
    refine br_f (nI_ge (by omega) (by omega)) ⟨vp_in_nI (by omega) (by omega), ?_⟩
    rw [nI_clamp (n := i) (by omega), hl i (by omega), nx_xor]
    refine ⟨vp_in_nI (by omega) (by omega), nm_r (e' := upd md' (lc_W n (b c) i) 1) (by rw [nI_clamp (by omega), lc_nb1]) ⟨vp_in_nI (by omega) (by omega), vp_in_nI (by omega) (by omega), nm_r (e' := upd (upd md' (lc_W n (b c) i) 1) (lc_W n (b c) i ^^^ w) 1) (by rw [nI_clamp (by omega), lc_nb1]) (nm_r (nI_1 i) (ih (i + 1) (by omega) _ ?_ m (by omega)))⟩⟩
    refine lc_md_congr (lc_md_set (lc_md_set hm)) ?_
    intro x _
    constructor
    · rintro ((⟨t, ht, q⟩ | q) | q)
      · exact ⟨t, by omega, q⟩
      · exact ⟨i, by omega, Or.inl q⟩
      · exact ⟨i, by omega, Or.inr q⟩
    · rintro ⟨t, ht, q⟩
      by_cases e : t = i
      · subst e
        rcases q with q | q
        · exact Or.inl (Or.inr q)
        · exact Or.inr q
      · exact Or.inl (Or.inl ⟨t, by omega, q⟩)
theorem yw_add {post : Int32 → SY → Prop} {c w : Nat} (hn : n ≤ 10) (hc : c < 2) (hR : lc_Red n (b c)) (hw : w < 2 ^ n) (hin : lc_in n b inn) (H : ∀ cn' in' md' ls', lc_in n (lc_setc b c (lc_inc n (b c) w)) in' → post (nI (lc_dim n (lc_inc n (b c) w))) (nI n, nI (2 ^ n), cn', in', md', ls', sn, le)) : wpY_add post (nI n, nI (2 ^ n), cn, inn, md, ls, sn, le) (nI c) (nI w) := by
  unfold wpY_add
  try dsimp only
  refine yw_bad hc (br_t rfl (yw_noWord hn hw (br_t rfl (yw_take hn hc hR (fun x hx => hin c x hc hx) ?_))))
  intro ls' hl
  refine yw_begin hn ?_
  intro md' hm
  refine ⟨2 ^ lc_dim n (b c) + 1, yw_add29 hn hc hR hw hin hl H (2 ^ lc_dim n (b c)) 0 (by omega) md' (lc_md_congr hm ?_) _ (by omega)⟩
  intro x _
  exact ⟨fun q => q.elim, fun ⟨t, ht, _⟩ => by omega⟩
theorem yw_clear {post : Int32 → SY → Prop} {c : Nat} (hn : n ≤ 10) (hc : c < 2) (hR : lc_Red n (b c)) (hin : lc_in n b inn) (H : ∀ cn' in' md' ls', lc_in n (lc_setc b c (fun _ => 0)) in' → post (nI (lc_dim n (b c))) (nI n, nI (2 ^ n), cn', in', md', ls', sn, le)) : wpY_clear post (nI n, nI (2 ^ n), cn, inn, md, ls, sn, le) (nI c) := by
  unfold wpY_clear
  try dsimp only
  refine yw_bad hc (br_t rfl (yw_dimension hn hc hR (fun x hx => hin c x hc hx) ?_))
  intro cn' ls'
  refine yw_begin hn ?_
  intro md' hm
  refine nm_r (e' := upd md' 0 1) (by rw [lc_nb1]) ?_
  refine yw_keep hn hc (lc_Red_0 n) hin (lc_md_congr (lc_md_set hm) ?_) (fun cn2 in2 ls2 h => H cn2 in2 _ ls2 h)
  intro x _
  rw [lc_M_z]
  exact ⟨fun q => q.resolve_left (fun y => y), Or.inr⟩
theorem yw_isDual2 {post : Int32 → Prop} {x : Nat} (hn : n ≤ 10) (hR : lc_Red n g) (hx : x < 2 ^ n) (hl : ∀ i, i < 2 ^ lc_dim n g → ls i = nI (lc_W n g i)) (H : post (lc_bI (lc_id n g x))) : ∀ d i, i + d = 2 ^ lc_dim n g → (∀ t, t < i → lc_dt n (lc_W n g t) x = false) → ∀ m, d < m → wY_isDual_2 post (nI x) (nI n) fa (nI (2 ^ lc_dim n g)) inn md ls sn le m (nI i) := by
  have hd10 := lc_10 (n := lc_dim n g) (Nat.le_trans (lc_dim_le n g) hn)
  intro d
  induction d with
  | zero =>
    intro i hi h m hm
    obtain ⟨m, rfl⟩ : ∃ k, m = k + 1 := ⟨m - 1, by omega⟩
    have e : lc_id n g x = true := by
      rw [lc_id_iff hR]
      intro z hz
      obtain ⟨t, ht, e⟩ := lc_W_sur hR n z (lc_M_lt hR hz) hz
      rw [← e]
      exact h t (by omega)
    rw [e] at H
    exact br_t (nI_le (by omega) (by omega)) H
  | succ d ih =>
    intro i hi h m hm
    obtain ⟨m, rfl⟩ : ∃ k, m = k + 1 := ⟨m - 1, by omega⟩
    have hlt : x &&& lc_W n g i < 2 ^ n := Nat.lt_of_le_of_lt Nat.and_le_left hx
    have hwt := lc_wt_le n (x &&& lc_W n g i)
    refine br_f (nI_ge (by omega) (by omega)) ⟨vp_in_nI (by omega) (by omega), ?_⟩
    rw [nI_clamp (n := i) (by omega), hl i (by omega), nx_and]
    refine yw_weight hn hlt ⟨by decide, ?_⟩
    have e : nI (lc_wt n (x &&& lc_W n g i)) - nI (lc_wt n (x &&& lc_W n g i)) / 2 * 2 = lc_bI (lc_dt n (lc_W n g i) x) := by
      have k := pk_rem (a := lc_wt n (x &&& lc_W n g i)) (d := 2) (by omega) (by omega) (by omega)
      rw [lc_wt_dt, lc_dt_comm] at k
      rw [lc_bI_nI]
      exact k
    rw [e]
    cases q : lc_dt n (lc_W n g i) x
    · refine br_f (by decide) (nm_r (nI_1 i) (ih (i + 1) (by omega) ?_ m (by omega)))
      intro t ht
      by_cases y : t = i
      · rw [y]; exact q
      · exact h t (by omega)
    · have e2 : lc_id n g x = false := by
        cases y : lc_id n g x
        · rfl
        · have := (lc_id_iff hR).mp y _ (lc_W_M hR n i)
          rw [q] at this
          exact Bool.noConfusion this
      rw [e2] at H
      exact br_t rfl H
theorem yw_isDual {post : Int32 → Prop} {x : Nat} (hn : n ≤ 10) (hR : lc_Red n g) (hx : x < 2 ^ n) (hl : ∀ i, i < 2 ^ lc_dim n g → ls i = nI (lc_W n g i)) (H : post (lc_bI (lc_id n g x))) : wpY_isDual post (nI n, fa, nI (2 ^ lc_dim n g), inn, md, ls, sn, le) (nI x) :=
  ⟨2 ^ lc_dim n g + 1, yw_isDual2 hn hR hx hl H (2 ^ lc_dim n g) 0 (by omega) (fun t ht => by omega) _ (by omega)⟩
theorem yw_dualize17 {post : Int32 → SY → Prop} {c : Nat} (hn : n ≤ 10) (hc : c < 2) (hR : lc_Red n (b c)) (hin : lc_in n b inn) (hl : ∀ i, i < 2 ^ lc_dim n (b c) → ls i = nI (lc_W n (b c) i)) (H : ∀ cn' in' md' ls', lc_in n (lc_setc b c (lc_dual n (b c))) in' → post (nI (lc_dim n (lc_dual n (b c)))) (nI n, nI (2 ^ n), cn', in', md', ls', sn, le)) : ∀ d x, x + d = 2 ^ n → ∀ md', (∀ y, y < x → md' y = lc_bI (lc_id n (b c) y)) → ∀ m, d < m → wY_dualize_17 post (nI c) (nI n) (nI (2 ^ n)) (nI (2 ^ lc_dim n (b c))) m (nI x) inn md' ls sn le := by
  have h10 := lc_10 hn
  intro d
  induction d with
  | zero =>
    intro x hx md' hm m hm'
    obtain ⟨m, rfl⟩ : ∃ k, m = k + 1 := ⟨m - 1, by omega⟩
    refine br_t (nI_le (by omega) (by omega)) (yw_keep hn hc (lc_dual_Red n _) hin ?_ (fun cn' in' ls' h => H cn' in' md' ls' h))
    intro y hy
    rw [hm y (by omega)]
    have e : lc_M n (lc_dual n (b c)) y ↔ lc_id n (b c) y = true := by rw [lc_dual_M hR hy, lc_D_iff hR, lc_id_iff hR]
    cases q : lc_id n (b c) y
    · exact Or.inr ⟨fun z => by rw [e, q] at z; exact Bool.noConfusion z, rfl⟩
    · exact Or.inl ⟨e.mpr q, rfl⟩
  | succ d ih =>
    intro x hx md' hm m hm'
    obtain ⟨m, rfl⟩ : ∃ k, m = k + 1 := ⟨m - 1, by omega⟩
    refine br_f (nI_ge (by omega) (by omega)) (yw_isDual hn hR (by omega) hl ⟨vp_in_nI (by omega) (by omega), nm_r (e' := upd md' x (lc_bI (lc_id n (b c) x))) (by rw [nI_clamp (by omega), lc_narb]) (nm_r (nI_1 x) (ih (x + 1) (by omega) _ ?_ m (by omega)))⟩)
    intro y hy
    by_cases e : y = x
    · rw [e]; exact pk_us
    · rw [pk_un e]; exact hm y (by omega)
theorem yw_dualize {post : Int32 → SY → Prop} {c : Nat} (hn : n ≤ 10) (hc : c < 2) (hR : lc_Red n (b c)) (hin : lc_in n b inn) (H : ∀ cn' in' md' ls', lc_in n (lc_setc b c (lc_dual n (b c))) in' → post (nI (lc_dim n (lc_dual n (b c)))) (nI n, nI (2 ^ n), cn', in', md', ls', sn, le)) : wpY_dualize post (nI n, nI (2 ^ n), cn, inn, md, ls, sn, le) (nI c) := by
  unfold wpY_dualize
  try dsimp only
  refine yw_bad hc (br_t rfl (yw_take hn hc hR (fun x hx => hin c x hc hx) ?_))
  intro ls' hl
  exact ⟨2 ^ n + 1, yw_dualize17 hn hc hR hin hl H (2 ^ n) 0 (by omega) md (fun y hy => by omega) _ (by omega)⟩
end
end
section
/-! the reference: shortening, puncturing, exchanging, meeting; the methods that only read a code -/
section
variable {n : Nat} {b : Nat → Nat → Nat} {g : Nat → Nat} {fn fa cn : Int32} {inn md ls sn le : Nat → Int32}
theorem yw_shorten29 {post : Int32 → SY → Prop} {c p : Nat} (hn : n ≤ 10) (hc : c < 2) (hR : lc_Red n (b c)) (hp : p < n) (hin : lc_in n b inn) (hl : ∀ i, i < 2 ^ lc_dim n (b c) → ls i = nI (lc_W n (b c) i)) (H : ∀ cn' in' md' ls', lc_in n (lc_setc b c (lc_short n (b c) p)) in' → post (nI (lc_dim n (lc_short n (b c) p))) (nI n, nI (2 ^ n), cn', in', md', ls', sn, le)) : ∀ d i, i + d = 2 ^ lc_dim n (b c) → ∀ md', lc_md n (fun x => ∃ t, t < i ∧ (lc_W n (b c) t).testBit p = false ∧ x = lc_W n (b c) t) md' → ∀ m, d < m → wY_shorten_29 post (nI c) (nI p) (nI n) (nI (2 ^ n)) (nI (2 ^ lc_dim n (b c))) m (nI i) inn md' ls sn le := by
  have h10 := lc_10 hn
  have hd10 := lc_10 (n := lc_dim n (b c)) (Nat.le_trans (lc_dim_le n (b c)) hn)
  intro d
  induction d with
  | zero =>
    intro i hi md' hm m hm'
    obtain ⟨m, rfl⟩ : ∃ k, m = k + 1 := ⟨m - 1, by omega⟩
    refine br_t (nI_le (by omega) (by omega)) (yw_keep hn hc (lc_short_Red hR p) hin (lc_md_congr hm ?_) (fun cn' in' ls' h => H cn' in' md' ls' h))
    intro x hx
    rw [lc_short_M hR p]
    constructor
    · rintro ⟨t, _, q1, q2⟩
      exact ⟨q2 ▸ lc_W_M hR n t, by rw [q2]; exact q1⟩
    · rintro ⟨q1, q2⟩
      obtain ⟨t, ht, e⟩ := lc_W_sur hR n x hx q1
      exact ⟨t, by omega, by rw [e]; exact q2, e.symm⟩
  | succ d ih =>
    intro i hi md' hm m hm'
    obtain ⟨m, rfl⟩ : ∃ k, m = k + 1 := ⟨m - 1, by omega⟩
    have h1 := lc_W_lt hR n i
    refine br_f (nI_ge (by omega) (by omega)) ⟨vp_in_nI (by omega) (by omega), ?_⟩
    rw [nI_clamp (n := i) (by omega), hl i (by omega)]
    cases q : (lc_W n (b c) i).testBit p
    · refine br_t ((lc_bit0 (by omega) (by omega)).mpr q) ⟨vp_in_nI (by omega) (by omega), vp_in_nI (by omega) (by omega), nm_r (e' := upd md' (lc_W n (b c) i) 1) (by rw [nI_clamp (by omega), lc_nb1]) (nm_r (nI_1 i) (ih (i + 1) (by omega) _ ?_ m (by omega)))⟩
      refine lc_md_congr (lc_md_set hm) ?_
      intro x _
      constructor
      · rintro (⟨t, ht, y⟩ | y)
        · exact ⟨t, by omega, y⟩
        · exact ⟨i, by omega, q, y⟩
      · rintro ⟨t, ht, y1, y2⟩
        by_cases e : t = i
        · subst e
          exact Or.inr y2
        · exact Or.inl ⟨t, by omega, y1, y2⟩
    · refine br_f (fun z => ?_) (nm_r (nI_1 i) (ih (i + 1) (by omega) _ (lc_md_congr hm ?_) m (by omega)))
      · rw [lc_bit0 (by omega) (by omega), q] at z
        exact Bool.noConfusion z
      · intro x _
        constructor
        · rintro ⟨t, ht, y⟩
          exact ⟨t, by omega, y⟩
        · rintro ⟨t, ht, y1, y2⟩
          by_cases e : t = i
          · subst e
            rw [q] at y1
            exact Bool.noConfusion y1
          · exact ⟨t, by omega, y1, y2⟩
theorem yw_shorten {post : Int32 → SY → Prop} {c p : Nat} (hn : n ≤ 10) (hc : c < 2) (hR : lc_Red n (b c)) (hp : p < n) (hin : lc_in n b inn) (H : ∀ cn' in' md' ls', lc_in n (lc_setc b c (lc_short n (b c) p)) in' → post (nI (lc_dim n (lc_short n (b c) p))) (nI n, nI (2 ^ n), cn', in', md', ls', sn, le)) : wpY_shorten post (nI n, nI (2 ^ n), cn, inn, md, ls, sn, le) (nI c) (nI p) := by
  unfold wpY_shorten
  try dsimp only
  refine yw_bad hc (br_t rfl (yw_noPlace hn hp (br_t rfl (yw_take hn hc hR (fun x hx => hin c x hc hx) ?_))))
  intro ls' hl
  refine yw_begin hn ?_
  intro md' hm
  refine ⟨2 ^ lc_dim n (b c) + 1, yw_shorten29 hn hc hR hp hin hl H (2 ^ lc_dim n (b c)) 0 (by omega) md' (lc_md_congr hm ?_) _ (by omega)⟩
  intro x _
  exact ⟨fun q => q.elim, fun ⟨t, ht, _⟩ => by omega⟩
theorem yw_punc29 {post : Int32 → SY → Prop} {c p : Nat} (hn : n ≤ 10) (hc : c < 2) (hR : lc_Red n (b c)) (hp : p < n) (hin : lc_in n b inn) (hl : ∀ i, i < 2 ^ lc_dim n (b c) → ls i = nI (lc_W n (b c) i)) (H : ∀ cn' in' md' ls', lc_in n (lc_setc b c (lc_punc n (b c) p)) in' → post (nI (lc_dim n (lc_punc n (b c) p))) (nI n, nI (2 ^ n), cn', in', md', ls', sn, le)) : ∀ d i, i + d = 2 ^ lc_dim n (b c) → ∀ md', lc_md n (fun x => ∃ t, t < i ∧ x = lc_W n (b c) t &&& lc_pm p) md' → ∀ m, d < m → wY_puncture_29 post (nI c) (nI p) (nI n) (nI (2 ^ n)) (nI (2 ^ lc_dim n (b c))) m (nI i) inn md' ls sn le := by
  have h10 := lc_10 hn
  have hd10 := lc_10 (n := lc_dim n (b c)) (Nat.le_trans (lc_dim_le n (b c)) hn)
  intro d
  induction d with
  | zero =>
    intro i hi md' hm m hm'
    obtain ⟨m, rfl⟩ : ∃ k, m = k + 1 := ⟨m - 1, by omega⟩
    refine br_t (nI_le (by omega) (by omega)) (yw_keep hn hc (lc_punc_Red hR p) hin (lc_md_congr hm ?_) (fun cn' in' ls' h => H cn' in' md' ls' h))
    intro x hx
    rw [lc_punc_M hR p]
    constructor
    · rintro ⟨t, _, q⟩
      exact ⟨_, lc_W_M hR n t, q.symm⟩
    · rintro ⟨y, q1, q2⟩
      obtain ⟨t, ht, e⟩ := lc_W_sur hR n y (lc_M_lt hR q1) q1
      exact ⟨t, by omega, by rw [e]; exact q2.symm⟩
  | succ d ih =>
    intro i hi md' hm m hm'
    obtain ⟨m, rfl⟩ : ∃ k, m = k + 1 := ⟨m - 1, by omega⟩
    have h1 : lc_W n (b c) i &&& lc_pm p < 2 ^ n := Nat.lt_of_le_of_lt Nat.and_le_left (lc_W_lt hR n i)
    refine br_f (nI_ge (by omega) (by omega)) ⟨vp_in_nI (by omega) (by omega), ?_⟩
    have e : nI (lc_W n (b c) i) &&& (nI (2 ^ p) ^^^ -1) = nI (lc_W n (b c) i &&& lc_pm p) := by
      show nI (lc_W n (b c) i) &&& (nI (2 ^ p) ^^^ nI 4294967295) = _
      rw [nx_xor, nx_and]
      rfl
    rw [nI_clamp (n := i) (by omega), hl i (by omega), lc_shl (by omega), e]
    refine ⟨vp_in_nI (by omega) (by omega), nm_r (e' := upd md' (lc_W n (b c) i &&& lc_pm p) 1) (by rw [nI_clamp (by omega), lc_nb1]) (nm_r (nI_1 i) (ih (i + 1) (by omega) _ ?_ m (by omega)))⟩
    refine lc_md_congr (lc_md_set hm) ?_
    intro x _
    constructor
    · rintro (⟨t, ht, y⟩ | y)
      · exact ⟨t, by omega, y⟩
      · exact ⟨i, by omega, y⟩
    · rintro ⟨t, ht, y⟩
      by_cases e : t = i
      · subst e
        exact Or.inr y
      · exact Or.inl ⟨t, by omega, y⟩
theorem yw_puncture {post : Int32 → SY → Prop} {c p : Nat} (hn : n ≤ 10) (hc : c < 2) (hR : lc_Red n (b c)) (hp : p < n) (hin : lc_in n b inn) (H : ∀ cn' in' md' ls', lc_in n (lc_setc b c (lc_punc n (b c) p)) in' → post (nI (lc_dim n (lc_punc n (b c) p))) (nI n, nI (2 ^ n), cn', in', md', ls', sn, le)) : wpY_puncture post (nI n, nI (2 ^ n), cn, inn, md, ls, sn, le) (nI c) (nI p) := by
  unfold wpY_puncture
  try dsimp only
  refine yw_bad hc (br_t rfl (yw_noPlace hn hp (br_t rfl (yw_take hn hc hR (fun x hx => hin c x hc hx) ?_))))
  intro ls' hl
  refine yw_begin hn ?_
  intro md' hm
  refine ⟨2 ^ lc_dim n (b c) + 1, yw_punc29 hn hc hR hp hin hl H (2 ^ lc_dim n (b c)) 0 (by omega) md' (lc_md_congr hm ?_) _ (by omega)⟩
  intro x _
  exact ⟨fun q => q.elim, fun ⟨t, ht, _⟩ => by omega⟩
theorem yw_exch38 {post : Int32 → SY → Prop} {c p q : Nat} (hn : n ≤ 10) (hc : c < 2) (hR : lc_Red n (b c)) (hp : p < n) (hq : q < n) (hin : lc_in n b inn) (hl : ∀ i, i < 2 ^ lc_dim n (b c) → ls i = nI (lc_W n (b c) i)) (H : ∀ cn' in' md' ls', lc_in n (lc_setc b c (lc_exch n (b c) p q)) in' → post (nI (lc_dim n (lc_exch n (b c) p q))) (nI n, nI (2 ^ n), cn', in', md', ls', sn, le)) : ∀ d i, i + d = 2 ^ lc_dim n (b c) → ∀ md', lc_md n (fun x => ∃ t, t < i ∧ x = lc_ef p q (lc_W n (b c) t)) md' → ∀ m, d < m → wY_exchange_38 post (nI c) (nI p) (nI q) (nI n) (nI (2 ^ n)) (nI (2 ^ lc_dim n (b c))) m (nI i) inn md' ls sn le := by
  have h10 := lc_10 hn
  have hd10 := lc_10 (n := lc_dim n (b c)) (Nat.le_trans (lc_dim_le n (b c)) hn)
  intro d
  induction d with
  | zero =>
    intro i hi md' hm m hm'
    obtain ⟨m, rfl⟩ : ∃ k, m = k + 1 := ⟨m - 1, by omega⟩
    refine br_t (nI_le (by omega) (by omega)) (yw_keep hn hc (lc_exch_Red hR hp hq) hin (lc_md_congr hm ?_) (fun cn' in' ls' h => H cn' in' md' ls' h))
    intro x hx
    rw [lc_exch_M hR hp hq]
    constructor
    · rintro ⟨t, _, q⟩
      exact ⟨_, lc_W_M hR n t, q.symm⟩
    · rintro ⟨y, q1, q2⟩
      obtain ⟨t, ht, e⟩ := lc_W_sur hR n y (lc_M_lt hR q1) q1
      exact ⟨t, by omega, by rw [e]; exact q2.symm⟩
  | succ d ih =>
    intro i hi md' hm m hm'
    obtain ⟨m, rfl⟩ : ∃ k, m = k + 1 := ⟨m - 1, by omega⟩
    have h1 := lc_W_lt hR n i
    have h2 := lc_ef_lt hp hq h1
    have st : lc_md n (fun x => ∃ t, t < i + 1 ∧ x = lc_ef p q (lc_W n (b c) t)) (upd md' (lc_ef p q (lc_W n (b c) i)) 1) := by
      refine lc_md_congr (lc_md_set hm) ?_
      intro x _
      constructor
      · rintro (⟨t, ht, y⟩ | y)
        · exact ⟨t, by omega, y⟩
        · exact ⟨i, by omega, y⟩
      · rintro ⟨t, ht, y⟩
        by_cases e : t = i
        · subst e
          exact Or.inr y
        · exact Or.inl ⟨t, by omega, y⟩
    have IH := ih (i + 1) (by omega) _ st m (by omega)
    refine br_f (nI_ge (by omega) (by omega)) ⟨vp_in_nI (by omega) (by omega), ?_⟩
    rw [nI_clamp (n := i) (by omega), hl i (by omega)]
    refine nm_e (nm_e (nm_e ?_))
    by_cases t : (lc_W n (b c) i).testBit p = (lc_W n (b c) i).testBit q
    · refine br_t ((lc_beq (by omega) (by omega) (by omega)).mpr t) ⟨vp_in_nI (by omega) (by omega), nm_r (e' := upd md' (lc_ef p q (lc_W n (b c) i)) 1) ?_ (nm_r (nI_1 i) IH)⟩
      rw [nI_clamp (by omega), lc_nb1, lc_ef_same t]
    · refine br_f (fun z => t ((lc_beq (by omega) (by omega) (by omega)).mp z)) (nm_r (e' := nI (lc_ef p q (lc_W n (b c) i))) ?_ ⟨vp_in_nI (by omega) (by omega), nm_r (e' := upd md' (lc_ef p q (lc_W n (b c) i)) 1) ?_ (nm_r (nI_1 i) IH)⟩)
      · rw [lc_shl (by omega), lc_shl (by omega), nx_xor, nx_xor, lc_ef_diff t, Nat.xor_assoc]
      · rw [nI_clamp (by omega), lc_nb1]
theorem yw_exchange {post : Int32 → SY → Prop} {c p q : Nat} (hn : n ≤ 10) (hc : c < 2) (hR : lc_Red n (b c)) (hp : p < n) (hq : q < n) (hin : lc_in n b inn) (H : ∀ cn' in' md' ls', lc_in n (lc_setc b c (lc_exch n (b c) p q)) in' → post (nI (lc_dim n (lc_exch n (b c) p q))) (nI n, nI (2 ^ n), cn', in', md', ls', sn, le)) : wpY_exchange post (nI n, nI (2 ^ n), cn, inn, md, ls, sn, le) (nI c) (nI p) (nI q) := by
  unfold wpY_exchange
  try dsimp only
  refine yw_bad hc (br_t rfl (yw_noPlace hn hp (br_t rfl (yw_noPlace hn hq (br_t rfl (yw_take hn hc hR (fun x hx => hin c x hc hx) ?_))))))
  intro ls' hl
  refine yw_begin hn ?_
  intro md' hm
  refine ⟨2 ^ lc_dim n (b c) + 1, yw_exch38 hn hc hR hp hq hin hl H (2 ^ lc_dim n (b c)) 0 (by omega) md' (lc_md_congr hm ?_) _ (by omega)⟩
  intro x _
  exact ⟨fun q => q.elim, fun ⟨t, ht, _⟩ => by omega⟩
theorem yw_meet2 {post : Int32 → SY → Prop} (hn : n ≤ 10) (h0 : lc_Red n (b 0)) (h1 : lc_Red n (b 1)) (hin : lc_in n b inn) (H : ∀ cn' in' md' ls', lc_in n (lc_setc b 0 (lc_meet n (b 0) (b 1))) in' → post (nI (lc_dim n (lc_meet n (b 0) (b 1)))) (nI n, nI (2 ^ n), cn', in', md', ls', sn, le)) : ∀ d x, x + d = 2 ^ n → ∀ md', (∀ y, y < x → md' y = lc_bI (decide (lc_M n (b 0) y) && decide (lc_M n (b 1) y))) → ∀ m, d < m → wY_meet_2 post (nI n) (nI (2 ^ n)) cn m (nI x) inn md' ls sn le := by
  have h10 := lc_10 hn
  intro d
  induction d with
  | zero =>
    intro x hx md' hm m hm'
    obtain ⟨m, rfl⟩ : ∃ k, m = k + 1 := ⟨m - 1, by omega⟩
    refine br_t (nI_le (by omega) (by omega)) (yw_keep (c := 0) hn (by omega) (lc_meet_Red n _ _) hin ?_ (fun cn' in' ls' h => H cn' in' md' ls' h))
    intro y hy
    rw [hm y (by omega), ← Bool.decide_and]
    refine lc_is_congr lc_is_bI ?_
    rw [lc_meet_M h0 h1 hy]
  | succ d ih =>
    intro x hx md' hm m hm'
    obtain ⟨m, rfl⟩ : ∃ k, m = k + 1 := ⟨m - 1, by omega⟩
    have r0 : inn x = lc_bI (decide (lc_M n (b 0) x)) := by
      have k := hin 0 x (by omega) (by omega)
      rw [Nat.mul_zero, Nat.zero_add] at k
      exact k
    have r1 : inn (1024 + x) = lc_bI (decide (lc_M n (b 1) x)) := hin 1 x (by omega) (by omega)
    have ea : (1024 : Int32) + nI x = nI (1024 + x) := nI_add 1024 x
    have IH : ∀ v, v = (decide (lc_M n (b 0) x) && decide (lc_M n (b 1) x)) → wY_meet_2 post (nI n) (nI (2 ^ n)) cn m (nI (x + 1)) inn (upd md' x (lc_bI v)) ls sn le := by
      intro v hv
      refine ih (x + 1) (by omega) _ ?_ m (by omega)
      intro y hy
      by_cases e : y = x
      · rw [e, pk_us, hv]
      · rw [pk_un e]; exact hm y (by omega)
    refine br_f (nI_ge (by omega) (by omega)) ⟨vp_in_nI (by omega) (by omega), ?_⟩
    rw [ea, nI_clamp (by omega), nI_clamp (by omega), r0, r1]
    cases q0 : decide (lc_M n (b 0) x)
    · exact br_t rfl ⟨vp_in_nI (by omega) (by omega), nm_r (by rw [lc_nb0]; rfl) (nm_r (nI_1 x) (IH false (by rw [q0]; rfl)))⟩
    · refine br_f (by decide) ⟨vp_in_nI (by omega) (by omega), ?_⟩
      cases q1 : decide (lc_M n (b 1) x)
      · exact br_t rfl ⟨vp_in_nI (by omega) (by omega), nm_r (by rw [lc_nb0]; rfl) (nm_r (nI_1 x) (IH false (by rw [q0, q1]; rfl)))⟩
      · exact br_f (by decide) ⟨vp_in_nI (by omega) (by omega), nm_r (by rw [lc_nb1]; rfl) (nm_r (nI_1 x) (IH true (by rw [q0, q1]; rfl)))⟩
theorem yw_meet {post : Int32 → SY → Prop} (hn : n ≤ 10) (h0 : lc_Red n (b 0)) (h1 : lc_Red n (b 1)) (hin : lc_in n b inn) (H : ∀ cn' in' md' ls', lc_in n (lc_setc b 0 (lc_meet n (b 0) (b 1))) in' → post (nI (lc_dim n (lc_meet n (b 0) (b 1)))) (nI n, nI (2 ^ n), cn', in', md', ls', sn, le)) : wpY_meet post (nI n, nI (2 ^ n), cn, inn, md, ls, sn, le) :=
  ⟨2 ^ n + 1, yw_meet2 hn h0 h1 hin H (2 ^ n) 0 (by omega) md (fun y hy => by omega) _ (by omega)⟩
theorem yw_has {post : Int32 → Prop} {c w : Nat} (hn : n ≤ 10) (hc : c < 2) (hw : w < 2 ^ n) (hin : lc_in n b inn) (H : post (lc_bI (decide (lc_M n (b c) w)))) : wpY_has post (nI n, nI (2 ^ n), cn, inn, md, ls, sn, le) (nI c) (nI w) := by
  have h10 := lc_10 hn
  unfold wpY_has
  try dsimp only
  refine yw_bad hc (br_t rfl (yw_noWord hn hw (br_t rfl ?_)))
  rw [lc_iy, nI_clamp (by omega), hin c w hc hw]
  refine ⟨vp_in_nI (by omega) (by omega), ?_⟩
  cases q : decide (lc_M n (b c) w)
  · rw [q] at H
    exact br_t rfl H
  · rw [q] at H
    exact br_f (by decide) H
theorem yw_wordAt {post : Int32 → SY → Prop} {c i : Nat} (hn : n ≤ 10) (hc : c < 2) (hR : lc_Red n (b c)) (hin : lc_in n b inn) (hi : i < 2 ^ lc_dim n (b c)) (H : ∀ cn' ls', post (nI (lc_W n (b c) i)) (nI n, nI (2 ^ n), cn', inn, md, ls', sn, le)) : wpY_wordAt post (nI n, nI (2 ^ n), cn, inn, md, ls, sn, le) (nI c) (nI i) := by
  have hd10 := lc_10 (n := lc_dim n (b c)) (Nat.le_trans (lc_dim_le n (b c)) hn)
  unfold wpY_wordAt
  try dsimp only
  refine yw_bad hc (br_t rfl (yw_take hn hc hR (fun x hx => hin c x hc hx) ?_))
  intro ls' hl
  refine br_f (nI_pos (by omega)) (br_t (nI_lt hi (by omega)) ⟨vp_in_nI (by omega) (by omega), ?_⟩)
  try dsimp only
  rw [nI_clamp (by omega), hl i hi]
  exact H _ ls'
theorem yw_wordAtN {post : Int32 → SY → Prop} {c : Nat} {v : Int32} (hn : n ≤ 10) (hc : c < 2) (hR : lc_Red n (b c)) (hin : lc_in n b inn) (hv : v < 0 ∨ ¬ v < nI (2 ^ lc_dim n (b c))) (H : ∀ cn' ls', post (-4) (nI n, nI (2 ^ n), cn', inn, md, ls', sn, le)) : wpY_wordAt post (nI n, nI (2 ^ n), cn, inn, md, ls, sn, le) (nI c) v := by
  unfold wpY_wordAt
  try dsimp only
  refine yw_bad hc (br_t rfl (yw_take hn hc hR (fun x hx => hin c x hc hx) ?_))
  intro ls' hl
  by_cases h : v < 0
  · exact br_t h (H _ ls')
  · exact br_f h (br_f (hv.resolve_left h) (H _ ls'))
theorem yw_weights20 {post : Int32 → SY → Prop} {v : Int32} (hn : n ≤ 10) (hR : lc_Red n g) (hl : ∀ i, i < 2 ^ lc_dim n g → ls i = nI (lc_W n g i)) (H : post (nI (lc_cnt (2 ^ lc_dim n g) (fun t => decide (nI (lc_wt n (lc_W n g t)) = v)))) (nI n, fa, nI (2 ^ lc_dim n g), inn, md, ls, sn, le)) : ∀ d i, i + d = 2 ^ lc_dim n g → ∀ m, d < m → wY_weights_20 post v (nI n) fa (nI (2 ^ lc_dim n g)) inn md ls sn le m (nI (lc_cnt i (fun t => decide (nI (lc_wt n (lc_W n g t)) = v)))) (nI i) := by
  have hd10 := lc_10 (n := lc_dim n g) (Nat.le_trans (lc_dim_le n g) hn)
  intro d
  induction d with
  | zero =>
    intro i hi m hm
    obtain ⟨m, rfl⟩ : ∃ k, m = k + 1 := ⟨m - 1, by omega⟩
    have e : i = 2 ^ lc_dim n g := by omega
    subst e
    exact br_t (nI_le (Nat.le_refl _) (by omega)) H
  | succ d ih =>
    intro i hi m hm
    obtain ⟨m, rfl⟩ : ∃ k, m = k + 1 := ⟨m - 1, by omega⟩
    have IH := ih (i + 1) (by omega) m (by omega)
    rw [lc_cnt] at IH
    refine br_f (nI_ge (by omega) (by omega)) ⟨vp_in_nI (by omega) (by omega), ?_⟩
    rw [nI_clamp (n := i) (by omega), hl i (by omega)]
    refine yw_weight hn (lc_W_lt hR n i) ?_
    by_cases q : nI (lc_wt n (lc_W n g i)) = v
    · rw [decide_eq_true q] at IH
      exact br_t q (nm_r (nI_1 _) (nm_r (nI_1 i) IH))
    · rw [decide_eq_false q] at IH
      exact br_f q (nm_r (nI_1 i) IH)
theorem yw_weights {post : Int32 → SY → Prop} {c : Nat} {v : Int32} (hn : n ≤ 10) (hc : c < 2) (hR : lc_Red n (b c)) (hin : lc_in n b inn) (H : ∀ cn' ls', post (nI (lc_cnt (2 ^ lc_dim n (b c)) (fun t => decide (nI (lc_wt n (lc_W n (b c) t)) = v)))) (nI n, nI (2 ^ n), cn', inn, md, ls', sn, le)) : wpY_weights post (nI n, nI (2 ^ n), cn, inn, md, ls, sn, le) (nI c) v := by
  unfold wpY_weights
  try dsimp only
  refine yw_bad hc (br_t rfl (yw_take hn hc hR (fun x hx => hin c x hc hx) ?_))
  intro ls' hl
  exact ⟨2 ^ lc_dim n (b c) + 1, yw_weights20 hn hR hl (H _ ls') (2 ^ lc_dim n (b c)) 0 (by omega) _ (by omega)⟩
theorem yw_dw20 {post : Int32 → SY → Prop} {v : Int32} (hn : n ≤ 10) (hR : lc_Red n g) (hl : ∀ i, i < 2 ^ lc_dim n g → ls i = nI (lc_W n g i)) (H : post (nI (lc_cnt (2 ^ n) (fun x => decide (nI (lc_wt n x) = v) && lc_id n g x))) (nI n, nI (2 ^ n), nI (2 ^ lc_dim n g), inn, md, ls, sn, le)) : ∀ d i, i + d = 2 ^ n → ∀ m, d < m → wY_dualWeights_20 post v (nI n) (nI (2 ^ n)) (nI (2 ^ lc_dim n g)) inn md ls sn le m (nI (lc_cnt i (fun x => decide (nI (lc_wt n x) = v) && lc_id n g x))) (nI i) := by
  have h10 := lc_10 hn
  intro d
  induction d with
  | zero =>
    intro i hi m hm
    obtain ⟨m, rfl⟩ : ∃ k, m = k + 1 := ⟨m - 1, by omega⟩
    have e : i = 2 ^ n := by omega
    subst e
    exact br_t (nI_le (Nat.le_refl _) (by omega)) H
  | succ d ih =>
    intro i hi m hm
    obtain ⟨m, rfl⟩ : ∃ k, m = k + 1 := ⟨m - 1, by omega⟩
    have IH := ih (i + 1) (by omega) m (by omega)
    rw [lc_cnt] at IH
    refine br_f (nI_ge (by omega) (by omega)) (yw_weight hn (by omega) ?_)
    by_cases q : nI (lc_wt n i) = v
    · rw [decide_eq_true q, Bool.true_and] at IH
      refine br_t q (yw_isDual hn hR (by omega) hl ?_)
      cases y : lc_id n g i
      · rw [y] at IH
        exact br_t rfl (nm_r (nI_1 i) IH)
      · rw [y] at IH
        exact br_f (by decide) (nm_r (nI_1 _) (nm_r (nI_1 i) IH))
    · rw [decide_eq_false q, Bool.false_and] at IH
      exact br_f q (nm_r (nI_1 i) IH)
theorem yw_dualWeights {post : Int32 → SY → Prop} {c : Nat} {v : Int32} (hn : n ≤ 10) (hc : c < 2) (hR : lc_Red n (b c)) (hin : lc_in n b inn) (H : ∀ cn' ls', post (nI (lc_cnt (2 ^ n) (fun x => decide (nI (lc_wt n x) = v) && lc_id n (b c) x))) (nI n, nI (2 ^ n), cn', inn, md, ls', sn, le)) : wpY_dualWeights post (nI n, nI (2 ^ n), cn, inn, md, ls, sn, le) (nI c) v := by
  unfold wpY_dualWeights
  try dsimp only
  refine yw_bad hc (br_t rfl (yw_take hn hc hR (fun x hx => hin c x hc hx) ?_))
  intro ls' hl
  exact ⟨2 ^ n + 1, yw_dw20 hn hR hl (H _ ls') (2 ^ n) 0 (by omega) _ (by omega)⟩
def lc_lws (n : Nat) (g : Nat → Nat) (i : Nat) (v : Int32) : Prop := (v = -4 ∧ i ≤ 1) ∨ ∃ w, w ≤ 10 ∧ v = nI w ∧ (∃ t, 1 ≤ t ∧ t < i ∧ lc_wt n (lc_W n g t) = w) ∧ ∀ t, 1 ≤ t → t < i → w ≤ lc_wt n (lc_W n g t)
theorem yw_lw20 {post : Int32 → SY → Prop} (hn : n ≤ 10) (hR : lc_Red n g) (hl : ∀ i, i < 2 ^ lc_dim n g → ls i = nI (lc_W n g i)) (H : ∀ v, lc_lws n g (2 ^ lc_dim n g) v → post v (nI n, fa, nI (2 ^ lc_dim n g), inn, md, ls, sn, le)) : ∀ d i, i + d = 2 ^ lc_dim n g → 1 ≤ i → ∀ v, lc_lws n g i v → ∀ m, d < m → wY_leastWeight_20 post (nI n) fa (nI (2 ^ lc_dim n g)) inn md ls sn le m v (nI i) := by
  have hd10 := lc_10 (n := lc_dim n g) (Nat.le_trans (lc_dim_le n g) hn)
  intro d
  induction d with
  | zero =>
    intro i hi h1 v hv m hm
    obtain ⟨m, rfl⟩ : ∃ k, m = k + 1 := ⟨m - 1, by omega⟩
    have e : i = 2 ^ lc_dim n g := by omega
    subst e
    exact br_t (nI_le (Nat.le_refl _) (by omega)) (H v hv)
  | succ d ih =>
    intro i hi h1 v hv m hm
    obtain ⟨m, rfl⟩ : ∃ k, m = k + 1 := ⟨m - 1, by omega⟩
    have IH := fun v hv => ih (i + 1) (by omega) (by omega) v hv m (by omega)
    have hwt := lc_wt_le n (lc_W n g i)
    refine br_f (nI_ge (by omega) (by omega)) ⟨vp_in_nI (by omega) (by omega), ?_⟩
    rw [nI_clamp (n := i) (by omega), hl i (by omega)]
    refine yw_weight hn (lc_W_lt hR n i) ?_
    rcases hv with ⟨e, hi1⟩ | ⟨w, hw, e, ⟨t, t1, t2, t3⟩, hall⟩
    · refine br_t (by rw [e]; decide) (nm_r (nI_1 i) (IH _ ?_))
      refine Or.inr ⟨_, by omega, rfl, ⟨i, by omega, by omega, rfl⟩, ?_⟩
      intro t h1 h2
      have : t = i := by omega
      rw [this]; exact Nat.le_refl _
    · refine br_f (by rw [e]; exact nI_pos (by omega)) ?_
      by_cases q : w ≤ lc_wt n (lc_W n g i)
      · refine br_t (by rw [e]; exact nI_le q (by omega)) (nm_r (nI_1 i) (IH _ ?_))
        refine Or.inr ⟨w, hw, e, ⟨t, t1, by omega, t3⟩, ?_⟩
        intro s h1 h2
        by_cases y : s = i
        · rw [y]; exact q
        · exact hall s h1 (by omega)
      · refine br_f (by rw [e]; exact nI_ge (by omega) (by omega)) (nm_r (nI_1 i) (IH _ ?_))
        refine Or.inr ⟨_, by omega, rfl, ⟨i, by omega, by omega, rfl⟩, ?_⟩
        intro s h1 h2
        by_cases y : s = i
        · rw [y]; exact Nat.le_refl _
        · have := hall s h1 (by omega)
          omega
theorem yw_least {post : Int32 → SY → Prop} {c : Nat} (hn : n ≤ 10) (hc : c < 2) (hR : lc_Red n (b c)) (hin : lc_in n b inn) (H : ∀ v cn' ls', lc_lws n (b c) (2 ^ lc_dim n (b c)) v → post v (nI n, nI (2 ^ n), cn', inn, md, ls', sn, le)) : wpY_leastWeight post (nI n, nI (2 ^ n), cn, inn, md, ls, sn, le) (nI c) := by
  unfold wpY_leastWeight
  try dsimp only
  refine yw_bad hc (br_t rfl (yw_take hn hc hR (fun x hx => hin c x hc hx) ?_))
  intro ls' hl
  have hp := Nat.two_pow_pos (lc_dim n (b c))
  exact ⟨2 ^ lc_dim n (b c) + 1, yw_lw20 hn hR hl (fun v h => H v _ ls' h) (2 ^ lc_dim n (b c) - 1) 1 (by omega) (by omega) (-4) (Or.inl ⟨rfl, by omega⟩) _ (by omega)⟩
def lc_nrs (n : Nat) (g : Nat → Nat) (w i : Nat) (best least : Int32) : Prop := (i = 0 ∧ best = 0 ∧ least = 11) ∨ ∃ t, t < i ∧ best = nI (lc_W n g t) ∧ least = nI (lc_wt n (lc_W n g t ^^^ w)) ∧ ∀ s, s < i → lc_wt n (lc_W n g t ^^^ w) < lc_wt n (lc_W n g s ^^^ w) ∨ (lc_wt n (lc_W n g t ^^^ w) = lc_wt n (lc_W n g s ^^^ w) ∧ t ≤ s)
theorem yw_near32 {post : Int32 → SY → Prop} {w : Nat} (hn : n ≤ 10) (hR : lc_Red n g) (hw : w < 2 ^ n) (hl : ∀ i, i < 2 ^ lc_dim n g → ls i = nI (lc_W n g i)) (H : ∀ z, lc_near n g w z → post (nI z) (nI n, fa, nI (2 ^ lc_dim n g), inn, md, ls, sn, le)) : ∀ d i, i + d = 2 ^ lc_dim n g → ∀ best least, lc_nrs n g w i best least → ∀ m, d < m → wY_nearest_32 post (nI w) (nI n) fa (nI (2 ^ lc_dim n g)) inn md ls sn le m best least (nI i) := by
  have hd10 := lc_10 (n := lc_dim n g) (Nat.le_trans (lc_dim_le n g) hn)
  intro d
  induction d with
  | zero =>
    intro i hi best least hv m hm
    obtain ⟨m, rfl⟩ : ∃ k, m = k + 1 := ⟨m - 1, by omega⟩
    refine br_t (nI_le (by omega) (by omega)) ?_
    rcases hv with ⟨e, _⟩ | ⟨t, ht, e1, _, hall⟩
    · have := Nat.two_pow_pos (lc_dim n g)
      omega
    · rw [e1]
      apply H
      refine ⟨lc_W_M hR n t, ?_⟩
      intro z2 h2
      obtain ⟨s, hs, e⟩ := lc_W_sur hR n z2 (lc_M_lt hR h2) h2
      rw [← e]
      rcases hall s (by omega) with q | ⟨q1, q2⟩
      · exact Or.inl q
      · refine Or.inr ⟨q1, ?_⟩
        by_cases y : t = s
        · rw [y]; exact Nat.le_refl _
        · exact Nat.le_of_lt (lc_W_mono hR n t s (by omega) hs)
  | succ d ih =>
    intro i hi best least hv m hm
    obtain ⟨m, rfl⟩ : ∃ k, m = k + 1 := ⟨m - 1, by omega⟩
    have IH := fun best least hv => ih (i + 1) (by omega) best least hv m (by omega)
    have hwt := lc_wt_le n (lc_W n g i ^^^ w)
    refine br_f (nI_ge (by omega) (by omega)) ⟨vp_in_nI (by omega) (by omega), ?_⟩
    rw [nI_clamp (n := i) (by omega), hl i (by omega), nx_xor]
    refine yw_weight hn (Nat.xor_lt_two_pow (lc_W_lt hR n i) hw) ?_
    rcases hv with ⟨e, e1, e2⟩ | ⟨t, ht, e1, e2, hall⟩
    · refine br_f (by rw [e2]; exact nI_ge (b := 11) (by omega) (by omega)) ⟨vp_in_nI (by omega) (by omega), nm_e (nm_r (nI_1 i) (IH _ _ ?_))⟩
      refine Or.inr ⟨i, by omega, rfl, rfl, ?_⟩
      intro s hs
      have : s = i := by omega
      rw [this]
      exact Or.inr ⟨rfl, Nat.le_refl _⟩
    · have hwt2 := lc_wt_le n (lc_W n g t ^^^ w)
      by_cases q : lc_wt n (lc_W n g t ^^^ w) ≤ lc_wt n (lc_W n g i ^^^ w)
      · refine br_t (by rw [e2]; exact nI_le q (by omega)) (nm_r (nI_1 i) (IH _ _ ?_))
        refine Or.inr ⟨t, by omega, e1, e2, ?_⟩
        intro s hs
        by_cases y : s = i
        · rw [y]; omega
        · exact hall s (by omega)
      · refine br_f (by rw [e2]; exact nI_ge (by omega) (by omega)) ⟨vp_in_nI (by omega) (by omega), nm_e (nm_r (nI_1 i) (IH _ _ ?_))⟩
        refine Or.inr ⟨i, by omega, rfl, rfl, ?_⟩
        intro s hs
        by_cases y : s = i
        · rw [y]; exact Or.inr ⟨rfl, Nat.le_refl _⟩
        · have := hall s (by omega)
          omega
theorem yw_nearest {post : Int32 → SY → Prop} {c w : Nat} (hn : n ≤ 10) (hc : c < 2) (hR : lc_Red n (b c)) (hin : lc_in n b inn) (hw : w < 2 ^ n) (H : ∀ z cn' ls', lc_near n (b c) w z → post (nI z) (nI n, nI (2 ^ n), cn', inn, md, ls', sn, le)) : wpY_nearest post (nI n, nI (2 ^ n), cn, inn, md, ls, sn, le) (nI c) (nI w) := by
  unfold wpY_nearest
  try dsimp only
  refine yw_bad hc (br_t rfl (yw_noWord hn hw (br_t rfl (yw_take hn hc hR (fun x hx => hin c x hc hx) ?_))))
  intro ls' hl
  exact ⟨2 ^ lc_dim n (b c) + 1, yw_near32 hn hR hw hl (fun z h => H z _ ls' h) (2 ^ lc_dim n (b c)) 0 (by omega) 0 11 (Or.inl ⟨rfl, rfl, rfl⟩) _ (by omega)⟩
end
end
section
/-! the reference: cosets, information sets, orthogonality; both constructors -/
def lc_ob (n : Nat) (b : Nat → Nat → Nat) : Bool := lc_al 100 (fun k => !lc_dt n (b 0 (k / 10)) (b 1 (k % 10)))
theorem lc_ob_iff {n : Nat} {b : Nat → Nat → Nat} (hn : n ≤ 10) (h0 : lc_Red n (b 0)) (h1 : lc_Red n (b 1)) : lc_ob n b = true ↔ ∀ x, lc_M n (b 1) x → lc_id n (b 0) x = true := by
  rw [lc_ob, lc_al_iff]
  constructor
  · intro k x hx
    have k1 : ∀ i j, lc_dt n (b 0 i) (b 1 j) = false := by
      intro i j
      rcases Nat.lt_or_ge i 10 with ci | ci
      · rcases Nat.lt_or_ge j 10 with cj | cj
        · have e := k (10 * i + j) (by omega)
          rw [show (10 * i + j) / 10 = i by omega, show (10 * i + j) % 10 = j by omega, Bool.not_eq_true'] at e
          exact e
        · rw [h1.1 j (by omega), lc_dt_comm, lc_dt_0]
      · rw [h0.1 i (by omega), lc_dt_0]
    rw [lc_id_iff h0]
    intro z hz
    rw [lc_dt_comm]
    refine (lc_D_iff h1).mp ?_ x hx
    intro j
    rw [lc_dt_comm]
    exact (lc_D_iff h0).mp (fun i => k1 i j) z hz
  · intro k i _
    have e := (lc_id_iff h0).mp (k _ (lc_Red_b h1 (i % 10))) _ (lc_Red_b h0 (i / 10))
    rw [e]
    rfl
def lc_lst (F : Nat → Nat) : Nat → Nat
  | 0 => 0
  | K + 1 => if F K = 0 then lc_lst F K else K
def lc_lc (n : Nat) (g : Nat → Nat) (j : Nat) : Nat := lc_cnt (2 ^ n) (fun x => decide (lc_rs n g x = x) && decide (lc_mw n g x = j))
section
variable {n : Nat} {b : Nat → Nat → Nat} {g : Nat → Nat} {fn fa cn : Int32} {inn md ls sn le : Nat → Int32}
theorem lc_mn_bd (f : Nat → Nat) (hf : ∀ i, f i ≤ 11) (K : Nat) : lc_mn f K ≤ 11 := by
  rcases lc_mn_at f K with h | ⟨i, _, h⟩
  · omega
  · rw [h]; exact hf i
theorem yw_fl68 {post : SY → Prop} {J : Int32 → (Nat → Int32) → (Nat → Int32) → (Nat → Int32) → (Nat → Int32) → (Nat → Int32) → Prop} {x : Nat} (hn : n ≤ 10) (hR : lc_Red n g) (hx : x < 2 ^ n) (hl : ∀ i, i < 2 ^ lc_dim n g → ls i = nI (lc_W n g i)) (H : ∀ sn', lc_md n (fun y => lc_rs n g y < x ∨ ∃ t, t < 2 ^ lc_dim n g ∧ y = x ^^^ lc_W n g t) sn' → J (nI (x + 1)) inn md ls sn' (upd le (lc_mw n g x) (le (lc_mw n g x) + 1))) : ∀ d i, i + d = 2 ^ lc_dim n g → ∀ sn', lc_md n (fun y => lc_rs n g y < x ∨ ∃ t, t < i ∧ y = x ^^^ lc_W n g t) sn' → ∀ m, d < m → wY_findLeaders_68 post J (nI x) (nI n) fa (nI (2 ^ lc_dim n g)) m (nI (lc_mn (fun t => lc_wt n (x ^^^ lc_W n g t)) i)) (nI i) inn md ls sn' le := by
  have h10 := lc_10 hn
  have hd10 := lc_10 (n := lc_dim n g) (Nat.le_trans (lc_dim_le n g) hn)
  intro d
  induction d with
  | zero =>
    intro i hi sn' hs m hm
    obtain ⟨m, rfl⟩ : ∃ k, m = k + 1 := ⟨m - 1, by omega⟩
    have e : i = 2 ^ lc_dim n g := by omega
    subst e
    have hmw : lc_mw n g x ≤ n := lc_mw_bd hR
    have em : lc_mn (fun t => lc_wt n (x ^^^ lc_W n g t)) (2 ^ lc_dim n g) = lc_mw n g x := rfl
    rw [em]
    exact br_t (nI_le (Nat.le_refl _) (by omega)) ⟨vp_in_nI (by omega) (by omega), vp_in_nI (by omega) (by omega), nm_r (by rw [nI_clamp (by omega)]) (nm_r (nI_1 x) (H sn' hs))⟩
  | succ d ih =>
    intro i hi sn' hs m hm
    obtain ⟨m, rfl⟩ : ∃ k, m = k + 1 := ⟨m - 1, by omega⟩
    have hlt := Nat.xor_lt_two_pow hx (lc_W_lt hR n i)
    have hwt := lc_wt_le n (x ^^^ lc_W n g i)
    have hmb := lc_mn_bd (fun t => lc_wt n (x ^^^ lc_W n g t)) (fun t => Nat.le_trans (lc_wt_le n _) (by omega)) i
    have st : lc_md n (fun y => lc_rs n g y < x ∨ ∃ t, t < i + 1 ∧ y = x ^^^ lc_W n g t) (upd sn' (x ^^^ lc_W n g i) 1) := by
      refine lc_md_congr (lc_md_set hs) ?_
      intro y _
      constructor
      · rintro ((q | ⟨t, ht, q⟩) | q)
        · exact Or.inl q
        · exact Or.inr ⟨t, by omega, q⟩
        · exact Or.inr ⟨i, by omega, q⟩
      · rintro (q | ⟨t, ht, q⟩)
        · exact Or.inl (Or.inl q)
        · by_cases z : t = i
          · subst z
            exact Or.inr q
          · exact Or.inl (Or.inr ⟨t, by omega, q⟩)
    have IH := ih (i + 1) (by omega) _ st m (by omega)
    rw [lc_mn] at IH
    refine br_f (nI_ge (by omega) (by omega)) ⟨vp_in_nI (by omega) (by omega), ?_⟩
    rw [nI_clamp (n := i) (by omega), hl i (by omega)]
    refine nm_r (e' := nI (x ^^^ lc_W n g i)) (nx_xor _ _) (yw_weight hn hlt ⟨vp_in_nI (by omega) (by omega), nm_r (e' := upd sn' (x ^^^ lc_W n g i) 1) (by rw [nI_clamp (by omega), lc_nb1]) ?_⟩)
    by_cases q : lc_mn (fun t => lc_wt n (x ^^^ lc_W n g t)) i ≤ lc_wt n (x ^^^ lc_W n g i)
    · rw [if_pos q] at IH
      exact br_t (nI_le q (by omega)) (nm_r (nI_1 i) IH)
    · rw [if_neg q] at IH
      exact br_f (nI_ge (by omega) (by omega)) (nm_r (nI_1 i) IH)
theorem yw_fl46 {post : SY → Prop} (hn : n ≤ 10) (hR : lc_Red n g) (hl : ∀ i, i < 2 ^ lc_dim n g → ls i = nI (lc_W n g i)) (H : ∀ sn' le', (∀ j, j < 11 → le' j = nI (lc_lc n g j)) → post (nI n, nI (2 ^ n), nI (2 ^ lc_dim n g), inn, md, ls, sn', le')) : ∀ d x, x + d = 2 ^ n → ∀ sn' le', lc_md n (fun y => lc_rs n g y < x) sn' → (∀ j, j < 11 → le' j = nI (lc_cnt x (fun x => decide (lc_rs n g x = x) && decide (lc_mw n g x = j)))) → ∀ m, d < m → wY_findLeaders_46 post (nI n) (nI (2 ^ n)) (nI (2 ^ lc_dim n g)) m (nI x) inn md ls sn' le' := by
  have h10 := lc_10 hn
  intro d
  induction d with
  | zero =>
    intro x hx sn' le' hs he m hm
    obtain ⟨m, rfl⟩ : ∃ k, m = k + 1 := ⟨m - 1, by omega⟩
    have e : x = 2 ^ n := by omega
    subst e
    exact br_t (nI_le (Nat.le_refl _) (by omega)) (H sn' le' he)
  | succ d ih =>
    intro x hx sn' le' hs he m hm
    obtain ⟨m, rfl⟩ : ∃ k, m = k + 1 := ⟨m - 1, by omega⟩
    refine br_f (nI_ge (by omega) (by omega)) ⟨vp_in_nI (by omega) (by omega), ?_⟩
    rw [nI_clamp (n := x) (by omega)]
    have hle := lc_rs_le hR x
    rcases hs x (by omega) with ⟨q, v⟩ | ⟨q, v⟩
    · rw [v]
      have hne : ¬ lc_rs n g x = x := by omega
      refine br_f (by decide) (nm_r (nI_1 x) (ih (x + 1) (by omega) sn' le' (lc_md_congr hs ?_) ?_ m (by omega)))
      · intro y _
        have : lc_rs n g y ≠ x := by
          intro z
          apply hne
          rw [← z, lc_rs_rs hR]
        omega
      · intro j hj
        rw [he j hj, lc_cnt, decide_eq_false hne, Bool.false_and]
        rfl
    · rw [v]
      have heq : lc_rs n g x = x := by omega
      refine br_t rfl ⟨2 ^ lc_dim n g + 1, ?_⟩
      refine yw_fl68 (post := post) hn hR (by omega) hl ?_ (2 ^ lc_dim n g) 0 (by omega) sn' (lc_md_congr hs ?_) _ (by omega)
      · intro sn2 hs2
        refine ih (x + 1) (by omega) sn2 _ (lc_md_congr hs2 ?_) ?_ m (by omega)
        · intro y hy
          constructor
          · rintro (z | ⟨t, _, z⟩)
            · omega
            · have k : lc_rs n g y = x := by
                rw [z, lc_rs_xor, lc_rs_M.mpr (lc_W_M hR n t), Nat.xor_zero, heq]
              omega
          · intro z
            rcases Nat.lt_or_ge (lc_rs n g y) x with u | u
            · exact Or.inl u
            · have k : lc_rs n g x = lc_rs n g y := by omega
              have hM := lc_rs_eq.mp k
              obtain ⟨t, ht, e⟩ := lc_W_sur hR n _ (lc_M_lt hR hM) hM
              exact Or.inr ⟨t, ht, by rw [e, lc_xl]⟩
        · intro j hj
          rw [lc_cnt, decide_eq_true heq, Bool.true_and]
          by_cases e : j = lc_mw n g x
          · subst e
            rw [pk_us, he _ hj, decide_eq_true rfl]
            exact nI_1 _
          · rw [pk_un e, he j hj, decide_eq_false (fun z => e z.symm)]
            rfl
      · intro y _
        constructor
        · exact Or.inl
        · rintro (z | ⟨t, ht, _⟩)
          · exact z
          · omega
theorem yw_fl23 {post : SY → Prop} (hn : n ≤ 10) (hR : lc_Red n g) (hl : ∀ i, i < 2 ^ lc_dim n g → ls i = nI (lc_W n g i)) (hle : ∀ j, j < 11 → le j = 0) (H : ∀ sn' le', (∀ j, j < 11 → le' j = nI (lc_lc n g j)) → post (nI n, nI (2 ^ n), nI (2 ^ lc_dim n g), inn, md, ls, sn', le')) : ∀ d x, x + d = 2 ^ n → ∀ sn', (∀ y, y < x → sn' y = 0) → ∀ m, d < m → wY_findLeaders_23 post (nI n) (nI (2 ^ n)) (nI (2 ^ lc_dim n g)) m (nI x) inn md ls sn' le := by
  have h10 := lc_10 hn
  intro d
  induction d with
  | zero =>
    intro x hx sn' hs m hm
    obtain ⟨m, rfl⟩ : ∃ k, m = k + 1 := ⟨m - 1, by omega⟩
    refine br_t (nI_le (by omega) (by omega)) ⟨2 ^ n + 1, ?_⟩
    refine yw_fl46 hn hR hl H (2 ^ n) 0 (by omega) sn' le ?_ (fun j hj => hle j hj) _ (by omega)
    intro y hy
    exact Or.inr ⟨by omega, hs y (by omega)⟩
  | succ d ih =>
    intro x hx sn' hs m hm
    obtain ⟨m, rfl⟩ : ∃ k, m = k + 1 := ⟨m - 1, by omega⟩
    refine br_f (nI_ge (by omega) (by omega)) ⟨vp_in_nI (by omega) (by omega), nm_r (e' := upd sn' x 0) (by rw [nI_clamp (by omega), lc_nb0]) (nm_r (nI_1 x) (ih (x + 1) (by omega) _ ?_ m (by omega)))⟩
    intro y hy
    by_cases e : y = x
    · rw [e]; exact pk_us
    · rw [pk_un e]; exact hs y (by omega)
theorem yw_fl2 {post : SY → Prop} (hn : n ≤ 10) (hR : lc_Red n g) (hl : ∀ i, i < 2 ^ lc_dim n g → ls i = nI (lc_W n g i)) (H : ∀ sn' le', (∀ j, j < 11 → le' j = nI (lc_lc n g j)) → post (nI n, nI (2 ^ n), nI (2 ^ lc_dim n g), inn, md, ls, sn', le')) : ∀ d i, i + d = 11 → ∀ le', (∀ j, j < i → le' j = 0) → ∀ m, d < m → wY_findLeaders_2 post (nI n) (nI (2 ^ n)) (nI (2 ^ lc_dim n g)) m (nI i) inn md ls sn le' := by
  intro d
  induction d with
  | zero =>
    intro i hi le' he m hm
    obtain ⟨m, rfl⟩ : ∃ k, m = k + 1 := ⟨m - 1, by omega⟩
    exact br_t (nI_lt (a := 10) (by omega) (by omega)) ⟨2 ^ n + 1, yw_fl23 hn hR hl (fun j hj => he j (by omega)) H (2 ^ n) 0 (by omega) sn (fun y hy => by omega) _ (by omega)⟩
  | succ d ih =>
    intro i hi le' he m hm
    obtain ⟨m, rfl⟩ : ∃ k, m = k + 1 := ⟨m - 1, by omega⟩
    refine br_f (nI_nlt (a := 10) (by omega) (by omega)) ⟨vp_in_nI (by omega) (by omega), nm_r (e' := upd le' i 0) (by rw [nI_clamp (by omega)]) (nm_r (nI_1 i) (ih (i + 1) (by omega) _ ?_ m (by omega)))⟩
    intro j hj
    by_cases e : j = i
    · rw [e]; exact pk_us
    · rw [pk_un e]; exact he j (by omega)
theorem yw_leaders {post : SY → Prop} (hn : n ≤ 10) (hR : lc_Red n g) (hl : ∀ i, i < 2 ^ lc_dim n g → ls i = nI (lc_W n g i)) (H : ∀ sn' le', (∀ j, j < 11 → le' j = nI (lc_lc n g j)) → post (nI n, nI (2 ^ n), nI (2 ^ lc_dim n g), inn, md, ls, sn', le')) : wpY_findLeaders post (nI n, nI (2 ^ n), nI (2 ^ lc_dim n g), inn, md, ls, sn, le) :=
  ⟨12, yw_fl2 hn hR hl H 11 0 (by omega) le (fun j hj => by omega) 12 (by omega)⟩
theorem yw_cosets {post : Int32 → SY → Prop} {c w : Nat} (hn : n ≤ 10) (hc : c < 2) (hR : lc_Red n (b c)) (hin : lc_in n b inn) (hw : w ≤ n) (H : ∀ cn' ls' sn' le', post (nI (lc_lc n (b c) w)) (nI n, nI (2 ^ n), cn', inn, md, ls', sn', le')) : wpY_cosets post (nI n, nI (2 ^ n), cn, inn, md, ls, sn, le) (nI c) (nI w) := by
  unfold wpY_cosets
  try dsimp only
  refine yw_bad hc (br_t rfl (yw_take hn hc hR (fun x hx => hin c x hc hx) ?_))
  intro ls' hl
  refine yw_leaders hn hR hl ?_
  intro sn' le' he
  refine br_f (nI_pos (by omega)) (br_t (nI_le hw (by omega)) ⟨vp_in_nI (by omega) (by omega), ?_⟩)
  try dsimp only
  rw [nI_clamp (by omega), he w (by omega)]
  exact H _ ls' sn' le'
theorem yw_cosetsN {post : Int32 → SY → Prop} {c : Nat} {v : Int32} (hn : n ≤ 10) (hc : c < 2) (hR : lc_Red n (b c)) (hin : lc_in n b inn) (hv : v < 0 ∨ ¬ v ≤ nI n) (H : ∀ cn' ls' sn' le', post 0 (nI n, nI (2 ^ n), cn', inn, md, ls', sn', le')) : wpY_cosets post (nI n, nI (2 ^ n), cn, inn, md, ls, sn, le) (nI c) v := by
  unfold wpY_cosets
  try dsimp only
  refine yw_bad hc (br_t rfl (yw_take hn hc hR (fun x hx => hin c x hc hx) ?_))
  intro ls' hl
  refine yw_leaders hn hR hl ?_
  intro sn' le' he
  by_cases h : v < 0
  · exact br_t h (H _ ls' sn' le')
  · exact br_f h (br_f (hv.resolve_left h) (H _ ls' sn' le'))
theorem yw_radius23 {post : Int32 → SY → Prop} {F : Nat → Nat} (hn : n ≤ 10) (hF : ∀ j, F j < 2 ^ 31) (he : ∀ j, j < 11 → le j = nI (F j)) (H : post (nI (lc_lst F (n + 1))) (nI n, fa, cn, inn, md, ls, sn, le)) : ∀ d i, i + d = n + 1 → ∀ m, d < m → wY_radius_23 post (nI n) fa cn inn md ls sn le m (nI (lc_lst F i)) (nI i) := by
  intro d
  induction d with
  | zero =>
    intro i hi m hm
    obtain ⟨m, rfl⟩ : ∃ k, m = k + 1 := ⟨m - 1, by omega⟩
    have e : i = n + 1 := by omega
    subst e
    exact br_t (nI_lt (by omega) (by omega)) H
  | succ d ih =>
    intro i hi m hm
    obtain ⟨m, rfl⟩ : ∃ k, m = k + 1 := ⟨m - 1, by omega⟩
    have IH := ih (i + 1) (by omega) m (by omega)
    rw [lc_lst] at IH
    refine br_f (nI_nlt (by omega) (by omega)) ⟨vp_in_nI (by omega) (by omega), ?_⟩
    rw [nI_clamp (n := i) (by omega), he i (by omega)]
    by_cases q : F i = 0
    · rw [if_pos q] at IH
      exact br_t (by rw [q]; decide) (nm_r (nI_1 i) IH)
    · rw [if_neg q] at IH
      exact br_f (nI_nle (by omega) (hF i)) (nm_r (nI_1 i) IH)
theorem yw_radius {post : Int32 → SY → Prop} {c : Nat} (hn : n ≤ 10) (hc : c < 2) (hR : lc_Red n (b c)) (hin : lc_in n b inn) (H : ∀ cn' ls' sn' le', post (nI (lc_lst (lc_lc n (b c)) (n + 1))) (nI n, nI (2 ^ n), cn', inn, md, ls', sn', le')) : wpY_radius post (nI n, nI (2 ^ n), cn, inn, md, ls, sn, le) (nI c) := by
  unfold wpY_radius
  try dsimp only
  refine yw_bad hc (br_t rfl (yw_take hn hc hR (fun x hx => hin c x hc hx) ?_))
  intro ls' hl
  refine yw_leaders hn hR hl ?_
  intro sn' le' he
  refine ⟨n + 2, yw_radius23 hn ?_ he (H _ ls' sn' le') (n + 1) 0 (by omega) _ (by omega)⟩
  intro j
  have := lc_10 hn
  have k : lc_lc n (b c) j ≤ 2 ^ n := lc_cnt_le _ _
  omega
theorem lc_isI_iff {n s : Nat} {g : Nat → Nat} (hR : lc_Red n g) : lc_isI n g s = true ↔ lc_wt n s = lc_dim n g ∧ ∀ t, 1 ≤ t → t < 2 ^ lc_dim n g → lc_W n g t &&& s ≠ 0 := by
  rw [lc_isI, Bool.and_eq_true, decide_eq_true_eq, decide_eq_true_eq, lc_inf hR]
  constructor
  · rintro ⟨h1, h2⟩
    refine ⟨h1, ?_⟩
    intro t ht1 ht2
    refine h2 _ (lc_W_M hR n t) ?_
    have := lc_W_mono hR n 0 t (by omega) ht2
    omega
  · rintro ⟨h1, h2⟩
    refine ⟨h1, ?_⟩
    intro x hx h0
    obtain ⟨t, ht, e⟩ := lc_W_sur hR n x (lc_M_lt hR hx) hx
    rw [← e]
    refine h2 t ?_ ht
    rcases Nat.eq_zero_or_pos t with z | z
    · rw [z, lc_W_0] at e
      exact absurd e.symm h0
    · exact z
theorem yw_inf18 {post : Int32 → Prop} {s : Nat} (hn : n ≤ 10) (hR : lc_Red n g) (hl : ∀ i, i < 2 ^ lc_dim n g → ls i = nI (lc_W n g i)) (hs : lc_wt n s = lc_dim n g) (H : post (lc_bI (lc_isI n g s))) : ∀ d i, i + d = 2 ^ lc_dim n g → (∀ t, 1 ≤ t → t < i → lc_W n g t &&& s ≠ 0) → 1 ≤ i → ∀ m, d < m → wY_informs_18 post (nI s) fn fa (nI (2 ^ lc_dim n g)) inn md ls sn le m (nI i) := by
  have h10 := lc_10 hn
  have hd10 := lc_10 (n := lc_dim n g) (Nat.le_trans (lc_dim_le n g) hn)
  intro d
  induction d with
  | zero =>
    intro i hi ht h1 m hm
    obtain ⟨m, rfl⟩ : ∃ k, m = k + 1 := ⟨m - 1, by omega⟩
    have e : lc_isI n g s = true := (lc_isI_iff hR).mpr ⟨hs, fun t a c => ht t a (by omega)⟩
    rw [e] at H
    exact br_t (nI_le (by omega) (by omega)) H
  | succ d ih =>
    intro i hi ht h1 m hm
    obtain ⟨m, rfl⟩ : ∃ k, m = k + 1 := ⟨m - 1, by omega⟩
    have hlt := Nat.lt_of_le_of_lt (Nat.and_le_left (m := s)) (lc_W_lt hR n i)
    refine br_f (nI_ge (by omega) (by omega)) ⟨vp_in_nI (by omega) (by omega), ?_⟩
    rw [nI_clamp (n := i) (by omega), hl i (by omega), nx_and]
    by_cases q : lc_W n g i &&& s = 0
    · have e : lc_isI n g s = false := by
        cases y : lc_isI n g s
        · rfl
        · exact absurd q (((lc_isI_iff hR).mp y).2 i h1 (by omega))
      rw [e] at H
      exact br_t (by rw [q]; rfl) H
    · refine br_f (nI_ne0 (by omega) (by omega)) (nm_r (nI_1 i) (ih (i + 1) (by omega) ?_ (by omega) m (by omega)))
      intro t a c
      by_cases y : t = i
      · rw [y]; exact q
      · exact ht t a (by omega)
theorem yw_informs {post : Int32 → Prop} {s : Nat} (hn : n ≤ 10) (hR : lc_Red n g) (hs : s < 2 ^ n) (hl : ∀ i, i < 2 ^ lc_dim n g → ls i = nI (lc_W n g i)) (H : post (lc_bI (lc_isI n g s))) : wpY_informs post (nI n, fa, nI (2 ^ lc_dim n g), inn, md, ls, sn, le) (nI s) := by
  unfold wpY_informs
  try dsimp only
  have hw := lc_wt_le n s
  have h1 := lc_10 (n := lc_wt n s) (by omega)
  have h2 := lc_10 (n := lc_dim n g) (Nat.le_trans (lc_dim_le n g) hn)
  have hp := Nat.two_pow_pos (lc_dim n g)
  refine yw_weight hn hs ?_
  rw [lc_shl (by omega)]
  by_cases q : lc_wt n s = lc_dim n g
  · exact br_t (by rw [q]) ⟨2 ^ lc_dim n g + 1, yw_inf18 hn hR hl q H (2 ^ lc_dim n g - 1) 1 (by omega) (fun t a c => by omega) (by omega) _ (by omega)⟩
  · have e : lc_isI n g s = false := by rw [lc_isI, decide_eq_false q, Bool.false_and]
    rw [e] at H
    refine br_f (fun y => q ?_) H
    exact ((Nat.pow_right_inj (by omega)).mp ((nI_eq (by omega) (by omega)).mp y)).symm
theorem yw_isInf {post : Int32 → SY → Prop} {c s : Nat} (hn : n ≤ 10) (hc : c < 2) (hR : lc_Red n (b c)) (hin : lc_in n b inn) (hs : s < 2 ^ n) (H : ∀ cn' ls', post (lc_bI (lc_isI n (b c) s)) (nI n, nI (2 ^ n), cn', inn, md, ls', sn, le)) : wpY_isInformation post (nI n, nI (2 ^ n), cn, inn, md, ls, sn, le) (nI c) (nI s) := by
  unfold wpY_isInformation
  try dsimp only
  refine yw_bad hc (br_t rfl (yw_noWord hn hs (br_t rfl (yw_take hn hc hR (fun x hx => hin c x hc hx) ?_))))
  intro ls' hl
  refine yw_informs hn hR hs hl ?_
  have k := H (nI (2 ^ lc_dim n (b c))) ls'
  cases e : lc_isI n (b c) s
  · rw [e] at k
    exact br_t rfl k
  · rw [e] at k
    exact br_f (by decide) k
theorem yw_infs19 {post : Int32 → SY → Prop} (hn : n ≤ 10) (hR : lc_Red n g) (hl : ∀ i, i < 2 ^ lc_dim n g → ls i = nI (lc_W n g i)) (H : post (nI (lc_cnt (2 ^ n) (lc_isI n g))) (nI n, nI (2 ^ n), nI (2 ^ lc_dim n g), inn, md, ls, sn, le)) : ∀ d s, s + d = 2 ^ n → ∀ m, d < m → wY_informationSets_19 post (nI n) (nI (2 ^ n)) (nI (2 ^ lc_dim n g)) inn md ls sn le m (nI (lc_cnt s (lc_isI n g))) (nI s) := by
  have h10 := lc_10 hn
  intro d
  induction d with
  | zero =>
    intro s hs m hm
    obtain ⟨m, rfl⟩ : ∃ k, m = k + 1 := ⟨m - 1, by omega⟩
    have e : s = 2 ^ n := by omega
    subst e
    exact br_t (nI_le (Nat.le_refl _) (by omega)) H
  | succ d ih =>
    intro s hs m hm
    obtain ⟨m, rfl⟩ : ∃ k, m = k + 1 := ⟨m - 1, by omega⟩
    have IH := ih (s + 1) (by omega) m (by omega)
    rw [lc_cnt] at IH
    refine br_f (nI_ge (by omega) (by omega)) (yw_informs hn hR (by omega) hl ?_)
    cases e : lc_isI n g s
    · rw [e] at IH
      exact br_t rfl (nm_r (nI_1 s) IH)
    · rw [e] at IH
      exact br_f (by decide) (nm_r (nI_1 _) (nm_r (nI_1 s) IH))
theorem yw_infs {post : Int32 → SY → Prop} {c : Nat} (hn : n ≤ 10) (hc : c < 2) (hR : lc_Red n (b c)) (hin : lc_in n b inn) (H : ∀ cn' ls', post (nI (lc_cnt (2 ^ n) (lc_isI n (b c)))) (nI n, nI (2 ^ n), cn', inn, md, ls', sn, le)) : wpY_informationSets post (nI n, nI (2 ^ n), cn, inn, md, ls, sn, le) (nI c) := by
  unfold wpY_informationSets
  try dsimp only
  refine yw_bad hc (br_t rfl (yw_take hn hc hR (fun x hx => hin c x hc hx) ?_))
  intro ls' hl
  exact ⟨2 ^ n + 1, yw_infs19 hn hR hl (H _ ls') (2 ^ n) 0 (by omega) _ (by omega)⟩
theorem yw_orth7 {post : Int32 → SY → Prop} (hn : n ≤ 10) (h0 : lc_Red n (b 0)) (h1 : lc_Red n (b 1)) (hin : lc_in n b inn) (hl : ∀ i, i < 2 ^ lc_dim n (b 0) → ls i = nI (lc_W n (b 0) i)) (H : post (lc_bI (lc_ob n b)) (nI n, nI (2 ^ n), nI (2 ^ lc_dim n (b 0)), inn, md, ls, sn, le)) : ∀ d x, x + d = 2 ^ n → (∀ y, y < x → lc_M n (b 1) y → lc_id n (b 0) y = true) → ∀ m, d < m → wY_orthogonal_7 post (nI n) (nI (2 ^ n)) (nI (2 ^ lc_dim n (b 0))) inn md ls sn le m (nI x) := by
  have h10 := lc_10 hn
  intro d
  induction d with
  | zero =>
    intro x hx hy m hm
    obtain ⟨m, rfl⟩ : ∃ k, m = k + 1 := ⟨m - 1, by omega⟩
    have e : lc_ob n b = true := (lc_ob_iff hn h0 h1).mpr (fun y q => hy y (by have := lc_M_lt h1 q; omega) q)
    rw [e] at H
    exact br_t (nI_le (by omega) (by omega)) H
  | succ d ih =>
    intro x hx hy m hm
    obtain ⟨m, rfl⟩ : ∃ k, m = k + 1 := ⟨m - 1, by omega⟩
    have r1 : inn (1024 + x) = lc_bI (decide (lc_M n (b 1) x)) := hin 1 x (by omega) (by omega)
    have ea : (1024 : Int32) + nI x = nI (1024 + x) := nI_add 1024 x
    refine br_f (nI_ge (by omega) (by omega)) ?_
    rw [ea, nI_clamp (by omega), r1]
    refine ⟨vp_in_nI (by omega) (by omega), ?_⟩
    have nx : (lc_M n (b 1) x → lc_id n (b 0) x = true) → wY_orthogonal_7 post (nI n) (nI (2 ^ n)) (nI (2 ^ lc_dim n (b 0))) inn md ls sn le m (nI (x + 1)) := by
      intro k
      refine ih (x + 1) (by omega) ?_ m (by omega)
      intro y hy1 q
      by_cases e : y = x
      · subst e
        exact k q
      · exact hy y (by omega) q
    by_cases q : lc_M n (b 1) x
    · rw [decide_eq_true q]
      refine br_f (by decide) (yw_isDual hn h0 (by omega) hl ?_)
      cases y : lc_id n (b 0) x
      · have e : lc_ob n b = false := by
          cases z : lc_ob n b
          · rfl
          · have := (lc_ob_iff hn h0 h1).mp z x q
            rw [y] at this
            exact Bool.noConfusion this
        rw [e] at H
        exact br_t rfl H
      · exact br_f (by decide) (nm_r (nI_1 x) (nx (fun _ => y)))
    · rw [decide_eq_false q]
      exact br_t rfl (nm_r (nI_1 x) (nx (fun z => absurd z q)))
theorem yw_orth {post : Int32 → SY → Prop} (hn : n ≤ 10) (h0 : lc_Red n (b 0)) (h1 : lc_Red n (b 1)) (hin : lc_in n b inn) (H : ∀ cn' ls', post (lc_bI (lc_ob n b)) (nI n, nI (2 ^ n), cn', inn, md, ls', sn, le)) : wpY_orthogonal post (nI n, nI (2 ^ n), cn, inn, md, ls, sn, le) := by
  unfold wpY_orthogonal
  try dsimp only
  refine yw_take (c := 0) hn (by omega) h0 (fun x hx => hin 0 x (by omega) hx) ?_
  intro ls' hl
  exact ⟨2 ^ n + 1, yw_orth7 hn h0 h1 hin hl (H _ ls') (2 ^ n) 0 (by omega) (fun y hy => by omega) _ (by omega)⟩
end
/-! the constructors -/
def lc_tb (i j : Nat) (ch : Nat → Int32) : Prop := ∀ m s, m ≤ 10 → s ≤ 10 → ch (11 * m + s) = if m < i ∨ (m = i ∧ s < j) then nI (lc_bin m s) else 0
section
variable {fn r : Int32} {A ck wg ot ch ld ro : Nat → Int32}
theorem xw_in106 {post : SX → Prop} {J : Int32 → (Nat → Int32) → (Nat → Int32) → (Nat → Int32) → (Nat → Int32) → (Nat → Int32) → (Nat → Int32) → (Nat → Int32) → Prop} {i : Nat} (hi : i ≤ 10) (H : ∀ ch', lc_tb (i + 1) 0 ch' → J (nI (i + 1)) A ck wg ot ch' ld ro) : ∀ d j, j + d = i + 1 → 1 ≤ j → ∀ ch', lc_tb i j ch' → ∀ m, d < m → wX_init_106 post J (nI i) fn r m (nI j) A ck wg ot ch' ld ro := by
  intro d
  induction d with
  | zero =>
    intro j hj h1 ch' ht m hm
    obtain ⟨m, rfl⟩ : ∃ k, m = k + 1 := ⟨m - 1, by omega⟩
    refine br_t (nI_lt (by omega) (by omega)) (nm_r (nI_1 i) (H ch' ?_))
    intro a s ha hs
    rw [ht a s ha hs]
    by_cases q : a = i ∧ j ≤ s
    · rw [if_neg (by omega), if_pos (by omega), q.1, lc_bin_0 i (by omega) s (by omega) (by omega)]
      rfl
    · by_cases y : a < i ∨ (a = i ∧ s < j)
      · rw [if_pos y, if_pos (by omega)]
      · rw [if_neg y, if_neg (by omega)]
  | succ d ih =>
    intro j hj h1 ch' ht m hm
    obtain ⟨m, rfl⟩ : ∃ k, m = k + 1 := ⟨m - 1, by omega⟩
    obtain ⟨i, rfl⟩ : ∃ k, i = k + 1 := ⟨i - 1, by omega⟩
    obtain ⟨j, rfl⟩ : ∃ k, j = k + 1 := ⟨j - 1, by omega⟩
    have e0 : nI (i + 1) - 1 = nI i := nI_pred i
    have e1 : (11 : Int32) * nI i + nI (j + 1) = nI (11 * i + (j + 1)) := by
      show nI 11 * nI i + nI (j + 1) = _
      rw [pk_mul, nI_add]
    have e2 : nI (11 * i + (j + 1)) - 1 = nI (11 * i + j) := nI_pred (11 * i + j)
    have e3 : (11 : Int32) * nI (i + 1) + nI (j + 1) = nI (11 * (i + 1) + (j + 1)) := by
      show nI 11 * nI (i + 1) + nI (j + 1) = _
      rw [pk_mul, nI_add]
    refine br_f (nI_nlt (by omega) (by omega)) ?_
    rw [e0, e1, e2, e3, nI_clamp (by omega), nI_clamp (by omega), nI_clamp (by omega), ht i j (by omega) (by omega), if_pos (by omega), ht i (j + 1) (by omega) (by omega), if_pos (by omega), nI_add]
    refine ⟨vp_in_nI (by omega) (by omega), vp_in_nI (by omega) (by omega), vp_in_nI (by omega) (by omega), nm_e (nm_r (nI_1 (j + 1)) (ih (j + 1 + 1) (by omega) (by omega) _ ?_ m (by omega)))⟩
    intro a s ha hs
    by_cases q : a = i + 1 ∧ s = j + 1
    · rw [q.1, q.2, pk_us, if_pos (by omega)]
      rfl
    · rw [pk_un (by omega), ht a s ha hs]
      by_cases y : a < i + 1 ∨ (a = i + 1 ∧ s < j + 1)
      · rw [if_pos y, if_pos (by omega)]
      · rw [if_neg y, if_neg (by omega)]
theorem xw_in88 {post : SX → Prop} (H : ∀ ch', lc_tab ch' → post (fn, r, A, ck, wg, ot, ch', ld, ro)) : ∀ d i, i + d = 11 → ∀ ch', lc_tb i 0 ch' → ∀ m, d < m → wX_init_88 post fn r m (nI i) A ck wg ot ch' ld ro := by
  intro d
  induction d with
  | zero =>
    intro i hi ch' ht m hm
    obtain ⟨m, rfl⟩ : ∃ k, m = k + 1 := ⟨m - 1, by omega⟩
    refine br_t (nI_lt (a := 10) (by omega) (by omega)) (H ch' ?_)
    intro a s ha hs
    rw [ht a s ha (by omega), if_pos (by omega)]
  | succ d ih =>
    intro i hi ch' ht m hm
    obtain ⟨m, rfl⟩ : ∃ k, m = k + 1 := ⟨m - 1, by omega⟩
    have e : (11 : Int32) * nI i = nI (11 * i) := pk_mul 11 i
    refine br_f (nI_nlt (a := 10) (by omega) (by omega)) ?_
    rw [e]
    refine ⟨vp_in_nI (by omega) (by omega), nm_r (e' := upd ch' (11 * i) 1) (by rw [nI_clamp (by omega)]) ⟨i + 1, ?_⟩⟩
    refine xw_in106 (by omega) (fun ch2 h2 => ih (i + 1) (by omega) ch2 h2 m (by omega)) i 1 (by omega) (by omega) _ ?_ (i + 1) (by omega)
    intro a s ha hs
    by_cases q : a = i ∧ s = 0
    · rw [q.1, q.2, Nat.add_zero, pk_us, if_pos (by omega)]
      cases i <;> rfl
    · rw [pk_un (by omega), ht a s ha hs]
      by_cases y : a < i
      · rw [if_pos (by omega), if_pos (by omega)]
      · rw [if_neg (by omega), if_neg (by omega)]
theorem lc_tb_0 : lc_tb 0 0 (fun _ => 0) := by
  intro a s _ _
  rw [if_neg (by omega)]
theorem xw_init {post : SX → Prop} (v : Int32) : ∃ n, 2 ≤ n ∧ n ≤ 10 ∧ ((∀ ch', lc_tab ch' → post (nI n, 0, fun _ => 0, fun _ => 0, fun _ => 0, fun _ => 0, ch', fun _ => 0, fun _ => 0)) → wpX_init post v) ∧ ∀ postY : SY → Prop, postY (nI n, nI (2 ^ n), 0, upd (upd (fun _ => 0) 0 1) 1024 1, fun _ => 0, fun _ => 0, fun _ => 0, fun _ => 0) → wpY_init postY v := by
  have go : ∀ n, 2 ≤ n → n ≤ 10 → (∀ ch', lc_tab ch' → post (nI n, 0, fun _ => 0, fun _ => 0, fun _ => 0, fun _ => 0, ch', fun _ => 0, fun _ => 0)) → ∃ m, wX_init_88 post (nI n) 0 m 0 (fun _ => 0) (fun _ => 0) (fun _ => 0) (fun _ => 0) (fun _ => 0) (fun _ => 0) (fun _ => 0) := by
    intro n _ _ h
    exact ⟨12, xw_in88 h 11 0 (by omega) _ lc_tb_0 12 (by omega)⟩
  have goY : ∀ n, 2 ≤ n → n ≤ 10 → ∀ postY : SY → Prop, postY (nI n, nI (2 ^ n), 0, upd (upd (fun _ => 0) 0 1) 1024 1, fun _ => 0, fun _ => 0, fun _ => 0, fun _ => 0) → wY_init_70 postY (nI n) 0 0 0 (fun _ => 0) (fun _ => 0) (fun _ => 0) (fun _ => 0) (fun _ => 0) := by
    intro n _ hn postY h
    unfold wY_init_70
    refine nm_r (lc_shl (by omega)) (nm_r (e' := upd (fun _ => 0) 0 1) (by rw [lc_nb1]) (nm_r (e' := upd (upd (fun _ => 0) 0 1) 1024 1) (by rw [lc_nb1]) h))
  by_cases h2 : (2 : Int32) ≤ v
  · by_cases h10 : v ≤ 10
    · have h0 : ¬ v < 0 := by
        intro q
        exact absurd (Int32.lt_of_lt_of_le q (show (0 : Int32) ≤ 2 by decide)) (Int32.not_lt.mpr h2)
      obtain ⟨n, hn, rfl⟩ := nI_of2 (M := 10) (n := 10) (by decide) h0 h10
      have h2' : 2 ≤ n := (nI_leI (a := 2) (by omega) (by omega)).mp h2
      exact ⟨n, h2', hn, fun h => br_t h2 (br_t h10 (go n h2' hn h)), fun postY h => br_t h2 (br_t h10 (goY n h2' hn postY h))⟩
    · exact ⟨10, by omega, by omega, fun h => br_t h2 (br_f h10 (go 10 (by omega) (by omega) h)), fun postY h => br_t h2 (br_f h10 (goY 10 (by omega) (by omega) postY h))⟩
  · exact ⟨2, by omega, by omega, fun h => br_f h2 (go 2 (by omega) (by omega) h), fun postY h => br_f h2 (goY 2 (by omega) (by omega) postY h)⟩
end
end
section
/-! plain laws between the two sides' answers -/
theorem lc_cnt_ne {n : Nat} {p : Nat → Bool} : lc_cnt n p ≠ 0 ↔ ∃ i, i < n ∧ p i = true := by
  induction n with
  | zero => exact ⟨fun h => absurd rfl h, fun ⟨i, hi, _⟩ => by omega⟩
  | succ n ih =>
    rw [lc_cnt]
    cases c : p n
    · rw [Bool.toNat_false, Nat.add_zero, ih]
      constructor
      · rintro ⟨i, hi, h⟩
        exact ⟨i, by omega, h⟩
      · rintro ⟨i, hi, h⟩
        refine ⟨i, ?_, h⟩
        have : i ≠ n := by
          intro e
          rw [e, c] at h
          exact Bool.noConfusion h
        omega
    · rw [Bool.toNat_true]
      exact ⟨fun _ => ⟨n, by omega, c⟩, fun _ => by omega⟩
theorem lc_law_w {n w : Nat} {g : Nat → Nat} (hn : n ≤ 10) (hw : w ≤ n) (hR : lc_Red n g) : lc_cnt (2 ^ lc_dim n g) (fun t => decide (nI (lc_wt n (lc_W n g t)) = nI w)) = lc_cw n g w := by
  unfold lc_cw
  rw [← lc_cnt_W hR (fun y => decide (lc_wt n y = w))]
  apply lc_cnt_congr
  intro t _
  have := lc_wt_le n (lc_W n g t)
  rw [decide_eq_decide, nI_eq (by omega) (by omega)]
theorem lc_out {n a : Nat} {v : Int32} (hn : n ≤ 10) (ha : a ≤ n) (hv : v < 0 ∨ ¬ v ≤ nI n) : ¬ nI a = v := by
  intro e
  rw [← e] at hv
  rcases hv with h | h
  · exact nI_pos (by omega) h
  · exact h (nI_le ha (by omega))
theorem lc_law_w0 {n : Nat} {v : Int32} {g : Nat → Nat} (hn : n ≤ 10) (hv : v < 0 ∨ ¬ v ≤ nI n) : lc_cnt (2 ^ lc_dim n g) (fun t => decide (nI (lc_wt n (lc_W n g t)) = v)) = 0 :=
  lc_cnt_0 (fun t _ => decide_eq_false (lc_out hn (lc_wt_le n _) hv))
theorem lc_law_d {n w : Nat} {g : Nat → Nat} (hn : n ≤ 10) (hw : w ≤ n) : lc_cnt (2 ^ n) (fun x => decide (nI (lc_wt n x) = nI w) && lc_id n g x) = lc_dw n g w := by
  unfold lc_dw
  apply lc_cnt_congr
  intro x _
  have := lc_wt_le n x
  congr 1
  rw [decide_eq_decide, nI_eq (by omega) (by omega)]
theorem lc_law_d0 {n : Nat} {v : Int32} {g : Nat → Nat} (hn : n ≤ 10) (hv : v < 0 ∨ ¬ v ≤ nI n) : lc_cnt (2 ^ n) (fun x => decide (nI (lc_wt n x) = v) && lc_id n g x) = 0 :=
  lc_cnt_0 (fun x _ => by rw [decide_eq_false (lc_out hn (lc_wt_le n x) hv), Bool.false_and])
theorem lc_cw_ne {n w : Nat} {g : Nat → Nat} (hR : lc_Red n g) (h1 : 1 ≤ w) : lc_cw n g w ≠ 0 ↔ ∃ t, 1 ≤ t ∧ t < 2 ^ lc_dim n g ∧ lc_wt n (lc_W n g t) = w := by
  unfold lc_cw
  rw [lc_cnt_ne]
  constructor
  · rintro ⟨y, hy, h⟩
    rw [Bool.and_eq_true, decide_eq_true_eq, decide_eq_true_eq] at h
    obtain ⟨t, ht, e⟩ := lc_W_sur hR n y hy h.1
    refine ⟨t, ?_, ht, by rw [e]; exact h.2⟩
    rcases Nat.eq_zero_or_pos t with z | z
    · rw [z, lc_W_0] at e
      rw [← e, lc_wt_0] at h
      omega
    · exact z
  · rintro ⟨t, _, ht, e⟩
    refine ⟨lc_W n g t, lc_W_lt hR n t, ?_⟩
    rw [Bool.and_eq_true, decide_eq_true_eq, decide_eq_true_eq]
    exact ⟨lc_W_M hR n t, e⟩
theorem lc_W_pos {n t : Nat} {g : Nat → Nat} (hR : lc_Red n g) (h1 : 1 ≤ t) (ht : t < 2 ^ lc_dim n g) : 1 ≤ lc_wt n (lc_W n g t) := by
  have := lc_W_mono hR n 0 t (by omega) ht
  exact lc_wt_pos (lc_W_lt hR n t) (by omega)
theorem lc_law_l {n : Nat} {v v' : Int32} {g : Nat → Nat} (hR : lc_Red n g) (hX : (v = -4 ∧ ∀ w, 1 ≤ w → w ≤ n → lc_cw n g w = 0) ∨ ∃ w, 1 ≤ w ∧ w ≤ n ∧ v = nI w ∧ lc_cw n g w ≠ 0 ∧ ∀ u, 1 ≤ u → u < w → lc_cw n g u = 0) (hY : lc_lws n g (2 ^ lc_dim n g) v') : v' = v := by
  rcases hX with ⟨e, h⟩ | ⟨w, h1, hw, e, hne, h⟩
  · rcases hY with ⟨e', _⟩ | ⟨w', _, e', ⟨t, t1, t2, t3⟩, _⟩
    · rw [e, e']
    · have p := lc_W_pos hR t1 t2
      have q := lc_wt_le n (lc_W n g t)
      exact absurd (h w' (by omega) (by omega)) ((lc_cw_ne hR (by omega)).mpr ⟨t, t1, t2, t3⟩)
  · obtain ⟨t, t1, t2, t3⟩ := (lc_cw_ne hR h1).mp hne
    rcases hY with ⟨_, h'⟩ | ⟨w', _, e', ⟨s, s1, s2, s3⟩, hall⟩
    · omega
    · have p := lc_W_pos hR s1 s2
      have a := hall t t1 t2
      have c : ¬ w' < w := fun q => absurd (h w' (by omega) q) ((lc_cw_ne hR (by omega)).mpr ⟨s, s1, s2, s3⟩)
      rw [e, e', show w' = w by omega]
theorem lc_law_c {n w : Nat} {g : Nat → Nat} (hn : n ≤ 10) (hw : w ≤ n) (hR : lc_Red n g) : lc_cnt (2 ^ lc_zr n g) (fun s => decide (nI (lc_mw n g (lc_sp n g s)) = nI w)) = lc_lc n g w := by
  unfold lc_lc
  rw [← lc_cosets hR (fun x => decide (lc_mw n g x = w))]
  apply lc_cnt_congr
  intro s _
  have k : lc_mw n g (lc_sp n g s) ≤ n := lc_mw_bd hR
  rw [decide_eq_decide, nI_eq (by omega) (by omega)]
theorem lc_law_c0 {n : Nat} {v : Int32} {g : Nat → Nat} (hn : n ≤ 10) (hR : lc_Red n g) (hv : v < 0 ∨ ¬ v ≤ nI n) : lc_cnt (2 ^ lc_zr n g) (fun s => decide (nI (lc_mw n g (lc_sp n g s)) = v)) = 0 :=
  lc_cnt_0 (fun s _ => decide_eq_false (lc_out hn (lc_mw_bd hR) hv))
theorem lc_lst_up {F : Nat → Nat} {K j : Nat} (hj : j < K) (h : F j ≠ 0) : j ≤ lc_lst F K := by
  induction K with
  | zero => omega
  | succ K ih =>
    rw [lc_lst]
    split
    · rename_i z
      have : j ≠ K := fun e => h (by rw [e]; exact z)
      exact ih (by omega)
    · omega
theorem lc_lst_at (F : Nat → Nat) (K : Nat) : lc_lst F K = 0 ∨ F (lc_lst F K) ≠ 0 := by
  induction K with
  | zero => exact Or.inl rfl
  | succ K ih =>
    rw [lc_lst]
    split
    · exact ih
    · rename_i z
      exact Or.inr z
theorem lc_lc_ne {n j : Nat} {g : Nat → Nat} (hR : lc_Red n g) : lc_lc n g j ≠ 0 ↔ ∃ s, s < 2 ^ lc_zr n g ∧ lc_mw n g (lc_sp n g s) = j := by
  unfold lc_lc
  rw [← lc_cosets hR (fun x => decide (lc_mw n g x = j)), lc_cnt_ne]
  constructor
  · rintro ⟨s, hs, h⟩
    exact ⟨s, hs, of_decide_eq_true h⟩
  · rintro ⟨s, hs, h⟩
    exact ⟨s, hs, decide_eq_true h⟩
theorem lc_law_r {n : Nat} {g : Nat → Nat} (hR : lc_Red n g) : lc_lst (lc_lc n g) (n + 1) = lc_mx (fun s => lc_mw n g (lc_sp n g s)) (2 ^ lc_zr n g) := by
  apply Nat.le_antisymm
  · rcases lc_lst_at (lc_lc n g) (n + 1) with h | h
    · rw [h]; exact Nat.zero_le _
    · obtain ⟨s, hs, e⟩ := (lc_lc_ne hR).mp h
      rw [← e]
      exact lc_mx_le (f := fun s => lc_mw n g (lc_sp n g s)) hs
  · rcases lc_mx_at (fun s => lc_mw n g (lc_sp n g s)) (2 ^ lc_zr n g) with h | ⟨s, hs, e⟩
    · rw [h]; exact Nat.zero_le _
    · have k : lc_mw n g (lc_sp n g s) ≤ n := lc_mw_bd hR
      rw [e]
      exact lc_lst_up (by omega) ((lc_lc_ne hR).mpr ⟨s, hs, rfl⟩)
/-! which arguments are good -/
theorem lc_upto (v : Int32) {K : Nat} (hK : K < 2 ^ 30) : (v < 0 ∨ ¬ v ≤ nI K) ∨ ∃ w, w ≤ K ∧ v = nI w := by
  by_cases h : v < 0
  · exact Or.inl (Or.inl h)
  · obtain ⟨j, hj, rfl⟩ := nI_of h
    by_cases q : j ≤ K
    · exact Or.inr ⟨j, q, rfl⟩
    · exact Or.inl (Or.inr (nI_ge (by omega) hj))
theorem lc_below (v : Int32) {K : Nat} (hK : K < 2 ^ 30) : (v < 0 ∨ ¬ v < nI K) ∨ ∃ w, w < K ∧ v = nI w := by
  by_cases h : v < 0
  · exact Or.inl (Or.inl h)
  · obtain ⟨j, hj, rfl⟩ := nI_of h
    by_cases q : j < K
    · exact Or.inr ⟨j, q, rfl⟩
    · exact Or.inl (Or.inr (nI_nlt (by omega) hj))
theorem lc_code (v : Int32) : (v < 0 ∨ ¬ v ≤ 1) ∨ ∃ c, c < 2 ∧ v = nI c := by
  rcases lc_upto v (K := 1) (by omega) with h | ⟨c, hc, h⟩
  · exact Or.inl h
  · exact Or.inr ⟨c, by omega, h⟩
theorem lc_setc_red {n c : Nat} {b : Nat → Nat → Nat} {v : Nat → Nat} (h : ∀ e, e < 2 → lc_Red n (b e)) (hv : lc_Red n v) : ∀ e, e < 2 → lc_Red n (lc_setc b c v e) := by
  intro e he
  by_cases q : e = c
  · rw [q, lc_setc_s]; exact hv
  · rw [lc_setc_n q]; exact h e he
theorem lc_setc_w {c e : Nat} {b : Nat → Nat → Nat} {u v : Nat → Nat} (he : e < 2) : lc_setc b c v e = lc_setc (lc_setc b 2 u) c v e := by
  by_cases q : e = c
  · rw [q, lc_setc_s, lc_setc_s]
  · rw [lc_setc_n q, lc_setc_n q, lc_setc_n (by omega)]
end
section
/-! the relation and what is owed -/
/-- one length, two reduced bases in the component's array, the same two codes word by word in the reference's, the table of choices -/
def i_Rel (_ : Nat) (u : SX) (v : SY) : Prop := ∃ (n : Nat) (b : Nat → Nat → Nat), 2 ≤ n ∧ n ≤ 10 ∧ (∀ e, e < 2 → lc_Red n (b e)) ∧ u.1 = nI n ∧ u.2.2.1 = lc_xb b ∧ lc_tab u.2.2.2.2.2.2.1 ∧ v.1 = nI n ∧ v.2.1 = nI (2 ^ n) ∧ lc_in n b v.2.2.2.1
theorem lc_rel {k n : Nat} {b : Nat → Nat → Nat} {r : Int32} {ck wg ot ch ld ro : Nat → Int32} {cn : Int32} {inn md ls sn le : Nat → Int32} (h2 : 2 ≤ n) (hn : n ≤ 10) (hr : ∀ e, e < 2 → lc_Red n (b e)) (ht : lc_tab ch) (hin : lc_in n b inn) : i_Rel k (nI n, r, lc_xb b, ck, wg, ot, ch, ld, ro) (nI n, nI (2 ^ n), cn, inn, md, ls, sn, le) :=
  ⟨n, b, h2, hn, hr, rfl, rfl, ht, rfl, rfl, hin⟩
theorem lc_el {P : SX → SY → Prop} {k : Nat} {u : SX} {v : SY} (I : i_Rel k u v) (h : ∀ (n : Nat) (b : Nat → Nat → Nat) (r : Int32) (ck wg ot ch ld ro : Nat → Int32) (cn : Int32) (inn md ls sn le : Nat → Int32), 2 ≤ n → n ≤ 10 → (∀ e, e < 2 → lc_Red n (b e)) → lc_tab ch → lc_in n b inn → P (nI n, r, lc_xb b, ck, wg, ot, ch, ld, ro) (nI n, nI (2 ^ n), cn, inn, md, ls, sn, le)) : P u v := by
  obtain ⟨fn, r, A, ck, wg, ot, ch, ld, ro⟩ := u
  obtain ⟨gn, fa, cn, inn, md, ls, sn, le⟩ := v
  obtain ⟨n, b, h2, hn, hr, e1, e2, ht, e3, e4, hin⟩ := I
  dsimp only at e1 e2 ht e3 e4 hin
  subst e1 e2 e3 e4
  exact h n b r ck wg ot ch ld ro cn inn md ls sn le h2 hn hr ht hin
theorem i_up {k : Nat} {u : SX} {v : SY} (h : i_Rel k u v) : i_Rel (k + 4) u v := h
theorem i_vc0 (k0 : Int32) : wpX_init (fun u => wpY_init (fun v => i_Rel 1 u v) k0) k0 := by
  obtain ⟨n, h2, hn, hX, hY⟩ := xw_init (post := fun u => wpY_init (fun v => i_Rel 1 u v) k0) k0
  refine hX ?_
  intro ch' ht
  refine hY _ ?_
  refine lc_rel (b := fun _ _ => 0) h2 hn (fun _ _ => lc_Red_0 n) ht ?_
  intro e x he hx
  have hx2 := lc_w1024 hn hx
  have hz : lc_M n (fun _ => 0) x ↔ x = 0 := lc_M_z
  by_cases q : x = 0
  · rw [decide_eq_true (hz.mpr q), q]
    have : e = 0 ∨ e = 1 := by omega
    rcases this with y | y
    · rw [y]; rfl
    · rw [y]; rfl
  · rw [decide_eq_false (fun y => q (hz.mp y)), pk_un (by omega), pk_un (by omega)]
    rfl
theorem i_vc_clear {k : Nat} {u : SX} {v : SY} (I : i_Rel k u v) (hk : k + 4 ≤ 2049) (v1 : Int32) : wpX_clear (fun r u' => wpY_clear (fun r' v' => r' = r ∧ i_Rel (k + 4) u' v') v v1) u v1 := by
  refine lc_el (P := fun u v => wpX_clear (fun r u' => wpY_clear (fun r' v' => r' = r ∧ i_Rel (k + 4) u' v') v v1) u v1) I ?_
  intro n b r ck wg ot ch ld ro cn inn md ls sn le h2 hn hr ht hin
  have J : i_Rel (k + 4) (nI n, r, lc_xb b, ck, wg, ot, ch, ld, ro) (nI n, nI (2 ^ n), cn, inn, md, ls, sn, le) := lc_rel h2 hn hr ht hin
  have h10 := lc_10 hn
  try dsimp only
  rcases lc_code v1 with hb | ⟨c, hc, rfl⟩
  · unfold wpX_clear
    try dsimp only
    refine xw_badCodeN hb (br_f (by decide) ?_)
    unfold wpY_clear
    try dsimp only
    exact yw_badN hb (br_f (by decide) ⟨rfl, J⟩)
  · have hR := hr c hc
    refine xw_clear hn hc hR ?_
    refine yw_clear hn hc hR hin ?_
    intro cn' in' md' ls' h
    exact ⟨rfl, lc_rel h2 hn (lc_setc_red hr (lc_Red_0 n)) ht h⟩
theorem i_vc_dualize {k : Nat} {u : SX} {v : SY} (I : i_Rel k u v) (hk : k + 4 ≤ 2049) (v1 : Int32) : wpX_dualize (fun r u' => wpY_dualize (fun r' v' => r' = r ∧ i_Rel (k + 4) u' v') v v1) u v1 := by
  refine lc_el (P := fun u v => wpX_dualize (fun r u' => wpY_dualize (fun r' v' => r' = r ∧ i_Rel (k + 4) u' v') v v1) u v1) I ?_
  intro n b r ck wg ot ch ld ro cn inn md ls sn le h2 hn hr ht hin
  have J : i_Rel (k + 4) (nI n, r, lc_xb b, ck, wg, ot, ch, ld, ro) (nI n, nI (2 ^ n), cn, inn, md, ls, sn, le) := lc_rel h2 hn hr ht hin
  have h10 := lc_10 hn
  try dsimp only
  rcases lc_code v1 with hb | ⟨c, hc, rfl⟩
  · unfold wpX_dualize
    try dsimp only
    refine xw_badCodeN hb (br_f (by decide) ?_)
    unfold wpY_dualize
    try dsimp only
    exact yw_badN hb (br_f (by decide) ⟨rfl, J⟩)
  · have hR := hr c hc
    refine xw_dualize hn hc hR ?_
    intro ck'
    refine yw_dualize hn hc hR hin ?_
    intro cn' in' md' ls' h
    exact ⟨rfl, lc_rel h2 hn (lc_setc_red hr (lc_dual_Red n _)) ht h⟩
theorem i_vc_add {k : Nat} {u : SX} {v : SY} (I : i_Rel k u v) (hk : k + 4 ≤ 2049) (v1 : Int32) (v2 : Int32) : wpX_add (fun r u' => wpY_add (fun r' v' => r' = r ∧ i_Rel (k + 4) u' v') v v1 v2) u v1 v2 := by
  refine lc_el (P := fun u v => wpX_add (fun r u' => wpY_add (fun r' v' => r' = r ∧ i_Rel (k + 4) u' v') v v1 v2) u v1 v2) I ?_
  intro n b r ck wg ot ch ld ro cn inn md ls sn le h2 hn hr ht hin
  have J : i_Rel (k + 4) (nI n, r, lc_xb b, ck, wg, ot, ch, ld, ro) (nI n, nI (2 ^ n), cn, inn, md, ls, sn, le) := lc_rel h2 hn hr ht hin
  have h10 := lc_10 hn
  try dsimp only
  rcases lc_code v1 with hb | ⟨c, hc, rfl⟩
  · unfold wpX_add
    try dsimp only
    refine xw_badCodeN hb (br_f (by decide) ?_)
    unfold wpY_add
    try dsimp only
    exact yw_badN hb (br_f (by decide) ⟨rfl, J⟩)
  · have hR := hr c hc
    rcases lc_below v2 (K := 2 ^ n) (by omega) with hb | ⟨w, hw, rfl⟩
    · unfold wpX_add
      try dsimp only
      refine xw_badCode hc (br_t rfl (xw_badWordN hn hb (br_f (by decide) ?_)))
      unfold wpY_add
      try dsimp only
      exact yw_bad hc (br_t rfl (yw_noWordN hb (br_f (by decide) ⟨rfl, J⟩)))
    · refine xw_add hn hc hR hw ?_
      refine yw_add hn hc hR hw hin ?_
      intro cn' in' md' ls' h
      exact ⟨rfl, lc_rel h2 hn (lc_setc_red hr (lc_inc_Red hR hw)) ht h⟩
theorem i_vc_shorten {k : Nat} {u : SX} {v : SY} (I : i_Rel k u v) (hk : k + 4 ≤ 2049) (v1 : Int32) (v2 : Int32) : wpX_shorten (fun r u' => wpY_shorten (fun r' v' => r' = r ∧ i_Rel (k + 4) u' v') v v1 v2) u v1 v2 := by
  refine lc_el (P := fun u v => wpX_shorten (fun r u' => wpY_shorten (fun r' v' => r' = r ∧ i_Rel (k + 4) u' v') v v1 v2) u v1 v2) I ?_
  intro n b r ck wg ot ch ld ro cn inn md ls sn le h2 hn hr ht hin
  have J : i_Rel (k + 4) (nI n, r, lc_xb b, ck, wg, ot, ch, ld, ro) (nI n, nI (2 ^ n), cn, inn, md, ls, sn, le) := lc_rel h2 hn hr ht hin
  have h10 := lc_10 hn
  try dsimp only
  rcases lc_code v1 with hb | ⟨c, hc, rfl⟩
  · unfold wpX_shorten
    try dsimp only
    refine xw_badCodeN hb (br_f (by decide) ?_)
    unfold wpY_shorten
    try dsimp only
    exact yw_badN hb (br_f (by decide) ⟨rfl, J⟩)
  · have hR := hr c hc
    rcases lc_below v2 (K := n) (by omega) with hb | ⟨w, hw, rfl⟩
    · unfold wpX_shorten
      try dsimp only
      refine xw_badCode hc (br_t rfl (xw_badPlaceN hb (br_f (by decide) ?_)))
      unfold wpY_shorten
      try dsimp only
      exact yw_bad hc (br_t rfl (yw_noPlaceN hb (br_f (by decide) ⟨rfl, J⟩)))
    · refine xw_shorten hn hc hw hR ?_
      refine yw_shorten hn hc hR hw hin ?_
      intro cn' in' md' ls' h
      exact ⟨rfl, lc_rel h2 hn (lc_setc_red (lc_setc_red hr (lc_short_Red hR w)) (lc_short_Red hR w)) ht (lc_in_congr h (fun e he => lc_setc_w he))⟩
theorem i_vc_puncture {k : Nat} {u : SX} {v : SY} (I : i_Rel k u v) (hk : k + 4 ≤ 2049) (v1 : Int32) (v2 : Int32) : wpX_puncture (fun r u' => wpY_puncture (fun r' v' => r' = r ∧ i_Rel (k + 4) u' v') v v1 v2) u v1 v2 := by
  refine lc_el (P := fun u v => wpX_puncture (fun r u' => wpY_puncture (fun r' v' => r' = r ∧ i_Rel (k + 4) u' v') v v1 v2) u v1 v2) I ?_
  intro n b r ck wg ot ch ld ro cn inn md ls sn le h2 hn hr ht hin
  have J : i_Rel (k + 4) (nI n, r, lc_xb b, ck, wg, ot, ch, ld, ro) (nI n, nI (2 ^ n), cn, inn, md, ls, sn, le) := lc_rel h2 hn hr ht hin
  have h10 := lc_10 hn
  try dsimp only
  rcases lc_code v1 with hb | ⟨c, hc, rfl⟩
  · unfold wpX_puncture
    try dsimp only
    refine xw_badCodeN hb (br_f (by decide) ?_)
    unfold wpY_puncture
    try dsimp only
    exact yw_badN hb (br_f (by decide) ⟨rfl, J⟩)
  · have hR := hr c hc
    rcases lc_below v2 (K := n) (by omega) with hb | ⟨w, hw, rfl⟩
    · unfold wpX_puncture
      try dsimp only
      refine xw_badCode hc (br_t rfl (xw_badPlaceN hb (br_f (by decide) ?_)))
      unfold wpY_puncture
      try dsimp only
      exact yw_bad hc (br_t rfl (yw_noPlaceN hb (br_f (by decide) ⟨rfl, J⟩)))
    · refine xw_puncture hn hc hw hR ?_
      refine yw_puncture hn hc hR hw hin ?_
      intro cn' in' md' ls' h
      exact ⟨rfl, lc_rel h2 hn (lc_setc_red (lc_setc_red hr (lc_punc_Red hR w)) (lc_punc_Red hR w)) ht (lc_in_congr h (fun e he => lc_setc_w he))⟩
theorem i_vc_exchange {k : Nat} {u : SX} {v : SY} (I : i_Rel k u v) (hk : k + 4 ≤ 2049) (v1 : Int32) (v2 : Int32) (v3 : Int32) : wpX_exchange (fun r u' => wpY_exchange (fun r' v' => r' = r ∧ i_Rel (k + 4) u' v') v v1 v2 v3) u v1 v2 v3 := by
  refine lc_el (P := fun u v => wpX_exchange (fun r u' => wpY_exchange (fun r' v' => r' = r ∧ i_Rel (k + 4) u' v') v v1 v2 v3) u v1 v2 v3) I ?_
  intro n b r ck wg ot ch ld ro cn inn md ls sn le h2 hn hr ht hin
  have J : i_Rel (k + 4) (nI n, r, lc_xb b, ck, wg, ot, ch, ld, ro) (nI n, nI (2 ^ n), cn, inn, md, ls, sn, le) := lc_rel h2 hn hr ht hin
  have h10 := lc_10 hn
  try dsimp only
  rcases lc_code v1 with hb | ⟨c, hc, rfl⟩
  · unfold wpX_exchange
    try dsimp only
    refine xw_badCodeN hb (br_f (by decide) ?_)
    unfold wpY_exchange
    try dsimp only
    exact yw_badN hb (br_f (by decide) ⟨rfl, J⟩)
  · have hR := hr c hc
    rcases lc_below v2 (K := n) (by omega) with hb | ⟨w, hw, rfl⟩
    · unfold wpX_exchange
      try dsimp only
      refine xw_badCode hc (br_t rfl (xw_badPlaceN hb (br_f (by decide) ?_)))
      unfold wpY_exchange
      try dsimp only
      exact yw_bad hc (br_t rfl (yw_noPlaceN hb (br_f (by decide) ⟨rfl, J⟩)))
    · rcases lc_below v3 (K := n) (by omega) with hb | ⟨q, hq, rfl⟩
      · unfold wpX_exchange
        try dsimp only
        refine xw_badCode hc (br_t rfl (xw_badPlace hn hw (br_t rfl (xw_badPlaceN hb (br_f (by decide) ?_)))))
        unfold wpY_exchange
        try dsimp only
        exact yw_bad hc (br_t rfl (yw_noPlace hn hw (br_t rfl (yw_noPlaceN hb (br_f (by decide) ⟨rfl, J⟩)))))
      · refine xw_exchange hn hc hw hq hR ?_
        refine yw_exchange hn hc hR hw hq hin ?_
        intro cn' in' md' ls' h
        exact ⟨rfl, lc_rel h2 hn (lc_setc_red (lc_setc_red hr (lc_exch_Red hR hw hq)) (lc_exch_Red hR hw hq)) ht (lc_in_congr h (fun e he => lc_setc_w he))⟩
theorem i_vc_meet {k : Nat} {u : SX} {v : SY} (I : i_Rel k u v) (hk : k + 4 ≤ 2049) : wpX_meet (fun r u' => wpY_meet (fun r' v' => r' = r ∧ i_Rel (k + 4) u' v') v) u := by
  refine lc_el (P := fun u v => wpX_meet (fun r u' => wpY_meet (fun r' v' => r' = r ∧ i_Rel (k + 4) u' v') v) u) I ?_
  intro n b r ck wg ot ch ld ro cn inn md ls sn le h2 hn hr ht hin
  have J : i_Rel (k + 4) (nI n, r, lc_xb b, ck, wg, ot, ch, ld, ro) (nI n, nI (2 ^ n), cn, inn, md, ls, sn, le) := lc_rel h2 hn hr ht hin
  have h10 := lc_10 hn
  try dsimp only
  have h0 := hr 0 (by omega)
  have h1 := hr 1 (by omega)
  refine xw_meet hn h0 h1 ?_
  intro r' ck'
  refine yw_meet hn h0 h1 hin ?_
  intro cn' in' md' ls' h
  exact ⟨rfl, lc_rel h2 hn (lc_setc_red (lc_setc_red hr (lc_meet_Red n _ _)) (lc_meet_Red n _ _)) ht (lc_in_congr h (fun e he => lc_setc_w he))⟩
theorem i_vc_length {k : Nat} {u : SX} {v : SY} (I : i_Rel k u v) (hk : k + 4 ≤ 2049) : wpX_length (fun r => wpY_length (fun r' => r' = r ∧ i_Rel (k + 4) u v) v) u := by
  refine lc_el (P := fun u v => wpX_length (fun r => wpY_length (fun r' => r' = r ∧ i_Rel (k + 4) u v) v) u) I ?_
  intro n b r ck wg ot ch ld ro cn inn md ls sn le h2 hn hr ht hin
  have J : i_Rel (k + 4) (nI n, r, lc_xb b, ck, wg, ot, ch, ld, ro) (nI n, nI (2 ^ n), cn, inn, md, ls, sn, le) := lc_rel h2 hn hr ht hin
  have h10 := lc_10 hn
  try dsimp only
  exact ⟨rfl, J⟩
theorem i_vc_dimension {k : Nat} {u : SX} {v : SY} (I : i_Rel k u v) (hk : k + 4 ≤ 2049) (v1 : Int32) : wpX_dimension (fun r => wpY_dimension (fun r' v' => r' = r ∧ i_Rel (k + 4) u v') v v1) u v1 := by
  refine lc_el (P := fun u v => wpX_dimension (fun r => wpY_dimension (fun r' v' => r' = r ∧ i_Rel (k + 4) u v') v v1) u v1) I ?_
  intro n b r ck wg ot ch ld ro cn inn md ls sn le h2 hn hr ht hin
  have J : i_Rel (k + 4) (nI n, r, lc_xb b, ck, wg, ot, ch, ld, ro) (nI n, nI (2 ^ n), cn, inn, md, ls, sn, le) := lc_rel h2 hn hr ht hin
  have h10 := lc_10 hn
  try dsimp only
  rcases lc_code v1 with hb | ⟨c, hc, rfl⟩
  · unfold wpX_dimension
    try dsimp only
    refine xw_badCodeN hb (br_f (by decide) ?_)
    unfold wpY_dimension
    try dsimp only
    exact yw_badN hb (br_f (by decide) ⟨rfl, J⟩)
  · have hR := hr c hc
    refine xw_dimension hn hc hR ?_
    refine yw_dimension hn hc hR (fun x hx => hin c x hc hx) ?_
    intro cn' ls'
    exact ⟨rfl, lc_rel h2 hn hr ht hin⟩
theorem i_vc_has {k : Nat} {u : SX} {v : SY} (I : i_Rel k u v) (hk : k + 4 ≤ 2049) (v1 : Int32) (v2 : Int32) : wpX_has (fun r => wpY_has (fun r' => r' = r ∧ i_Rel (k + 4) u v) v v1 v2) u v1 v2 := by
  refine lc_el (P := fun u v => wpX_has (fun r => wpY_has (fun r' => r' = r ∧ i_Rel (k + 4) u v) v v1 v2) u v1 v2) I ?_
  intro n b r ck wg ot ch ld ro cn inn md ls sn le h2 hn hr ht hin
  have J : i_Rel (k + 4) (nI n, r, lc_xb b, ck, wg, ot, ch, ld, ro) (nI n, nI (2 ^ n), cn, inn, md, ls, sn, le) := lc_rel h2 hn hr ht hin
  have h10 := lc_10 hn
  try dsimp only
  rcases lc_code v1 with hb | ⟨c, hc, rfl⟩
  · unfold wpX_has
    try dsimp only
    refine xw_badCodeN hb (br_f (by decide) ?_)
    unfold wpY_has
    try dsimp only
    exact yw_badN hb (br_f (by decide) ⟨rfl, J⟩)
  · have hR := hr c hc
    rcases lc_below v2 (K := 2 ^ n) (by omega) with hb | ⟨w, hw, rfl⟩
    · unfold wpX_has
      try dsimp only
      refine xw_badCode hc (br_t rfl (xw_badWordN hn hb (br_f (by decide) ?_)))
      unfold wpY_has
      try dsimp only
      exact yw_bad hc (br_t rfl (yw_noWordN hb (br_f (by decide) ⟨rfl, J⟩)))
    · exact xw_has hn hc hR hw (yw_has hn hc hw hin ⟨rfl, J⟩)
theorem i_vc_wordAt {k : Nat} {u : SX} {v : SY} (I : i_Rel k u v) (hk : k + 4 ≤ 2049) (v1 : Int32) (v2 : Int32) : wpX_wordAt (fun r => wpY_wordAt (fun r' v' => r' = r ∧ i_Rel (k + 4) u v') v v1 v2) u v1 v2 := by
  refine lc_el (P := fun u v => wpX_wordAt (fun r => wpY_wordAt (fun r' v' => r' = r ∧ i_Rel (k + 4) u v') v v1 v2) u v1 v2) I ?_
  intro n b r ck wg ot ch ld ro cn inn md ls sn le h2 hn hr ht hin
  have J : i_Rel (k + 4) (nI n, r, lc_xb b, ck, wg, ot, ch, ld, ro) (nI n, nI (2 ^ n), cn, inn, md, ls, sn, le) := lc_rel h2 hn hr ht hin
  have h10 := lc_10 hn
  try dsimp only
  rcases lc_code v1 with hb | ⟨c, hc, rfl⟩
  · unfold wpX_wordAt
    try dsimp only
    refine xw_badCodeN hb (br_f (by decide) ?_)
    unfold wpY_wordAt
    try dsimp only
    exact yw_badN hb (br_f (by decide) ⟨rfl, J⟩)
  · have hR := hr c hc
    have hd := lc_10 (n := lc_dim n (b c)) (Nat.le_trans (lc_dim_le n (b c)) hn)
    rcases lc_below v2 (K := 2 ^ lc_dim n (b c)) (by omega) with hb | ⟨i, hi, rfl⟩
    · refine xw_wordAtN hn hc hR hb ?_
      refine yw_wordAtN hn hc hR hin hb ?_
      intro cn' ls'
      exact ⟨rfl, lc_rel h2 hn hr ht hin⟩
    · refine xw_wordAt hn hc hR hi ?_
      refine yw_wordAt hn hc hR hin hi ?_
      intro cn' ls'
      exact ⟨rfl, lc_rel h2 hn hr ht hin⟩
theorem i_vc_weights {k : Nat} {u : SX} {v : SY} (I : i_Rel k u v) (hk : k + 4 ≤ 2049) (v1 : Int32) (v2 : Int32) : wpX_weights (fun r u' => wpY_weights (fun r' v' => r' = r ∧ i_Rel (k + 4) u' v') v v1 v2) u v1 v2 := by
  refine lc_el (P := fun u v => wpX_weights (fun r u' => wpY_weights (fun r' v' => r' = r ∧ i_Rel (k + 4) u' v') v v1 v2) u v1 v2) I ?_
  intro n b r ck wg ot ch ld ro cn inn md ls sn le h2 hn hr ht hin
  have J : i_Rel (k + 4) (nI n, r, lc_xb b, ck, wg, ot, ch, ld, ro) (nI n, nI (2 ^ n), cn, inn, md, ls, sn, le) := lc_rel h2 hn hr ht hin
  have h10 := lc_10 hn
  try dsimp only
  rcases lc_code v1 with hb | ⟨c, hc, rfl⟩
  · unfold wpX_weights
    try dsimp only
    refine xw_badCodeN hb (br_f (by decide) ?_)
    unfold wpY_weights
    try dsimp only
    exact yw_badN hb (br_f (by decide) ⟨rfl, J⟩)
  · have hR := hr c hc
    rcases lc_upto v2 (K := n) (by omega) with hb | ⟨w, hw, rfl⟩
    · refine xw_weightsN hc hb ?_
      refine yw_weights hn hc hR hin ?_
      intro cn' ls'
      refine ⟨?_, lc_rel h2 hn hr ht hin⟩
      rw [lc_law_w0 hn hb]
      rfl
    · refine xw_weights hn hc hR ht hw ?_
      intro r' ck' wg' ot' ro'
      refine yw_weights hn hc hR hin ?_
      intro cn' ls'
      refine ⟨?_, lc_rel h2 hn hr ht hin⟩
      rw [lc_law_w hn hw hR]
theorem i_vc_dualWeights {k : Nat} {u : SX} {v : SY} (I : i_Rel k u v) (hk : k + 4 ≤ 2049) (v1 : Int32) (v2 : Int32) : wpX_dualWeights (fun r u' => wpY_dualWeights (fun r' v' => r' = r ∧ i_Rel (k + 4) u' v') v v1 v2) u v1 v2 := by
  refine lc_el (P := fun u v => wpX_dualWeights (fun r u' => wpY_dualWeights (fun r' v' => r' = r ∧ i_Rel (k + 4) u' v') v v1 v2) u v1 v2) I ?_
  intro n b r ck wg ot ch ld ro cn inn md ls sn le h2 hn hr ht hin
  have J : i_Rel (k + 4) (nI n, r, lc_xb b, ck, wg, ot, ch, ld, ro) (nI n, nI (2 ^ n), cn, inn, md, ls, sn, le) := lc_rel h2 hn hr ht hin
  have h10 := lc_10 hn
  try dsimp only
  rcases lc_code v1 with hb | ⟨c, hc, rfl⟩
  · unfold wpX_dualWeights
    try dsimp only
    refine xw_badCodeN hb (br_f (by decide) ?_)
    unfold wpY_dualWeights
    try dsimp only
    exact yw_badN hb (br_f (by decide) ⟨rfl, J⟩)
  · have hR := hr c hc
    rcases lc_upto v2 (K := n) (by omega) with hb | ⟨w, hw, rfl⟩
    · refine xw_dualWeightsN hc hb ?_
      refine yw_dualWeights hn hc hR hin ?_
      intro cn' ls'
      refine ⟨?_, lc_rel h2 hn hr ht hin⟩
      rw [lc_law_d0 hn hb]
      rfl
    · refine xw_dualWeights hn hc hR ht hw ?_
      intro r' ck' wg' ot' ro'
      refine yw_dualWeights hn hc hR hin ?_
      intro cn' ls'
      refine ⟨?_, lc_rel h2 hn hr ht hin⟩
      rw [lc_law_d hn hw]
theorem i_vc_leastWeight {k : Nat} {u : SX} {v : SY} (I : i_Rel k u v) (hk : k + 4 ≤ 2049) (v1 : Int32) : wpX_leastWeight (fun r u' => wpY_leastWeight (fun r' v' => r' = r ∧ i_Rel (k + 4) u' v') v v1) u v1 := by
  refine lc_el (P := fun u v => wpX_leastWeight (fun r u' => wpY_leastWeight (fun r' v' => r' = r ∧ i_Rel (k + 4) u' v') v v1) u v1) I ?_
  intro n b r ck wg ot ch ld ro cn inn md ls sn le h2 hn hr ht hin
  have J : i_Rel (k + 4) (nI n, r, lc_xb b, ck, wg, ot, ch, ld, ro) (nI n, nI (2 ^ n), cn, inn, md, ls, sn, le) := lc_rel h2 hn hr ht hin
  have h10 := lc_10 hn
  try dsimp only
  rcases lc_code v1 with hb | ⟨c, hc, rfl⟩
  · unfold wpX_leastWeight
    try dsimp only
    refine xw_badCodeN hb (br_f (by decide) ?_)
    unfold wpY_leastWeight
    try dsimp only
    exact yw_badN hb (br_f (by decide) ⟨rfl, J⟩)
  · have hR := hr c hc
    refine xw_least hn hc hR ht ?_
    intro x r' ck' wg' ot' ro' hX
    refine yw_least hn hc hR hin ?_
    intro x' cn' ls' hY
    exact ⟨lc_law_l hR hX hY, lc_rel h2 hn hr ht hin⟩
theorem i_vc_nearest {k : Nat} {u : SX} {v : SY} (I : i_Rel k u v) (hk : k + 4 ≤ 2049) (v1 : Int32) (v2 : Int32) : wpX_nearest (fun r u' => wpY_nearest (fun r' v' => r' = r ∧ i_Rel (k + 4) u' v') v v1 v2) u v1 v2 := by
  refine lc_el (P := fun u v => wpX_nearest (fun r u' => wpY_nearest (fun r' v' => r' = r ∧ i_Rel (k + 4) u' v') v v1 v2) u v1 v2) I ?_
  intro n b r ck wg ot ch ld ro cn inn md ls sn le h2 hn hr ht hin
  have J : i_Rel (k + 4) (nI n, r, lc_xb b, ck, wg, ot, ch, ld, ro) (nI n, nI (2 ^ n), cn, inn, md, ls, sn, le) := lc_rel h2 hn hr ht hin
  have h10 := lc_10 hn
  try dsimp only
  rcases lc_code v1 with hb | ⟨c, hc, rfl⟩
  · unfold wpX_nearest
    try dsimp only
    refine xw_badCodeN hb (br_f (by decide) ?_)
    unfold wpY_nearest
    try dsimp only
    exact yw_badN hb (br_f (by decide) ⟨rfl, J⟩)
  · have hR := hr c hc
    rcases lc_below v2 (K := 2 ^ n) (by omega) with hb | ⟨w, hw, rfl⟩
    · unfold wpX_nearest
      try dsimp only
      refine xw_badCode hc (br_t rfl (xw_badWordN hn hb (br_f (by decide) ?_)))
      unfold wpY_nearest
      try dsimp only
      exact yw_bad hc (br_t rfl (yw_noWordN hb (br_f (by decide) ⟨rfl, J⟩)))
    · refine xw_nearest hn hc hR hw ?_
      intro z ck' hz
      refine yw_nearest hn hc hR hin hw ?_
      intro z' cn' ls' hz'
      exact ⟨by rw [lc_near_u hz hz'], lc_rel h2 hn hr ht hin⟩
theorem i_vc_cosets {k : Nat} {u : SX} {v : SY} (I : i_Rel k u v) (hk : k + 4 ≤ 2049) (v1 : Int32) (v2 : Int32) : wpX_cosets (fun r u' => wpY_cosets (fun r' v' => r' = r ∧ i_Rel (k + 4) u' v') v v1 v2) u v1 v2 := by
  refine lc_el (P := fun u v => wpX_cosets (fun r u' => wpY_cosets (fun r' v' => r' = r ∧ i_Rel (k + 4) u' v') v v1 v2) u v1 v2) I ?_
  intro n b r ck wg ot ch ld ro cn inn md ls sn le h2 hn hr ht hin
  have J : i_Rel (k + 4) (nI n, r, lc_xb b, ck, wg, ot, ch, ld, ro) (nI n, nI (2 ^ n), cn, inn, md, ls, sn, le) := lc_rel h2 hn hr ht hin
  have h10 := lc_10 hn
  try dsimp only
  rcases lc_code v1 with hb | ⟨c, hc, rfl⟩
  · unfold wpX_cosets
    try dsimp only
    refine xw_badCodeN hb (br_f (by decide) ?_)
    unfold wpY_cosets
    try dsimp only
    exact yw_badN hb (br_f (by decide) ⟨rfl, J⟩)
  · have hR := hr c hc
    refine xw_cosets hn hc hR ?_
    intro ck' ld'
    rcases lc_upto v2 (K := n) (by omega) with hb | ⟨w, hw, rfl⟩
    · refine yw_cosetsN hn hc hR hin hb ?_
      intro cn' ls' sn' le'
      refine ⟨?_, lc_rel h2 hn hr ht hin⟩
      rw [lc_law_c0 hn hR hb]
      rfl
    · refine yw_cosets hn hc hR hin hw ?_
      intro cn' ls' sn' le'
      refine ⟨?_, lc_rel h2 hn hr ht hin⟩
      rw [lc_law_c hn hw hR]
theorem i_vc_radius {k : Nat} {u : SX} {v : SY} (I : i_Rel k u v) (hk : k + 4 ≤ 2049) (v1 : Int32) : wpX_radius (fun r u' => wpY_radius (fun r' v' => r' = r ∧ i_Rel (k + 4) u' v') v v1) u v1 := by
  refine lc_el (P := fun u v => wpX_radius (fun r u' => wpY_radius (fun r' v' => r' = r ∧ i_Rel (k + 4) u' v') v v1) u v1) I ?_
  intro n b r ck wg ot ch ld ro cn inn md ls sn le h2 hn hr ht hin
  have J : i_Rel (k + 4) (nI n, r, lc_xb b, ck, wg, ot, ch, ld, ro) (nI n, nI (2 ^ n), cn, inn, md, ls, sn, le) := lc_rel h2 hn hr ht hin
  have h10 := lc_10 hn
  try dsimp only
  rcases lc_code v1 with hb | ⟨c, hc, rfl⟩
  · unfold wpX_radius
    try dsimp only
    refine xw_badCodeN hb (br_f (by decide) ?_)
    unfold wpY_radius
    try dsimp only
    exact yw_badN hb (br_f (by decide) ⟨rfl, J⟩)
  · have hR := hr c hc
    refine xw_radius hn hc hR ?_
    intro ck' ld'
    refine yw_radius hn hc hR hin ?_
    intro cn' ls' sn' le'
    exact ⟨by rw [lc_law_r hR], lc_rel h2 hn hr ht hin⟩
theorem i_vc_isInformation {k : Nat} {u : SX} {v : SY} (I : i_Rel k u v) (hk : k + 4 ≤ 2049) (v1 : Int32) (v2 : Int32) : wpX_isInformation (fun r u' => wpY_isInformation (fun r' v' => r' = r ∧ i_Rel (k + 4) u' v') v v1 v2) u v1 v2 := by
  refine lc_el (P := fun u v => wpX_isInformation (fun r u' => wpY_isInformation (fun r' v' => r' = r ∧ i_Rel (k + 4) u' v') v v1 v2) u v1 v2) I ?_
  intro n b r ck wg ot ch ld ro cn inn md ls sn le h2 hn hr ht hin
  have J : i_Rel (k + 4) (nI n, r, lc_xb b, ck, wg, ot, ch, ld, ro) (nI n, nI (2 ^ n), cn, inn, md, ls, sn, le) := lc_rel h2 hn hr ht hin
  have h10 := lc_10 hn
  try dsimp only
  rcases lc_code v1 with hb | ⟨c, hc, rfl⟩
  · unfold wpX_isInformation
    try dsimp only
    refine xw_badCodeN hb (br_f (by decide) ?_)
    unfold wpY_isInformation
    try dsimp only
    exact yw_badN hb (br_f (by decide) ⟨rfl, J⟩)
  · have hR := hr c hc
    rcases lc_below v2 (K := 2 ^ n) (by omega) with hb | ⟨w, hw, rfl⟩
    · unfold wpX_isInformation
      try dsimp only
      refine xw_badCode hc (br_t rfl (xw_badWordN hn hb (br_f (by decide) ?_)))
      unfold wpY_isInformation
      try dsimp only
      exact yw_bad hc (br_t rfl (yw_noWordN hb (br_f (by decide) ⟨rfl, J⟩)))
    · refine xw_isInf hn hc hR hw ?_
      intro v
      refine yw_isInf hn hc hR hin hw ?_
      intro cn' ls'
      exact ⟨rfl, lc_rel h2 hn (fun e he => by rw [lc_setc_n (by omega)]; exact hr e he) ht (lc_in_congr hin (fun e he => by rw [lc_setc_n (by omega)]))⟩
theorem i_vc_informationSets {k : Nat} {u : SX} {v : SY} (I : i_Rel k u v) (hk : k + 4 ≤ 2049) (v1 : Int32) : wpX_informationSets (fun r u' => wpY_informationSets (fun r' v' => r' = r ∧ i_Rel (k + 4) u' v') v v1) u v1 := by
  refine lc_el (P := fun u v => wpX_informationSets (fun r u' => wpY_informationSets (fun r' v' => r' = r ∧ i_Rel (k + 4) u' v') v v1) u v1) I ?_
  intro n b r ck wg ot ch ld ro cn inn md ls sn le h2 hn hr ht hin
  have J : i_Rel (k + 4) (nI n, r, lc_xb b, ck, wg, ot, ch, ld, ro) (nI n, nI (2 ^ n), cn, inn, md, ls, sn, le) := lc_rel h2 hn hr ht hin
  have h10 := lc_10 hn
  try dsimp only
  rcases lc_code v1 with hb | ⟨c, hc, rfl⟩
  · unfold wpX_informationSets
    try dsimp only
    refine xw_badCodeN hb (br_f (by decide) ?_)
    unfold wpY_informationSets
    try dsimp only
    exact yw_badN hb (br_f (by decide) ⟨rfl, J⟩)
  · have hR := hr c hc
    refine xw_infs hn hc hR ?_
    intro v
    refine yw_infs hn hc hR hin ?_
    intro cn' ls'
    exact ⟨rfl, lc_rel h2 hn (fun e he => by rw [lc_setc_n (by omega)]; exact hr e he) ht (lc_in_congr hin (fun e he => by rw [lc_setc_n (by omega)]))⟩
theorem i_vc_orthogonal {k : Nat} {u : SX} {v : SY} (I : i_Rel k u v) (hk : k + 4 ≤ 2049) : wpX_orthogonal (fun r => wpY_orthogonal (fun r' v' => r' = r ∧ i_Rel (k + 4) u v') v) u := by
  refine lc_el (P := fun u v => wpX_orthogonal (fun r => wpY_orthogonal (fun r' v' => r' = r ∧ i_Rel (k + 4) u v') v) u) I ?_
  intro n b r ck wg ot ch ld ro cn inn md ls sn le h2 hn hr ht hin
  have J : i_Rel (k + 4) (nI n, r, lc_xb b, ck, wg, ot, ch, ld, ro) (nI n, nI (2 ^ n), cn, inn, md, ls, sn, le) := lc_rel h2 hn hr ht hin
  have h10 := lc_10 hn
  try dsimp only
  have h0 := hr 0 (by omega)
  have h1 := hr 1 (by omega)
  refine xw_orth hn h0 h1 ?_
  refine yw_orth hn h0 h1 hin ?_
  intro cn' ls'
  exact ⟨rfl, lc_rel h2 hn hr ht hin⟩
end
