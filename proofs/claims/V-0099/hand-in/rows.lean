section
/-! rows of kit/rows, pasted -/
theorem pk_us {f : Nat → Int32} {k : Nat} {x : Int32} : upd f k x k = x := if_pos rfl
theorem pk_un {f : Nat → Int32} {k j : Nat} {x : Int32} (h : j ≠ k) : upd f k x j = f j := if_neg h
theorem pk_sub {a b : Nat} (h : b ≤ a) : nI a - nI b = nI (a - b) := by
  obtain ⟨c, rfl⟩ : ∃ c, a = c + b := ⟨a - b, by omega⟩
  rw [← nI_add, Int32.add_sub_cancel, Nat.add_sub_cancel]
theorem pk_m1 (n : Nat) : nI (n + 1) + (-1) = nI n := by
  rw [← nI_1, Int32.add_assoc, show (1 : Int32) + (-1) = 0 from rfl, Int32.add_zero]
theorem pk_mul (a b : Nat) : nI a * nI b = nI (a * b) := (Int32.ofNat_mul a b).symm
theorem pk_div {a d : Nat} (ha : a < 2 ^ 31) (h0 : 0 < d) (hd : d < 2 ^ 31) : nI a / nI d = nI (a / d) := by
  apply Int32.toInt_inj.mp
  rw [lg_idiv_nonneg (by rw [nI_toInt ha]; omega) (by rw [nI_toInt hd]; omega), nI_toInt ha, nI_toInt hd, nI_toInt (Nat.lt_of_le_of_lt (Nat.div_le_self a d) ha)]
  first | rfl | exact (Int.natCast_ediv _ _).symm
theorem pk_rem {a d : Nat} (ha : a < 2 ^ 31) (h0 : 0 < d) (hd : d < 2 ^ 31) : nI a - nI a / nI d * nI d = nI (a % d) := by
  rw [pk_div ha h0 hd, pk_mul, pk_sub (Nat.div_mul_le_self a d)]
  exact congrArg nI (by have := Nat.div_add_mod' a d; omega)
theorem pk_sub_toInt {a b : Nat} (ha : a < 2 ^ 30) (hb : b < 2 ^ 30) : (nI a - nI b).toInt = (a : Int) - b := by
  rw [Int32.toInt_sub, nI_toInt (by omega), nI_toInt (by omega)]
  exact Int.bmod_eq_of_le (by omega) (by omega)
theorem pk_sneg {a b : Nat} (hb : b < 2 ^ 30) (h : a < b) : nI a - nI b < 0 := by
  rw [Int32.lt_iff_toInt_lt, pk_sub_toInt (by omega) hb, show (0 : Int32).toInt = 0 from by decide]
  omega
theorem pk_ix (x : Int32) {n : Nat} (hn : n < 2 ^ 31) : x < 0 ∨ nI n ≤ x ∨ ∃ j : Nat, j < n ∧ x = nI j := by
  by_cases h : x < 0
  · exact Or.inl h
  · obtain ⟨j, hj, rfl⟩ := nI_of h
    by_cases h2 : j < n
    · exact Or.inr (Or.inr ⟨j, h2, rfl⟩)
    · exact Or.inr (Or.inl (nI_le (by omega) hj))
theorem pk_le {x y : Int32} {A B : Prop} (a b : Nat) (f : a ≤ b → A) (g : b < a → B) (hx : x = nI a := by rfl) (hy : y = nI b := by rfl) (ha : a < 2 ^ 31 := by omega) (hb : b < 2 ^ 31 := by omega) : (x ≤ y → A) ∧ (¬ x ≤ y → B) := by
  subst hx hy
  rw [nI_leI ha hb]
  exact ⟨f, fun z => g (by omega)⟩
theorem pk_lt {x y : Int32} {A B : Prop} (a b : Nat) (f : a < b → A) (g : b ≤ a → B) (hx : x = nI a := by rfl) (hy : y = nI b := by rfl) (ha : a < 2 ^ 31 := by omega) (hb : b < 2 ^ 31 := by omega) : (x < y → A) ∧ (¬ x < y → B) := by
  subst hx hy
  rw [nI_ltI ha hb]
  exact ⟨f, fun z => g (by omega)⟩
theorem pk_eq {x y : Int32} {A B : Prop} (a b : Nat) (f : a = b → A) (g : a ≠ b → B) (hx : x = nI a := by rfl) (hy : y = nI b := by rfl) (ha : a < 2 ^ 31 := by omega) (hb : b < 2 ^ 31 := by omega) : (x = y → A) ∧ (¬ x = y → B) := by
  subst hx hy
  rw [nI_eq ha hb]
  exact ⟨f, g⟩
theorem pk_in {x : Int32} (n N : Nat) (h : n < N) (hx : x = nI n := by rfl) (hN : N < 2 ^ 31 := by omega) : vp_in x N := by
  subst hx
  exact vp_in_nI h hN
theorem pk_cl {x : Int32} (n : Nat) (hx : x = nI n := by rfl) (h : n < 2 ^ 31 := by omega) : x.toNatClampNeg = n := by
  subst hx
  exact nI_clamp h
theorem pk_tn {n : Nat} (h : n < 2 ^ 32) : (nI n).toBitVec.toNat = n := Nat.mod_eq_of_lt h
theorem pk_and (x : Int32) {m : Int32} (k : Nat) (hm : m.toBitVec.toNat = 2 ^ k - 1) : x &&& m = nI (x.toBitVec.toNat % 2 ^ k) := by
  apply Int32.toBitVec_inj.mp
  apply BitVec.eq_of_toNat_eq
  rw [Int32.toBitVec_and, BitVec.toNat_and, hm, Nat.and_two_pow_sub_one_eq_mod]
  show _ = (BitVec.ofNat 32 _).toNat
  rw [BitVec.toNat_ofNat]
  exact (Nat.mod_eq_of_lt (Nat.lt_of_le_of_lt (Nat.mod_le _ _) x.toBitVec.isLt)).symm
theorem pk_andN {n : Nat} (h : n < 2 ^ 32) {m : Int32} (k : Nat) (hm : m.toBitVec.toNat = 2 ^ k - 1) : nI n &&& m = nI (n % 2 ^ k) := by
  rw [pk_and _ k hm, pk_tn h]
theorem pk_shl (a s : Int32) (k : Nat) (hs : (s.toBitVec.smod 32).toNat = k) : (a <<< s).toBitVec.toNat = a.toBitVec.toNat * 2 ^ k % 2 ^ 32 := by
  show (a.toBitVec <<< (s.toBitVec.smod 32).toNat).toNat = _
  rw [hs, BitVec.toNat_shiftLeft, Nat.shiftLeft_eq]
theorem pk_shlN {n : Nat} (s : Int32) (k : Nat) (hs : (s.toBitVec.smod 32).toNat = k) (h : n * 2 ^ k < 2 ^ 32) : nI n <<< s = nI (n * 2 ^ k) := by
  apply Int32.toBitVec_inj.mp
  apply BitVec.eq_of_toNat_eq
  have hn : n < 2 ^ 32 := Nat.lt_of_le_of_lt (Nat.le_mul_of_pos_right n (Nat.two_pow_pos k)) h
  rw [pk_shl _ _ k hs, pk_tn hn, pk_tn h, Nat.mod_eq_of_lt h]
theorem pk_shr (a s : Int32) (k : Nat) (hs : (s.toBitVec.smod 32).toNat = k) : (a >>> s).toInt = a.toInt >>> k := by
  show (a.toBitVec.sshiftRight (s.toBitVec.smod 32).toNat).toInt = _
  rw [hs, BitVec.toInt_sshiftRight]
  rfl
theorem pk_shrN {n : Nat} (h : n < 2 ^ 31) (s : Int32) (k : Nat) (hs : (s.toBitVec.smod 32).toNat = k) : nI n >>> s = nI (n / 2 ^ k) := by
  apply Int32.toInt_inj.mp
  have h2 : n / 2 ^ k ≤ n := Nat.div_le_self _ _
  rw [pk_shr _ _ k hs, nI_toInt h, nI_toInt (by omega), Int.shiftRight_eq_div_pow]
  rfl
theorem sb_negT {w : Nat} (h : w < 2 ^ 31) : (-nI w).toInt = -(w : Int) := by
  rw [Int32.toInt_neg, nI_toInt h]
  exact Int.bmod_eq_of_le (by omega) (by omega)
def bt (x : Int32) (i : Nat) : Bool := x.toBitVec.getLsbD i
theorem b_ext {x y : Int32} (h : ∀ i, i < 32 → bt x i = bt y i) : x = y := Int32.toBitVec_inj.mp (BitVec.eq_of_getLsbD_eq (fun i hi => h i hi))
theorem b_or (x y : Int32) (i : Nat) : bt (x ||| y) i = (bt x i || bt y i) := by unfold bt; rw [Int32.toBitVec_or, BitVec.getLsbD_or]
theorem b_and (x y : Int32) (i : Nat) : bt (x &&& y) i = (bt x i && bt y i) := by unfold bt; rw [Int32.toBitVec_and, BitVec.getLsbD_and]
theorem b_xor (x y : Int32) (i : Nat) : bt (x ^^^ y) i = (bt x i ^^ bt y i) := by unfold bt; rw [Int32.toBitVec_xor, BitVec.getLsbD_xor]
theorem b_big {x : Int32} {i : Nat} (h : 32 ≤ i) : bt x i = false := BitVec.getLsbD_of_ge _ _ h
theorem b_255 (i : Nat) : bt 255 i = decide (i < 8) := by
  rcases Nat.lt_or_ge i 32 with h | h
  · exact (by decide +kernel : ∀ i, i < 32 → bt 255 i = decide (i < 8)) i h
  · rw [b_big h, decide_eq_false (by omega)]
theorem b_m1 : ∀ i, i < 32 → bt (-1) i = true := by decide +kernel
theorem b_0 (i : Nat) : bt 0 i = false := BitVec.getLsbD_zero
theorem s_l : ∀ n, n < 32 → ((nI n &&& 31).toBitVec.smod 32).toNat = n := by decide +kernel
theorem s_u : ∀ n, n < 32 → (((nI n).toUInt32 &&& Int32.toUInt32 31).toBitVec % 32).toNat = n := by decide +kernel
theorem b_shl (n : Nat) (hn : n < 32) (x : Int32) {i : Nat} (hi : i < 32) : bt (x <<< (nI n &&& 31)) i = (decide (n ≤ i) && bt x (i - n)) := by
  unfold bt
  rw [Int32.toBitVec_shiftLeft]
  show (x.toBitVec <<< ((nI n &&& 31).toBitVec.smod 32).toNat).getLsbD i = _
  rw [s_l n hn, BitVec.getLsbD_shiftLeft]
  rcases Nat.lt_or_ge i n with h | h
  · simp [h, Nat.not_le.mpr h]
  · simp [hi, h, Nat.not_lt.mpr h]
theorem b_sshr (n : Nat) (hn : n < 32) (x : Int32) {i : Nat} (hi : i < 32) : bt (x >>> (nI n &&& 31)) i = if n + i < 32 then bt x (n + i) else bt x 31 := by
  unfold bt
  rw [Int32.toBitVec_shiftRight]
  show (x.toBitVec.sshiftRight ((nI n &&& 31).toBitVec.smod 32).toNat).getLsbD i = _
  rw [s_l n hn, BitVec.getLsbD_sshiftRight, BitVec.msb_eq_getLsbD_last]
  simp [hi]
theorem b_shl24 (x : Int32) {i : Nat} (hi : i < 32) : bt (x <<< ((24 : Int32) &&& 31)) i = (decide (24 ≤ i) && bt x (i - 24)) := b_shl 24 (by omega) x hi
theorem nx_and (a b : Nat) : nI a &&& nI b = nI (a &&& b) := by
  apply Int32.toBitVec_inj.1
  show BitVec.ofNat 32 a &&& BitVec.ofNat 32 b = BitVec.ofNat 32 (a &&& b)
  apply BitVec.eq_of_getLsbD_eq
  intro i hi
  simp [hi]
end
section
/-! masks by their bits -/
theorem qb_andn (x y : Int32) (i : Nat) : bt (x &&& (y ^^^ (-1))) i = (bt x i && !bt y i) := by
  rcases Nat.lt_or_ge i 32 with h | h
  · rw [b_and, b_xor, b_m1 i h]; simp
  · rw [b_big h, b_big h]; rfl
theorem qb_one (k : Nat) (hk : k < 32) (i : Nat) : bt ((1 : Int32) <<< (nI k &&& 31)) i = decide (i = k) := by
  rcases Nat.lt_or_ge i 32 with h | h
  · exact (by decide +kernel : ∀ k, k < 32 → ∀ i, i < 32 → bt ((1 : Int32) <<< (nI k &&& 31)) i = decide (i = k)) k hk i h
  · rw [b_big h, decide_eq_false (by omega)]
theorem qb_low (k : Nat) (hk : k < 32) (i : Nat) : bt (((1 : Int32) <<< (nI k &&& 31)) - 1) i = decide (i < k) := by
  rcases Nat.lt_or_ge i 32 with h | h
  · exact (by decide +kernel : ∀ k, k < 32 → ∀ i, i < 32 → bt (((1 : Int32) <<< (nI k &&& 31)) - 1) i = decide (i < k)) k hk i h
  · rw [b_big h, decide_eq_false (by omega)]
theorem qb_hi24 (x : Int32) {j : Nat} (hj : j < 8) : bt (x <<< ((24 : Int32) &&& 31)) (24 + j) = bt x j := by
  rw [b_shl24 x (by omega), decide_eq_true (by omega), Bool.true_and, Nat.add_sub_cancel_left]
theorem qb_lo24 (x : Int32) {j : Nat} (hj : j < 24) : bt (x <<< ((24 : Int32) &&& 31)) j = false := by
  rw [b_shl24 x (by omega), decide_eq_false (by omega), Bool.false_and]
theorem qb_z {x : Int32} : x = 0 ↔ ∀ i, bt x i = false :=
  ⟨fun h i => by rw [h, b_0], fun h => b_ext fun i _ => by rw [h i, b_0]⟩
theorem qb_nz {x : Int32} (h : ¬ x = 0) : ∃ i, bt x i = true := by
  apply Classical.byContradiction
  intro hn
  exact h (qb_z.mpr fun i => by
    cases e : bt x i
    · rfl
    · exact absurd ⟨i, e⟩ hn)
theorem qb_nzi {x : Int32} {i : Nat} (h : bt x i = true) : ¬ x = 0 := fun e => by
  rw [e, b_0] at h; exact absurd h (by decide)
theorem qb_bit0 (x : Int32) {k : Nat} (hk : k < 32) : (x &&& ((1 : Int32) <<< (nI k &&& 31))) = 0 ↔ bt x k = false := by
  constructor
  · intro h
    have h1 := qb_z.mp h k
    rw [b_and, qb_one k hk, decide_eq_true rfl, Bool.and_true] at h1
    exact h1
  · intro h
    apply qb_z.mpr
    intro i
    rw [b_and, qb_one k hk]
    by_cases e : i = k
    · rw [e, h, Bool.false_and]
    · rw [decide_eq_false e, Bool.and_false]
theorem qb_bit1 (x : Int32) {k : Nat} (hk : k < 32) : ¬ (x &&& ((1 : Int32) <<< (nI k &&& 31))) = 0 ↔ bt x k = true := by
  rw [qb_bit0 x hk]
  cases bt x k <;> simp
/-- x without bits outside y -/
theorem qb_sub {x y : Int32} (h : (x &&& (y ^^^ (-1))) = 0) {i : Nat} (hi : bt x i = true) : bt y i = true := by
  have h1 := qb_z.mp h i
  rw [qb_andn, hi, Bool.true_and] at h1
  cases e : bt y i
  · rw [e] at h1; exact absurd h1 (by decide)
  · rfl
theorem qb_subz {x y : Int32} (h : ∀ i, bt x i = true → bt y i = true) : (x &&& (y ^^^ (-1))) = 0 := by
  apply qb_z.mpr
  intro i
  rw [qb_andn]
  cases e : bt x i
  · rfl
  · rw [h i e]; rfl
theorem qb_nbt (w : Nat) (i : Nat) (hw : w < 2 ^ 32) : bt (nI w) i = w.testBit i := by
  unfold bt
  show (BitVec.ofNat 32 w).getLsbD i = _
  rw [BitVec.getLsbD_ofNat]
  rcases Nat.lt_or_ge i 32 with h | h
  · rw [decide_eq_true h, Bool.true_and]
  · rw [decide_eq_false (by omega), Bool.false_and]
    exact (Nat.testBit_lt_two_pow (Nat.lt_of_lt_of_le hw (Nat.pow_le_pow_right (by decide) h))).symm
theorem qb_eqn (x : Int32) : x = nI x.toBitVec.toNat := by
  apply Int32.toBitVec_inj.1
  show x.toBitVec = BitVec.ofNat 32 x.toBitVec.toNat
  simp
/-- bits below k alone: a number below 2^k -/
theorem qb_small {x : Int32} {k : Nat} (hk : k ≤ 32) (h : ∀ i, bt x i = true → i < k) : ∃ w, w < 2 ^ k ∧ x = nI w := by
  refine ⟨x.toBitVec.toNat, ?_, qb_eqn x⟩
  apply Nat.lt_pow_two_of_testBit
  intro i hi
  cases e : x.toBitVec.toNat.testBit i
  · rfl
  · have h2 : bt x i = true := by
      rw [qb_eqn x, qb_nbt _ _ x.toBitVec.isLt]; exact e
    exact absurd (h i h2) (by omega)
theorem qb_single_t : ∀ w, w < 256 → nI w = 0 ∨ ¬ (nI w &&& (nI w - 1)) = 0 ∨ ∃ v, v < 8 ∧ nI w = (1 : Int32) <<< (nI v &&& 31) := by decide +kernel
theorem qb_single {x : Int32} (h8 : ∀ i, bt x i = true → i < 8) (h0 : ¬ x = 0) (h1 : (x &&& (x - 1)) = 0) : ∃ v, v < 8 ∧ x = (1 : Int32) <<< (nI v &&& 31) := by
  obtain ⟨w, hw, rfl⟩ := qb_small (by decide) h8
  rcases qb_single_t w hw with e | e | e
  · exact absurd e h0
  · exact absurd h1 e
  · exact e
theorem qb_lowest_t : ∀ w, w < 256 → nI w = 0 ∨ ¬ (nI w &&& (-nI w)) = 0 := by decide +kernel
theorem qb_lowest {x : Int32} (h8 : ∀ i, bt x i = true → i < 8) (h0 : ¬ x = 0) : ∃ i, bt x i = true ∧ bt (x &&& (-x)) i = true := by
  obtain ⟨w, hw, rfl⟩ := qb_small (by decide) h8
  rcases qb_lowest_t w hw with e | e
  · exact absurd e h0
  · obtain ⟨i, hi⟩ := qb_nz e
    rw [b_and] at hi
    refine ⟨i, ?_, ?_⟩
    · cases e2 : bt (nI w) i
      · rw [e2, Bool.false_and] at hi; exact absurd hi (by decide)
      · rfl
    · rw [b_and]; exact hi
theorem qb_p1 (x : Int32) : x + (-1) = x - 1 := (Int32.sub_eq_add_neg x 1).symm
theorem qb_dec {k b : Nat} (hk : k < 2 ^ 30) (hb : b < 2 ^ 30) : nI k - 1 < nI b ↔ k ≤ b := by
  rw [Int32.lt_iff_toInt_lt, show (1 : Int32) = nI 1 from rfl, pk_sub_toInt hk (by decide), nI_toInt (by omega)]
  omega
end
section
/-! the game, plays won throughout, and what a constraint says of them -/
def qb_up (t : Nat → Bool) (i : Nat) (b : Bool) : Nat → Bool := fun j => if j = i then b else t j
theorem qb_up_eq {t : Nat → Bool} {i : Nat} {b : Bool} : qb_up t i b i = b := if_pos rfl
theorem qb_up_ne {t : Nat → Bool} {i j : Nat} {b : Bool} (h : j ≠ i) : qb_up t i b j = t j := if_neg h
def qb_V (n : Nat) (ex : Nat → Bool) (Lf : (Nat → Bool) → Prop) : Nat → (Nat → Bool) → Prop
  | 0 => fun t => Lf t
  | k + 1 => fun t => (ex (n - (k + 1)) = true → (qb_V n ex Lf k (qb_up t (n - (k + 1)) false) ∨ qb_V n ex Lf k (qb_up t (n - (k + 1)) true))) ∧ (¬ ex (n - (k + 1)) = true → (qb_V n ex Lf k (qb_up t (n - (k + 1)) false) ∧ qb_V n ex Lf k (qb_up t (n - (k + 1)) true)))
def qb_W (n : Nat) (ex : Nat → Bool) (Lf : (Nat → Bool) → Prop) (e : Bool) (d : Nat) (t : Nat → Bool) : Prop := qb_V n ex Lf (n - d) t ↔ e = true
def qb_T (n : Nat) (ex : Nat → Bool) (LF : (Nat → Prop) → (Nat → Bool) → Prop) (S : Nat → Prop) (o : Bool) (b : Nat) (t : Nat → Bool) : Prop := ∀ x, b ≤ x → x ≤ n → qb_W n ex (LF S) o x t
def qb_us (o : Bool) (nd : Nat → Bool) (S : Nat → Prop) (b : Nat) : Prop := (∀ j, j < 24 → nd j = true → (S j ↔ o = true)) ∧ (∀ i, i < 8 → nd (24 + i) = true → b ≤ i)
def qb_hL (n : Nat) (LF : (Nat → Prop) → (Nat → Bool) → Prop) : Prop := ∀ S t t', (∀ i, i < n → t i = t' i) → (LF S t ↔ LF S t')
def qb_Rs (n : Nat) (ex : Nat → Bool) (LF : (Nat → Prop) → (Nat → Bool) → Prop) (o : Bool) (rv rn bs : Nat → Bool) : Prop :=
  ∀ S b, b ≤ n → qb_us o rn S b → ∀ t, qb_T n ex LF S o b t → (∀ i, i < n → rv i = true → t i = bs i) → False
def qb_Vd (n : Nat) (ex : Nat → Bool) (LF : (Nat → Prop) → (Nat → Bool) → Prop) (o : Bool) (p q nd : Nat → Bool) : Prop :=
  ∀ S b, b ≤ n → qb_us o nd S b → ∀ t, qb_T n ex LF S o b t → ∃ i, i < n ∧ ((p i = true ∧ t i = true) ∨ (q i = true ∧ t i = false))
def qb_Ot (n : Nat) (ex : Nat → Bool) (LF : (Nat → Prop) → (Nat → Bool) → Prop) (o : Bool) (i : Nat) (rv rn bs : Nat → Bool) : Prop :=
  ∀ S b, b ≤ n → qb_us o rn S b → ∀ t, qb_T n ex LF S o b t → (∀ j, j < n → rv j = true → t j = bs j) → t i = bs i
def qb_Dp (n : Nat) (ex : Nat → Bool) (LF : (Nat → Prop) → (Nat → Bool) → Prop) (d v : Nat) (rv rn on zr : Nat → Bool) : Prop :=
  ∀ S b, b ≤ n → qb_us (ex v) rn S b → ∀ t, qb_T n ex LF S (ex v) b t → (∀ j, j < n → rv j = true → t j = on j) → (∀ u, d ≤ u → u < v → ¬ ex u = ex v → rn (24 + u) = true → (on u = true ∨ zr u = true) → t u = on u) → t v = on v
def qb_leaf (n m : Nat) (P N : Nat → Nat → Bool) (S : Nat → Prop) (t : Nat → Bool) : Prop :=
  ∀ c, c < m → S c → ∃ i, i < n ∧ ((P c i = true ∧ t i = true) ∨ (N c i = true ∧ t i = false))
section
variable {n m : Nat} {ex : Nat → Bool} {Lf : (Nat → Bool) → Prop} {LF : (Nat → Prop) → (Nat → Bool) → Prop} {P N : Nat → Nat → Bool}
theorem qb_Vx {d : Nat} {t : Nat → Bool} (hd : d < n) : qb_V n ex Lf (n - d) t ↔ ((ex d = true → (qb_V n ex Lf (n - (d + 1)) (qb_up t d false) ∨ qb_V n ex Lf (n - (d + 1)) (qb_up t d true))) ∧ (¬ ex d = true → (qb_V n ex Lf (n - (d + 1)) (qb_up t d false) ∧ qb_V n ex Lf (n - (d + 1)) (qb_up t d true)))) := by
  obtain ⟨k, hk⟩ : ∃ k, n - d = k + 1 := ⟨n - d - 1, by omega⟩
  have e1 : n - (d + 1) = k := by omega
  have e2 : n - (k + 1) = d := by omega
  rw [hk, e1]
  simp only [qb_V, e2]
theorem qb_Wown {e : Bool} {d : Nat} {t : Nat → Bool} (hd : d < n) (he : ex d = e) (h : qb_W n ex Lf e d t) : ∃ b, qb_W n ex Lf e (d + 1) (qb_up t d b) := by
  unfold qb_W at h ⊢
  rw [qb_Vx hd] at h
  cases e
  · by_cases hA : qb_V n ex Lf (n - (d + 1)) (qb_up t d false)
    · refine ⟨true, ⟨fun hB => ?_, fun z => absurd z (by decide)⟩⟩
      exact h.mp ⟨fun z => absurd (he.symm.trans z) (by decide), fun _ => ⟨hA, hB⟩⟩
    · exact ⟨false, ⟨fun z => absurd z hA, fun z => absurd z (by decide)⟩⟩
  · rcases (h.mpr rfl).1 he with h1 | h1
    · exact ⟨false, ⟨fun _ => rfl, fun _ => h1⟩⟩
    · exact ⟨true, ⟨fun _ => rfl, fun _ => h1⟩⟩
theorem qb_Wopp {e : Bool} {d : Nat} {t : Nat → Bool} (hd : d < n) (he : ¬ ex d = e) (h : qb_W n ex Lf e d t) (b : Bool) : qb_W n ex Lf e (d + 1) (qb_up t d b) := by
  unfold qb_W at h ⊢
  rw [qb_Vx hd] at h
  cases e
  · have hx : ex d = true := by
      cases h2 : ex d
      · exact absurd h2 he
      · rfl
    refine ⟨fun hA => ?_, fun z => absurd z (by decide)⟩
    refine h.mp ⟨fun _ => ?_, fun z => absurd hx z⟩
    cases b
    · exact Or.inl hA
    · exact Or.inr hA
  · have h1 := (h.mpr rfl).2 he
    refine ⟨fun _ => rfl, fun _ => ?_⟩
    cases b
    · exact h1.1
    · exact h1.2
theorem qb_Vcg (hL : ∀ t t', (∀ i, i < n → t i = t' i) → (Lf t ↔ Lf t')) : ∀ k, k ≤ n → ∀ t t' : Nat → Bool, (∀ i, i < n - k → t i = t' i) → (qb_V n ex Lf k t ↔ qb_V n ex Lf k t') := by
  intro k
  induction k with
  | zero => intro _ t t' h; exact hL t t' (fun i hi => h i (by omega))
  | succ k ih =>
    intro hk t t' h
    have h1 : ∀ b, qb_V n ex Lf k (qb_up t (n - (k + 1)) b) ↔ qb_V n ex Lf k (qb_up t' (n - (k + 1)) b) := by
      intro b
      apply ih (by omega)
      intro i hi
      by_cases e : i = n - (k + 1)
      · rw [e, qb_up_eq, qb_up_eq]
      · rw [qb_up_ne e, qb_up_ne e]; exact h i (by omega)
    simp only [qb_V, h1]
theorem qb_Wcg (hL : ∀ t t', (∀ i, i < n → t i = t' i) → (Lf t ↔ Lf t')) {e : Bool} {d : Nat} (hd : d ≤ n) {t t' : Nat → Bool} (h : ∀ i, i < d → t i = t' i) : qb_W n ex Lf e d t ↔ qb_W n ex Lf e d t' := by
  unfold qb_W
  rw [qb_Vcg hL (n - d) (by omega) t t' (fun i hi => h i (by omega))]
theorem qb_ext (hL : ∀ t t', (∀ i, i < n → t i = t' i) → (Lf t ↔ Lf t')) {e : Bool} {b : Nat} (g : Nat → Bool) : ∀ (k d : Nat) (t : Nat → Bool), d + k = n → (∀ x, b ≤ x → x ≤ d → qb_W n ex Lf e x t) → b ≤ d → ∃ t' : Nat → Bool, (∀ i, i < d → t' i = t i) ∧ (∀ x, b ≤ x → x ≤ n → qb_W n ex Lf e x t') ∧ (∀ i, d ≤ i → i < n → ¬ ex i = e → t' i = g i) := by
  intro k
  induction k with
  | zero =>
    intro d t hd hW _
    exact ⟨t, fun _ _ => rfl, fun x h1 h2 => hW x h1 (by omega), fun i h1 h2 => absurd h2 (by omega)⟩
  | succ k ih =>
    intro d t hd hW hb
    have hdn : d < n := by omega
    have hv : ∃ v, qb_W n ex Lf e (d + 1) (qb_up t d v) ∧ (¬ ex d = e → v = g d) := by
      by_cases he : ex d = e
      · obtain ⟨v, hv⟩ := qb_Wown hdn he (hW d hb (Nat.le_refl _))
        exact ⟨v, hv, fun h => absurd he h⟩
      · exact ⟨g d, qb_Wopp hdn he (hW d hb (Nat.le_refl _)) (g d), fun _ => rfl⟩
    obtain ⟨v, hv, hg⟩ := hv
    obtain ⟨t', h1, h2, h3⟩ := ih (d + 1) (qb_up t d v) (by omega) (fun x hx1 hx2 => by
      by_cases hx : x = d + 1
      · rw [hx]; exact hv
      · exact (qb_Wcg hL (by omega) (fun i hi => (qb_up_ne (by omega)).symm)).mp (hW x hx1 (by omega))) (by omega)
    refine ⟨t', fun i hi => (h1 i (by omega)).trans (qb_up_ne (by omega)), h2, fun i hi1 hi2 hie => ?_⟩
    by_cases hx : i = d
    · subst hx
      rw [h1 i (by omega), qb_up_eq]
      exact hg hie
    · exact h3 i (by omega) hi2 hie
theorem qb_ex (hL : qb_hL n LF) {S : Nat → Prop} {o : Bool} {b : Nat} {t : Nat → Bool} (h : qb_T n ex LF S o b t) {d : Nat} (hb : b ≤ d) (hd : d ≤ n) (g : Nat → Bool) : ∃ t' : Nat → Bool, (∀ i, i < d → t' i = t i) ∧ qb_T n ex LF S o b t' ∧ (∀ i, d ≤ i → i < n → ¬ ex i = o → t' i = g i) :=
  qb_ext (hL S) g (n - d) d t (by omega) (fun x h1 h2 => h x h1 (by omega)) hb
theorem qb_usm {o : Bool} {nd nd' : Nat → Bool} {S : Nat → Prop} {b : Nat} (h : qb_us o nd S b) (hs : ∀ j, nd' j = true → nd j = true) : qb_us o nd' S b :=
  ⟨fun j hj hn => h.1 j hj (hs j hn), fun i hi hn => h.2 i hi (hs _ hn)⟩
theorem qb_mx (d b : Nat) : ∃ D, d ≤ D ∧ b ≤ D ∧ (D = d ∨ D = b) := by
  rcases Nat.le_total d b with h | h
  · exact ⟨b, h, Nat.le_refl _, Or.inr rfl⟩
  · exact ⟨d, Nat.le_refl _, h, Or.inl rfl⟩
theorem qb_lf (n m : Nat) (P N : Nat → Nat → Bool) : qb_hL n (qb_leaf n m P N) := by
  have key : ∀ S t t', (∀ i, i < n → t i = t' i) → qb_leaf n m P N S t → qb_leaf n m P N S t' := by
    intro S t t' h hl c hc hS
    obtain ⟨i, hi, hx⟩ := hl c hc hS
    exact ⟨i, hi, by rw [← h i hi]; exact hx⟩
  intro S t t' h
  exact ⟨key S t t' h, key S t' t (fun i hi => (h i hi).symm)⟩
theorem qb_bt {x : Bool} (h : ¬ x = true) : x = false := by cases x <;> simp_all
theorem qb_bf {x : Bool} (h : ¬ x = false) : x = true := by cases x <;> simp_all
/-- a false constraint whose owner's literals all have values -/
theorem qb_conf (hL : qb_hL n LF) (hn8 : n ≤ 8) {d : Nat} (hd : d ≤ n) {o : Bool} {p q nd on zr bs rv rn : Nat → Bool} {dv dn : Nat → Nat → Bool}
    (hVd : qb_Vd n ex LF o p q nd) (hpq : ∀ j, p j = true → q j = false)
    (hon : ∀ j, p j = true → on j = false) (hzr : ∀ j, q j = true → zr j = false)
    (hdec : ∀ j, j < d → on j = bs j ∧ zr j = !bs j)
    (hdp : ∀ v, d ≤ v → v < n → (on v = true ∨ zr v = true) → (∀ j, dv v j = true → j < d) ∧ qb_Dp n ex LF d v (dv v) (dn v) on zr)
    (hown : ∀ j, j < n → (p j = true ∨ q j = true) → ex j = o → (on j = true ∨ zr j = true))
    (hrv1 : ∀ j, (p j = true ∨ q j = true) → j < d → rv j = true)
    (hrn1 : ∀ j, nd j = true → rn j = true)
    (hrn2 : ∀ j, (p j = true ∨ q j = true) → d ≤ j → ¬ ex j = o → rn (24 + j) = true)
    (hlt : ∀ v, d ≤ v → v < n → (p v = true ∨ q v = true) → ex v = o → (on v = true ∨ zr v = true) → (∀ j, dv v j = true → rv j = true) ∧ (∀ j, dn v j = true → rn j = true)) :
    qb_Rs n ex LF o rv rn bs := by
  intro S b hb hus t hT hag
  obtain ⟨D, hD1, hD2, hD3⟩ := qb_mx d b
  obtain ⟨t', h1, h2, h3⟩ := qb_ex hL hT hD2 (by omega) (fun u => if on u = true ∨ zr u = true then on u else q u)
  obtain ⟨i, hi, hlit⟩ := hVd S b hb (qb_usm hus hrn1) t' h2
  have hpq' : p i = true ∨ q i = true := hlit.imp And.left And.left
  have asg : (on i = true ∨ zr i = true) → t' i = on i → (p i = true → t' i = false) ∧ (q i = true → t' i = true) := by
    intro ha e
    refine ⟨fun hp => by rw [e]; exact hon i hp, fun hq => ?_⟩
    rw [e]
    rcases ha with ha | ha
    · exact ha
    · rw [hzr i hq] at ha; exact absurd ha (by decide)
  have key : (p i = true → t' i = false) ∧ (q i = true → t' i = true) := by
    by_cases hid : i < d
    · have e : t' i = on i := (h1 i (by omega)).trans ((hag i hi (hrv1 i hpq' hid)).trans (hdec i hid).1.symm)
      refine asg ?_ e
      have h5 := hdec i hid
      cases hb : bs i
      · right; rw [h5.2, hb]; rfl
      · left; rw [h5.1, hb]
    · by_cases hio : ex i = o
      · have ha := hown i hi hpq' hio
        obtain ⟨l1, l2⟩ := hlt i (by omega) hi hpq' hio ha
        obtain ⟨k1, k2⟩ := hdp i (by omega) hi ha
        refine asg ha ?_
        rw [← hio] at hT h2 hus
        refine k2 S b hb (qb_usm hus l2) t' h2 ?_ ?_
        · intro j hj hjv
          have hjd := k1 j hjv
          rw [h1 j (by omega), hag j hj (l1 j hjv), (hdec j hjd).1]
        · intro u hu1 hu2 hu3 hu4 hu5
          have hbu := hus.2 u (by omega) (l2 _ hu4)
          rw [h3 u (by omega) (by omega) (by rw [← hio]; exact hu3)]
          exact if_pos hu5
      · have hbi := hus.2 i (by omega) (hrn2 i hpq' (by omega) hio)
        have e := h3 i (by omega) hi hio
        by_cases ha : on i = true ∨ zr i = true
        · exact asg ha (e.trans (if_pos ha))
        · have e2 := e.trans (if_neg ha)
          exact ⟨fun hp => e2.trans (hpq i hp), fun hq => e2.trans hq⟩
  rcases hlit with ⟨a, c⟩ | ⟨a, c⟩
  · rw [key.1 a] at c; exact absurd c (by decide)
  · rw [key.2 a] at c; exact absurd c (by decide)
/-- a constraint with one unassigned literal of its owner, none of the opponent before it -/
theorem qb_unit (hL : qb_hL n LF) (hn8 : n ≤ 8) {d v : Nat} {p q nd on zr on' zr' bs rv rn : Nat → Bool} {dv dn : Nat → Nat → Bool}
    (hVd : qb_Vd n ex LF (ex v) p q nd) (hpq : ∀ j, p j = true → q j = false)
    (hon : ∀ j, p j = true → on j = false) (hzr : ∀ j, q j = true → zr j = false)
    (hdec : ∀ j, j < d → on j = bs j ∧ zr j = !bs j)
    (hdp : ∀ v, d ≤ v → v < n → (on v = true ∨ zr v = true) → (∀ j, dv v j = true → j < d) ∧ qb_Dp n ex LF d v (dv v) (dn v) on zr)
    (hv : v < n) (hvd : d ≤ v)
    (hown : ∀ j, j < n → (p j = true ∨ q j = true) → ex j = ex v → (j = v ∨ (on j = true ∨ zr j = true)))
    (hbef : ∀ j, j < v → (p j = true ∨ q j = true) → ¬ ex j = ex v → (on j = true ∨ zr j = true))
    (e1 : ∀ j, j ≠ v → on' j = on j ∧ zr' j = zr j) (e2 : on' v = p v)
    (hrv1 : ∀ j, (p j = true ∨ q j = true) → j < d → rv j = true)
    (hrn1 : ∀ j, nd j = true → rn j = true)
    (hrn2 : ∀ j, (p j = true ∨ q j = true) → d ≤ j → ¬ ex j = ex v → rn (24 + j) = true)
    (hlt : ∀ w, d ≤ w → w < n → (p w = true ∨ q w = true) → ex w = ex v → (on w = true ∨ zr w = true) → (∀ j, dv w j = true → rv j = true) ∧ (∀ j, dn w j = true → rn j = true)) :
    qb_Dp n ex LF d v rv rn on' zr' := by
  intro S b hb hus t hT hag hop
  apply Classical.byContradiction
  intro hne
  obtain ⟨D, hD1, hD2, hD3⟩ := qb_mx (v + 1) b
  obtain ⟨t', h1, h2, h3⟩ := qb_ex hL hT hD2 (by omega) (fun u => if on u = true ∨ zr u = true then on u else q u)
  obtain ⟨i, hi, hlit⟩ := hVd S b hb (qb_usm hus hrn1) t' h2
  have hpq' : p i = true ∨ q i = true := hlit.imp And.left And.left
  have asg : (on i = true ∨ zr i = true) → t' i = on i → (p i = true → t' i = false) ∧ (q i = true → t' i = true) := by
    intro ha e
    refine ⟨fun hp => by rw [e]; exact hon i hp, fun hq => ?_⟩
    rw [e]
    rcases ha with ha | ha
    · exact ha
    · rw [hzr i hq] at ha; exact absurd ha (by decide)
  have key : (p i = true → t' i = false) ∧ (q i = true → t' i = true) := by
    by_cases hiv : i = v
    · subst hiv
      have e := h1 i (by omega)
      rw [e2, ← e] at hne
      refine ⟨fun hp => ?_, fun hq => ?_⟩
      · rw [hp] at hne; exact qb_bt hne
      · have hp : p i = false := by
          cases hp : p i
          · rfl
          · rw [hpq i hp] at hq; exact absurd hq (by decide)
        rw [hp] at hne; exact qb_bf hne
    · by_cases hid : i < d
      · have e : t' i = on i := (h1 i (by omega)).trans ((hag i hi (hrv1 i hpq' hid)).trans (e1 i hiv).1)
        refine asg ?_ e
        have h5 := hdec i hid
        cases hb : bs i
        · right; rw [h5.2, hb]; rfl
        · left; rw [h5.1, hb]
      · by_cases hio : ex i = ex v
        · have ha := (hown i hi hpq' hio).resolve_left hiv
          obtain ⟨l1, l2⟩ := hlt i (by omega) hi hpq' hio ha
          obtain ⟨k1, k2⟩ := hdp i (by omega) hi ha
          refine asg ha ?_
          rw [← hio] at h2
          have hus2 := hus
          rw [← hio] at hus2
          refine k2 S b hb (qb_usm hus2 l2) t' h2 ?_ ?_
          · intro j hj hjv
            have hjd := k1 j hjv
            rw [h1 j (by omega), hag j hj (l1 j hjv), (e1 j (by omega)).1]
          · intro u hu1 hu2 hu3 hu4 hu5
            rw [hio] at hu3
            have huv : u ≠ v := fun e => hu3 (by rw [e])
            by_cases hlt2 : u < v
            · rw [h1 u (by omega), hop u hu1 hlt2 hu3 (l2 _ hu4) (by rw [(e1 u huv).1, (e1 u huv).2]; exact hu5), (e1 u huv).1]
            · have hbu := hus.2 u (by omega) (l2 _ hu4)
              rw [h3 u (by omega) (by omega) hu3]
              exact if_pos hu5
        · have hrn := hrn2 i hpq' (by omega) hio
          by_cases hlt2 : i < v
          · have ha := hbef i hlt2 hpq' hio
            refine asg ha ?_
            rw [h1 i (by omega), hop i (by omega) hlt2 hio hrn (by rw [(e1 i hiv).1, (e1 i hiv).2]; exact ha), (e1 i hiv).1]
          · have hbi := hus.2 i (by omega) hrn
            have e := h3 i (by omega) hi hio
            by_cases ha : on i = true ∨ zr i = true
            · exact asg ha (e.trans (if_pos ha))
            · have e2 := e.trans (if_neg ha)
              exact ⟨fun hp => e2.trans (hpq i hp), fun hq => e2.trans hq⟩
  rcases hlit with ⟨a, c⟩ | ⟨a, c⟩
  · rw [key.1 a] at c; exact absurd c (by decide)
  · rw [key.2 a] at c; exact absurd c (by decide)
theorem qb_dpm {d v w : Nat} {rv rn on zr on' zr' : Nat → Bool} (h : qb_Dp n ex LF d w rv rn on zr) (hv : d ≤ v) (hvn : on v = false) (hvz : zr v = false) (hw : on w = true ∨ zr w = true) (hrv : ∀ j, rv j = true → j < d) (e1 : ∀ j, j ≠ v → on' j = on j ∧ zr' j = zr j) : qb_Dp n ex LF d w rv rn on' zr' := by
  have hne : ∀ u, (on u = true ∨ zr u = true) → u ≠ v := by
    intro u hu e
    subst e
    rcases hu with hu | hu
    · rw [hvn] at hu; exact absurd hu (by decide)
    · rw [hvz] at hu; exact absurd hu (by decide)
  intro S b hb hus t hT hag hop
  rw [(e1 w (hne w hw)).1]
  refine h S b hb hus t hT (fun j hj hr => ?_) ?_
  · have := hrv j hr
    rw [hag j hj hr, (e1 j (by omega)).1]
  · intro u hu1 hu2 hu3 hu4 hu5
    have huv := hne u hu5
    rw [hop u hu1 hu2 hu3 hu4 (by rw [(e1 u huv).1, (e1 u huv).2]; exact hu5), (e1 u huv).1]
/-- all clauses of the set have a true literal -/
theorem qb_allT (hn8 : n ≤ 8) (hm : m ≤ 24) {d : Nat} (hd : d ≤ n) {sc on zr bs rv rn : Nat → Bool} {dv dn : Nat → Nat → Bool}
    (hdec : ∀ j, j < d → on j = bs j ∧ zr j = !bs j)
    (hez : ∀ j, zr j = true → on j = false)
    (hdp : ∀ v, d ≤ v → v < n → (on v = true ∨ zr v = true) → (∀ j, dv v j = true → j < d) ∧ qb_Dp n ex (qb_leaf n m P N) d v (dv v) (dn v) on zr)
    (hrn1 : ∀ j, j < m → sc j = false → rn j = true)
    (hcl : ∀ c, c < m → sc c = true → ∃ i, i < n ∧ ((P c i = true ∧ on i = true) ∨ (N c i = true ∧ zr i = true)) ∧ ((i < d ∧ rv i = true) ∨ (d ≤ i ∧ ex i = true ∧ rn (24 + i) = true) ∨ (d ≤ i ∧ ex i = false ∧ (∀ j, dv i j = true → rv j = true) ∧ (∀ j, dn i j = true → rn j = true)))) :
    qb_Rs n ex (qb_leaf n m P N) false rv rn bs := by
  intro S b hb hus t hT hag
  obtain ⟨D, hD1, hD2, hD3⟩ := qb_mx d b
  obtain ⟨t', h1, h2, h3⟩ := qb_ex (qb_lf n m P N) hT hD2 (by omega) on
  have hW := h2 n hb (Nat.le_refl n)
  unfold qb_W at hW
  rw [Nat.sub_self] at hW
  have hF : qb_leaf n m P N S t' := by
    intro c hc hS
    have hsc : sc c = true := by
      cases e : sc c
      · exact absurd ((hus.1 c (by omega) (hrn1 c hc e)).mp hS) (by decide)
      · rfl
    obtain ⟨i, hi, hlit, hcase⟩ := hcl c hc hsc
    have hasg : on i = true ∨ zr i = true := hlit.imp And.right And.right
    have e : t' i = on i := by
      rcases hcase with ⟨a1, a2⟩ | ⟨a1, a2, a3⟩ | ⟨a1, a2, a3, a4⟩
      · rw [h1 i (by omega), hag i hi a2, (hdec i a1).1]
      · have hbi := hus.2 i (by omega) a3
        exact h3 i (by omega) hi (by rw [a2]; decide)
      · obtain ⟨k1, k2⟩ := hdp i a1 hi hasg
        rw [← a2] at h2
        have hus2 := hus
        rw [← a2] at hus2
        refine k2 S b hb (qb_usm hus2 a4) t' h2 ?_ ?_
        · intro j hj hjv
          have hjd := k1 j hjv
          rw [h1 j (by omega), hag j hj (a3 j hjv), (hdec j hjd).1]
        · intro u hu1 hu2 hu3 hu4 hu5
          have hbu := hus.2 u (by omega) (a4 _ hu4)
          rw [a2] at hu3
          exact h3 u (by omega) (by omega) hu3
    refine ⟨i, hi, ?_⟩
    rcases hlit with ⟨a, c⟩ | ⟨a, c⟩
    · exact Or.inl ⟨a, e.trans c⟩
    · exact Or.inr ⟨a, e.trans (hez i c)⟩
  exact absurd (hW.mp hF) (by decide)
theorem qb_vini {c : Nat} (hc : c < m) (hm : m ≤ 24) {p q nd : Nat → Bool} (hp : ∀ i, i < n → p i = P c i ∧ q i = N c i) (hnd : nd c = true) : qb_Vd n ex (qb_leaf n m P N) true p q nd := by
  intro S b hb hus t hT
  have hS : S c := (hus.1 c (by omega) hnd).mpr rfl
  have hW := hT n hb (Nat.le_refl n)
  unfold qb_W at hW
  rw [Nat.sub_self] at hW
  obtain ⟨i, hi, hx⟩ := (hW.mpr rfl) c hc hS
  exact ⟨i, hi, by rw [(hp i hi).1, (hp i hi).2]; exact hx⟩
theorem qb_lrn {o : Bool} {rv rn bs p q : Nat → Bool} (h : qb_Rs n ex LF o rv rn bs) (hp : ∀ i, rv i = true → bs i = false → p i = true) (hq : ∀ i, rv i = true → bs i = true → q i = true) : qb_Vd n ex LF o p q rn := by
  intro S b hb hus t hT
  apply Classical.byContradiction
  intro hn
  refine h S b hb hus t hT (fun i hi hr => ?_)
  cases hbs : bs i
  · cases ht : t i
    · rfl
    · exact absurd ⟨i, hi, Or.inl ⟨hp i hr hbs, ht⟩⟩ hn
  · cases ht : t i
    · exact absurd ⟨i, hi, Or.inr ⟨hq i hr hbs, ht⟩⟩ hn
    · rfl
theorem qb_red (hL : qb_hL n LF) (hn8 : n ≤ 8) {o : Bool} {i : Nat} {rv rn rv' rn' bs : Nat → Bool} (h : qb_Rs n ex LF o rv rn bs) (hi : i < n) (hio : ¬ ex i = o) (hle : ∀ j, rv j = true → j ≤ i) (hv : ∀ j, rv j = true → j = i ∨ rv' j = true) (hn1 : ∀ j, rn j = true → rn' j = true) (hn2 : rn' (24 + i) = true) : qb_Rs n ex LF o rv' rn' bs := by
  intro S b hb hus t hT hag
  have hbi := hus.2 i (by omega) hn2
  obtain ⟨t', h1, h2, h3⟩ := qb_ex hL hT hbi (by omega) bs
  refine h S b hb (qb_usm hus hn1) t' h2 (fun j hj hr => ?_)
  by_cases e : j = i
  · subst e; exact h3 j (Nat.le_refl _) hj hio
  · have := hle j hr
    rw [h1 j (by omega)]
    exact hag j hj ((hv j hr).resolve_left e)
theorem qb_res {o : Bool} {i : Nat} {rv rn ov od rv' rn' bs : Nat → Bool} (h : qb_Rs n ex LF o rv rn bs) (h2 : qb_Ot n ex LF o i ov od bs) (hv : ∀ j, rv j = true → j = i ∨ rv' j = true) (hv2 : ∀ j, ov j = true → rv' j = true) (hn1 : ∀ j, rn j = true → rn' j = true) (hn2 : ∀ j, od j = true → rn' j = true) : qb_Rs n ex LF o rv' rn' bs := by
  intro S b hb hus t hT hag
  have hi := h2 S b hb (qb_usm hus hn2) t hT (fun j hj hr => hag j hj (hv2 j hr))
  refine h S b hb (qb_usm hus hn1) t hT (fun j hj hr => ?_)
  rcases hv j hr with e | e
  · rw [e]; exact hi
  · exact hag j hj e
theorem qb_flip {o : Bool} {i : Nat} {rv rn rv' bs bs' : Nat → Bool} (h : qb_Rs n ex LF o rv rn bs) (hv : ∀ j, rv j = true → j = i ∨ rv' j = true) (hb' : ∀ j, rv' j = true → bs' j = bs j) (hi : bs' i = !bs i) : qb_Ot n ex LF o i rv' rn bs' := by
  intro S b hb hus t hT hag
  apply Classical.byContradiction
  intro hne
  have ht : t i = bs i := by
    rw [hi] at hne
    cases h1 : t i <;> cases h2 : bs i <;> simp_all
  refine h S b hb hus t hT (fun j hj hr => ?_)
  rcases hv j hr with e | e
  · rw [e]; exact ht
  · rw [hag j hj e]; exact hb' j e
theorem qb_otc {o : Bool} {i : Nat} {rv rn bs bs' : Nat → Bool} (h : qb_Ot n ex LF o i rv rn bs) (hb' : ∀ j, rv j = true → bs' j = bs j) (hi : bs' i = bs i) : qb_Ot n ex LF o i rv rn bs' := by
  intro S b hb hus t hT hag
  rw [hi]
  exact h S b hb hus t hT (fun j hj hr => (hag j hj hr).trans (hb' j hr))
theorem qb_dpo {d : Nat} {rv rn on zr bs' : Nat → Bool} (h : qb_Dp n ex LF d d rv rn on zr) (hb' : ∀ j, rv j = true → bs' j = on j) (hi : bs' d = on d) : qb_Ot n ex LF (ex d) d rv rn bs' := by
  intro S b hb hus t hT hag
  rw [hi]
  exact h S b hb hus t hT (fun j hj hr => (hag j hj hr).trans (hb' j hr)) (fun u h1 h2 => absurd h2 (by omega))
theorem qb_fin (hL : qb_hL n LF) {o : Bool} {S : Nat → Prop} {b : Nat} {rv rn bs : Nat → Bool} (h : qb_Rs n ex LF o rv rn bs) (hrv : ∀ j, rv j = true → j < b) (hb : b ≤ n) (hus : qb_us o rn S b) : ¬ qb_W n ex (LF S) o b bs := by
  intro hW
  obtain ⟨t', h1, h2, _⟩ := qb_ext (hL S) (fun _ => false) (n - b) b bs (by omega) (fun x h1 h2 => by
    have e : x = b := by omega
    rw [e]; exact hW) (Nat.le_refl _)
  exact h S b hb hus t' h2 (fun i hi hr => h1 i (hrv i hr))
end
end
section
/-! the invariants of the search, over the masks -/
def qb_S (sc : Int32) : Nat → Prop := fun c => bt sc c = true
def qb_kd (o : Bool) : Int32 := if o = true then 1 else 2
def qb_oc (o : Bool) : Int32 := if o = true then 0 else 1
def qb_OM (n : Nat) (xe xa : Int32) : Prop := (∀ j, bt xe j = true → j < n) ∧ (∀ j, bt xa j = (decide (j < n) && !bt xe j))
def qb_ow (n : Nat) (xe : Int32) (o : Bool) (w : Int32) : Prop := ∀ j, bt w j = true ↔ (j < n ∧ bt xe j = o)
def qb_Con (n : Nat) (ex : Nat → Bool) (LF : (Nat → Prop) → (Nat → Bool) → Prop) (o : Bool) (p q nd : Int32) : Prop :=
  (∀ j, bt p j = true → j < n) ∧ (∀ j, bt q j = true → j < n) ∧ (∀ j, bt p j = true → bt q j = false) ∧ qb_Vd n ex LF o (bt p) (bt q) (bt nd)
def qb_DB (n m : Nat) (ex : Nat → Bool) (P N : Nat → Nat → Bool) (ck cp cn cd : Nat → Int32) : Prop :=
  (∀ c, c < m → ck c = 1 ∧ (∀ i, i < n → bt (cp c) i = P c i ∧ bt (cn c) i = N c i) ∧ cd c = (1 : Int32) <<< (nI c &&& 31)) ∧
  (∀ o i, i < 88 → ck i = qb_kd o → qb_Con n ex (qb_leaf n m P N) o (cp i) (cn i) (cd i))
def qb_PI (n : Nat) (ex : Nat → Bool) (LF : (Nat → Prop) → (Nat → Bool) → Prop) (S : Nat → Prop) (base d : Nat) (b o z : Int32) (dv dn : Nat → Int32) : Prop :=
  (∀ j, j < d → bt o j = bt b j ∧ bt z j = !bt b j) ∧
  (∀ j, bt z j = true → bt o j = false) ∧
  (∀ j, (bt o j = true ∨ bt z j = true) → j < n) ∧
  (∀ v, d ≤ v → v < n → (bt o v = true ∨ bt z v = true) → (∀ j, bt (dv v) j = true → j < d) ∧ qb_us (ex v) (bt (dn v)) S base ∧ qb_Dp n ex LF d v (bt (dv v)) (bt (dn v)) (bt o) (bt z))
def qb_RI (n : Nat) (ex : Nat → Bool) (LF : (Nat → Prop) → (Nat → Bool) → Prop) (S : Nat → Prop) (base d : Nat) (b : Int32) (o : Bool) (rv rn : Int32) : Prop :=
  (∀ j, bt rv j = true → j < d) ∧ qb_us o (bt rn) S base ∧ qb_Rs n ex LF o (bt rv) (bt rn) (bt b)
def qb_OT (n : Nat) (ex : Nat → Bool) (LF : (Nat → Prop) → (Nat → Bool) → Prop) (S : Nat → Prop) (base d : Nat) (b s : Int32) (ov od : Nat → Int32) : Prop :=
  ∀ i, base ≤ i → i < d → bt s i = true → (∀ j, bt (ov i) j = true → j < i) ∧ qb_us (ex i) (bt (od i)) S base ∧ qb_Ot n ex LF (ex i) i (bt (ov i)) (bt (od i)) (bt b)
def qb_AL (base : Nat) (sc ac au : Int32) : Prop :=
  (∀ x : Int32, (x &&& (ac ^^^ (-1))) = 0 → qb_us true (bt x) (qb_S sc) base) ∧
  (∀ x : Int32, (x &&& (au ^^^ (-1))) = 0 → qb_us false (bt x) (qb_S sc) base) ∧
  (∀ c, bt sc c = true → bt ac c = true)
/-- what explain computes -/
def qb_Xp (n d : Nat) (p q nd w o z : Int32) (dv dn : Nat → Int32) (rv rn : Int32) : Prop :=
  (∀ j, bt rv j = true ↔ (((bt p j = true ∨ bt q j = true) ∧ j < d) ∨ ∃ v, d ≤ v ∧ v < n ∧ (((bt p v = true ∨ bt q v = true) ∧ bt w v = true ∧ (bt o v = true ∨ bt z v = true)) ∧ bt (dv v) j = true))) ∧
  (∀ j, bt rn j = true ↔ ((bt nd j = true ∨ ∃ v, v < 8 ∧ j = 24 + v ∧ (d ≤ v ∧ (bt p v = true ∨ bt q v = true) ∧ bt w v = false)) ∨ ∃ v, d ≤ v ∧ v < n ∧ (((bt p v = true ∨ bt q v = true) ∧ bt w v = true ∧ (bt o v = true ∨ bt z v = true)) ∧ bt (dn v) j = true)))
/-- a support of a clause at a node -/
def qb_Sp (n d : Nat) (xe : Int32) (dv dn : Nat → Int32) (sp ch rv rn : Int32) : Prop :=
  ∃ i, i < n ∧ bt sp i = true ∧ ((i < d ∧ bt rv i = true) ∨ (d ≤ i ∧ bt xe i = true ∧ bt ch i = true) ∨ (d ≤ i ∧ bt xe i = false ∧ (∀ j, bt (dv i) j = true → bt rv j = true) ∧ (∀ j, bt (dn i) j = true → bt rn j = true)))
theorem qb_orT {x y : Int32} {i : Nat} : bt (x ||| y) i = true ↔ (bt x i = true ∨ bt y i = true) := by
  rw [b_or, Bool.or_eq_true]
theorem qb_andT {x y : Int32} {i : Nat} : bt (x &&& y) i = true ↔ (bt x i = true ∧ bt y i = true) := by
  rw [b_and, Bool.and_eq_true]
theorem qb_andnT {x y : Int32} {i : Nat} : bt (x &&& (y ^^^ (-1))) i = true ↔ (bt x i = true ∧ bt y i = false) := by
  rw [qb_andn, Bool.and_eq_true, Bool.not_eq_true']
theorem qb_oneT {k : Nat} (hk : k < 32) {i : Nat} : bt ((1 : Int32) <<< (nI k &&& 31)) i = true ↔ i = k := by
  rw [qb_one k hk, decide_eq_true_eq]
theorem qb_lowT {k : Nat} (hk : k < 32) {i : Nat} : bt (((1 : Int32) <<< (nI k &&& 31)) - 1) i = true ↔ i < k := by
  rw [qb_low k hk, decide_eq_true_eq]
theorem qb_lowF {k : Nat} (hk : k < 32) {i : Nat} : bt (((1 : Int32) <<< (nI k &&& 31)) - 1) i = false ↔ k ≤ i := by
  rw [qb_low k hk, decide_eq_false_iff_not]; omega
theorem qb_s24T (x : Int32) {j : Nat} : bt (x <<< ((24 : Int32) &&& 31)) j = true ↔ ∃ v, v < 8 ∧ j = 24 + v ∧ bt x v = true := by
  constructor
  · intro h
    rcases Nat.lt_or_ge j 24 with h1 | h1
    · rw [qb_lo24 x h1] at h; exact absurd h (by decide)
    · rcases Nat.lt_or_ge j 32 with h2 | h2
      · obtain ⟨v, rfl⟩ : ∃ v, j = 24 + v := ⟨j - 24, by omega⟩
        rw [qb_hi24 x (by omega)] at h
        exact ⟨v, by omega, rfl, h⟩
      · rw [b_big h2] at h; exact absurd h (by decide)
  · rintro ⟨v, h1, rfl, h3⟩
    rw [qb_hi24 x h1]; exact h3
theorem qb_ncf {x : Bool} : ¬ x = true ↔ x = false := by cases x <;> simp
theorem qb_ncT {x : Bool} : ¬ x = false ↔ x = true := by cases x <;> simp
section
variable {n m base d : Nat} {P N : Nat → Nat → Bool} {LF : (Nat → Prop) → (Nat → Bool) → Prop} {S : Nat → Prop} {b o z xe w p q nd rv rn : Int32} {dv dn : Nat → Int32} {k : Bool}
theorem qb_xp_us (hn8 : n ≤ 8) (hbd : base ≤ d) (hw : qb_ow n xe k w) (hPI : qb_PI n (bt xe) LF S base d b o z dv dn) (hus : qb_us k (bt nd) S base) (hX : qb_Xp n d p q nd w o z dv dn rv rn) : (∀ j, bt rv j = true → j < d) ∧ qb_us k (bt rn) S base := by
  refine ⟨fun j hj => ?_, fun j hj hr => ?_, fun j hj hr => ?_⟩
  · rcases (hX.1 j).mp hj with h | ⟨v, h1, h2, ⟨_, _, h3⟩, h4⟩
    · exact h.2
    · exact (hPI.2.2.2 v h1 h2 h3).1 j h4
  · rcases (hX.2 j).mp hr with (h | ⟨v, h1, h2, _⟩) | ⟨v, h1, h2, ⟨_, h5, h3⟩, h4⟩
    · exact hus.1 j hj h
    · omega
    · have h6 := (hPI.2.2.2 v h1 h2 h3).2.1
      rw [((hw v).mp h5).2] at h6
      exact h6.1 j hj h4
  · rcases (hX.2 _).mp hr with (h | ⟨v, h1, h2, h3, _⟩) | ⟨v, h1, h2, ⟨_, h5, h3⟩, h4⟩
    · exact hus.2 j hj h
    · omega
    · have h6 := (hPI.2.2.2 v h1 h2 h3).2.1
      rw [((hw v).mp h5).2] at h6
      exact h6.2 j hj h4
theorem qb_unsat (h : ((p &&& o) ||| (q &&& z)) = 0) (j : Nat) : (bt p j = true → bt o j = false) ∧ (bt q j = true → bt z j = false) := by
  have h1 := qb_z.mp h j
  rw [b_or, b_and, b_and, Bool.or_eq_false_iff] at h1
  refine ⟨fun hp => ?_, fun hq => ?_⟩
  · have := h1.1; rw [hp, Bool.true_and] at this; exact this
  · have := h1.2; rw [hq, Bool.true_and] at this; exact this
theorem qb_openT {j : Nat} : bt (((p ||| q) &&& ((o ||| z) ^^^ (-1)))) j = true ↔ ((bt p j = true ∨ bt q j = true) ∧ ¬ (bt o j = true ∨ bt z j = true)) := by
  rw [qb_andnT, qb_orT, ← qb_ncf, qb_orT]
theorem qb_visC (hL : qb_hL n LF) (hn8 : n ≤ 8) (hbd : base ≤ d) (hd : d ≤ n) (hw : qb_ow n xe k w) (hPI : qb_PI n (bt xe) LF S base d b o z dv dn) (hC : qb_Con n (bt xe) LF k p q nd) (hus : qb_us k (bt nd) S base) (hun : ((p &&& o) ||| (q &&& z)) = 0) (hown : (((p ||| q) &&& ((o ||| z) ^^^ (-1))) &&& w) = 0) (hX : qb_Xp n d p q nd w o z dv dn rv rn) : qb_RI n (bt xe) LF S base d b k rv rn := by
  obtain ⟨hu1, hu2⟩ := qb_xp_us hn8 hbd hw hPI hus hX
  refine ⟨hu1, hu2, ?_⟩
  have hlt : ∀ v, (bt p v = true ∨ bt q v = true) → v < n := fun v h => h.elim (hC.1 v) (hC.2.1 v)
  refine qb_conf hL hn8 hd (dv := fun v => bt (dv v)) (dn := fun v => bt (dn v)) hC.2.2.2 hC.2.2.1 (fun j => (qb_unsat hun j).1) (fun j => (qb_unsat hun j).2) hPI.1 (fun v h1 h2 h3 => ⟨(hPI.2.2.2 v h1 h2 h3).1, (hPI.2.2.2 v h1 h2 h3).2.2⟩) ?_ ?_ ?_ ?_ ?_
  · intro j hj hpq he
    apply Classical.byContradiction
    intro hna
    exact qb_nzi (qb_andT.mpr ⟨qb_openT.mpr ⟨hpq, hna⟩, (hw j).mpr ⟨hj, he⟩⟩) hown
  · intro j hpq hj
    exact (hX.1 j).mpr (Or.inl ⟨hpq, hj⟩)
  · intro j hj
    exact (hX.2 j).mpr (Or.inl (Or.inl hj))
  · intro j hpq hj he
    refine (hX.2 _).mpr (Or.inl (Or.inr ⟨j, ?_, rfl, hj, hpq, ?_⟩))
    · have := hlt j hpq; omega
    · exact qb_ncf.mp (fun h => he ((hw j).mp h).2)
  · intro v h1 h2 hpq he ha
    have hwv : bt w v = true := (hw v).mpr ⟨h2, he⟩
    exact ⟨fun j hj => (hX.1 j).mpr (Or.inr ⟨v, h1, h2, ⟨hpq, hwv, ha⟩, hj⟩), fun j hj => (hX.2 j).mpr (Or.inr ⟨v, h1, h2, ⟨hpq, hwv, ha⟩, hj⟩)⟩
theorem qb_visU (hL : qb_hL n LF) (hn8 : n ≤ 8) (hbd : base ≤ d) (hd : d ≤ n) (hw : qb_ow n xe k w) (hPI : qb_PI n (bt xe) LF S base d b o z dv dn) (hC : qb_Con n (bt xe) LF k p q nd) (hus : qb_us k (bt nd) S base) (hun : ((p &&& o) ||| (q &&& z)) = 0) {v : Nat} (hv8 : v < 8) (hown : (((p ||| q) &&& ((o ||| z) ^^^ (-1))) &&& w) = (1 : Int32) <<< (nI v &&& 31)) (hbef : ((((p ||| q) &&& ((o ||| z) ^^^ (-1))) &&& (w ^^^ (-1))) &&& (((1 : Int32) <<< (nI v &&& 31)) - 1)) = 0) (hX : qb_Xp n d p q nd w o z dv dn rv rn) {o' z' : Int32} (e1 : ∀ j, j ≠ v → bt o' j = bt o j ∧ bt z' j = bt z j) (e2 : bt o' v = bt p v) (e3 : bt z' v = !bt p v) : d < n ∧ qb_PI n (bt xe) LF S base d b o' z' (upd dv v rv) (upd dn v rn) := by
  obtain ⟨hu1, hu2⟩ := qb_xp_us hn8 hbd hw hPI hus hX
  have hlt : ∀ v, (bt p v = true ∨ bt q v = true) → v < n := fun v h => h.elim (hC.1 v) (hC.2.1 v)
  have hv1 := qb_andT.mp ((congrArg (fun x => bt x v) hown).trans ((qb_oneT (by omega)).mpr rfl))
  obtain ⟨hvpq, hva⟩ := qb_openT.mp hv1.1
  obtain ⟨hvn, hvo⟩ := (hw v).mp hv1.2
  have hvd : d ≤ v := by
    rcases Nat.lt_or_ge v d with h | h
    · exfalso
      have h5 := hPI.1 v h
      apply hva
      cases hb : bt b v
      · right; rw [h5.2, hb]; rfl
      · left; rw [h5.1, hb]
    · exact h
  have hvo1 : bt o v = false := qb_ncf.mp (fun h => hva (Or.inl h))
  have hvz1 : bt z v = false := qb_ncf.mp (fun h => hva (Or.inr h))
  refine ⟨by omega, ?_, ?_, ?_, ?_⟩
  · intro j hj
    rw [(e1 j (by omega)).1, (e1 j (by omega)).2]
    exact hPI.1 j hj
  · intro j hj
    by_cases e : j = v
    · rw [e, e3] at hj
      rw [e, e2]
      cases hp : bt p v
      · rfl
      · rw [hp] at hj; exact absurd hj (by decide)
    · rw [(e1 j e).2] at hj
      rw [(e1 j e).1]
      exact hPI.2.1 j hj
  · intro j hj
    by_cases e : j = v
    · omega
    · rw [(e1 j e).1, (e1 j e).2] at hj
      exact hPI.2.2.1 j hj
  · intro v' h1 h2 h3
    by_cases e : v' = v
    · subst e
      rw [pk_us, pk_us]
      rw [hvo]
      refine ⟨hu1, hu2, ?_⟩
      rw [← hvo] at hC hus hw
      refine qb_unit hL hn8 (bs := bt b) (dv := fun v => bt (dv v)) (dn := fun v => bt (dn v)) hC.2.2.2 hC.2.2.1 (fun j => (qb_unsat hun j).1) (fun j => (qb_unsat hun j).2) hPI.1 (fun v h1 h2 h3 => ⟨(hPI.2.2.2 v h1 h2 h3).1, (hPI.2.2.2 v h1 h2 h3).2.2⟩) hvn hvd ?_ ?_ e1 e2 ?_ ?_ ?_ ?_
      · intro j hj hpq he
        by_cases ha : bt o j = true ∨ bt z j = true
        · exact Or.inr ha
        · left
          have h6 := (congrArg (fun x => bt x j) hown).symm.trans (qb_andT.mpr ⟨qb_openT.mpr ⟨hpq, ha⟩, (hw j).mpr ⟨hj, he⟩⟩)
          exact (qb_oneT (by omega)).mp h6
      · intro j hj hpq he
        apply Classical.byContradiction
        intro hna
        refine qb_nzi (qb_andT.mpr ⟨qb_andnT.mpr ⟨qb_openT.mpr ⟨hpq, hna⟩, ?_⟩, (qb_lowT (by omega)).mpr hj⟩) hbef
        exact qb_ncf.mp (fun h => he ((hw j).mp h).2)
      · intro j hpq hj
        exact (hX.1 j).mpr (Or.inl ⟨hpq, hj⟩)
      · intro j hj
        exact (hX.2 j).mpr (Or.inl (Or.inl hj))
      · intro j hpq hj he
        refine (hX.2 _).mpr (Or.inl (Or.inr ⟨j, ?_, rfl, hj, hpq, ?_⟩))
        · have := hlt j hpq; omega
        · exact qb_ncf.mp (fun h => he ((hw j).mp h).2)
      · intro v h1 h2 hpq he ha
        have hwv : bt w v = true := (hw v).mpr ⟨h2, he⟩
        exact ⟨fun j hj => (hX.1 j).mpr (Or.inr ⟨v, h1, h2, ⟨hpq, hwv, ha⟩, hj⟩), fun j hj => (hX.2 j).mpr (Or.inr ⟨v, h1, h2, ⟨hpq, hwv, ha⟩, hj⟩)⟩
    · rw [pk_un e, pk_un e]
      rw [(e1 v' e).1, (e1 v' e).2] at h3
      obtain ⟨k1, k2, k3⟩ := hPI.2.2.2 v' h1 h2 h3
      exact ⟨k1, k2, qb_dpm k3 hvd hvo1 hvz1 h3 k1 e1⟩
theorem qb_spm {sp ch ch' rv' rn' : Int32} (h : qb_Sp n d xe dv dn sp ch rv rn) (h1 : ∀ j, bt ch j = true → bt ch' j = true) (h2 : ∀ j, bt rv j = true → bt rv' j = true) (h3 : ∀ j, bt rn j = true → bt rn' j = true) : qb_Sp n d xe dv dn sp ch' rv' rn' := by
  obtain ⟨i, hi, hs, hc⟩ := h
  refine ⟨i, hi, hs, ?_⟩
  rcases hc with ⟨a1, a2⟩ | ⟨a1, a2, a3⟩ | ⟨a1, a2, a3, a4⟩
  · exact Or.inl ⟨a1, h2 i a2⟩
  · exact Or.inr (Or.inl ⟨a1, a2, h1 i a3⟩)
  · exact Or.inr (Or.inr ⟨a1, a2, fun j hj => h2 j (a3 j hj), fun j hj => h3 j (a4 j hj)⟩)
/-- the reason that checkAllTrue gives -/
theorem qb_allTI {cp cn : Nat → Int32} {sc ch rn' : Int32} (hn8 : n ≤ 8) (hm : m ≤ 24) (hbd : base ≤ d) (hd : d ≤ n) (hPI : qb_PI n (bt xe) (qb_leaf n m P N) S base d b o z dv dn)
    (hcl : ∀ c, c < m → ∀ i, i < n → bt (cp c) i = P c i ∧ bt (cn c) i = N c i)
    (hsp : ∀ c, c < m → bt sc c = true → qb_Sp n d xe dv dn (((cp c) &&& o) ||| ((cn c) &&& z)) ch rv rn)
    (hrv : ∀ j, bt rv j = true → j < d) (hrn : qb_us false (bt rn) S base) (hrn1 : ∀ j, j < m → bt sc j = false → bt rn j = true)
    (hch : ∀ j, bt ch j = true → d ≤ j ∧ j < n) (hrn' : rn' = rn ||| (ch <<< ((24 : Int32) &&& 31))) :
    qb_RI n (bt xe) (qb_leaf n m P N) S base d b false rv rn' := by
  subst hrn'
  refine ⟨hrv, ⟨fun j hj hr => ?_, fun j hj hr => ?_⟩, ?_⟩
  · rcases qb_orT.mp hr with h | h
    · exact hrn.1 j hj h
    · rw [qb_lo24 _ hj] at h; exact absurd h (by decide)
  · rcases qb_orT.mp hr with h | h
    · exact hrn.2 j hj h
    · rw [qb_hi24 _ hj] at h
      have := hch j h; omega
  · refine qb_allT hn8 hm hd (sc := bt sc) (dv := fun v => bt (dv v)) (dn := fun v => bt (dn v)) hPI.1 hPI.2.1 (fun v h1 h2 h3 => ⟨(hPI.2.2.2 v h1 h2 h3).1, (hPI.2.2.2 v h1 h2 h3).2.2⟩) (fun j h1 h2 => qb_orT.mpr (Or.inl (hrn1 j h1 h2))) ?_
    intro c hc hsc
    obtain ⟨i, hi, hs, hcs⟩ := hsp c hc hsc
    refine ⟨i, hi, ?_, ?_⟩
    · rw [qb_orT, qb_andT, qb_andT, (hcl c hc i hi).1, (hcl c hc i hi).2] at hs
      exact hs
    · rcases hcs with h | ⟨a1, a2, a3⟩ | ⟨a1, a2, a3, a4⟩
      · exact Or.inl h
      · refine Or.inr (Or.inl ⟨a1, a2, qb_orT.mpr (Or.inr ?_)⟩)
        rw [qb_hi24 _ (by omega)]; exact a3
      · exact Or.inr (Or.inr ⟨a1, a2, a3, fun j hj => qb_orT.mpr (Or.inl (a4 j hj))⟩)
end
end
section
/-! the walk of highestIndex, explain, visit, checkAllTrue, propagate -/
def qb_Dn (n : Nat) (ex : Nat → Bool) (LF : (Nat → Prop) → (Nat → Bool) → Prop) (S : Nat → Prop) (base d : Nat) (b dc ou rv rn : Int32) : Prop :=
  dc = 1 ∧ ∃ k, ou = qb_oc k ∧ qb_RI n ex LF S base d b k rv rn
theorem qb_ex0 {d v : Nat} {A : Nat → Prop} {X Y : Prop} (h : X ↔ (Y ∨ ∃ w, d ≤ w ∧ w < v ∧ A w)) (hv : ¬ A v) : X ↔ (Y ∨ ∃ w, d ≤ w ∧ w < v + 1 ∧ A w) := by
  rw [h]
  constructor
  · rintro (h | ⟨w, h1, h2, h3⟩)
    · exact Or.inl h
    · exact Or.inr ⟨w, h1, by omega, h3⟩
  · rintro (h | ⟨w, h1, h2, h3⟩)
    · exact Or.inl h
    · by_cases e : w = v
      · rw [e] at h3; exact absurd h3 hv
      · exact Or.inr ⟨w, h1, by omega, h3⟩
theorem qb_ex1 {d v : Nat} {A : Nat → Prop} {X X' Y : Prop} (h : X ↔ (Y ∨ ∃ w, d ≤ w ∧ w < v ∧ A w)) (hd : d ≤ v) (hx : X' ↔ (X ∨ A v)) : X' ↔ (Y ∨ ∃ w, d ≤ w ∧ w < v + 1 ∧ A w) := by
  rw [hx, h]
  constructor
  · rintro ((h | ⟨w, h1, h2, h3⟩) | h)
    · exact Or.inl h
    · exact Or.inr ⟨w, h1, by omega, h3⟩
    · exact Or.inr ⟨v, hd, by omega, h⟩
  · rintro (h | ⟨w, h1, h2, h3⟩)
    · exact Or.inl (Or.inl h)
    · by_cases e : w = v
      · rw [e] at h3; exact Or.inr h3
      · exact Or.inl (Or.inr ⟨w, h1, by omega, h3⟩)
theorem qb_hiT {x : Int32} {h : Nat} (h8 : ∀ i, bt x i = true → i < 8) (h0 : ¬ x = 0) (hb1 : h ≠ 0 → bt x h = true) (hb2 : ∀ j, h < j → j < 8 → bt x j = false) : bt x h = true := by
  by_cases e : h = 0
  · obtain ⟨i, hi⟩ := qb_nz h0
    by_cases ei : i = h
    · rw [← ei]; exact hi
    · rw [hb2 i (by omega) (h8 i hi)] at hi; exact absurd hi (by decide)
  · exact hb1 e
section
variable {xvl xcl xll xn xe xa xm xop xon xso xre xnl xsc xac xau xd xb xs xo xz xdc xou xrv xrn xk xv xl xco : Int32} {ck cp cn cd ov od dv dn mks lk kp kn dp dg : Nat → Int32} {n m base d : Nat} {P N : Nat → Nat → Bool}
theorem qx_hi_l {post : Int32 → Prop} {x : Int32} (hp : ∀ h, h < 8 → (h ≠ 0 → bt x h = true) → (∀ j, h < j → j < 8 → bt x j = false) → post (nI h)) : ∀ k f, k < 8 → k < f → (∀ j, k < j → j < 8 → bt x j = false) → wX_highestIndex_3 post x xvl xcl xll xn xe xa xm xop xon xso xre xnl xsc xac xau xd xb xs xo xz xdc xou xrv xrn xk xv xl xco ck cp cn cd ov od dv dn mks lk kp kn dp dg f (nI k) := by
  intro k
  induction k with
  | zero =>
    intro f hk hf hj
    obtain ⟨f, rfl⟩ : ∃ g, f = g + 1 := ⟨f - 1, by omega⟩
    exact br_t (c := nI 0 ≤ 0) (by decide) (hp 0 (by omega) (fun z => absurd rfl z) hj)
  | succ k ih =>
    intro f hk hf hj
    obtain ⟨f, rfl⟩ : ∃ g, f = g + 1 := ⟨f - 1, by omega⟩
    refine br_f (nI_nle (by omega) (by omega)) (br_c (fun hz => ?_) (fun hz => ?_))
    · refine nm_r (pk_m1 k) ?_
      exact ih f (by omega) (by omega) (fun j h1 h2 => by
        by_cases e : j = k + 1
        · rw [e]; exact (qb_bit0 x (by omega)).mp hz
        · exact hj j (by omega) h2)
    · exact hp (k + 1) hk (fun _ => (qb_bit1 x (by omega)).mp hz) hj
theorem qx_hi {post : Int32 → Prop} {x : Int32} (hp : ∀ h, h < 8 → (h ≠ 0 → bt x h = true) → (∀ j, h < j → j < 8 → bt x j = false) → post (nI h)) : wpX_highestIndex post (xvl, xcl, xll, xn, xe, xa, xm, xop, xon, xso, xre, xnl, xsc, xac, xau, xd, xb, xs, xo, xz, xdc, xou, xrv, xrn, xk, xv, xl, xco, ck, cp, cn, cd, ov, od, dv, dn, mks, lk, kp, kn, dp, dg) x := by
  unfold wpX_highestIndex
  dsimp only
  exact ⟨8, qx_hi_l hp 7 8 (by omega) (by omega) (fun j h1 h2 => absurd h2 (by omega))⟩
theorem qx_own {post : Int32 → Prop} {k : Int32} {o : Bool} (hk : k = qb_kd o) (hOM : qb_OM n xe xa) (hp : ∀ w, qb_ow n xe o w → post w) : wpX_ownersOf post (xvl, xcl, xll, xn, xe, xa, xm, xop, xon, xso, xre, xnl, xsc, xac, xau, xd, xb, xs, xo, xz, xdc, xou, xrv, xrn, xk, xv, xl, xco, ck, cp, cn, cd, ov, od, dv, dn, mks, lk, kp, kn, dp, dg) k := by
  unfold wpX_ownersOf
  dsimp only
  cases o
  · refine br_f (by rw [hk]; decide) (hp xa fun j => ?_)
    rw [hOM.2 j, Bool.and_eq_true, decide_eq_true_eq, Bool.not_eq_true']
  · refine br_t hk (hp xe fun j => ?_)
    exact ⟨fun h => ⟨hOM.1 j h, h⟩, fun h => h.2⟩
theorem qx_ex_l {post : SX → Prop} {lt R0 N0 : Int32} (hn8 : n ≤ 8) (hp : ∀ rv rn : Int32, (∀ j, bt rv j = true ↔ (bt R0 j = true ∨ ∃ v, d ≤ v ∧ v < n ∧ (bt lt v = true ∧ bt (dv v) j = true))) → (∀ j, bt rn j = true ↔ (bt N0 j = true ∨ ∃ v, d ≤ v ∧ v < n ∧ (bt lt v = true ∧ bt (dn v) j = true))) → post (xvl, xcl, xll, nI n, xe, xa, xm, xop, xon, xso, xre, xnl, xsc, xac, xau, xd, xb, xs, xo, xz, xdc, xou, rv, rn, xk, xv, xl, xco, ck, cp, cn, cd, ov, od, dv, dn, mks, lk, kp, kn, dp, dg)) : ∀ (k v f : Nat) (rv rn : Int32), v + k = n → k < f → d ≤ v → (∀ j, bt rv j = true ↔ (bt R0 j = true ∨ ∃ w, d ≤ w ∧ w < v ∧ (bt lt w = true ∧ bt (dv w) j = true))) → (∀ j, bt rn j = true ↔ (bt N0 j = true ∨ ∃ w, d ≤ w ∧ w < v ∧ (bt lt w = true ∧ bt (dn w) j = true))) → wX_explain_82 post lt xvl xcl xll (nI n) xe xa xm xop xon xso xre xnl xsc xac xau xd xb xs xo xz xdc xou xk xv xl xco ck cp cn cd ov od dv dn mks lk kp kn dp dg f (nI v) rv rn := by
  intro k
  induction k with
  | zero =>
    intro v f rv rn hv hf hd h1 h2
    obtain ⟨f, rfl⟩ : ∃ g, f = g + 1 := ⟨f - 1, by omega⟩
    have e : v = n := by omega
    subst e
    exact br_t (nI_le (Nat.le_refl _) (by omega)) (hp rv rn h1 h2)
  | succ k ih =>
    intro v f rv rn hv hf hd h1 h2
    obtain ⟨f, rfl⟩ : ∃ g, f = g + 1 := ⟨f - 1, by omega⟩
    refine br_f (nI_ge (by omega) (by omega)) (br_c (fun hz => ?_) (fun hz => ?_))
    · have hz' := (qb_bit0 lt (by omega)).mp hz
      refine nm_r (nI_1 v) (ih (v + 1) f rv rn (by omega) (by omega) (by omega) ?_ ?_)
      · exact fun j => qb_ex0 (A := fun w => bt lt w = true ∧ bt (dv w) j = true) (h1 j) (fun h => by rw [hz'] at h; exact absurd h.1 (by decide))
      · exact fun j => qb_ex0 (A := fun w => bt lt w = true ∧ bt (dn w) j = true) (h2 j) (fun h => by rw [hz'] at h; exact absurd h.1 (by decide))
    · have hz' := (qb_bit1 lt (by omega)).mp hz
      have hin : vp_in (nI v) 8 := vp_in_nI (by omega) (by omega)
      have hc : (nI v).toNatClampNeg = v := nI_clamp (by omega)
      refine ⟨hin, nm_r (e' := rv ||| dv v) (by rw [hc]) ⟨hin, nm_r (e' := rn ||| dn v) (by rw [hc]) (nm_r (nI_1 v) (ih (v + 1) f _ _ (by omega) (by omega) (by omega) ?_ ?_))⟩⟩
      · refine fun j => qb_ex1 (A := fun w => bt lt w = true ∧ bt (dv w) j = true) (h1 j) hd ?_
        rw [qb_orT, hz']
        exact or_congr_right ⟨fun h => ⟨rfl, h⟩, fun h => h.2⟩
      · refine fun j => qb_ex1 (A := fun w => bt lt w = true ∧ bt (dn w) j = true) (h2 j) hd ?_
        rw [qb_orT, hz']
        exact or_congr_right ⟨fun h => ⟨rfl, h⟩, fun h => h.2⟩
theorem qx_explain {post : SX → Prop} {i : Nat} {w : Int32} (hi : i < 88) (hn8 : n ≤ 8) (hd : d ≤ n) (hp : ∀ rv rn : Int32, qb_Xp n d (cp i) (cn i) (cd i) w xo xz dv dn rv rn → post (xvl, xcl, xll, nI n, xe, xa, xm, xop, xon, xso, xre, xnl, xsc, xac, xau, nI d, xb, xs, xo, xz, xdc, xou, rv, rn, xk, xv, xl, xco, ck, cp, cn, cd, ov, od, dv, dn, mks, lk, kp, kn, dp, dg)) : wpX_explain post (xvl, xcl, xll, nI n, xe, xa, xm, xop, xon, xso, xre, xnl, xsc, xac, xau, nI d, xb, xs, xo, xz, xdc, xou, xrv, xrn, xk, xv, xl, xco, ck, cp, cn, cd, ov, od, dv, dn, mks, lk, kp, kn, dp, dg) (nI i) w := by
  have hlt : ∀ v, d ≤ v → (bt (((((cp i) ||| (cn i)) &&& ((((1 : Int32) <<< (nI d &&& 31)) - 1) ^^^ (-1))) &&& w) &&& (xo ||| xz)) v = true ↔ ((bt (cp i) v = true ∨ bt (cn i) v = true) ∧ bt w v = true ∧ (bt xo v = true ∨ bt xz v = true))) := by
    intro v hv
    rw [qb_andT, qb_andT, qb_andnT, qb_orT, qb_orT, qb_lowF (by omega)]
    exact ⟨fun h => ⟨h.1.1.1, h.1.2, h.2⟩, fun h => ⟨⟨⟨h.1, hv⟩, h.2.1⟩, h.2.2⟩⟩
  unfold wpX_explain
  dsimp only
  rw [nI_clamp (by omega : i < 2 ^ 31)]
  have hin : vp_in (nI i) 88 := vp_in_nI hi (by omega)
  refine nm_e ⟨hin, hin, nm_e (nm_e (nm_e ⟨hin, nm_e ⟨n - d + 1, ?_⟩⟩))⟩
  refine qx_ex_l (d := d) hn8 ?_ (n - d) d _ _ _ (by omega) (by omega) (Nat.le_refl d) (fun j => ⟨Or.inl, fun h => h.elim id fun ⟨w, a, b, _⟩ => absurd b (by omega)⟩) (fun j => ⟨Or.inl, fun h => h.elim id fun ⟨w, a, b, _⟩ => absurd b (by omega)⟩)
  intro rv rn h1 h2
  refine hp rv rn ⟨fun j => (h1 j).trans (or_congr ?_ (exists_congr fun v => and_congr_right fun hv => and_congr_right fun _ => and_congr_left fun _ => hlt v hv)), fun j => (h2 j).trans (or_congr ?_ (exists_congr fun v => and_congr_right fun hv => and_congr_right fun _ => and_congr_left fun _ => hlt v hv))⟩
  · rw [qb_andT, qb_orT, qb_lowT (by omega)]
  · rw [qb_orT, qb_s24T]
    refine or_congr_right (exists_congr fun v => and_congr_right fun _ => and_congr_right fun _ => ?_)
    rw [qb_andnT, qb_andnT, qb_orT, qb_lowF (by omega)]
    exact ⟨fun h => ⟨h.1.2, h.1.1, h.2⟩, fun h => ⟨⟨h.2.1, h.1⟩, h.2.2⟩⟩
theorem qx_visit {post : Int32 → SX → Prop} {i : Nat} {o : Bool} (hi : i < 88) (hn8 : n ≤ 8) (hbd : base ≤ d) (hd : d ≤ n) (hOM : qb_OM n xe xa) (hk : ck i = qb_kd o) (hC : qb_Con n (bt xe) (qb_leaf n m P N) o (cp i) (cn i) (cd i)) (hus : qb_us o (bt (cd i)) (qb_S xsc) base) (hPI : qb_PI n (bt xe) (qb_leaf n m P N) (qb_S xsc) base d xb xo xz dv dn)
    (h0 : ((((cp i) &&& xo) ||| ((cn i) &&& xz)) = 0 → d < n) → post 0 (xvl, xcl, xll, nI n, xe, xa, xm, xop, xon, xso, xre, xnl, xsc, xac, xau, nI d, xb, xs, xo, xz, xdc, xou, xrv, xrn, xk, xv, xl, xco, ck, cp, cn, cd, ov, od, dv, dn, mks, lk, kp, kn, dp, dg))
    (h1 : ∀ rv rn : Int32, qb_RI n (bt xe) (qb_leaf n m P N) (qb_S xsc) base d xb o rv rn → post 0 (xvl, xcl, xll, nI n, xe, xa, xm, xop, xon, xso, xre, xnl, xsc, xac, xau, nI d, xb, xs, xo, xz, 1, qb_oc o, rv, rn, xk, xv, xl, xco, ck, cp, cn, cd, ov, od, dv, dn, mks, lk, kp, kn, dp, dg))
    (h2 : ∀ (rv rn o' z' : Int32) (dv' dn' : Nat → Int32), d < n → qb_PI n (bt xe) (qb_leaf n m P N) (qb_S xsc) base d xb o' z' dv' dn' → post 1 (xvl, xcl, xll, nI n, xe, xa, xm, xop, xon, xso, xre, xnl, xsc, xac, xau, nI d, xb, xs, o', z', xdc, xou, rv, rn, xk, xv, xl, xco, ck, cp, cn, cd, ov, od, dv', dn', mks, lk, kp, kn, dp, dg)) :
    wpX_visit post (xvl, xcl, xll, nI n, xe, xa, xm, xop, xon, xso, xre, xnl, xsc, xac, xau, nI d, xb, xs, xo, xz, xdc, xou, xrv, xrn, xk, xv, xl, xco, ck, cp, cn, cd, ov, od, dv, dn, mks, lk, kp, kn, dp, dg) (nI i) := by
  have hL := qb_lf n m P N
  have hin : vp_in (nI i) 88 := vp_in_nI hi (by omega)
  unfold wpX_visit
  dsimp only
  rw [nI_clamp (by omega : i < 2 ^ 31)]
  refine ⟨hin, nm_e ⟨hin, nm_e (br_c (fun hun => ⟨hin, ?_⟩) (fun hs => h0 (fun z => absurd z hs)))⟩⟩
  refine qx_own hk hOM (fun w hw => ?_)
  refine nm_e (nm_e (br_c (fun hown => ?_) (fun hne => ?_)))
  · refine qx_explain hi hn8 hd (fun rv rn hX => ?_)
    have hR := h1 rv rn (qb_visC hL hn8 hbd hd hw hPI hC hus hun hown hX)
    dsimp only
    refine ⟨hin, ?_⟩
    cases o
    · exact br_f (show ¬ ck i = 1 by rw [hk]; decide) hR
    · exact br_t hk hR
  · have hopen : ∀ j, bt ((((cp i) ||| (cn i)) &&& ((xo ||| xz) ^^^ (-1))) &&& w) j = true → j < n ∧ ¬ (bt xo j = true ∨ bt xz j = true) := by
      intro j hj
      obtain ⟨a, b⟩ := qb_andT.mp hj
      exact ⟨((hw j).mp b).1, (qb_openT.mp a).2⟩
    have hdn : d < n := by
      obtain ⟨j, hj⟩ := qb_nz hne
      obtain ⟨a, b⟩ := hopen j hj
      rcases Nat.lt_or_ge j d with h | h
      · exfalso
        apply b
        have h5 := hPI.1 j h
        cases hb : bt xb j
        · right; rw [h5.2, hb]; rfl
        · left; rw [h5.1, hb]
      · omega
    refine br_c (fun hsg => ?_) (fun _ => h0 (fun _ => hdn))
    refine br_c (fun hbf => ?_) (fun _ => h0 (fun _ => hdn))
    obtain ⟨v, hv8, hx⟩ := qb_single (fun j hj => by have := (hopen j hj).1; omega) hne hsg
    have hvo := (hopen v ((congrArg (fun x => bt x v) hx).trans ((qb_oneT (by omega)).mpr rfl))).2
    rw [hx] at hbf ⊢
    refine qx_explain hi hn8 hd (fun rv rn hX => ?_)
    refine qx_hi (fun h hh hb1 hb2 => ?_)
    have e : h = v := (qb_oneT (by omega)).mp (qb_hiT (fun j hj => by have := (qb_oneT (by omega)).mp hj; omega) (qb_nzi ((qb_oneT (k := v) (by omega)).mpr rfl)) hb1 hb2)
    subst e
    have hin8 : vp_in (nI h) 8 := vp_in_nI hh (by omega)
    have hc : (nI h).toNatClampNeg = h := nI_clamp (by omega)
    have hor : ∀ (x : Int32) j, j ≠ h → bt (x ||| ((1 : Int32) <<< (nI h &&& 31))) j = bt x j := by
      intro x j hj
      rw [b_or, qb_one h (by omega), decide_eq_false hj, Bool.or_false]
    have hor2 : ∀ (x : Int32), bt (x ||| ((1 : Int32) <<< (nI h &&& 31))) h = true := by
      intro x
      rw [b_or, qb_one h (by omega), decide_eq_true rfl, Bool.or_true]
    refine ⟨hin8, nm_r (e' := upd dv h rv) (by rw [hc]) ⟨hin8, nm_r (e' := upd dn h rn) (by rw [hc]) (br_c (fun hp0 => nm_e ?_) (fun hp1 => nm_e ?_))⟩⟩
    · have hp := (qb_bit0 _ (by omega)).mp hp0
      obtain ⟨_, k2⟩ := qb_visU hL hn8 hbd hd hw hPI hC hus hun hv8 hx hbf hX (o' := xo) (z' := xz ||| ((1 : Int32) <<< (nI h &&& 31))) (fun j hj => ⟨rfl, hor _ j hj⟩) (by rw [hp]; exact qb_ncf.mp (fun z => hvo (Or.inl z))) (by rw [hp]; exact hor2 _)
      exact h2 rv rn _ _ _ _ hdn k2
    · have hp := (qb_bit1 _ (by omega)).mp hp1
      obtain ⟨_, k2⟩ := qb_visU hL hn8 hbd hd hw hPI hC hus hun hv8 hx hbf hX (o' := xo ||| ((1 : Int32) <<< (nI h &&& 31))) (z' := xz) (fun j hj => ⟨hor _ j hj, rfl⟩) (by rw [hp]; exact hor2 _) (by rw [hp]; exact qb_ncf.mp (fun z => hvo (Or.inr z)))
      exact h2 rv rn _ _ _ _ hdn k2
theorem qx_usable {post : Int32 → Prop} {i : Nat} (hi : i < 88) (hm : m ≤ 24) (hDB : qb_DB n m (bt xe) P N ck cp cn cd) (hAL : qb_AL base xsc xac xau) (h0 : (i < m → bt xsc i = false) → post 0) (h1 : ∀ o, ck i = qb_kd o → qb_us o (bt (cd i)) (qb_S xsc) base → post 1) : wpX_isUsable post (xvl, xcl, xll, xn, xe, xa, xm, xop, xon, xso, xre, xnl, xsc, xac, xau, xd, xb, xs, xo, xz, xdc, xou, xrv, xrn, xk, xv, xl, xco, ck, cp, cn, cd, ov, od, dv, dn, mks, lk, kp, kn, dp, dg) (nI i) := by
  have hin : vp_in (nI i) 88 := vp_in_nI hi (by omega)
  unfold wpX_isUsable
  dsimp only
  rw [nI_clamp (by omega : i < 2 ^ 31)]
  refine ⟨hin, br_c (fun hk => ⟨hin, br_c (fun hz => h1 true hk (hAL.1 _ hz)) (fun hz => h0 fun hm => ?_)⟩) (fun hk => ⟨hin, br_c (fun hk2 => ⟨hin, br_c (fun hz => h1 false hk2 (hAL.2.1 _ hz)) (fun _ => h0 fun hm => absurd (hDB.1 i hm).1 hk)⟩) (fun _ => h0 fun hm => absurd (hDB.1 i hm).1 hk)⟩)⟩
  apply qb_ncf.mp
  intro hs
  apply hz
  rw [(hDB.1 i hm).2.2]
  apply qb_subz
  intro j hj
  rw [(qb_oneT (by omega)).mp hj]
  exact hAL.2.2 i hs
theorem qx_tv {post : Int32 → Prop} {i : Nat} (hi : i < 88) (h : post (((cp i) &&& xo) ||| ((cn i) &&& xz))) : wpX_trueVars post (xvl, xcl, xll, xn, xe, xa, xm, xop, xon, xso, xre, xnl, xsc, xac, xau, xd, xb, xs, xo, xz, xdc, xou, xrv, xrn, xk, xv, xl, xco, ck, cp, cn, cd, ov, od, dv, dn, mks, lk, kp, kn, dp, dg) (nI i) := by
  have hin : vp_in (nI i) 88 := vp_in_nI hi (by omega)
  unfold wpX_trueVars
  dsimp only
  rw [nI_clamp (by omega : i < 2 ^ 31)]
  exact ⟨hin, hin, h⟩
theorem qx_addS {post : Int32 → SX → Prop} {sp : Int32} (hn8 : n ≤ 8) (hd : d ≤ n) (hPI : qb_PI n (bt xe) (qb_leaf n m P N) (qb_S xsc) base d xb xo xz dv dn) (hsp0 : ¬ sp = 0) (hsp1 : ∀ j, bt sp j = true → (bt xo j = true ∨ bt xz j = true)) (hrv : ∀ j, bt xrv j = true → j < d) (hrn : qb_us false (bt xrn) (qb_S xsc) base)
    (hp : ∀ r rv rn : Int32, qb_Sp n d xe dv dn sp r rv rn → (∀ j, bt xrv j = true → bt rv j = true) → (∀ j, bt xrn j = true → bt rn j = true) → (∀ j, bt rv j = true → j < d) → qb_us false (bt rn) (qb_S xsc) base → (∀ j, bt r j = true → d ≤ j ∧ j < n ∧ bt xe j = true) → post r (xvl, xcl, xll, nI n, xe, xa, xm, xop, xon, xso, xre, xnl, xsc, xac, xau, nI d, xb, xs, xo, xz, xdc, xou, rv, rn, xk, xv, xl, xco, ck, cp, cn, cd, ov, od, dv, dn, mks, lk, kp, kn, dp, dg)) :
    wpX_addSupport post (xvl, xcl, xll, nI n, xe, xa, xm, xop, xon, xso, xre, xnl, xsc, xac, xau, nI d, xb, xs, xo, xz, xdc, xou, xrv, xrn, xk, xv, xl, xco, ck, cp, cn, cd, ov, od, dv, dn, mks, lk, kp, kn, dp, dg) sp := by
  have hspn : ∀ j, bt sp j = true → j < n := fun j hj => hPI.2.2.1 j (hsp1 j hj)
  unfold wpX_addSupport
  dsimp only
  refine nm_e (nm_e (br_c (fun h1 => nm_e (br_c (fun h2 => nm_e (br_c (fun h3 => ?_) (fun h3 => ?_))) (fun h2 => ?_))) (fun h1 => ?_)))
  · refine qx_hi (fun h hh hb1 hb2 => ?_)
    have hs := qb_hiT (fun j hj => by have := hspn j hj; omega) hsp0 hb1 hb2
    have hin8 : vp_in (nI h) 8 := vp_in_nI hh (by omega)
    have hc : (nI h).toNatClampNeg = h := nI_clamp (by omega)
    have hhd : d ≤ h := by
      rcases Nat.lt_or_ge h d with h4 | h4
      · exact absurd h3 (qb_nzi (qb_andT.mpr ⟨hs, (qb_lowT (by omega)).mpr h4⟩))
      · exact h4
    have hxe : bt xe h = false := by
      apply qb_ncf.mp
      intro h4
      exact absurd h1 (qb_nzi (qb_andnT.mpr ⟨qb_andT.mpr ⟨hs, h4⟩, (qb_lowF (by omega)).mpr hhd⟩))
    obtain ⟨k1, k2, _⟩ := hPI.2.2.2 h hhd (hspn h hs) (hsp1 h hs)
    rw [hxe] at k2
    refine ⟨hin8, nm_r (e' := xrv ||| dv h) (by rw [hc]) ⟨hin8, nm_r (e' := xrn ||| dn h) (by rw [hc]) (hp 0 _ _ ?_ ?_ ?_ ?_ ?_ ?_)⟩⟩
    · exact ⟨h, hspn h hs, hs, Or.inr (Or.inr ⟨hhd, hxe, fun j hj => qb_orT.mpr (Or.inr hj), fun j hj => qb_orT.mpr (Or.inr hj)⟩)⟩
    · exact fun j hj => qb_orT.mpr (Or.inl hj)
    · exact fun j hj => qb_orT.mpr (Or.inl hj)
    · exact fun j hj => (qb_orT.mp hj).elim (hrv j) (k1 j)
    · exact ⟨fun j hj hr => (qb_orT.mp hr).elim (hrn.1 j hj) (k2.1 j hj), fun j hj hr => (qb_orT.mp hr).elim (hrn.2 j hj) (k2.2 j hj)⟩
    · intro j hj; rw [b_0] at hj; exact absurd hj (by decide)
  · obtain ⟨i, hi1, hi2⟩ := qb_lowest (x := sp &&& (((1 : Int32) <<< (nI d &&& 31)) - 1)) (fun j hj => by have := hspn j (qb_andT.mp hj).1; omega) h3
    obtain ⟨hs, hid⟩ := qb_andT.mp hi1
    rw [qb_lowT (by omega)] at hid
    refine nm_e (hp 0 _ _ ?_ ?_ ?_ ?_ hrn ?_)
    · exact ⟨i, hspn i hs, hs, Or.inl ⟨hid, qb_orT.mpr (Or.inr hi2)⟩⟩
    · exact fun j hj => qb_orT.mpr (Or.inl hj)
    · exact fun j hj => hj
    · intro j hj
      rcases qb_orT.mp hj with h | h
      · exact hrv j h
      · exact (qb_lowT (by omega)).mp (qb_andT.mp (qb_andT.mp h).1).2
    · intro j hj; rw [b_0] at hj; exact absurd hj (by decide)
  · refine qx_hi (fun h hh hb1 hb2 => ?_)
    have hs := qb_hiT (fun j hj => by have := hspn j (qb_andT.mp (qb_andT.mp hj).1).1; omega) h2 hb1 hb2
    obtain ⟨hs1, hid⟩ := qb_andT.mp hs
    have hs2 := (qb_andT.mp hs1).1
    rw [qb_lowT (by omega)] at hid
    refine nm_e (hp 0 _ _ ?_ ?_ ?_ ?_ hrn ?_)
    · exact ⟨h, hspn h hs2, hs2, Or.inl ⟨hid, qb_orT.mpr (Or.inr ((qb_oneT (by omega)).mpr rfl))⟩⟩
    · exact fun j hj => qb_orT.mpr (Or.inl hj)
    · exact fun j hj => hj
    · intro j hj
      rcases qb_orT.mp hj with h | h
      · exact hrv j h
      · rw [(qb_oneT (by omega)).mp h]; exact hid
    · intro j hj; rw [b_0] at hj; exact absurd hj (by decide)
  · refine qx_hi (fun h hh hb1 hb2 => ?_)
    have hs := qb_hiT (fun j hj => by have := hspn j (qb_andT.mp (qb_andnT.mp hj).1).1; omega) h1 hb1 hb2
    obtain ⟨hs1, hid⟩ := qb_andnT.mp hs
    obtain ⟨hs2, hxe⟩ := qb_andT.mp hs1
    rw [qb_lowF (by omega)] at hid
    refine hp _ _ _ ?_ (fun j hj => hj) (fun j hj => hj) hrv hrn ?_
    · exact ⟨h, hspn h hs2, hs2, Or.inr (Or.inl ⟨hid, hxe, (qb_oneT (by omega)).mpr rfl⟩)⟩
    · intro j hj
      rw [(qb_oneT (by omega)).mp hj]
      exact ⟨hid, hspn h hs2, hxe⟩
theorem qx_cat_l {post : SX → Prop} (hn8 : n ≤ 8) (hm : m ≤ 24) (hbd : base ≤ d) (hd : d ≤ n) (hPI : qb_PI n (bt xe) (qb_leaf n m P N) (qb_S xsc) base d xb xo xz dv dn)
    (hcl : ∀ c, c < m → ∀ i, i < n → bt (cp c) i = P c i ∧ bt (cn c) i = N c i)
    (hsat : ∀ c, c < m → bt xsc c = true → ¬ (((cp c) &&& xo) ||| ((cn c) &&& xz)) = 0)
    (hp : ∀ rv rn : Int32, qb_RI n (bt xe) (qb_leaf n m P N) (qb_S xsc) base d xb false rv rn → post (xvl, xcl, xll, nI n, xe, xa, nI m, xop, xon, xso, xre, xnl, xsc, xac, xau, nI d, xb, xs, xo, xz, 1, 1, rv, rn, xk, xv, xl, xco, ck, cp, cn, cd, ov, od, dv, dn, mks, lk, kp, kn, dp, dg)) :
    ∀ (k c f : Nat) (ch rv rn : Int32), c + k = m → k < f → (∀ c', c' < c → bt xsc c' = true → qb_Sp n d xe dv dn (((cp c') &&& xo) ||| ((cn c') &&& xz)) ch rv rn) → (∀ j, bt rv j = true → j < d) → qb_us false (bt rn) (qb_S xsc) base → (∀ j, j < m → bt xsc j = false → bt rn j = true) → (∀ j, bt ch j = true → d ≤ j ∧ j < n ∧ bt xe j = true) →
    wX_checkAllTrue_72 post f ch (nI c) xvl xcl xll (nI n) xe xa (nI m) xop xon xso xre xnl xsc xac xau (nI d) xb xs xo xz 1 1 rv rn xk xv xl xco ck cp cn cd ov od dv dn mks lk kp kn dp dg := by
  intro k
  induction k with
  | zero =>
    intro c f ch rv rn hc hf hI1 hI2 hI3 hI4 hI5
    obtain ⟨f, rfl⟩ : ∃ g, f = g + 1 := ⟨f - 1, by omega⟩
    have e : c = m := by omega
    subst e
    exact br_t (nI_le (Nat.le_refl _) (by omega)) (nm_e (hp rv _ (qb_allTI hn8 hm hbd hd hPI hcl hI1 hI2 hI3 hI4 (fun j hj => ⟨(hI5 j hj).1, (hI5 j hj).2.1⟩) rfl)))
  | succ k ih =>
    intro c f ch rv rn hc hf hI1 hI2 hI3 hI4 hI5
    obtain ⟨f, rfl⟩ : ∃ g, f = g + 1 := ⟨f - 1, by omega⟩
    refine br_f (nI_ge (by omega) (by omega)) (qx_tv (by omega) (br_c (fun hz => ?_) (fun hz => br_c (fun hsu => ?_) (fun hsu => ?_))))
    · have hz' := (qb_bit0 xsc (by omega)).mp hz
      refine nm_r (nI_1 c) (ih (c + 1) f ch rv rn (by omega) (by omega) ?_ hI2 hI3 hI4 hI5)
      intro c' h1 h2
      by_cases e : c' = c
      · rw [e, hz'] at h2; exact absurd h2 (by decide)
      · exact hI1 c' (by omega) h2
    · have hz' := (qb_bit1 xsc (by omega)).mp hz
      refine qx_addS hn8 hd hPI (hsat c (by omega) hz') ?_ hI2 hI3 ?_
      · intro j hj
        exact (qb_orT.mp hj).imp (fun h => (qb_andT.mp h).2) (fun h => (qb_andT.mp h).2)
      · intro r rv' rn' k1 k2 k3 k4 k5 k6
        refine nm_e (nm_r (nI_1 c) (ih (c + 1) f _ rv' rn' (by omega) (by omega) ?_ k4 k5 (fun j h1 h2 => k3 j (hI4 j h1 h2)) ?_))
        · intro c' h1 h2
          by_cases e : c' = c
          · rw [e]
            exact qb_spm k1 (fun j hj => qb_orT.mpr (Or.inr hj)) (fun j hj => hj) (fun j hj => hj)
          · exact qb_spm (hI1 c' (by omega) h2) (fun j hj => qb_orT.mpr (Or.inl hj)) k2 k3
        · intro j hj
          exact (qb_orT.mp hj).elim (hI5 j) (k6 j)
    · refine nm_r (nI_1 c) (ih (c + 1) f ch rv rn (by omega) (by omega) ?_ hI2 hI3 hI4 hI5)
      intro c' h1 h2
      by_cases e : c' = c
      · rw [e]
        obtain ⟨j, hj⟩ := qb_nz hsu
        obtain ⟨hj1, hj2⟩ := qb_andT.mp hj
        have hjn : j < n := hPI.2.2.1 j ((qb_orT.mp hj1).imp (fun h => (qb_andT.mp h).2) (fun h => (qb_andT.mp h).2))
        refine ⟨j, hjn, hj1, ?_⟩
        rcases qb_orT.mp hj2 with h | h
        · exact Or.inl ⟨hI2 j h, h⟩
        · exact Or.inr (Or.inl ⟨(hI5 j h).1, (hI5 j h).2.2, h⟩)
      · exact hI1 c' (by omega) h2
theorem qx_ca_l {post : SX → Prop} (hn8 : n ≤ 8) (hm : m ≤ 24) (hbd : base ≤ d) (hd : d ≤ n) (hPI : qb_PI n (bt xe) (qb_leaf n m P N) (qb_S xsc) base d xb xo xz dv dn)
    (hcl : ∀ c, c < m → ∀ i, i < n → bt (cp c) i = P c i ∧ bt (cn c) i = N c i)
    (h0 : ∀ c, c < m → bt xsc c = true → (((cp c) &&& xo) ||| ((cn c) &&& xz)) = 0 → post (xvl, xcl, xll, nI n, xe, xa, nI m, xop, xon, xso, xre, xnl, xsc, xac, xau, nI d, xb, xs, xo, xz, xdc, xou, xrv, xrn, xk, xv, xl, xco, ck, cp, cn, cd, ov, od, dv, dn, mks, lk, kp, kn, dp, dg))
    (hp : ∀ rv rn : Int32, qb_RI n (bt xe) (qb_leaf n m P N) (qb_S xsc) base d xb false rv rn → post (xvl, xcl, xll, nI n, xe, xa, nI m, xop, xon, xso, xre, xnl, xsc, xac, xau, nI d, xb, xs, xo, xz, 1, 1, rv, rn, xk, xv, xl, xco, ck, cp, cn, cd, ov, od, dv, dn, mks, lk, kp, kn, dp, dg)) :
    ∀ (k c f : Nat), c + k = m → k < f → (∀ c', c' < c → bt xsc c' = true → ¬ (((cp c') &&& xo) ||| ((cn c') &&& xz)) = 0) →
    wX_checkAllTrue_2 post xvl xcl xll (nI n) xe xa (nI m) xop xon xso xre xnl xsc xac xau (nI d) xb xs xo xz xdc xou xrv xrn xk xv xl xco ck cp cn cd ov od dv dn mks lk kp kn dp dg f (nI c) := by
  intro k
  induction k with
  | zero =>
    intro c f hc hf hI
    obtain ⟨f, rfl⟩ : ∃ g, f = g + 1 := ⟨f - 1, by omega⟩
    have e : c = m := by omega
    subst e
    refine br_t (nI_le (Nat.le_refl _) (by omega)) ?_
    unfold wpX_allClauses
    dsimp only
    refine nm_e ⟨c + 1, ?_⟩
    refine qx_cat_l hn8 hm hbd hd hPI hcl hI hp c 0 (c + 1) 0 0 _ (by omega) (by omega) (fun c' h => absurd h (by omega)) ?_ ⟨?_, ?_⟩ ?_ ?_
    · intro j hj; rw [b_0] at hj; exact absurd hj (by decide)
    · intro j hj hr
      have := (qb_andnT.mp hr).2
      exact ⟨fun h => absurd (this.symm.trans h) (by decide), fun h => absurd h (by decide)⟩
    · intro j hj hr
      have := (qb_lowT (by omega)).mp (qb_andnT.mp hr).1
      omega
    · intro j h1 h2
      exact qb_andnT.mpr ⟨(qb_lowT (by omega)).mpr h1, h2⟩
    · intro j hj; rw [b_0] at hj; exact absurd hj (by decide)
  | succ k ih =>
    intro c f hc hf hI
    obtain ⟨f, rfl⟩ : ∃ g, f = g + 1 := ⟨f - 1, by omega⟩
    refine br_f (nI_ge (by omega) (by omega)) (br_c (fun hz => ?_) (fun hz => qx_tv (by omega) (br_c (fun hsu => ?_) (fun hsu => ?_))))
    · have hz' := (qb_bit0 xsc (by omega)).mp hz
      refine nm_r (nI_1 c) (ih (c + 1) f (by omega) (by omega) ?_)
      intro c' h1 h2
      by_cases e : c' = c
      · rw [e, hz'] at h2; exact absurd h2 (by decide)
      · exact hI c' (by omega) h2
    · exact h0 c (by omega) ((qb_bit1 xsc (by omega)).mp hz) hsu
    · refine nm_r (nI_1 c) (ih (c + 1) f (by omega) (by omega) ?_)
      intro c' h1 h2
      by_cases e : c' = c
      · rw [e]; exact hsu
      · exact hI c' (by omega) h2
theorem qx_check {post : SX → Prop} (hn8 : n ≤ 8) (hm : m ≤ 24) (hbd : base ≤ d) (hd : d ≤ n) (hPI : qb_PI n (bt xe) (qb_leaf n m P N) (qb_S xsc) base d xb xo xz dv dn)
    (hcl : ∀ c, c < m → ∀ i, i < n → bt (cp c) i = P c i ∧ bt (cn c) i = N c i)
    (h0 : ∀ c, c < m → bt xsc c = true → (((cp c) &&& xo) ||| ((cn c) &&& xz)) = 0 → post (xvl, xcl, xll, nI n, xe, xa, nI m, xop, xon, xso, xre, xnl, xsc, xac, xau, nI d, xb, xs, xo, xz, xdc, xou, xrv, xrn, xk, xv, xl, xco, ck, cp, cn, cd, ov, od, dv, dn, mks, lk, kp, kn, dp, dg))
    (hp : ∀ rv rn : Int32, qb_RI n (bt xe) (qb_leaf n m P N) (qb_S xsc) base d xb false rv rn → post (xvl, xcl, xll, nI n, xe, xa, nI m, xop, xon, xso, xre, xnl, xsc, xac, xau, nI d, xb, xs, xo, xz, 1, 1, rv, rn, xk, xv, xl, xco, ck, cp, cn, cd, ov, od, dv, dn, mks, lk, kp, kn, dp, dg)) :
    wpX_checkAllTrue post (xvl, xcl, xll, nI n, xe, xa, nI m, xop, xon, xso, xre, xnl, xsc, xac, xau, nI d, xb, xs, xo, xz, xdc, xou, xrv, xrn, xk, xv, xl, xco, ck, cp, cn, cd, ov, od, dv, dn, mks, lk, kp, kn, dp, dg) := by
  unfold wpX_checkAllTrue
  dsimp only
  exact ⟨m + 1, qx_ca_l hn8 hm hbd hd hPI hcl h0 hp m 0 (m + 1) (by omega) (by omega) (fun c' h => absurd h (by omega))⟩
end
end
section
/-! the walk of propagate -/
section
variable {xvl xcl xll xn xe xa xm xop xon xso xre xnl xsc xac xau xd xb xs xo xz xdc xou xrv xrn xk xv xl xco : Int32} {ck cp cn cd ov od dv dn mks lk kp kn dp dg : Nat → Int32} {n m base d : Nat} {P N : Nat → Nat → Bool}
theorem qx_p68 {post : SX → Prop} {J : Int32 → Int32 → Int32 → Int32 → Int32 → Int32 → Int32 → Int32 → Int32 → Int32 → Int32 → Int32 → Int32 → Int32 → Int32 → Int32 → Int32 → Int32 → Int32 → Int32 → Int32 → Int32 → Int32 → Int32 → Int32 → Int32 → Int32 → Int32 → Int32 → Int32 → (Nat → Int32) → (Nat → Int32) → (Nat → Int32) → (Nat → Int32) → (Nat → Int32) → (Nat → Int32) → (Nat → Int32) → (Nat → Int32) → (Nat → Int32) → (Nat → Int32) → (Nat → Int32) → (Nat → Int32) → (Nat → Int32) → (Nat → Int32) → Prop} {x3 : Int32} (hn8 : n ≤ 8) (hm : m ≤ 24) (hbd : base ≤ d) (hd : d ≤ n) (hOM : qb_OM n xe xa) (hDB : qb_DB n m (bt xe) P N ck cp cn cd) (hAL : qb_AL base xsc xac xau)
    (hJ : ∀ (ch xo xz xdc xou xrv xrn : Int32) (dv dn : Nat → Int32), (qb_Dn n (bt xe) (qb_leaf n m P N) (qb_S xsc) base d xb xdc xou xrv xrn ∨ (xdc = 0 ∧ qb_PI n (bt xe) (qb_leaf n m P N) (qb_S xsc) base d xb xo xz dv dn ∧ d < n)) → J ch (x3 + 1) xvl xcl xll (nI n) xe xa (nI m) xop xon xso xre xnl xsc xac xau (nI d) xb xs xo xz xdc xou xrv xrn xk xv xl xco ck cp cn cd ov od dv dn mks lk kp kn dp dg) :
    ∀ (k i f : Nat) (ch xo xz xdc xou xrv xrn : Int32) (dv dn : Nat → Int32), i + k = 88 → k < f → (qb_Dn n (bt xe) (qb_leaf n m P N) (qb_S xsc) base d xb xdc xou xrv xrn ∨ (xdc = 0 ∧ qb_PI n (bt xe) (qb_leaf n m P N) (qb_S xsc) base d xb xo xz dv dn ∧ (d < n ∨ ∃ c, i ≤ c ∧ c < m ∧ bt xsc c = true ∧ (((cp c) &&& xo) ||| ((cn c) &&& xz)) = 0))) →
    wX_propagate_68 post J x3 f ch (nI i) xvl xcl xll (nI n) xe xa (nI m) xop xon xso xre xnl xsc xac xau (nI d) xb xs xo xz xdc xou xrv xrn xk xv xl xco ck cp cn cd ov od dv dn mks lk kp kn dp dg := by
  intro k
  induction k with
  | zero =>
    intro i f ch xo xz xdc xou xrv xrn dv dn hi hf hI
    obtain ⟨f, rfl⟩ : ∃ g, f = g + 1 := ⟨f - 1, by omega⟩
    have e : i = 88 := by omega
    subst e
    refine br_t (nI_le (Nat.le_refl _) (by omega)) (nm_e (hJ ch xo xz xdc xou xrv xrn dv dn ?_))
    rcases hI with h | ⟨h1, h2, h3⟩
    · exact Or.inl h
    · refine Or.inr ⟨h1, h2, ?_⟩
      rcases h3 with h3 | ⟨c, h4, h5, _⟩
      · exact h3
      · omega
  | succ k ih =>
    intro i f ch xo xz xdc xou xrv xrn dv dn hi hf hI
    obtain ⟨f, rfl⟩ : ∃ g, f = g + 1 := ⟨f - 1, by omega⟩
    refine br_f (nI_ge (b := 88) (by omega) (by omega)) ?_
    rcases hI with hD | ⟨hdc, hPI, hx⟩
    · refine br_f ?_ (nm_e (hJ ch xo xz xdc xou xrv xrn dv dn (Or.inl hD)))
      rw [hD.1]; decide
    · refine br_t hdc (qx_usable (by omega) hm hDB hAL (fun h0 => ?_) (fun o hk hus => ?_))
      · refine br_t rfl (nm_r (nI_1 i) (ih (i + 1) f ch xo xz xdc xou xrv xrn dv dn (by omega) (by omega) (Or.inr ⟨hdc, hPI, ?_⟩)))
        rcases hx with hx | ⟨c, h1, h2, h3, h4⟩
        · exact Or.inl hx
        · refine Or.inr ⟨c, ?_, h2, h3, h4⟩
          rcases Nat.eq_or_lt_of_le h1 with e | e
          · subst e; rw [h0 h2] at h3; exact absurd h3 (by decide)
          · exact e
      · refine br_f (by decide) (qx_visit (by omega) hn8 hbd hd hOM hk (hDB.2 o i (by omega) hk) hus hPI (fun h0 => ?_) (fun rv rn hR => ?_) (fun rv rn o' z' dv' dn' hdn hPI' => ?_))
        · refine br_t rfl (nm_r (nI_1 i) (ih (i + 1) f ch xo xz xdc xou xrv xrn dv dn (by omega) (by omega) (Or.inr ⟨hdc, hPI, ?_⟩)))
          rcases hx with hx | ⟨c, h1, h2, h3, h4⟩
          · exact Or.inl hx
          · rcases Nat.eq_or_lt_of_le h1 with e | e
            · subst e; exact Or.inl (h0 h4)
            · exact Or.inr ⟨c, e, h2, h3, h4⟩
        · exact br_t rfl (nm_r (nI_1 i) (ih (i + 1) f ch xo xz 1 (qb_oc o) rv rn dv dn (by omega) (by omega) (Or.inl ⟨rfl, o, rfl, hR⟩)))
        · exact br_f (by decide) (nm_r (nI_1 i) (ih (i + 1) f 1 o' z' xdc xou rv rn dv' dn' (by omega) (by omega) (Or.inr ⟨hdc, hPI', Or.inl hdn⟩)))
theorem qx_p40 {post : SX → Prop} (hn8 : n ≤ 8) (hm : m ≤ 24) (hbd : base ≤ d) (hd : d ≤ n) (hOM : qb_OM n xe xa) (hDB : qb_DB n m (bt xe) P N ck cp cn cd) (hAL : qb_AL base xsc xac xau)
    (hp : ∀ (xo xz xdc xou xrv xrn : Int32) (dv dn : Nat → Int32), (qb_Dn n (bt xe) (qb_leaf n m P N) (qb_S xsc) base d xb xdc xou xrv xrn ∨ (xdc = 0 ∧ qb_PI n (bt xe) (qb_leaf n m P N) (qb_S xsc) base d xb xo xz dv dn ∧ d < n)) → post (xvl, xcl, xll, nI n, xe, xa, nI m, xop, xon, xso, xre, xnl, xsc, xac, xau, nI d, xb, xs, xo, xz, xdc, xou, xrv, xrn, xk, xv, xl, xco, ck, cp, cn, cd, ov, od, dv, dn, mks, lk, kp, kn, dp, dg)) :
    ∀ (k r f : Nat) (ch xo xz xdc xou xrv xrn : Int32) (dv dn : Nat → Int32), r + k = n + 1 → k < f → (qb_Dn n (bt xe) (qb_leaf n m P N) (qb_S xsc) base d xb xdc xou xrv xrn ∨ (xdc = 0 ∧ qb_PI n (bt xe) (qb_leaf n m P N) (qb_S xsc) base d xb xo xz dv dn ∧ (d < n ∨ (r = 0 ∧ ch = 1)))) →
    wX_propagate_40 post f ch (nI r) xvl xcl xll (nI n) xe xa (nI m) xop xon xso xre xnl xsc xac xau (nI d) xb xs xo xz xdc xou xrv xrn xk xv xl xco ck cp cn cd ov od dv dn mks lk kp kn dp dg := by
  have hcl : ∀ c, c < m → ∀ i, i < n → bt (cp c) i = P c i ∧ bt (cn c) i = N c i := fun c hc => (hDB.1 c hc).2.1
  intro k
  induction k with
  | zero =>
    intro r f ch xo xz xdc xou xrv xrn dv dn hr hf hI
    obtain ⟨f, rfl⟩ : ∃ g, f = g + 1 := ⟨f - 1, by omega⟩
    refine br_t (nI_lt (by omega) (by omega)) (hp xo xz xdc xou xrv xrn dv dn ?_)
    rcases hI with h | ⟨h1, h2, h3⟩
    · exact Or.inl h
    · refine Or.inr ⟨h1, h2, ?_⟩
      rcases h3 with h3 | ⟨h4, _⟩
      · exact h3
      · omega
  | succ k ih =>
    intro r f ch xo xz xdc xou xrv xrn dv dn hr hf hI
    obtain ⟨f, rfl⟩ : ∃ g, f = g + 1 := ⟨f - 1, by omega⟩
    refine br_f (nI_nlt (by omega) (by omega)) (br_c (fun hc => hp xo xz xdc xou xrv xrn dv dn ?_) (fun _ => ?_))
    · rcases hI with h | ⟨h1, h2, h3⟩
      · exact Or.inl h
      · refine Or.inr ⟨h1, h2, ?_⟩
        rcases h3 with h3 | ⟨_, h4⟩
        · exact h3
        · exact absurd (h4.symm.trans hc) (by decide)
    · rcases hI with hD | ⟨hdc, hPI, _⟩
      · refine br_f ?_ (hp xo xz xdc xou xrv xrn dv dn (Or.inl hD))
        rw [hD.1]; decide
      · have hJ : ∀ (ch xo xz xdc xou xrv xrn : Int32) (dv dn : Nat → Int32), (qb_Dn n (bt xe) (qb_leaf n m P N) (qb_S xsc) base d xb xdc xou xrv xrn ∨ (xdc = 0 ∧ qb_PI n (bt xe) (qb_leaf n m P N) (qb_S xsc) base d xb xo xz dv dn ∧ d < n)) → wX_propagate_40 post f ch (nI r + 1) xvl xcl xll (nI n) xe xa (nI m) xop xon xso xre xnl xsc xac xau (nI d) xb xs xo xz xdc xou xrv xrn xk xv xl xco ck cp cn cd ov od dv dn mks lk kp kn dp dg := by
          intro ch xo xz xdc xou xrv xrn dv dn h
          rw [nI_1 r]
          refine ih (r + 1) f ch xo xz xdc xou xrv xrn dv dn (by omega) (by omega) ?_
          rcases h with h | ⟨h1, h2, h3⟩
          · exact Or.inl h
          · exact Or.inr ⟨h1, h2, Or.inl h3⟩
        refine br_t hdc (qx_check hn8 hm hbd hd hPI hcl (fun c hc hs hu => ?_) (fun rv rn hR => ?_))
        · exact Exists.intro 89 (qx_p68 hn8 hm hbd hd hOM hDB hAL hJ 88 0 89 0 xo xz xdc xou xrv xrn dv dn (by omega) (by omega) (Or.inr ⟨hdc, hPI, Or.inr ⟨c, by omega, hc, hs, hu⟩⟩))
        · exact Exists.intro 89 (qx_p68 hn8 hm hbd hd hOM hDB hAL hJ 88 0 89 0 xo xz 1 1 rv rn dv dn (by omega) (by omega) (Or.inl ⟨rfl, false, rfl, hR⟩))
theorem qx_propagate {post : SX → Prop} (hn8 : n ≤ 8) (hm : m ≤ 24) (hbd : base ≤ d) (hd : d ≤ n) (hOM : qb_OM n xe xa) (hDB : qb_DB n m (bt xe) P N ck cp cn cd) (hAL : qb_AL base xsc xac xau)
    (hp : ∀ (xo xz xdc xou xrv xrn : Int32) (dv dn : Nat → Int32), (qb_Dn n (bt xe) (qb_leaf n m P N) (qb_S xsc) base d xb xdc xou xrv xrn ∨ (xdc = 0 ∧ qb_PI n (bt xe) (qb_leaf n m P N) (qb_S xsc) base d xb xo xz dv dn ∧ d < n)) → post (xvl, xcl, xll, nI n, xe, xa, nI m, xop, xon, xso, xre, xnl, xsc, xac, xau, nI d, xb, xs, xo, xz, xdc, xou, xrv, xrn, xk, xv, xl, xco, ck, cp, cn, cd, ov, od, dv, dn, mks, lk, kp, kn, dp, dg)) :
    wpX_propagate post (xvl, xcl, xll, nI n, xe, xa, nI m, xop, xon, xso, xre, xnl, xsc, xac, xau, nI d, xb, xs, xo, xz, xdc, xou, xrv, xrn, xk, xv, xl, xco, ck, cp, cn, cd, ov, od, dv, dn, mks, lk, kp, kn, dp, dg) := by
  have hK : ∀ j, bt (xb &&& (((1 : Int32) <<< (nI d &&& 31)) - 1)) j = true → j < d := fun j hj => (qb_lowT (by omega)).mp (qb_andT.mp hj).2
  have hK2 : ∀ j, bt ((((1 : Int32) <<< (nI d &&& 31)) - 1) &&& (xb ^^^ (-1))) j = true → j < d := fun j hj => (qb_lowT (by omega)).mp (qb_andnT.mp hj).1
  unfold wpX_propagate
  dsimp only
  refine nm_e (nm_e (nm_e ⟨n + 2, qx_p40 hn8 hm hbd hd hOM hDB hAL hp (n + 1) 0 (n + 2) 1 _ _ 0 _ _ _ _ _ (by omega) (by omega) (Or.inr ⟨rfl, ⟨?_, ?_, ?_, ?_⟩, Or.inr ⟨rfl, rfl⟩⟩)⟩))
  · intro j hj
    rw [b_and, qb_andn, qb_low d (by omega), decide_eq_true hj, Bool.and_true, Bool.true_and]
    exact ⟨rfl, rfl⟩
  · intro j hj
    rw [b_and, (qb_andnT.mp hj).2, Bool.false_and]
  · intro j hj
    have : j < d := hj.elim (hK j) (hK2 j)
    omega
  · intro v h1 h2 h3
    have : v < d := h3.elim (hK v) (hK2 v)
    omega
end
end
section
/-! the walk of learn, backtrack, descend, evaluate -/
theorem qb_owT {n : Nat} {xe xa : Int32} (h : qb_OM n xe xa) : qb_ow n xe true xe := fun j => ⟨fun z => ⟨h.1 j z, z⟩, fun z => z.2⟩
theorem qb_owF {n : Nat} {xe xa : Int32} (h : qb_OM n xe xa) : qb_ow n xe false xa := fun j => by
  rw [h.2 j, Bool.and_eq_true, decide_eq_true_eq, Bool.not_eq_true']
/-- nodes not yet left -/
def qb_sz (n i : Nat) : Nat := 2 ^ (n - i + 1) - 1
def qb_mu (n base : Nat) (s : Nat → Bool) : Nat → Nat
  | 0 => 0
  | d + 1 => qb_mu n base s d + (if base ≤ d ∧ s d = false then qb_sz n (d + 1) else 0)
theorem qb_sz_pos (n i : Nat) : 1 ≤ qb_sz n i := by
  unfold qb_sz
  have : 2 ^ (n - i + 1) = 2 * 2 ^ (n - i) := by rw [Nat.pow_succ, Nat.mul_comm]
  have := Nat.two_pow_pos (n - i)
  omega
theorem qb_sz_s {n i : Nat} (h : i < n) : qb_sz n i = 2 * qb_sz n (i + 1) + 1 := by
  unfold qb_sz
  have e : n - i = n - (i + 1) + 1 := by omega
  rw [e, Nat.pow_succ]
  have := Nat.two_pow_pos (n - (i + 1) + 1)
  omega
theorem qb_sz_511 {n i : Nat} (h : n ≤ 8) : qb_sz n i ≤ 511 := by
  unfold qb_sz
  have : 2 ^ (n - i + 1) ≤ 2 ^ 9 := Nat.pow_le_pow_right (by decide) (by omega)
  omega
theorem qb_mu_cg {n base : Nat} {s s' : Nat → Bool} : ∀ d, (∀ j, j < d → s j = s' j) → qb_mu n base s d = qb_mu n base s' d := by
  intro d
  induction d with
  | zero => intro _; rfl
  | succ d ih =>
    intro h
    simp only [qb_mu]
    rw [ih (fun j hj => h j (by omega)), h d (by omega)]
theorem qb_mu_0 {n base : Nat} {s : Nat → Bool} : ∀ d, d ≤ base → qb_mu n base s d = 0 := by
  intro d
  induction d with
  | zero => intro _; rfl
  | succ d ih =>
    intro h
    simp only [qb_mu]
    rw [ih (by omega), if_neg (by omega)]
theorem qb_mu_le {n base : Nat} {s : Nat → Bool} {i : Nat} : ∀ d, i ≤ d → qb_mu n base s i ≤ qb_mu n base s d := by
  intro d
  induction d with
  | zero => intro h; rw [Nat.le_zero.mp h]; exact Nat.le_refl _
  | succ d ih =>
    intro h
    rcases Nat.eq_or_lt_of_le h with e | e
    · rw [e]; exact Nat.le_refl _
    · have := ih (by omega)
      simp only [qb_mu]
      omega
theorem qb_mu_d {n base d : Nat} {s s' : Nat → Bool} (hd : d < n) (h : ∀ j, j ≠ d → s' j = s j) : qb_mu n base s' (d + 1) + qb_sz n (d + 1) + 1 ≤ qb_mu n base s d + qb_sz n d := by
  have e := qb_sz_s hd
  have e2 : qb_mu n base s' d = qb_mu n base s d := qb_mu_cg d (fun j hj => h j (by omega))
  simp only [qb_mu]
  rw [e2]
  split <;> omega
theorem qb_mu_f {n base d i : Nat} {s s' : Nat → Bool} (hb : base ≤ i) (hi : i < d) (hs : s i = false) (hs' : s' i = true) (h : ∀ j, j ≠ i → s' j = s j) : qb_mu n base s' (i + 1) + qb_sz n (i + 1) + 1 ≤ qb_mu n base s d + qb_sz n d := by
  have e1 := qb_mu_le (n := n) (base := base) (s := s) d (show i + 1 ≤ d from hi)
  have e2 : qb_mu n base s' i = qb_mu n base s i := qb_mu_cg i (fun j hj => h j (by omega))
  have e3 := qb_sz_pos n d
  have e4 : qb_mu n base s (i + 1) = qb_mu n base s i + qb_sz n (i + 1) := by
    simp only [qb_mu]; rw [if_pos ⟨hb, hs⟩]
  have e5 : qb_mu n base s' (i + 1) = qb_mu n base s i := by
    simp only [qb_mu]; rw [if_neg (fun z => by rw [hs'] at z; exact absurd z.2 (by decide)), e2]; rfl
  omega
section
variable {xvl xcl xll xn xe xa xm xop xon xso xre xnl xsc xac xau xd xb xs xo xz xdc xou xrv xrn xk xv xl xco : Int32} {ck cp cn cd ov od dv dn mks lk kp kn dp dg : Nat → Int32} {n m base d : Nat} {P N : Nat → Nat → Bool}
theorem qx_sub_l {post : Int32 → Prop} {x1 x2 x3 : Int32} (h : ∀ r, (r = 0 ∨ r = 1) → post r) : ∀ k i f, i + k = 88 → k < f → wX_isSubsumed_3 post x1 x2 x3 xvl xcl xll xn xe xa xm xop xon xso xre xnl xsc xac xau xd xb xs xo xz xdc xou xrv xrn xk xv xl xco ck cp cn cd ov od dv dn mks lk kp kn dp dg f (nI i) := by
  intro k
  induction k with
  | zero =>
    intro i f hi hf
    obtain ⟨f, rfl⟩ : ∃ g, f = g + 1 := ⟨f - 1, by omega⟩
    have e : i = 88 := by omega
    subst e
    exact br_t (nI_le (Nat.le_refl _) (by omega)) (h 0 (Or.inl rfl))
  | succ k ih =>
    intro i f hi hf
    obtain ⟨f, rfl⟩ : ∃ g, f = g + 1 := ⟨f - 1, by omega⟩
    have hin : vp_in (nI i) 88 := vp_in_nI (by omega) (by omega)
    have nx := ih (i + 1) f (by omega) (by omega)
    exact br_f (nI_ge (b := 88) (by omega) (by omega)) ⟨hin, br_c (fun _ => ⟨hin, br_c (fun _ => ⟨hin, br_c (fun _ => ⟨hin, br_c (fun _ => h 1 (Or.inr rfl)) (fun _ => nm_r (nI_1 i) nx)⟩) (fun _ => nm_r (nI_1 i) nx)⟩) (fun _ => nm_r (nI_1 i) nx)⟩) (fun _ => nm_r (nI_1 i) nx)⟩
theorem qx_learn {post : SX → Prop} {o : Bool} {nl : Nat} (hm : m ≤ 24) (hDB : qb_DB n m (bt xe) P N ck cp cn cd) (hnl : nl < 64) (hou : xou = qb_oc o) (hrv : ∀ j, bt xrv j = true → j < n) (hR : qb_Rs n (bt xe) (qb_leaf n m P N) o (bt xrv) (bt xrn) (bt xb))
    (hp : ∀ (nl : Nat) (ck cp cn cd : Nat → Int32), nl < 64 → qb_DB n m (bt xe) P N ck cp cn cd → post (xvl, xcl, xll, xn, xe, xa, xm, xop, xon, xso, xre, nI nl, xsc, xac, xau, xd, xb, xs, xo, xz, xdc, xou, xrv, xrn, xk, xv, xl, xco, ck, cp, cn, cd, ov, od, dv, dn, mks, lk, kp, kn, dp, dg)) : wpX_learn post (xvl, xcl, xll, xn, xe, xa, xm, xop, xon, xso, xre, nI nl, xsc, xac, xau, xd, xb, xs, xo, xz, xdc, xou, xrv, xrn, xk, xv, xl, xco, ck, cp, cn, cd, ov, od, dv, dn, mks, lk, kp, kn, dp, dg) := by
  have key : wX_learn_12 post (qb_kd o) xvl xcl xll xn xe xa xm xop xon xso xre (nI nl) xsc xac xau xd xb xs xo xz xdc xou xrv xrn xk xv xl xco ck cp cn cd ov od dv dn mks lk kp kn dp dg := by
    unfold wX_learn_12
    refine nm_e (nm_e ?_)
    unfold wpX_isSubsumed
    dsimp only
    refine ⟨89, qx_sub_l (fun r hr => ?_) 88 0 89 rfl (by omega)⟩
    refine br_c (fun h0 => ?_) (fun h0 => hp nl ck cp cn cd hnl hDB)
    have e1 : (24 : Int32) + nI nl = nI (24 + nl) := nI_add 24 nl
    have hin : vp_in (nI (24 + nl)) 88 := vp_in_nI (by omega) (by omega)
    have hc : (nI (24 + nl)).toNatClampNeg = 24 + nl := nI_clamp (by omega)
    refine nm_r e1 ⟨hin, nm_r (e' := upd ck (24 + nl) (qb_kd o)) (by rw [hc]) ⟨hin, nm_r (e' := upd cp (24 + nl) (xrv &&& (xb ^^^ (-1)))) (by rw [hc]) ⟨hin, nm_r (e' := upd cn (24 + nl) (xrv &&& xb)) (by rw [hc]) ⟨hin, nm_r (e' := upd cd (24 + nl) xrn) (by rw [hc]) ⟨by decide, nm_r (e' := nI ((nl + 1) % 64)) ?_ (hp _ _ _ _ _ ?_ ⟨fun c hc => ?_, fun o' i hi hk => ?_⟩)⟩⟩⟩⟩⟩
    · rw [nI_1]; exact pk_rem (d := 64) (by omega) (by omega) (by omega)
    · omega
    · rw [pk_un (by omega), pk_un (by omega), pk_un (by omega), pk_un (by omega)]
      exact hDB.1 c hc
    · by_cases e : i = 24 + nl
      · subst e
        rw [pk_us] at hk
        rw [pk_us, pk_us, pk_us]
        have e2 : o' = o := by
          cases o <;> cases o' <;> first | rfl | exact absurd hk (by decide)
        subst e2
        exact ⟨fun j hj => hrv j (qb_andnT.mp hj).1, fun j hj => hrv j (qb_andT.mp hj).1, fun j hj => by rw [b_and, (qb_andnT.mp hj).2, Bool.and_false], qb_lrn hR (fun i h1 h2 => qb_andnT.mpr ⟨h1, h2⟩) (fun i h1 h2 => qb_andT.mpr ⟨h1, h2⟩)⟩
      · rw [pk_un e] at hk
        rw [pk_un e, pk_un e, pk_un e]
        exact hDB.2 o' i hi hk
  unfold wpX_learn
  dsimp only
  cases o
  · exact br_f (by rw [hou]; decide) key
  · exact br_t hou key
theorem qx_bt_l {post : Int32 → SX → Prop} {o : Bool} {w : Int32} (hn8 : n ≤ 8) (hm : m ≤ 24) (hd : d ≤ n) (hw : qb_ow n xe o w) (hou : xou = qb_oc o) (hOT : qb_OT n (bt xe) (qb_leaf n m P N) (qb_S xsc) base d xb xs ov od)
    (hfin : ∀ (nl : Nat) (xrv xrn : Int32) (ck cp cn cd : Nat → Int32), nl < 64 → qb_DB n m (bt xe) P N ck cp cn cd → ¬ qb_W n (bt xe) (qb_leaf n m P N (qb_S xsc)) o base (bt xb) → post 1 (xvl, xcl, xll, nI n, xe, xa, nI m, xop, xon, xso, xre, nI nl, xsc, xac, xau, nI base, xb, xs, xo, xz, xdc, xou, xrv, xrn, xk, xv, xl, xco, ck, cp, cn, cd, ov, od, dv, dn, mks, lk, kp, kn, dp, dg))
    (hflip : ∀ (i nl : Nat) (b' s' xrv xrn : Int32) (ck cp cn cd ov od : Nat → Int32), nl < 64 → qb_DB n m (bt xe) P N ck cp cn cd → base ≤ i → i < d → bt xs i = false → (∀ j, j < i → bt b' j = bt xb j) → bt s' i = true → (∀ j, j ≠ i → bt s' j = bt xs j) → qb_OT n (bt xe) (qb_leaf n m P N) (qb_S xsc) base (i + 1) b' s' ov od → post 0 (xvl, xcl, xll, nI n, xe, xa, nI m, xop, xon, xso, xre, nI nl, xsc, xac, xau, nI (i + 1), b', s', xo, xz, xdc, xou, xrv, xrn, xk, xv, xl, xco, ck, cp, cn, cd, ov, od, dv, dn, mks, lk, kp, kn, dp, dg)) :
    ∀ (e f nl : Nat) (xrv xrn : Int32) (ck cp cn cd : Nat → Int32), e ≤ d → e < f → base ≤ e → nl < 64 → qb_DB n m (bt xe) P N ck cp cn cd → qb_RI n (bt xe) (qb_leaf n m P N) (qb_S xsc) base e xb o xrv xrn →
    wX_backtrack_26 post (nI base) w f (nI e - 1) xvl xcl xll (nI n) xe xa (nI m) xop xon xso xre (nI nl) xsc xac xau (nI d) xb xs xo xz xdc xou xrv xrn xk xv xl xco ck cp cn cd ov od dv dn mks lk kp kn dp dg := by
  have hL := qb_lf n m P N
  intro e
  induction e with
  | zero =>
    intro f nl xrv xrn ck cp cn cd he hf hb hnl hDB hRI
    obtain ⟨f, rfl⟩ : ∃ g, f = g + 1 := ⟨f - 1, by omega⟩
    have e : base = 0 := by omega
    subst e
    refine br_t ((qb_dec (by omega) (by omega)).mpr (Nat.le_refl _)) (qx_learn (o := o) hm hDB hnl hou (fun j hj => by have := hRI.1 j hj; omega) hRI.2.2 ?_)
    intro nl ck cp cn cd h1 h2
    exact hfin nl xrv xrn ck cp cn cd h1 h2 (qb_fin hL hRI.2.2 hRI.1 (by omega) hRI.2.1)
  | succ e ih =>
    intro f nl xrv xrn ck cp cn cd he hf hb hnl hDB hRI
    obtain ⟨f, rfl⟩ : ∃ g, f = g + 1 := ⟨f - 1, by omega⟩
    rcases Nat.lt_or_ge e base with hlt | hge
    · have e : base = e + 1 := by omega
      subst e
      refine br_t ((qb_dec (by omega) (by omega)).mpr (Nat.le_refl _)) (qx_learn (o := o) hm hDB hnl hou (fun j hj => by have := hRI.1 j hj; omega) hRI.2.2 ?_)
      intro nl ck cp cn cd h1 h2
      exact hfin nl xrv xrn ck cp cn cd h1 h2 (qb_fin hL hRI.2.2 hRI.1 (by omega) hRI.2.1)
    · rw [nI_pred e]
      have hrvm : ∀ j, bt (xrv &&& (((1 : Int32) <<< (nI e &&& 31)) ^^^ (-1))) j = true ↔ (bt xrv j = true ∧ j ≠ e) := by
        intro j
        rw [qb_andnT, qb_one e (by omega), decide_eq_false_iff_not]
      have hrv1 : ∀ j, bt xrv j = true → j = e ∨ bt (xrv &&& (((1 : Int32) <<< (nI e &&& 31)) ^^^ (-1))) j = true := by
        intro j hj
        by_cases e2 : j = e
        · exact Or.inl e2
        · exact Or.inr ((hrvm j).mpr ⟨hj, e2⟩)
      have hrv2 : ∀ j, bt (xrv &&& (((1 : Int32) <<< (nI e &&& 31)) ^^^ (-1))) j = true → j < e := by
        intro j hj
        obtain ⟨a, b⟩ := (hrvm j).mp hj
        have := hRI.1 j a
        omega
      refine br_f (nI_nlt hge (by omega)) (nm_e (br_c (fun h0 => ?_) (fun h0 => ?_)))
      · refine nm_r (qb_p1 (nI e)) (ih f nl xrv xrn ck cp cn cd (by omega) (by omega) hge hnl hDB ⟨?_, hRI.2.1, hRI.2.2⟩)
        intro j hj
        have h1 := hRI.1 j hj
        have h2 : j ≠ e := by
          intro e2
          rw [e2, (qb_bit0 xrv (by omega)).mp h0] at hj
          exact absurd hj (by decide)
        omega
      · refine br_c (fun h1 => ?_) (fun h1 => ?_)
        · have hwe := (qb_bit0 w (by omega)).mp h1
          refine nm_e (nm_e (nm_r (qb_p1 (nI e)) (ih f nl _ _ ck cp cn cd (by omega) (by omega) hge hnl hDB ⟨hrv2, ⟨?_, ?_⟩, ?_⟩)))
          · intro j hj hr
            rcases qb_orT.mp hr with h | h
            · exact hRI.2.1.1 j hj h
            · rw [qb_lo24 _ hj] at h; exact absurd h (by decide)
          · intro j hj hr
            rcases qb_orT.mp hr with h | h
            · exact hRI.2.1.2 j hj h
            · rw [qb_hi24 _ hj] at h
              rw [(qb_oneT (by omega)).mp h]; exact hge
          · refine qb_red hL hn8 hRI.2.2 (i := e) (by omega) ?_ (fun j hj => by have := hRI.1 j hj; omega) hrv1 (fun j hj => qb_orT.mpr (Or.inl hj)) ?_
            · intro h2
              rw [(hw e).mpr ⟨by omega, h2⟩] at hwe
              exact absurd hwe (by decide)
            · refine qb_orT.mpr (Or.inr ?_)
              rw [qb_hi24 _ (by omega)]
              exact (qb_oneT (by omega)).mpr rfl
        · have hwe := (hw e).mp ((qb_bit1 w (by omega)).mp h1)
          refine qx_learn (o := o) hm hDB hnl hou (fun j hj => by have := hRI.1 j hj; omega) hRI.2.2 ?_
          intro nl ck cp cn cd hnl hDB
          refine nm_e (br_c (fun h2 => ?_) (fun h2 => ?_))
          · have hs0 := (qb_bit0 xs (by omega)).mp h2
            have hin : vp_in (nI e) 8 := vp_in_nI (by omega) (by omega)
            have hc : (nI e).toNatClampNeg = e := nI_clamp (by omega)
            have hs1 : bt (xs ||| ((1 : Int32) <<< (nI e &&& 31))) e = true := qb_orT.mpr (Or.inr ((qb_oneT (by omega)).mpr rfl))
            have hs2 : ∀ j, j ≠ e → bt (xs ||| ((1 : Int32) <<< (nI e &&& 31))) j = bt xs j := by
              intro j hj
              rw [b_or, qb_one e (by omega), decide_eq_false hj, Bool.or_false]
            have hb1 : ∀ j, j ≠ e → bt (xb ^^^ ((1 : Int32) <<< (nI e &&& 31))) j = bt xb j := by
              intro j hj
              rw [b_xor, qb_one e (by omega), decide_eq_false hj, Bool.xor_false]
            have hb2 : bt (xb ^^^ ((1 : Int32) <<< (nI e &&& 31))) e = !bt xb e := by
              rw [b_xor, qb_one e (by omega), decide_eq_true rfl, Bool.xor_true]
            unfold wpX_flip
            dsimp only
            refine nm_e ⟨hin, nm_r (e' := upd ov e (xrv &&& (((1 : Int32) <<< (nI e &&& 31)) ^^^ (-1)))) (by rw [hc]) ⟨hin, nm_r (e' := upd od e xrn) (by rw [hc]) (nm_e (nm_e (nm_r (nI_1 e) ?_)))⟩⟩
            refine hflip e nl _ _ _ _ ck cp cn cd _ _ hnl hDB hge (by omega) hs0 (fun j hj => hb1 j (by omega)) hs1 hs2 ?_
            intro j hj1 hj2 hj3
            by_cases e2 : j = e
            · subst e2
              rw [pk_us, pk_us, hwe.2]
              exact ⟨hrv2, hRI.2.1, qb_flip hRI.2.2 hrv1 (fun i hi => hb1 i ((hrvm i).mp hi).2) hb2⟩
            · rw [pk_un e2, pk_un e2]
              rw [hs2 j e2] at hj3
              obtain ⟨k1, k2, k3⟩ := hOT j hj1 (by omega) hj3
              exact ⟨k1, k2, qb_otc k3 (fun i hi => hb1 i (by have := k1 i hi; omega)) (hb1 j e2)⟩
          · have hs0 := (qb_bit1 xs (by omega)).mp h2
            have hin : vp_in (nI e) 8 := vp_in_nI (by omega) (by omega)
            have hc : (nI e).toNatClampNeg = e := nI_clamp (by omega)
            obtain ⟨k1, k2, k3⟩ := hOT e hge (by omega) hs0
            rw [hwe.2] at k2 k3
            refine ⟨hin, nm_r (e' := (xrv &&& (((1 : Int32) <<< (nI e &&& 31)) ^^^ (-1))) ||| ov e) (by rw [hc]) ⟨hin, nm_r (e' := xrn ||| od e) (by rw [hc]) (nm_r (qb_p1 (nI e)) (ih f nl _ _ ck cp cn cd (by omega) (by omega) hge hnl hDB ⟨?_, ⟨?_, ?_⟩, ?_⟩))⟩⟩
            · exact fun j hj => (qb_orT.mp hj).elim (hrv2 j) (k1 j)
            · exact fun j hj hr => (qb_orT.mp hr).elim (hRI.2.1.1 j hj) (k2.1 j hj)
            · exact fun j hj hr => (qb_orT.mp hr).elim (hRI.2.1.2 j hj) (k2.2 j hj)
            · exact qb_res hRI.2.2 k3 (fun j hj => (hrv1 j hj).imp id (fun h => qb_orT.mpr (Or.inl h))) (fun j hj => qb_orT.mpr (Or.inr hj)) (fun j hj => qb_orT.mpr (Or.inl hj)) (fun j hj => qb_orT.mpr (Or.inr hj))
theorem qx_backtrack {post : Int32 → SX → Prop} {o : Bool} {nl : Nat} (hn8 : n ≤ 8) (hm : m ≤ 24) (hd : d ≤ n) (hbd : base ≤ d) (hOM : qb_OM n xe xa) (hou : xou = qb_oc o) (hOT : qb_OT n (bt xe) (qb_leaf n m P N) (qb_S xsc) base d xb xs ov od)
    (hfin : ∀ (nl : Nat) (xrv xrn : Int32) (ck cp cn cd : Nat → Int32), nl < 64 → qb_DB n m (bt xe) P N ck cp cn cd → ¬ qb_W n (bt xe) (qb_leaf n m P N (qb_S xsc)) o base (bt xb) → post 1 (xvl, xcl, xll, nI n, xe, xa, nI m, xop, xon, xso, xre, nI nl, xsc, xac, xau, nI base, xb, xs, xo, xz, xdc, xou, xrv, xrn, xk, xv, xl, xco, ck, cp, cn, cd, ov, od, dv, dn, mks, lk, kp, kn, dp, dg))
    (hflip : ∀ (i nl : Nat) (b' s' xrv xrn : Int32) (ck cp cn cd ov od : Nat → Int32), nl < 64 → qb_DB n m (bt xe) P N ck cp cn cd → base ≤ i → i < d → bt xs i = false → (∀ j, j < i → bt b' j = bt xb j) → bt s' i = true → (∀ j, j ≠ i → bt s' j = bt xs j) → qb_OT n (bt xe) (qb_leaf n m P N) (qb_S xsc) base (i + 1) b' s' ov od → post 0 (xvl, xcl, xll, nI n, xe, xa, nI m, xop, xon, xso, xre, nI nl, xsc, xac, xau, nI (i + 1), b', s', xo, xz, xdc, xou, xrv, xrn, xk, xv, xl, xco, ck, cp, cn, cd, ov, od, dv, dn, mks, lk, kp, kn, dp, dg))
    (hnl : nl < 64) (hDB : qb_DB n m (bt xe) P N ck cp cn cd) (hRI : qb_RI n (bt xe) (qb_leaf n m P N) (qb_S xsc) base d xb o xrv xrn) :
    wpX_backtrack post (xvl, xcl, xll, nI n, xe, xa, nI m, xop, xon, xso, xre, nI nl, xsc, xac, xau, nI d, xb, xs, xo, xz, xdc, xou, xrv, xrn, xk, xv, xl, xco, ck, cp, cn, cd, ov, od, dv, dn, mks, lk, kp, kn, dp, dg) (nI base) := by
  unfold wpX_backtrack
  dsimp only
  cases o
  · exact br_f (by rw [hou]; decide) (nm_e ⟨d + 1, qx_bt_l hn8 hm hd (qb_owF hOM) hou hOT hfin hflip d (d + 1) nl xrv xrn ck cp cn cd (Nat.le_refl _) (by omega) hbd hnl hDB hRI⟩)
  · exact br_t hou (nm_e ⟨d + 1, qx_bt_l hn8 hm hd (qb_owT hOM) hou hOT hfin hflip d (d + 1) nl xrv xrn ck cp cn cd (Nat.le_refl _) (by omega) hbd hnl hDB hRI⟩)
theorem qx_d94 {post : SX → Prop} (hd : d < 8) (hp : ∀ b' : Int32, (∀ j, j ≠ d → bt b' j = bt xb j) → bt b' d = bt xo d → post (xvl, xcl, xll, xn, xe, xa, xm, xop, xon, xso, xre, xnl, xsc, xac, xau, nI (d + 1), b', xs, xo, xz, xdc, xou, xrv, xrn, xk, xv, xl, xco, ck, cp, cn, cd, ov, od, dv, dn, mks, lk, kp, kn, dp, dg)) : wX_descend_94 post ((1 : Int32) <<< (nI d &&& 31)) xvl xcl xll xn xe xa xm xop xon xso xre xnl xsc xac xau (nI d) xb xs xo xz xdc xou xrv xrn xk xv xl xco ck cp cn cd ov od dv dn mks lk kp kn dp dg := by
  unfold wX_descend_94
  refine br_c (fun h => nm_e (nm_r (nI_1 d) (hp _ (fun j hj => ?_) ?_))) (fun h => nm_e (nm_r (nI_1 d) (hp _ (fun j hj => ?_) ?_)))
  · rw [qb_andn, qb_one d (by omega), decide_eq_false hj, Bool.not_false, Bool.and_true]
  · rw [qb_andn, qb_one d (by omega), decide_eq_true rfl, Bool.not_true, Bool.and_false, (qb_bit0 xo (by omega)).mp h]
  · rw [b_or, qb_one d (by omega), decide_eq_false hj, Bool.or_false]
  · rw [b_or, qb_one d (by omega), decide_eq_true rfl, Bool.or_true, (qb_bit1 xo (by omega)).mp h]
theorem qx_descend {post : SX → Prop} (hn8 : n ≤ 8) (hdn : d < n) (hPI : qb_PI n (bt xe) (qb_leaf n m P N) (qb_S xsc) base d xb xo xz dv dn) (hOT : qb_OT n (bt xe) (qb_leaf n m P N) (qb_S xsc) base d xb xs ov od)
    (hp : ∀ (b' s' : Int32) (ov od : Nat → Int32), (∀ j, j < d → bt b' j = bt xb j) → (∀ j, j ≠ d → bt s' j = bt xs j) → qb_OT n (bt xe) (qb_leaf n m P N) (qb_S xsc) base (d + 1) b' s' ov od → post (xvl, xcl, xll, nI n, xe, xa, xm, xop, xon, xso, xre, xnl, xsc, xac, xau, nI (d + 1), b', s', xo, xz, xdc, xou, xrv, xrn, xk, xv, xl, xco, ck, cp, cn, cd, ov, od, dv, dn, mks, lk, kp, kn, dp, dg)) :
    wpX_descend post (xvl, xcl, xll, nI n, xe, xa, xm, xop, xon, xso, xre, xnl, xsc, xac, xau, nI d, xb, xs, xo, xz, xdc, xou, xrv, xrn, xk, xv, xl, xco, ck, cp, cn, cd, ov, od, dv, dn, mks, lk, kp, kn, dp, dg) := by
  have hin : vp_in (nI d) 8 := vp_in_nI (by omega) (by omega)
  have hc : (nI d).toNatClampNeg = d := nI_clamp (by omega)
  unfold wpX_descend
  dsimp only
  rw [hc]
  refine br_t (nI_lt hdn (by omega)) (nm_e (br_c (fun h => nm_e ?_) (fun h => nm_e ⟨hin, hin, nm_e ⟨hin, hin, nm_e ?_⟩⟩)))
  · have hs2 : ∀ j, j ≠ d → bt (xs &&& (((1 : Int32) <<< (nI d &&& 31)) ^^^ (-1))) j = bt xs j := by
      intro j hj
      rw [qb_andn, qb_one d (by omega), decide_eq_false hj, Bool.not_false, Bool.and_true]
    have hs1 : bt (xs &&& (((1 : Int32) <<< (nI d &&& 31)) ^^^ (-1))) d = false := by
      rw [qb_andn, qb_one d (by omega), decide_eq_true rfl, Bool.not_true, Bool.and_false]
    refine qx_d94 (by omega) (fun b' hb1 hb2 => hp b' _ ov od (fun j hj => hb1 j (by omega)) hs2 ?_)
    intro j hj1 hj2 hj3
    by_cases e : j = d
    · rw [e, hs1] at hj3; exact absurd hj3 (by decide)
    · rw [hs2 j e] at hj3
      obtain ⟨k1, k2, k3⟩ := hOT j hj1 (by omega) hj3
      exact ⟨k1, k2, qb_otc k3 (fun i hi => hb1 i (by have := k1 i hi; omega)) (hb1 j e)⟩
  · have hs2 : ∀ j, j ≠ d → bt (xs ||| ((1 : Int32) <<< (nI d &&& 31))) j = bt xs j := by
      intro j hj
      rw [b_or, qb_one d (by omega), decide_eq_false hj, Bool.or_false]
    refine qx_d94 (by omega) (fun b' hb1 hb2 => hp b' _ _ _ (fun j hj => hb1 j (by omega)) hs2 ?_)
    intro j hj1 hj2 hj3
    by_cases e : j = d
    · subst e
      rw [pk_us, pk_us]
      obtain ⟨k1, k2, k3⟩ := hPI.2.2.2 j (Nat.le_refl _) hdn (qb_orT.mp ((qb_bit1 _ (by omega)).mp h))
      refine ⟨k1, k2, qb_dpo k3 (fun i hi => ?_) hb2⟩
      have := k1 i hi
      rw [hb1 i (by omega), (hPI.1 i this).1]
    · rw [pk_un e, pk_un e]
      rw [hs2 j e] at hj3
      obtain ⟨k1, k2, k3⟩ := hOT j hj1 (by omega) hj3
      exact ⟨k1, k2, qb_otc k3 (fun i hi => hb1 i (by have := k1 i hi; omega)) (hb1 j e)⟩
theorem qx_ev_l {post : Int32 → SX → Prop} {b0 : Nat → Bool} (hn8 : n ≤ 8) (hm : m ≤ 24) (hbn : base ≤ n) (hOM : qb_OM n xe xa) (hAL : qb_AL base xsc xac xau)
    (hp : ∀ (o : Bool) (nl : Nat) (xd xb xs xo xz xdc xou xrv xrn : Int32) (ck cp cn cd ov od dv dn : Nat → Int32), nl < 64 → qb_DB n m (bt xe) P N ck cp cn cd → (qb_V n (bt xe) (qb_leaf n m P N (qb_S xsc)) (n - base) b0 ↔ o = false) → post (qb_oc o) (xvl, xcl, xll, nI n, xe, xa, nI m, xop, xon, xso, xre, nI nl, xsc, xac, xau, xd, xb, xs, xo, xz, xdc, xou, xrv, xrn, xk, xv, xl, xco, ck, cp, cn, cd, ov, od, dv, dn, mks, lk, kp, kn, dp, dg)) :
    ∀ (f s d nl : Nat) (xb xs xo xz xdc xou xrv xrn : Int32) (ck cp cn cd ov od dv dn : Nat → Int32), base ≤ d → d ≤ n → nl < 64 → qb_DB n m (bt xe) P N ck cp cn cd → qb_OT n (bt xe) (qb_leaf n m P N) (qb_S xsc) base d xb xs ov od → (∀ j, j < base → bt xb j = b0 j) → s + qb_mu n base (bt xs) d + qb_sz n d ≤ 511 → 512 - s < f →
    wX_evaluate_10 post (nI base) f (nI s) xvl xcl xll (nI n) xe xa (nI m) xop xon xso xre (nI nl) xsc xac xau (nI d) xb xs xo xz xdc xou xrv xrn xk xv xl xco ck cp cn cd ov od dv dn mks lk kp kn dp dg := by
  intro f
  induction f with
  | zero => intro s d nl xb xs xo xz xdc xou xrv xrn ck cp cn cd ov od dv dn _ _ _ _ _ _ _ h; exact absurd h (by omega)
  | succ f ih =>
    intro s d nl xb xs xo xz xdc xou xrv xrn ck cp cn cd ov od dv dn hbd hd hnl hDB hOT hb0 hM hf
    have hsz := qb_sz_pos n d
    refine br_f (nI_ge (b := 512) (by omega) (by omega)) (qx_propagate hn8 hm hbd hd hOM hDB hAL (fun xo xz xdc xou xrv xrn dv dn hres => ?_))
    rcases hres with ⟨hdc, k, hou, hRI⟩ | ⟨hdc, hPI, hdn⟩
    · refine br_f (by rw [hdc]; decide) (qx_backtrack (o := k) hn8 hm hd hbd hOM hou hOT ?_ ?_ hnl hDB hRI)
      · intro nl xrv xrn ck cp cn cd hnl hDB hW
        refine br_f (by decide) ?_
        rw [hou]
        refine hp k nl _ _ _ _ _ _ _ _ _ _ _ _ _ _ _ _ _ hnl hDB ?_
        have hV := qb_Vcg (ex := bt xe) (qb_lf n m P N (qb_S xsc)) (n - base) (by omega) (bt xb) b0 (fun i hi => hb0 i (by omega))
        unfold qb_W at hW
        rw [← hV]
        cases k
        · exact ⟨fun _ => rfl, fun _ => Classical.byContradiction fun hn => hW ⟨fun z => absurd z hn, fun z => absurd z (by decide)⟩⟩
        · exact ⟨fun z => absurd ⟨fun _ => rfl, fun _ => z⟩ hW, fun z => absurd z (by decide)⟩
      · intro i nl b' s' xrv xrn ck cp cn cd ov od hnl hDB hi1 hi2 hs0 hb' hs1 hs2 hOT'
        have hmu := qb_mu_f (n := n) hi1 hi2 hs0 hs1 hs2
        exact br_t rfl (nm_r (nI_1 s) (ih (s + 1) (i + 1) nl b' s' _ _ _ _ _ _ ck cp cn cd ov od _ _ (by omega) (by omega) hnl hDB hOT' (fun j hj => (hb' j (by omega)).trans (hb0 j hj)) (by omega) (by omega)))
    · refine br_t hdc (qx_descend hn8 hdn hPI hOT ?_)
      intro b' s' ov od hb' hs' hOT'
      have hmu := qb_mu_d (base := base) hdn hs'
      exact nm_r (nI_1 s) (ih (s + 1) (d + 1) nl b' s' _ _ _ _ _ _ ck cp cn cd ov od _ _ (by omega) (by omega) hnl hDB hOT' (fun j hj => (hb' j (by omega)).trans (hb0 j hj)) (by omega) (by omega))
theorem qx_evaluate {post : Int32 → SX → Prop} {nl : Nat} {p1 p2 : Int32} (hn8 : n ≤ 8) (hm : m ≤ 24) (hbn : base ≤ n) (hOM : qb_OM n xe xa) (hnl : nl < 64) (hDB : qb_DB n m (bt xe) P N ck cp cn cd) (hset : ∀ j, bt p2 j = true → j < m)
    (hp : ∀ (o : Bool) (nl : Nat) (xsc xac xau xd xb xs xo xz xdc xou xrv xrn : Int32) (ck cp cn cd ov od dv dn : Nat → Int32), nl < 64 → qb_DB n m (bt xe) P N ck cp cn cd → (qb_V n (bt xe) (qb_leaf n m P N (qb_S p2)) (n - base) (bt p1) ↔ o = false) → post (qb_oc o) (xvl, xcl, xll, nI n, xe, xa, nI m, xop, xon, xso, xre, nI nl, xsc, xac, xau, xd, xb, xs, xo, xz, xdc, xou, xrv, xrn, xk, xv, xl, xco, ck, cp, cn, cd, ov, od, dv, dn, mks, lk, kp, kn, dp, dg)) :
    wpX_evaluate post (xvl, xcl, xll, nI n, xe, xa, nI m, xop, xon, xso, xre, nI nl, xsc, xac, xau, xd, xb, xs, xo, xz, xdc, xou, xrv, xrn, xk, xv, xl, xco, ck, cp, cn, cd, ov, od, dv, dn, mks, lk, kp, kn, dp, dg) (nI base) p1 p2 := by
  unfold wpX_evaluate
  dsimp only
  unfold wpX_begin
  dsimp only
  refine nm_e (nm_e ?_)
  unfold wpX_allClauses
  dsimp only
  refine nm_e (nm_e (nm_e ?_))
  have hred : ∀ i, i < 8 → bt ((255 &&& ((((1 : Int32) <<< (nI base &&& 31)) - 1) ^^^ (-1))) <<< ((24 : Int32) &&& 31)) (24 + i) = true → base ≤ i := by
    intro i hi h
    rw [qb_hi24 _ hi] at h
    exact (qb_lowF (by omega)).mp (qb_andnT.mp h).2
  have hAL : qb_AL base p2 (p2 ||| ((255 &&& ((((1 : Int32) <<< (nI base &&& 31)) - 1) ^^^ (-1))) <<< ((24 : Int32) &&& 31))) (((((1 : Int32) <<< (nI m &&& 31)) - 1) &&& (p2 ^^^ (-1))) ||| ((255 &&& ((((1 : Int32) <<< (nI base &&& 31)) - 1) ^^^ (-1))) <<< ((24 : Int32) &&& 31))) := by
    refine ⟨fun x hx => ⟨fun j hj hr => ?_, fun i hi hr => ?_⟩, fun x hx => ⟨fun j hj hr => ?_, fun i hi hr => ?_⟩, fun c hc => qb_orT.mpr (Or.inl hc)⟩
    · rcases qb_orT.mp (qb_sub hx hr) with h | h
      · exact ⟨fun _ => rfl, fun _ => h⟩
      · rw [qb_lo24 _ hj] at h; exact absurd h (by decide)
    · rcases qb_orT.mp (qb_sub hx hr) with h | h
      · have := hset _ h; omega
      · exact hred i hi h
    · rcases qb_orT.mp (qb_sub hx hr) with h | h
      · have h2 := (qb_andnT.mp h).2
        exact ⟨fun z => absurd (h2.symm.trans z) (by decide), fun z => absurd z (by decide)⟩
      · rw [qb_lo24 _ hj] at h; exact absurd h (by decide)
    · rcases qb_orT.mp (qb_sub hx hr) with h | h
      · have := (qb_lowT (by omega)).mp (qb_andnT.mp h).1; omega
      · exact hred i hi h
  have hsz := qb_sz_511 (i := base) hn8
  have hmu := qb_mu_0 (n := n) (base := base) (s := bt (0 : Int32)) base (Nat.le_refl _)
  refine Exists.intro 513 (qx_ev_l (b0 := bt p1) hn8 hm hbn hOM hAL (fun o nl => hp o nl p2 _ _) 513 0 base nl _ _ _ _ _ _ _ _ ck cp cn cd ov od dv dn (Nat.le_refl _) hbn hnl hDB ?_ ?_ (by omega) (by omega))
  · intro i h1 h2; omega
  · intro j hj
    rw [b_and, qb_low base (by omega), decide_eq_true hj, Bool.and_true]
end
end
section
/-! the reference: leaf, value, positionBits -/
def qb_b01 (x : Int32) (p : Prop) : Prop := (x = 1 ∧ p) ∨ (x = 0 ∧ ¬ p)
theorem qb_b01c {x : Int32} {p q : Prop} (h : qb_b01 x p) (e : p ↔ q) : qb_b01 x q :=
  h.imp (fun h => ⟨h.1, e.mp h.2⟩) (fun h => ⟨h.1, fun z => h.2 (e.mpr z)⟩)
theorem qb_b01o {x y : Int32} {p q : Prop} (h : qb_b01 x p) (k : qb_b01 y q) : qb_b01 (x ||| y) (p ∨ q) := by
  rcases h with ⟨rfl, h⟩ | ⟨rfl, h⟩
  · rcases k with ⟨rfl, k⟩ | ⟨rfl, k⟩
    · exact Or.inl ⟨by decide, Or.inl h⟩
    · exact Or.inl ⟨by decide, Or.inl h⟩
  · rcases k with ⟨rfl, k⟩ | ⟨rfl, k⟩
    · exact Or.inl ⟨by decide, Or.inr k⟩
    · exact Or.inr ⟨by decide, fun z => z.elim h k⟩
theorem qb_b01a {x y : Int32} {p q : Prop} (h : qb_b01 x p) (k : qb_b01 y q) : qb_b01 (x &&& y) (p ∧ q) := by
  rcases h with ⟨rfl, h⟩ | ⟨rfl, h⟩
  · rcases k with ⟨rfl, k⟩ | ⟨rfl, k⟩
    · exact Or.inl ⟨by decide, h, k⟩
    · exact Or.inr ⟨by decide, fun z => k z.2⟩
  · rcases k with ⟨rfl, k⟩ | ⟨rfl, k⟩
    · exact Or.inr ⟨by decide, fun z => h z.1⟩
    · exact Or.inr ⟨by decide, fun z => h z.1⟩
theorem qb_b1j : ∀ j, j < 32 → j ≠ 0 → bt 1 j = false := by decide +kernel
theorem qy_bx (x : Int32) {i : Nat} (hi : i < 32) : ((x >>> (nI i &&& 31)) &&& 1) = if bt x i = true then 1 else 0 := by
  apply b_ext
  intro j hj
  rw [b_and, b_sshr i hi x hj]
  by_cases e : j = 0
  · subst e
    rw [if_pos (by omega), show bt 1 0 = true from by decide, Bool.and_true, Nat.add_zero]
    cases bt x i <;> decide
  · rw [qb_b1j j hj e, Bool.and_false]
    split
    · exact (qb_b1j j hj e).symm
    · exact (b_0 j).symm
theorem qy_bx1 (x : Int32) {i : Nat} (hi : i < 32) : ((x >>> (nI i &&& 31)) &&& 1) = 1 ↔ bt x i = true := by
  rw [qy_bx x hi]
  cases bt x i <;> decide
theorem qy_ix1 (c v : Nat) : ((nI c * 17) + 8) + nI v = nI (c * 17 + 8 + v) := by
  rw [show (17 : Int32) = nI 17 from rfl, show (8 : Int32) = nI 8 from rfl, pk_mul, nI_add, nI_add]
theorem qy_ix2 (c : Nat) {v : Nat} (h : v ≤ 8) : ((nI c * 17) + 8) - nI v = nI (c * 17 + 8 - v) := by
  rw [show (17 : Int32) = nI 17 from rfl, show (8 : Int32) = nI 8 from rfl, pk_mul, nI_add, pk_sub (by omega)]
theorem qy_ix3 (c v : Nat) : (nI c * 17) + nI v = nI (c * 17 + v) := by
  rw [show (17 : Int32) = nI 17 from rfl, pk_mul, nI_add]
theorem qy_p2 {k : Nat} (hk : k < 31) : (1 : Int32) <<< (nI k &&& 31) = nI (2 ^ k) := by
  have h : (2 : Nat) ^ k < 2 ^ 31 := Nat.pow_lt_pow_right (by decide) hk
  have := pk_shlN (n := 1) (nI k &&& 31) k (s_l k (by omega)) (by omega)
  rw [Nat.one_mul] at this
  exact this
theorem qb_p256 {k : Nat} (h : k ≤ 8) : 2 ^ k ≤ 256 := Nat.pow_le_pow_right (n := 2) (by decide) h
theorem qb_leafc {n m : Nat} {P N : Nat → Nat → Bool} {S S' : Nat → Prop} {t : Nat → Bool} (h : ∀ c, c < m → (S c ↔ S' c)) : qb_leaf n m P N S t ↔ qb_leaf n m P N S' t :=
  ⟨fun k c hc hs => k c hc ((h c hc).mpr hs), fun k c hc hs => k c hc ((h c hc).mp hs)⟩
theorem qb_VL {n : Nat} {ex : Nat → Bool} {L L' : (Nat → Bool) → Prop} (h : ∀ t, L t ↔ L' t) : ∀ k t, qb_V n ex L k t ↔ qb_V n ex L' k t := by
  intro k
  induction k with
  | zero => exact h
  | succ k ih => intro t; simp only [qb_V, ih]
def qy_lit (P N : Nat → Nat → Bool) (c : Nat) (t : Nat → Bool) (i : Nat) : Prop := (P c i = true ∧ t i = true) ∨ (N c i = true ∧ t i = false)
def qy_hP (n m : Nat) (P N : Nat → Nat → Bool) (cu : Nat → Int32) : Prop := ∀ c i, c < m → i < n → (P c i = true ↔ ¬ cu (c * 17 + 8 + (i + 1)) = 0) ∧ (N c i = true ↔ ¬ cu (c * 17 + 8 - (i + 1)) = 0)
theorem qy_ls {i : Nat} {A : Nat → Prop} {X Y : Prop} (h : X ↔ ∃ j, j < i ∧ A j) (hx : Y ↔ (X ∨ A i)) : Y ↔ ∃ j, j < i + 1 ∧ A j := by
  rw [hx, h]
  constructor
  · rintro (⟨j, h1, h2⟩ | h)
    · exact ⟨j, by omega, h2⟩
    · exact ⟨i, by omega, h⟩
  · rintro ⟨j, h1, h2⟩
    by_cases e : j = i
    · rw [e] at h2; exact Or.inr h2
    · exact Or.inl ⟨j, by omega, h2⟩
section
variable {ymv ymc yml yso yn ym yl yk : Int32} {kd va mr cu yco lnk li st tb : Nat → Int32} {n m : Nat} {P N : Nat → Nat → Bool}
theorem qy_l38 {post : Int32 → Prop} {J3 : Int32 → Prop} {x1 x2 x3 : Int32} {c : Nat} (hn8 : n ≤ 8) (hm : m ≤ 24) (hc : c < m) (hP : qy_hP n m P N cu)
    (hT : (∃ i, i < n ∧ qy_lit P N c (bt x1) i) → J3 (nI (c + 1))) (hF : ¬ (∃ i, i < n ∧ qy_lit P N c (bt x1) i) → post 0) :
    ∀ (k i f : Nat) (x5 : Int32), i + k = n → k < f → (¬ x5 = 0 ↔ ∃ j, j < i ∧ qy_lit P N c (bt x1) j) → wY_leaf_38 post J3 x1 x2 x3 (nI c) ymv ymc yml yso (nI n) (nI m) yl yk kd va mr cu yco lnk li st tb f x5 (nI (i + 1)) := by
  intro k
  induction k with
  | zero =>
    intro i f x5 hi hf hI
    obtain ⟨f, rfl⟩ : ∃ g, f = g + 1 := ⟨f - 1, by omega⟩
    have e : i = n := by omega
    subst e
    refine br_t (nI_lt (by omega) (by omega)) (br_c (fun h => hF fun z => hI.mpr z h) (fun h => nm_r (nI_1 c) (hT (hI.mp h))))
  | succ k ih =>
    intro i f x5 hi hf hI
    obtain ⟨f, rfl⟩ : ∃ g, f = g + 1 := ⟨f - 1, by omega⟩
    obtain ⟨hp1, hp2⟩ := hP c i hc (by omega)
    have same : ¬ qy_lit P N c (bt x1) i → wY_leaf_38 post J3 x1 x2 x3 (nI c) ymv ymc yml yso (nI n) (nI m) yl yk kd va mr cu yco lnk li st tb f x5 (nI (i + 1 + 1)) := fun h =>
      ih (i + 1) f x5 (by omega) (by omega) (qy_ls hI ⟨Or.inl, fun z => z.elim id (fun z => absurd z h)⟩)
    have one : qy_lit P N c (bt x1) i → wY_leaf_38 post J3 x1 x2 x3 (nI c) ymv ymc yml yso (nI n) (nI m) yl yk kd va mr cu yco lnk li st tb f 1 (nI (i + 1 + 1)) := fun h =>
      ih (i + 1) f 1 (by omega) (by omega) (qy_ls hI ⟨fun _ => Or.inr h, fun _ => by decide⟩)
    have hi1 : vp_in (nI (c * 17 + 8 + (i + 1))) 425 := vp_in_nI (by omega) (by omega)
    have hi2 : vp_in (nI (c * 17 + 8 - (i + 1))) 425 := vp_in_nI (by omega) (by omega)
    have hc1 : (nI (c * 17 + 8 + (i + 1))).toNatClampNeg = c * 17 + 8 + (i + 1) := nI_clamp (by omega)
    have hc2 : (nI (c * 17 + 8 - (i + 1))).toNatClampNeg = c * 17 + 8 - (i + 1) := nI_clamp (by omega)
    refine br_f (nI_nlt (by omega) (by omega)) ?_
    rw [nI_pred i]
    refine br_c (fun hb => ?_) (fun hb => ?_)
    · have hb' := (qy_bx1 x1 (by omega)).mp hb
      unfold wY_leaf_64 wY_leaf_93
      rw [qy_ix1 c (i + 1), hc1]
      refine br_f (by decide) ⟨hi1, br_c (fun h => br_f (by decide) (nm_r (nI_1 (i + 1)) (same ?_))) (fun h => br_f (by decide) (nm_r (nI_1 (i + 1)) (one ?_)))⟩
      · rintro (⟨h1, h2⟩ | ⟨h1, h2⟩)
        · exact hp1.mp h1 h
        · rw [hb'] at h2; exact absurd h2 (by decide)
      · exact Or.inl ⟨hp1.mpr h, hb'⟩
    · have hb' : bt x1 i = false := qb_ncf.mp fun z => hb ((qy_bx1 x1 (by omega)).mpr z)
      unfold wY_leaf_64 wY_leaf_93
      rw [qy_ix2 c (v := i + 1) (by omega), hc2]
      refine br_t rfl (br_t rfl ⟨hi2, br_c (fun h => nm_r (nI_1 (i + 1)) (same ?_)) (fun h => nm_r (nI_1 (i + 1)) (one ?_))⟩)
      · rintro (⟨h1, h2⟩ | ⟨h1, h2⟩)
        · rw [hb'] at h2; exact absurd h2 (by decide)
        · exact hp2.mp h1 h
      · exact Or.inr ⟨hp2.mpr h, hb'⟩
theorem qy_leaf {post : Int32 → Prop} {x1 co wo : Int32} {S : Nat → Prop} (hn8 : n ≤ 8) (hm : m ≤ 24) (hP : qy_hP n m P N cu) (hS : ∀ c, c < m → (S c ↔ (¬ nI c = wo ∧ (co = 0 ∨ ¬ yco c = 0)))) (h : ∀ r, qb_b01 r (qb_leaf n m P N S (bt x1)) → post r) : wpY_leaf post (ymv, ymc, yml, yso, nI n, nI m, yl, yk, kd, va, mr, cu, yco, lnk, li, st, tb) x1 co wo := by
  have key : ∀ (k c f : Nat), c + k = m → k < f → (∀ c', c' < c → S c' → ∃ i, i < n ∧ qy_lit P N c' (bt x1) i) → wY_leaf_3 post x1 co wo ymv ymc yml yso (nI n) (nI m) yl yk kd va mr cu yco lnk li st tb f (nI c) := by
    intro k
    induction k with
    | zero =>
      intro c f hc hf hI
      obtain ⟨f, rfl⟩ : ∃ g, f = g + 1 := ⟨f - 1, by omega⟩
      have e : c = m := by omega
      subst e
      exact br_t (nI_le (Nat.le_refl _) (by omega)) (h 1 (Or.inl ⟨rfl, hI⟩))
    | succ k ih =>
      intro c f hc hf hI
      obtain ⟨f, rfl⟩ : ∃ g, f = g + 1 := ⟨f - 1, by omega⟩
      have hin : vp_in (nI c) 25 := vp_in_nI (by omega) (by omega)
      have hcl : (nI c).toNatClampNeg = c := nI_clamp (by omega)
      have skip : ¬ S c → wY_leaf_3 post x1 co wo ymv ymc yml yso (nI n) (nI m) yl yk kd va mr cu yco lnk li st tb f (nI (c + 1)) := fun hs =>
        ih (c + 1) f (by omega) (by omega) (fun c' h1 h2 => by
          by_cases e : c' = c
          · rw [e] at h2; exact absurd h2 hs
          · exact hI c' (by omega) h2)
      have go : S c → ∃ n38, wY_leaf_38 post (wY_leaf_3 post x1 co wo ymv ymc yml yso (nI n) (nI m) yl yk kd va mr cu yco lnk li st tb f) x1 co wo (nI c) ymv ymc yml yso (nI n) (nI m) yl yk kd va mr cu yco lnk li st tb n38 0 1 := fun hs =>
        ⟨n + 1, qy_l38 hn8 hm (by omega) hP (fun hx => ih (c + 1) f (by omega) (by omega) (fun c' h1 h2 => by
          by_cases e : c' = c
          · rw [e]; exact hx
          · exact hI c' (by omega) h2)) (fun hx => h 0 (Or.inr ⟨rfl, fun z => hx (z c (by omega) hs)⟩)) n 0 (n + 1) 0 (by omega) (by omega) ⟨fun z => absurd rfl z, fun ⟨j, hj, _⟩ => absurd hj (by omega)⟩⟩
      have hSc := hS c (by omega)
      refine br_f (nI_ge (by omega) (by omega)) (br_c (fun e => nm_r (nI_1 c) (skip fun z => (hSc.mp z).1 e)) (fun e => br_c (fun h2 => go (hSc.mpr ⟨e, Or.inl h2⟩)) (fun h2 => ⟨hin, ?_⟩)))
      rw [hcl]
      exact br_c (fun h3 => nm_r (nI_1 c) (skip fun z => (hSc.mp z).2.elim h2 (fun z => z h3))) (fun h3 => go (hSc.mpr ⟨e, Or.inr h3⟩))
  unfold wpY_leaf
  dsimp only
  exact ⟨m + 1, key m 0 (m + 1) (by omega) (by omega) (fun c' h => absurd h (by omega))⟩
theorem qy_up0 {a v : Nat} (ha : a < 2 ^ v) (hv : v < 8) : ∀ i, i < v + 1 → qb_up (bt (nI a)) v false i = bt (nI a) i := by
  intro i hi
  by_cases e : i = v
  · rw [e, qb_up_eq, qb_nbt _ _ (by have := qb_p256 (show v ≤ 8 by omega); omega)]
    exact (Nat.testBit_lt_two_pow ha).symm
  · rw [qb_up_ne e]
theorem qy_up1 {a v : Nat} (ha : a < 2 ^ v) (hv : v < 8) : ∀ i, i < v + 1 → qb_up (bt (nI a)) v true i = bt (nI (a + 2 ^ v)) i := by
  have h256 := qb_p256 (show v ≤ 8 by omega)
  intro i hi
  rw [qb_nbt (a + 2 ^ v) _ (by omega), Nat.add_comm]
  by_cases e : i = v
  · rw [e, qb_up_eq, Nat.testBit_two_pow_add_eq, Nat.testBit_lt_two_pow ha]; rfl
  · rw [qb_up_ne e, Nat.testBit_two_pow_add_gt (by omega), qb_nbt _ _ (by omega)]
theorem qy_v59 {post : Int32 → SY → Prop} {J : Int32 → (Nat → Int32) → (Nat → Int32) → (Nat → Int32) → (Nat → Int32) → (Nat → Int32) → (Nat → Int32) → (Nat → Int32) → (Nat → Int32) → (Nat → Int32) → Prop} {x1 x2 : Int32} {ex : Nat → Bool} {L : (Nat → Bool) → Prop} {v : Nat} (hn8 : n ≤ 8) (hv : v < n) (hL : ∀ t t', (∀ i, i < n → t i = t' i) → (L t ↔ L t')) (hK : ∀ i, i < n → (ex i = true ↔ kd (i + 1) = 1))
    (hJ : ∀ tb : Nat → Int32, (∀ b, b < 2 ^ v → qb_b01 (tb b) (qb_V n ex L (n - v) (bt (nI b)))) → J (nI v) kd va mr cu yco lnk li st tb) :
    ∀ (k a f : Nat) (tb : Nat → Int32), a + k = 2 ^ v → k < f → (∀ b, b < a → qb_b01 (tb b) (qb_V n ex L (n - v) (bt (nI b)))) → (∀ b, a ≤ b → b < 2 ^ (v + 1) → qb_b01 (tb b) (qb_V n ex L (n - (v + 1)) (bt (nI b)))) →
    wY_value_59 post J x1 x2 (nI (v + 1)) (nI (2 ^ v)) ymv ymc yml yso yn ym yl yk f (nI a) kd va mr cu yco lnk li st tb := by
  have h256 := qb_p256 (show v + 1 ≤ 8 by omega)
  have hpw : 2 ^ (v + 1) = 2 ^ v + 2 ^ v := by rw [Nat.pow_succ]; omega
  intro k
  induction k with
  | zero =>
    intro a f tb ha hf h1 h2
    obtain ⟨f, rfl⟩ : ∃ g, f = g + 1 := ⟨f - 1, by omega⟩
    have e : a = 2 ^ v := by omega
    subst e
    exact br_t (nI_le (Nat.le_refl _) (by omega)) (nm_r (pk_m1 v) (hJ tb h1))
  | succ k ih =>
    intro a f tb ha hf h1 h2
    obtain ⟨f, rfl⟩ : ∃ g, f = g + 1 := ⟨f - 1, by omega⟩
    have hav : a < 2 ^ v := by omega
    have hk9 : vp_in (nI (v + 1)) 9 := vp_in_nI (by omega) (by omega)
    have hi1 : vp_in (nI a) 256 := vp_in_nI (by omega) (by omega)
    have hi2 : vp_in (nI (a + 2 ^ v)) 256 := vp_in_nI (by omega) (by omega)
    have hc0 : (nI (v + 1)).toNatClampNeg = v + 1 := nI_clamp (by omega)
    have hc1 : (nI a).toNatClampNeg = a := nI_clamp (by omega)
    have hc2 : (nI (a + 2 ^ v)).toNatClampNeg = a + 2 ^ v := nI_clamp (by omega)
    have q0 := qb_b01c (h2 a (Nat.le_refl _) (by omega)) (qb_Vcg (ex := ex) hL (n - (v + 1)) (by omega) (bt (nI a)) (qb_up (bt (nI a)) v false) (fun i hi => (qy_up0 hav (by omega) i (by omega)).symm))
    have q1 := qb_b01c (h2 (a + 2 ^ v) (by omega) (by omega)) (qb_Vcg (ex := ex) hL (n - (v + 1)) (by omega) (bt (nI (a + 2 ^ v))) (qb_up (bt (nI a)) v true) (fun i hi => (qy_up1 hav (by omega) i (by omega)).symm))
    have next : ∀ x : Int32, qb_b01 x (qb_V n ex L (n - v) (bt (nI a))) → wY_value_59 post J x1 x2 (nI (v + 1)) (nI (2 ^ v)) ymv ymc yml yso yn ym yl yk f (nI (a + 1)) kd va mr cu yco lnk li st (upd tb a x) := by
      intro x hx
      refine ih (a + 1) f _ (by omega) (by omega) ?_ ?_
      · intro b hb
        by_cases e : b = a
        · rw [e, pk_us]; exact hx
        · rw [pk_un e]; exact h1 b (by omega)
      · intro b hb1 hb2
        rw [pk_un (by omega)]; exact h2 b (by omega) hb2
    refine br_f (nI_ge (by omega) (by omega)) ⟨hk9, ?_⟩
    rw [nI_add, hc0, hc1, hc2]
    refine br_c (fun hk => ⟨hi1, hi2, hi1, nm_e (nm_r (nI_1 a) (next _ ?_))⟩) (fun hk => ⟨hi1, hi2, hi1, nm_e (nm_r (nI_1 a) (next _ ?_))⟩)
    · refine qb_b01c (qb_b01o q0 q1) ?_
      rw [qb_Vx hv]
      have he := (hK v hv).mpr hk
      exact ⟨fun z => ⟨fun _ => z, fun y => absurd he y⟩, fun z => z.1 he⟩
    · refine qb_b01c (qb_b01a q0 q1) ?_
      rw [qb_Vx hv]
      have he : ¬ ex v = true := fun z => hk ((hK v hv).mp z)
      exact ⟨fun z => ⟨fun y => absurd y he, fun _ => z⟩, fun z => z.2 he⟩
theorem qy_v42 {post : Int32 → SY → Prop} {ex : Nat → Bool} {L : (Nat → Bool) → Prop} {dep p : Nat} (hn8 : n ≤ 8) (hdep : dep ≤ n) (hp : p < 2 ^ dep) (hL : ∀ t t', (∀ i, i < n → t i = t' i) → (L t ↔ L t')) (hK : ∀ i, i < n → (ex i = true ↔ kd (i + 1) = 1))
    (h : ∀ (r : Int32) (tb : Nat → Int32), qb_b01 r (qb_V n ex L (n - dep) (bt (nI p))) → post r (ymv, ymc, yml, yso, yn, ym, yl, yk, kd, va, mr, cu, yco, lnk, li, st, tb)) :
    ∀ (k f : Nat) (tb : Nat → Int32), dep + k ≤ n → k < f → (∀ b, b < 2 ^ (dep + k) → qb_b01 (tb b) (qb_V n ex L (n - (dep + k)) (bt (nI b)))) →
    wY_value_42 post (nI dep) (nI p) ymv ymc yml yso yn ym yl yk f (nI (dep + k)) kd va mr cu yco lnk li st tb := by
  have h256 := qb_p256 (show dep ≤ 8 by omega)
  intro k
  induction k with
  | zero =>
    intro f tb hk hf hI
    obtain ⟨f, rfl⟩ : ∃ g, f = g + 1 := ⟨f - 1, by omega⟩
    refine br_t (nI_le (Nat.le_refl _) (by omega)) ⟨vp_in_nI (by omega) (by omega), ?_⟩
    rw [nI_clamp (by omega : p < 2 ^ 31)]
    exact h _ tb (hI p hp)
  | succ k ih =>
    intro f tb hk hf hI
    obtain ⟨f, rfl⟩ : ∃ g, f = g + 1 := ⟨f - 1, by omega⟩
    have h256' := qb_p256 (show dep + k ≤ 8 by omega)
    refine br_f (nI_ge (by omega) (by omega)) (nm_r (e' := nI (2 ^ (dep + k))) ?_ ⟨2 ^ (dep + k) + 1, ?_⟩)
    · rw [show dep + (k + 1) = (dep + k) + 1 from rfl, nI_pred, qy_p2 (by omega)]
    · refine qy_v59 (v := dep + k) hn8 (by omega) hL hK (fun tb hI => ih f tb (by omega) (by omega) hI) (2 ^ (dep + k)) 0 _ tb (by omega) (by omega) (fun b hb => absurd hb (by omega)) (fun b _ hb => hI b hb)
theorem qy_value {post : Int32 → SY → Prop} {ex : Nat → Bool} {co wo : Int32} {S : Nat → Prop} {dep p : Nat} (hn8 : n ≤ 8) (hm : m ≤ 24) (hP : qy_hP n m P N cu) (hS : ∀ c, c < m → (S c ↔ (¬ nI c = wo ∧ (co = 0 ∨ ¬ yco c = 0)))) (hdep : dep ≤ n) (hp : p < 2 ^ dep) (hK : ∀ i, i < n → (ex i = true ↔ kd (i + 1) = 1))
    (h : ∀ (r : Int32) (tb : Nat → Int32), qb_b01 r (qb_V n ex (qb_leaf n m P N S) (n - dep) (bt (nI p))) → post r (ymv, ymc, yml, yso, nI n, nI m, yl, yk, kd, va, mr, cu, yco, lnk, li, st, tb)) : wpY_value post (ymv, ymc, yml, yso, nI n, nI m, yl, yk, kd, va, mr, cu, yco, lnk, li, st, tb) (nI dep) (nI p) co wo := by
  have h256 := qb_p256 hn8
  have key : ∀ (k a f : Nat) (tb : Nat → Int32), a + k = 2 ^ n → k < f → (∀ b, b < a → qb_b01 (tb b) (qb_leaf n m P N S (bt (nI b)))) → wY_value_3 post (nI dep) (nI p) co wo ymv ymc yml yso (nI n) (nI m) yl yk f (nI a) kd va mr cu yco lnk li st tb := by
    intro k
    induction k with
    | zero =>
      intro a f tb ha hf hI
      obtain ⟨f, rfl⟩ : ∃ g, f = g + 1 := ⟨f - 1, by omega⟩
      have e : a = 2 ^ n := by omega
      subst e
      refine br_t (by rw [qy_p2 (by omega)]; exact nI_le (Nat.le_refl _) (by omega)) ⟨n - dep + 1, ?_⟩
      have e2 : n = dep + (n - dep) := by omega
      have r := qy_v42 (post := post) hn8 hdep hp (qb_lf n m P N S) hK h (n - dep) (n - dep + 1) tb (by omega) (by omega) (by
        rw [← e2, Nat.sub_self]; exact hI)
      rw [← e2] at r
      exact r
    | succ k ih =>
      intro a f tb ha hf hI
      obtain ⟨f, rfl⟩ : ∃ g, f = g + 1 := ⟨f - 1, by omega⟩
      refine br_f (by rw [qy_p2 (by omega)]; exact nI_ge (by omega) (by omega)) (qy_leaf hn8 hm hP hS (fun r hr => ⟨vp_in_nI (by omega) (by omega), nm_r (e' := upd tb a r) (by rw [nI_clamp (by omega : a < 2 ^ 31)]) (nm_r (nI_1 a) (ih (a + 1) f _ (by omega) (by omega) (fun b hb => ?_)))⟩))
      by_cases e : b = a
      · rw [e, pk_us]; exact hr
      · rw [pk_un e]; exact hI b (by omega)
  unfold wpY_value
  dsimp only
  exact ⟨2 ^ n + 1, key (2 ^ n) 0 (2 ^ n + 1) tb (by omega) (by omega) (fun b hb => absurd hb (by omega))⟩
theorem qy_pos {post : Int32 → Prop} {K : Nat} (hK : K ≤ 8) (hv : ∀ i, i < K → (va (i + 1) = 0 ∨ va (i + 1) = 1)) (h : ∀ p, p < 2 ^ K → (∀ i, i < K → (p.testBit i = true ↔ va (i + 1) = 1)) → post (nI p)) : wpY_positionBits post (ymv, ymc, yml, yso, yn, ym, yl, nI K, kd, va, mr, cu, yco, lnk, li, st, tb) := by
  have key : ∀ (k i f p : Nat), i + k = K → k < f → p < 2 ^ i → (∀ j, j < i → (p.testBit j = true ↔ va (j + 1) = 1)) → wY_positionBits_4 post ymv ymc yml yso yn ym yl (nI K) kd va mr cu yco lnk li st tb f (nI p) (nI (i + 1)) := by
    intro k
    induction k with
    | zero =>
      intro i f p hi hf hp hI
      obtain ⟨f, rfl⟩ : ∃ g, f = g + 1 := ⟨f - 1, by omega⟩
      have e : i = K := by omega
      subst e
      exact br_t (nI_lt (by omega) (by omega)) (h p hp hI)
    | succ k ih =>
      intro i f p hi hf hp hI
      obtain ⟨f, rfl⟩ : ∃ g, f = g + 1 := ⟨f - 1, by omega⟩
      refine br_f (nI_nlt (by omega) (by omega)) ⟨vp_in_nI (by omega) (by omega), ?_⟩
      rw [nI_pred i, nI_clamp (by omega : i + 1 < 2 ^ 31)]
      have hpw : 2 ^ (i + 1) = 2 ^ i + 2 ^ i := by rw [Nat.pow_succ]; omega
      rcases hv i (by omega) with h0 | h1
      · refine nm_r (e' := nI p) ?_ (nm_r (nI_1 (i + 1)) (ih (i + 1) f p (by omega) (by omega) (by omega) ?_))
        · rw [h0, show (0 : Int32) <<< (nI i &&& 31) = nI 0 from (pk_shlN (n := 0) (nI i &&& 31) i (s_l i (by omega)) (by omega)).trans (by rw [Nat.zero_mul]), nI_add]
          rfl
        · intro j hj
          by_cases e : j = i
          · rw [e, Nat.testBit_lt_two_pow hp, h0]; decide
          · exact hI j (by omega)
      · refine nm_r (e' := nI (p + 2 ^ i)) ?_ (nm_r (nI_1 (i + 1)) (ih (i + 1) f (p + 2 ^ i) (by omega) (by omega) (by omega) ?_))
        · rw [h1, qy_p2 (by omega), nI_add]
        · intro j hj
          rw [Nat.add_comm]
          by_cases e : j = i
          · rw [e, Nat.testBit_two_pow_add_eq, Nat.testBit_lt_two_pow hp, h1]; decide
          · rw [Nat.testBit_two_pow_add_gt (by omega)]; exact hI j (by omega)
  unfold wpY_positionBits
  dsimp only
  exact ⟨K + 1, key K 0 (K + 1) 0 (by omega) (by omega) (by decide) (fun j hj => absurd hj (by omega))⟩
end
end
section
/-! the relation -/
def qr_b (b : Bool) : Int32 := if b = true then 1 else 0
def qr_3 (k d : Bool) : Int32 := if k = true then 1 else if d = true then 2 else 0
def qr_P (cu : Nat → Int32) : Nat → Nat → Bool := fun c i => !decide (cu (c * 17 + 8 + (i + 1)) = 0)
def qr_N (cu : Nat → Int32) : Nat → Nat → Bool := fun c i => !decide (cu (c * 17 + 8 - (i + 1)) = 0)
/-- row c of the reference's table holds the literals p, q -/
def qr_row (n : Nat) (cu : Nat → Int32) (c : Nat) (p q : Int32) : Prop :=
  (∀ j, bt p j = true → j < n) ∧ (∀ j, bt q j = true → j < n) ∧ (∀ j, bt p j = true → bt q j = false) ∧
  (∀ i, i < 8 → cu (c * 17 + 8 + (i + 1)) = qr_b (bt p i) ∧ cu (c * 17 + 8 - (i + 1)) = qr_b (bt q i)) ∧ cu (c * 17 + 8) = 0
def qr_V (n : Nat) (xe xa : Int32) (kd : Nat → Int32) : Prop :=
  qb_OM n xe xa ∧ (∀ i, i < n → (bt xe i = true ∧ kd (i + 1) = 1) ∨ (bt xe i = false ∧ kd (i + 1) = 2))
def qr_C (n m : Nat) (xop xon : Int32) (ck cp cn cd cu : Nat → Int32) : Prop :=
  (∀ c, c < m → ck c = 1 ∧ qr_row n cu c (cp c) (cn c) ∧ cd c = (1 : Int32) <<< (nI c &&& 31)) ∧ qr_row n cu m xop xon ∧ (∀ c, m < c → c < 25 → qr_row n cu c 0 0)
def qr_ln (n : Nat) (li : Nat → Int32) (l : Nat) (a b c e : Int32) : Prop :=
  (∀ j, (bt a j = true ∨ bt b j = true ∨ bt c j = true ∨ bt e j = true) → j < n) ∧ (∀ j, bt a j = true → bt c j = false) ∧ (∀ j, bt b j = true → bt e j = false) ∧
  (∀ i, i < 8 → li (l * 17 + 8 + (i + 1)) = qr_3 (bt a i) (bt c i) ∧ li (l * 17 + 8 - (i + 1)) = qr_3 (bt b i) (bt e i)) ∧ li (l * 17 + 8) = 0
def qr_L (n L : Nat) (lk kp kn dp dg lnk li : Nat → Int32) : Prop :=
  (∀ l, l < L → lk l = lnk l ∧ (lnk l = 1 ∨ lnk l = 2) ∧ qr_ln n li l (kp l) (kn l) (dp l) (dg l)) ∧ (∀ l i, L ≤ l → l < 32 → i < 17 → li (l * 17 + i) = 0)
def qr_M (K : Nat) (xv : Int32) (mks va mr : Nat → Int32) : Prop :=
  (∀ i, bt xv i = true → i < K) ∧ (∀ i, i < K → va (i + 1) = qr_b (bt xv i) ∧ mks i = mr (i + 1))
def qr_VL (n m : Nat) (xe : Int32) (cu : Nat → Int32) (S : Nat → Prop) (k : Nat) (t : Nat → Bool) : Prop := qb_V n (bt xe) (qb_leaf n m (qr_P cu) (qr_N cu) S) k t
def qr_So (n m : Nat) (so xe xre xco : Int32) (ck cp cn cd cu yco : Nat → Int32) : Prop :=
  (so = 0 ∧ (∀ i, m ≤ i → i < 88 → ck i = 0)) ∨
  (so = 1 ∧ qb_DB n m (bt xe) (qr_P cu) (qr_N cu) ck cp cn cd ∧ (∀ c, c < m → yco c = qr_b (bt xco c)) ∧ (∀ j, bt xco j = true → j < m) ∧ qb_b01 xre (qr_VL n m xe cu (fun _ => True) n (bt 0)))
def qr_R (vl cl ll n m L K nl : Nat) (so xe xa xop xon xre xv xco : Int32) (ck cp cn cd mks lk kp kn dp dg kd va mr cu yco lnk li : Nat → Int32) : Prop :=
  (vl ≤ 8 ∧ cl ≤ 24 ∧ ll ≤ 32 ∧ n ≤ vl ∧ m ≤ cl ∧ L ≤ ll ∧ K ≤ n ∧ nl < 64) ∧ qr_V n xe xa kd ∧ qr_C n m xop xon ck cp cn cd cu ∧ qr_L n L lk kp kn dp dg lnk li ∧ qr_M K xv mks va mr ∧ qr_So n m so xe xre xco ck cp cn cd cu yco
def i_Rel (k : Nat) (u : SX) (v : SY) : Prop := match u, v with
  | (xvl, xcl, xll, xn, xe, xa, xm, xop, xon, xso, xre, xnl, xsc, xac, xau, xd, xb, xs, xo, xz, xdc, xou, xrv, xrn, xk, xv, xl, xco, ck, cp, cn, cd, ov, od, dv, dn, mks, lk, kp, kn, dp, dg), (ymv, ymc, yml, yso, yn, ym, yl, yk, kd, va, mr, cu, yco, lnk, li, st, tb) => k = k ∧ ∃ vl cl ll n m L K nl : Nat, (((xvl = nI vl ∧ xcl = nI cl) ∧ (xll = nI ll ∧ xn = nI n)) ∧ ((xm = nI m ∧ xl = nI L) ∧ (xk = nI K ∧ xnl = nI nl))) ∧ (((ymv = nI vl ∧ ymc = nI cl) ∧ (yml = nI ll ∧ yn = nI n)) ∧ ((ym = nI m ∧ yl = nI L) ∧ (yk = nI K ∧ yso = xso))) ∧ qr_R vl cl ll n m L K nl xso xe xa xop xon xre xv xco ck cp cn cd mks lk kp kn dp dg kd va mr cu yco lnk li
theorem i_up {k : Nat} {u : SX} {v : SY} (h : i_Rel k u v) : i_Rel (k + 4) u v := ⟨rfl, h.2⟩
section
variable {vl cl ll n m L K nl : Nat} {so xe xa xop xon xre xsc xac xau xd xb xs xo xz xdc xou xrv xrn xv xco : Int32} {ck cp cn cd ov od dv dn mks lk kp kn dp dg kd va mr cu yco lnk li st tb : Nat → Int32}
theorem qr_in {k : Nat} (h : qr_R vl cl ll n m L K nl so xe xa xop xon xre xv xco ck cp cn cd mks lk kp kn dp dg kd va mr cu yco lnk li) : i_Rel k (nI vl, nI cl, nI ll, nI n, xe, xa, nI m, xop, xon, so, xre, nI nl, xsc, xac, xau, xd, xb, xs, xo, xz, xdc, xou, xrv, xrn, nI K, xv, nI L, xco, ck, cp, cn, cd, ov, od, dv, dn, mks, lk, kp, kn, dp, dg) (nI vl, nI cl, nI ll, so, nI n, nI m, nI L, nI K, kd, va, mr, cu, yco, lnk, li, st, tb) :=
  ⟨rfl, vl, cl, ll, n, m, L, K, nl, ⟨⟨⟨rfl, rfl⟩, ⟨rfl, rfl⟩⟩, ⟨⟨rfl, rfl⟩, ⟨rfl, rfl⟩⟩⟩, ⟨⟨⟨rfl, rfl⟩, ⟨rfl, rfl⟩⟩, ⟨⟨rfl, rfl⟩, ⟨rfl, rfl⟩⟩⟩, h⟩
end
theorem qr_el {k : Nat} {u : SX} {v : SY} {P : SX → SY → Prop} (h : ∀ (vl cl ll n m L K nl : Nat) (so xe xa xop xon xre xsc xac xau xd xb xs xo xz xdc xou xrv xrn xv xco : Int32) (ck cp cn cd ov od dv dn mks lk kp kn dp dg kd va mr cu yco lnk li st tb : Nat → Int32), qr_R vl cl ll n m L K nl so xe xa xop xon xre xv xco ck cp cn cd mks lk kp kn dp dg kd va mr cu yco lnk li → P (nI vl, nI cl, nI ll, nI n, xe, xa, nI m, xop, xon, so, xre, nI nl, xsc, xac, xau, xd, xb, xs, xo, xz, xdc, xou, xrv, xrn, nI K, xv, nI L, xco, ck, cp, cn, cd, ov, od, dv, dn, mks, lk, kp, kn, dp, dg) (nI vl, nI cl, nI ll, so, nI n, nI m, nI L, nI K, kd, va, mr, cu, yco, lnk, li, st, tb)) (I : i_Rel k u v) : P u v := by
  obtain ⟨xvl, xcl, xll, xn, xe, xa, xm, xop, xon, xso, xre, xnl, xsc, xac, xau, xd, xb, xs, xo, xz, xdc, xou, xrv, xrn, xk, xv, xl, xco, ck, cp, cn, cd, ov, od, dv, dn, mks, lk, kp, kn, dp, dg⟩ := u
  obtain ⟨ymv, ymc, yml, yso, yn, ym, yl, yk, kd, va, mr, cu, yco, lnk, li, st, tb⟩ := v
  obtain ⟨_, vl, cl, ll, n, m, L, K, nl, ⟨⟨⟨rfl, rfl⟩, ⟨rfl, rfl⟩⟩, ⟨⟨rfl, rfl⟩, ⟨rfl, rfl⟩⟩⟩, ⟨⟨⟨rfl, rfl⟩, ⟨rfl, rfl⟩⟩, ⟨⟨rfl, rfl⟩, ⟨rfl, rfl⟩⟩⟩, hR⟩ := I
  exact h vl cl ll n m L K nl _ _ _ _ _ _ _ _ _ _ _ _ _ _ _ _ _ _ _ _ _ _ _ _ _ _ _ _ _ _ _ _ _ _ _ _ _ _ _ _ _ _ _ hR
end
section
/-! helpers of the calls -/
theorem qr_i1 : (1 : Int32).toInt = 1 := by decide
theorem qr_i0 : (0 : Int32).toInt = 0 := by decide
theorem qr_clamp (p : Int32) (M : Nat) (hM : 1 ≤ M) (hM2 : M < 2 ^ 31) : ∃ j, j ≤ M ∧ (∀ (post : Int32 → Prop) (u : SX), post (nI j) → wpX_clamp post u p 1 (nI M)) ∧ (∀ (post : Int32 → Prop) (v : SY), post (nI j) → wpY_clamp post v p (nI M)) := by
  by_cases h1 : (1 : Int32) ≤ p
  · by_cases h2 : p ≤ nI M
    · obtain ⟨j, hj, rfl⟩ := nI_of (x := p) (by
        rw [Int32.le_iff_toInt_le, qr_i1] at h1
        rw [Int32.lt_iff_toInt_lt, qr_i0]; omega)
      refine ⟨j, (nI_leI hj hM2).mp h2, fun post u h => ?_, fun post v h => ?_⟩
      · obtain ⟨xvl, xcl, xll, xn, xe, xa, xm, xop, xon, xso, xre, xnl, xsc, xac, xau, xd, xb, xs, xo, xz, xdc, xou, xrv, xrn, xk, xv, xl, xco, ck, cp, cn, cd, ov, od, dv, dn, mks, lk, kp, kn, dp, dg⟩ := u
        exact br_t h1 (br_t h2 h)
      · obtain ⟨ymv, ymc, yml, yso, yn, ym, yl, yk, kd, va, mr, cu, yco, lnk, li, st, tb⟩ := v
        exact br_t h1 (br_t h2 h)
    · refine ⟨M, Nat.le_refl _, fun post u h => ?_, fun post v h => ?_⟩
      · obtain ⟨xvl, xcl, xll, xn, xe, xa, xm, xop, xon, xso, xre, xnl, xsc, xac, xau, xd, xb, xs, xo, xz, xdc, xou, xrv, xrn, xk, xv, xl, xco, ck, cp, cn, cd, ov, od, dv, dn, mks, lk, kp, kn, dp, dg⟩ := u
        exact br_t h1 (br_f h2 h)
      · obtain ⟨ymv, ymc, yml, yso, yn, ym, yl, yk, kd, va, mr, cu, yco, lnk, li, st, tb⟩ := v
        exact br_t h1 (br_f h2 h)
  · refine ⟨1, hM, fun post u h => ?_, fun post v h => ?_⟩
    · obtain ⟨xvl, xcl, xll, xn, xe, xa, xm, xop, xon, xso, xre, xnl, xsc, xac, xau, xd, xb, xs, xo, xz, xdc, xou, xrv, xrn, xk, xv, xl, xco, ck, cp, cn, cd, ov, od, dv, dn, mks, lk, kp, kn, dp, dg⟩ := u
      exact br_f h1 h
    · obtain ⟨ymv, ymc, yml, yso, yn, ym, yl, yk, kd, va, mr, cu, yco, lnk, li, st, tb⟩ := v
      exact br_f h1 h
/-- x is no literal -/
def qr_nl (n : Nat) (x : Int32) : Prop := x = 0 ∨ (¬ x = 0 ∧ x < -(nI n)) ∨ (¬ x = 0 ∧ ¬ x < -(nI n) ∧ nI n < x)
theorem qr_lit (n : Nat) (hn : n ≤ 8) (x : Int32) : qr_nl n x ∨ (∃ i, i < n ∧ x = nI (i + 1)) ∨ (∃ i, i < n ∧ x = -nI (i + 1)) := by
  by_cases h0 : x = 0
  · exact Or.inl (Or.inl h0)
  by_cases h1 : x < -(nI n)
  · exact Or.inl (Or.inr (Or.inl ⟨h0, h1⟩))
  by_cases h2 : nI n < x
  · exact Or.inl (Or.inr (Or.inr ⟨h0, h1, h2⟩))
  have e0 : ¬ x.toInt = 0 := fun e => h0 (Int32.toInt_inj.mp (e.trans qr_i0.symm))
  rw [Int32.lt_iff_toInt_lt, sb_negT (by omega)] at h1
  rw [Int32.lt_iff_toInt_lt, nI_toInt (by omega)] at h2
  right
  rcases Int.lt_or_le x.toInt 0 with h | h
  · right
    refine ⟨(-x.toInt - 1).toNat, by omega, Int32.toInt_inj.mp ?_⟩
    rw [sb_negT (by omega)]
    omega
  · left
    refine ⟨(x.toInt - 1).toNat, by omega, Int32.toInt_inj.mp ?_⟩
    rw [nI_toInt (by omega)]
    omega
theorem qr_nz {i : Nat} (hi : i < 8) : ¬ (-nI (i + 1)) = 0 := by
  intro e
  have := congrArg Int32.toInt e
  rw [sb_negT (by omega), qr_i0] at this
  omega
theorem qr_nle {i : Nat} (hi : i < 8) : (-nI (i + 1)) ≤ 0 := by
  rw [Int32.le_iff_toInt_le, sb_negT (by omega), qr_i0]; omega
theorem qr_pge {i n : Nat} (hi : i < 8) (hn : n ≤ 8) : ¬ nI (i + 1) < -(nI n) := by
  rw [Int32.lt_iff_toInt_lt, sb_negT (by omega), nI_toInt (by omega)]; omega
theorem qr_nge {i n : Nat} (hi : i < n) (hn : n ≤ 8) : ¬ -nI (i + 1) < -(nI n) := by
  rw [Int32.lt_iff_toInt_lt, sb_negT (by omega), sb_negT (by omega)]; omega
theorem qr_nlt {i n : Nat} (hi : i < 8) (hn : n ≤ 8) : ¬ nI n < -nI (i + 1) := by
  rw [Int32.lt_iff_toInt_lt, sb_negT (by omega), nI_toInt (by omega)]; omega
theorem qr_var (n : Nat) (hn : n ≤ 8) (x : Int32) : x < 1 ∨ (¬ x < 1 ∧ nI n < x) ∨ (∃ i, i < n ∧ x = nI (i + 1)) := by
  by_cases h1 : x < 1
  · exact Or.inl h1
  by_cases h2 : nI n < x
  · exact Or.inr (Or.inl ⟨h1, h2⟩)
  rw [Int32.lt_iff_toInt_lt, qr_i1] at h1
  rw [Int32.lt_iff_toInt_lt, nI_toInt (by omega)] at h2
  refine Or.inr (Or.inr ⟨(x.toInt - 1).toNat, by omega, Int32.toInt_inj.mp ?_⟩)
  rw [nI_toInt (by omega)]
  omega
theorem qr_n1 {i : Nat} (h : i < 2 ^ 30) : ¬ nI (i + 1) < 1 := nI_nlt (b := 1) (by omega) (by omega)
/-- the number of bits -/
def qr_cn (f : Nat → Bool) : Nat → Nat
  | 0 => 0
  | k + 1 => qr_cn f k + (if f k = true then 1 else 0)
theorem qr_cn0 {f : Nat → Bool} : ∀ k, (qr_cn f k = 0 ↔ ∀ i, i < k → f i = false) := by
  intro k
  induction k with
  | zero => exact ⟨fun _ i hi => absurd hi (by omega), fun _ => rfl⟩
  | succ k ih =>
    simp only [qr_cn]
    constructor
    · intro h i hi
      by_cases e : i = k
      · rw [e]
        cases hf : f k
        · rfl
        · rw [hf, if_pos rfl] at h; omega
      · exact ih.mp (by omega) i (by omega)
    · intro h
      rw [ih.mpr (fun i hi => h i (by omega)), h k (by omega), if_neg (by decide)]
theorem qr_cnle {f : Nat → Bool} : ∀ k, qr_cn f k ≤ k := by
  intro k
  induction k with
  | zero => exact Nat.le_refl _
  | succ k ih =>
    simp only [qr_cn]
    split <;> omega
theorem qr_bz {b : Bool} : (!decide (qr_b b = 0)) = b := by cases b <;> decide
theorem qr_bn {b : Bool} : ¬ qr_b b = 0 ↔ b = true := by cases b <;> decide
theorem qr_be {b : Bool} : qr_b b = 0 ↔ b = false := by cases b <;> decide
theorem qr_b1 {b : Bool} : qr_b b = 1 ↔ b = true := by cases b <;> decide
theorem qr_cnt {n m : Nat} {cu : Nat → Int32} {p q : Int32} (h : qr_row n cu m p q) : qr_cn (fun j => !decide (cu (m * 17 + j) = 0)) 17 = qr_cn (bt (p ||| q)) 8 := by
  have hp : ∀ i, i < 8 → (!decide (cu (m * 17 + (9 + i)) = 0)) = bt p i := fun i hi => by
    rw [show m * 17 + (9 + i) = m * 17 + 8 + (i + 1) by omega, (h.2.2.2.1 i hi).1, qr_bz]
  have hq : ∀ i, i < 8 → (!decide (cu (m * 17 + (7 - i)) = 0)) = bt q i := fun i hi => by
    rw [show m * 17 + (7 - i) = m * 17 + 8 - (i + 1) by omega, (h.2.2.2.1 i hi).2, qr_bz]
  have hd : ∀ i, (if bt (p ||| q) i = true then 1 else 0) = (if bt p i = true then 1 else 0) + (if bt q i = true then 1 else 0) := by
    intro i
    have h3 := h.2.2.1 i
    rw [b_or]
    cases hp : bt p i
    · cases hq : bt q i <;> rfl
    · rw [h3 hp]; rfl
  have q0 : (!decide (cu (m * 17 + 0) = 0)) = bt q 7 := hq 7 (by decide)
  have q1 : (!decide (cu (m * 17 + 1) = 0)) = bt q 6 := hq 6 (by decide)
  have q2 : (!decide (cu (m * 17 + 2) = 0)) = bt q 5 := hq 5 (by decide)
  have q3 : (!decide (cu (m * 17 + 3) = 0)) = bt q 4 := hq 4 (by decide)
  have q4 : (!decide (cu (m * 17 + 4) = 0)) = bt q 3 := hq 3 (by decide)
  have q5 : (!decide (cu (m * 17 + 5) = 0)) = bt q 2 := hq 2 (by decide)
  have q6 : (!decide (cu (m * 17 + 6) = 0)) = bt q 1 := hq 1 (by decide)
  have q7 : (!decide (cu (m * 17 + 7) = 0)) = bt q 0 := hq 0 (by decide)
  have q8 : (!decide (cu (m * 17 + 8) = 0)) = false := by rw [h.2.2.2.2]; rfl
  have q9 : (!decide (cu (m * 17 + 9) = 0)) = bt p 0 := hp 0 (by decide)
  have q10 : (!decide (cu (m * 17 + 10) = 0)) = bt p 1 := hp 1 (by decide)
  have q11 : (!decide (cu (m * 17 + 11) = 0)) = bt p 2 := hp 2 (by decide)
  have q12 : (!decide (cu (m * 17 + 12) = 0)) = bt p 3 := hp 3 (by decide)
  have q13 : (!decide (cu (m * 17 + 13) = 0)) = bt p 4 := hp 4 (by decide)
  have q14 : (!decide (cu (m * 17 + 14) = 0)) = bt p 5 := hp 5 (by decide)
  have q15 : (!decide (cu (m * 17 + 15) = 0)) = bt p 6 := hp 6 (by decide)
  have q16 : (!decide (cu (m * 17 + 16) = 0)) = bt p 7 := hp 7 (by decide)
  simp only [qr_cn, q0, q1, q2, q3, q4, q5, q6, q7, q8, q9, q10, q11, q12, q13, q14, q15, q16, hd]
  generalize (if bt p 0 = true then 1 else 0) = a0
  generalize (if bt q 0 = true then 1 else 0) = b0
  generalize (if bt p 1 = true then 1 else 0) = a1
  generalize (if bt q 1 = true then 1 else 0) = b1
  generalize (if bt p 2 = true then 1 else 0) = a2
  generalize (if bt q 2 = true then 1 else 0) = b2
  generalize (if bt p 3 = true then 1 else 0) = a3
  generalize (if bt q 3 = true then 1 else 0) = b3
  generalize (if bt p 4 = true then 1 else 0) = a4
  generalize (if bt q 4 = true then 1 else 0) = b4
  generalize (if bt p 5 = true then 1 else 0) = a5
  generalize (if bt q 5 = true then 1 else 0) = b5
  generalize (if bt p 6 = true then 1 else 0) = a6
  generalize (if bt q 6 = true then 1 else 0) = b6
  generalize (if bt p 7 = true then 1 else 0) = a7
  generalize (if bt q 7 = true then 1 else 0) = b7
  simp only [if_neg (show ¬ false = true by decide)]
  omega
section
variable {xvl xcl xll xn xe xa xm xop xon xso xre xnl xsc xac xau xd xb xs xo xz xdc xou xrv xrn xk xv xl xco : Int32} {ck cp cn cd ov od dv dn mks lk kp kn dp dg : Nat → Int32} {n m : Nat}
theorem qx_lit0 {post : Int32 → Prop} {x : Int32} (hx : qr_nl n x) (h : post 0) : wpX_isLiteral post (xvl, xcl, xll, nI n, xe, xa, xm, xop, xon, xso, xre, xnl, xsc, xac, xau, xd, xb, xs, xo, xz, xdc, xou, xrv, xrn, xk, xv, xl, xco, ck, cp, cn, cd, ov, od, dv, dn, mks, lk, kp, kn, dp, dg) x := by
  unfold wpX_isLiteral
  dsimp only
  rcases hx with h0 | ⟨h0, h1⟩ | ⟨h0, h1, h2⟩
  · exact br_t h0 h
  · exact br_f h0 (br_t h1 h)
  · exact br_f h0 (br_f h1 (br_t h2 h))
theorem qx_litP {post : Int32 → Prop} {i : Nat} (hi : i < n) (hn : n ≤ 8) (h : post 1) : wpX_isLiteral post (xvl, xcl, xll, nI n, xe, xa, xm, xop, xon, xso, xre, xnl, xsc, xac, xau, xd, xb, xs, xo, xz, xdc, xou, xrv, xrn, xk, xv, xl, xco, ck, cp, cn, cd, ov, od, dv, dn, mks, lk, kp, kn, dp, dg) (nI (i + 1)) := by
  unfold wpX_isLiteral
  dsimp only
  exact br_f (nI_ne0 (by omega) (by omega)) (br_f (qr_pge (by omega) hn) (br_f (nI_nlt (by omega) (by omega)) h))
theorem qx_litN {post : Int32 → Prop} {i : Nat} (hi : i < n) (hn : n ≤ 8) (h : post 1) : wpX_isLiteral post (xvl, xcl, xll, nI n, xe, xa, xm, xop, xon, xso, xre, xnl, xsc, xac, xau, xd, xb, xs, xo, xz, xdc, xou, xrv, xrn, xk, xv, xl, xco, ck, cp, cn, cd, ov, od, dv, dn, mks, lk, kp, kn, dp, dg) (-nI (i + 1)) := by
  unfold wpX_isLiteral
  dsimp only
  exact br_f (qr_nz (by omega)) (br_f (qr_nge hi hn) (br_f (qr_nlt (by omega) hn) h))
theorem qx_hasP {post : Int32 → Prop} {p q : Int32} {i : Nat} (hi : i < 8) (h : post (qr_b (bt p i))) : wpX_hasLiteral post (xvl, xcl, xll, xn, xe, xa, xm, xop, xon, xso, xre, xnl, xsc, xac, xau, xd, xb, xs, xo, xz, xdc, xou, xrv, xrn, xk, xv, xl, xco, ck, cp, cn, cd, ov, od, dv, dn, mks, lk, kp, kn, dp, dg) p q (nI (i + 1)) := by
  unfold wpX_hasLiteral
  dsimp only
  refine br_f (nI_nle (by omega) (by omega)) ?_
  rw [nI_pred i]
  refine br_c (fun h0 => ?_) (fun h1 => ?_)
  · rw [(qb_bit0 p (by omega)).mp h0] at h; exact h
  · rw [(qb_bit1 p (by omega)).mp h1] at h; exact h
theorem qx_hasN {post : Int32 → Prop} {p q : Int32} {i : Nat} (hi : i < 8) (h : post (qr_b (bt q i))) : wpX_hasLiteral post (xvl, xcl, xll, xn, xe, xa, xm, xop, xon, xso, xre, xnl, xsc, xac, xau, xd, xb, xs, xo, xz, xdc, xou, xrv, xrn, xk, xv, xl, xco, ck, cp, cn, cd, ov, od, dv, dn, mks, lk, kp, kn, dp, dg) p q (-nI (i + 1)) := by
  unfold wpX_hasLiteral
  dsimp only
  refine br_t (qr_nle hi) ?_
  rw [Int32.neg_neg, nI_pred i]
  refine br_c (fun h0 => ?_) (fun h1 => ?_)
  · rw [(qb_bit0 q (by omega)).mp h0] at h; exact h
  · rw [(qb_bit1 q (by omega)).mp h1] at h; exact h
theorem qx_count {post : Int32 → Prop} {x : Int32} (h : post (nI (qr_cn (bt x) 8))) : wpX_countBits post (xvl, xcl, xll, xn, xe, xa, xm, xop, xon, xso, xre, xnl, xsc, xac, xau, xd, xb, xs, xo, xz, xdc, xou, xrv, xrn, xk, xv, xl, xco, ck, cp, cn, cd, ov, od, dv, dn, mks, lk, kp, kn, dp, dg) x := by
  have key : ∀ (k i f : Nat), i + k = 8 → k < f → wX_countBits_4 post x xvl xcl xll xn xe xa xm xop xon xso xre xnl xsc xac xau xd xb xs xo xz xdc xou xrv xrn xk xv xl xco ck cp cn cd ov od dv dn mks lk kp kn dp dg f (nI (qr_cn (bt x) i)) (nI i) := by
    intro k
    induction k with
    | zero =>
      intro i f hi hf
      obtain ⟨f, rfl⟩ : ∃ g, f = g + 1 := ⟨f - 1, by omega⟩
      have e : i = 8 := by omega
      subst e
      exact br_t (nI_le (Nat.le_refl _) (by omega)) h
    | succ k ih =>
      intro i f hi hf
      obtain ⟨f, rfl⟩ : ∃ g, f = g + 1 := ⟨f - 1, by omega⟩
      refine br_f (nI_ge (b := 8) (by omega) (by omega)) (nm_r (e' := nI (qr_cn (bt x) (i + 1))) ?_ (nm_r (nI_1 i) (ih (i + 1) f (by omega) (by omega))))
      rw [qy_bx x (by omega)]
      simp only [qr_cn]
      cases bt x i
      · exact nI_add _ 0
      · exact nI_add _ 1
  unfold wpX_countBits
  dsimp only
  exact ⟨9, key 8 0 9 (by omega) (by omega)⟩
theorem qx_var0 {post : Int32 → Prop} {x : Int32} (hx : x < 1 ∨ (¬ x < 1 ∧ nI n < x)) (h : post 0) : wpX_isVariable post (xvl, xcl, xll, nI n, xe, xa, xm, xop, xon, xso, xre, xnl, xsc, xac, xau, xd, xb, xs, xo, xz, xdc, xou, xrv, xrn, xk, xv, xl, xco, ck, cp, cn, cd, ov, od, dv, dn, mks, lk, kp, kn, dp, dg) x := by
  unfold wpX_isVariable
  dsimp only
  rcases hx with h0 | ⟨h0, h1⟩
  · exact br_t h0 h
  · exact br_f h0 (br_t h1 h)
theorem qx_var1 {post : Int32 → Prop} {i : Nat} (hi : i < n) (hn : n ≤ 8) (h : post 1) : wpX_isVariable post (xvl, xcl, xll, nI n, xe, xa, xm, xop, xon, xso, xre, xnl, xsc, xac, xau, xd, xb, xs, xo, xz, xdc, xou, xrv, xrn, xk, xv, xl, xco, ck, cp, cn, cd, ov, od, dv, dn, mks, lk, kp, kn, dp, dg) (nI (i + 1)) := by
  unfold wpX_isVariable
  dsimp only
  exact br_f (qr_n1 (by omega)) (br_f (nI_nlt (by omega) (by omega)) h)
end
section
variable {ymv ymc yml yso yn ym yl yk : Int32} {kd va mr cu yco lnk li st tb : Nat → Int32} {n m : Nat}
theorem qy_lit0 {post : Int32 → Prop} {x : Int32} (hx : qr_nl n x) (h : post 0) : wpY_isLiteral post (ymv, ymc, yml, yso, nI n, ym, yl, yk, kd, va, mr, cu, yco, lnk, li, st, tb) x := by
  unfold wpY_isLiteral
  dsimp only
  rcases hx with h0 | ⟨h0, h1⟩ | ⟨h0, h1, h2⟩
  · exact br_t h0 h
  · exact br_f h0 (br_t h1 h)
  · exact br_f h0 (br_f h1 (br_t h2 h))
theorem qy_litP {post : Int32 → Prop} {i : Nat} (hi : i < n) (hn : n ≤ 8) (h : post 1) : wpY_isLiteral post (ymv, ymc, yml, yso, nI n, ym, yl, yk, kd, va, mr, cu, yco, lnk, li, st, tb) (nI (i + 1)) := by
  unfold wpY_isLiteral
  dsimp only
  exact br_f (nI_ne0 (by omega) (by omega)) (br_f (qr_pge (by omega) hn) (br_f (nI_nlt (by omega) (by omega)) h))
theorem qy_litN {post : Int32 → Prop} {i : Nat} (hi : i < n) (hn : n ≤ 8) (h : post 1) : wpY_isLiteral post (ymv, ymc, yml, yso, nI n, ym, yl, yk, kd, va, mr, cu, yco, lnk, li, st, tb) (-nI (i + 1)) := by
  unfold wpY_isLiteral
  dsimp only
  exact br_f (qr_nz (by omega)) (br_f (qr_nge hi hn) (br_f (qr_nlt (by omega) hn) h))
theorem qy_open {post : Int32 → Prop} (hm : m ≤ 24) (h : post (nI (qr_cn (fun j => !decide (cu (m * 17 + j) = 0)) 17))) : wpY_openSize post (ymv, ymc, yml, yso, yn, nI m, yl, yk, kd, va, mr, cu, yco, lnk, li, st, tb) := by
  have key : ∀ (k i f : Nat), i + k = 17 → k < f → wY_openSize_4 post ymv ymc yml yso yn (nI m) yl yk kd va mr cu yco lnk li st tb f (nI (qr_cn (fun j => !decide (cu (m * 17 + j) = 0)) i)) (nI i) := by
    intro k
    induction k with
    | zero =>
      intro i f hi hf
      obtain ⟨f, rfl⟩ : ∃ g, f = g + 1 := ⟨f - 1, by omega⟩
      have e : i = 17 := by omega
      subst e
      exact br_t (nI_le (Nat.le_refl _) (by omega)) h
    | succ k ih =>
      intro i f hi hf
      obtain ⟨f, rfl⟩ : ∃ g, f = g + 1 := ⟨f - 1, by omega⟩
      have nx := ih (i + 1) f (by omega) (by omega)
      refine br_f (nI_ge (b := 17) (by omega) (by omega)) ?_
      rw [qy_ix3, nI_clamp (by omega : m * 17 + i < 2 ^ 31)]
      refine ⟨vp_in_nI (by omega) (by omega), br_c (fun h0 => nm_r (nI_1 i) ?_) (fun h0 => nm_r (e' := nI (qr_cn (fun j => !decide (cu (m * 17 + j) = 0)) (i + 1))) ?_ (nm_r (nI_1 i) nx))⟩
      · simp only [qr_cn, h0, decide_true, Bool.not_true] at nx
        exact nx
      · simp only [qr_cn, h0, decide_false, Bool.not_false]
        exact nI_1 _
  unfold wpY_openSize
  dsimp only
  exact ⟨18, key 17 0 18 (by omega) (by omega)⟩
end
theorem qr_row_mono {n n' : Nat} {cu : Nat → Int32} {c : Nat} {p q : Int32} (h : qr_row n cu c p q) (hn : n ≤ n') : qr_row n' cu c p q :=
  ⟨fun j hj => Nat.lt_of_lt_of_le (h.1 j hj) hn, fun j hj => Nat.lt_of_lt_of_le (h.2.1 j hj) hn, h.2.2⟩
theorem qr_C_mono {n n' m : Nat} {xop xon : Int32} {ck cp cn cd cu : Nat → Int32} (h : qr_C n m xop xon ck cp cn cd cu) (hn : n ≤ n') : qr_C n' m xop xon ck cp cn cd cu :=
  ⟨fun c hc => ⟨(h.1 c hc).1, qr_row_mono (h.1 c hc).2.1 hn, (h.1 c hc).2.2⟩, qr_row_mono h.2.1 hn, fun c h1 h2 => qr_row_mono (h.2.2 c h1 h2) hn⟩
theorem qr_L_mono {n n' L : Nat} {lk kp kn dp dg lnk li : Nat → Int32} (h : qr_L n L lk kp kn dp dg lnk li) (hn : n ≤ n') : qr_L n' L lk kp kn dp dg lnk li :=
  ⟨fun l hl => ⟨(h.1 l hl).1, (h.1 l hl).2.1, fun j hj => Nat.lt_of_lt_of_le ((h.1 l hl).2.2.1 j hj) hn, (h.1 l hl).2.2.2⟩, h.2⟩
theorem qr_row_upd {n : Nat} {cu : Nat → Int32} {c m e : Nat} {x p q : Int32} (h : qr_row n cu c p q) (hc : c ≠ m) (he : e < 17) : qr_row n (upd cu (m * 17 + e) x) c p q := by
  refine ⟨h.1, h.2.1, h.2.2.1, fun i hi => ?_, ?_⟩
  · rw [pk_un (by omega), pk_un (by omega)]; exact h.2.2.2.1 i hi
  · rw [pk_un (by omega)]; exact h.2.2.2.2
theorem qr_hP {n m : Nat} {xop xon : Int32} {cu : Nat → Int32} : qy_hP n m (qr_P cu) (qr_N cu) cu := by
  intro c i hc hi
  unfold qr_P qr_N
  simp
theorem qr_hK {n : Nat} {xe xa : Int32} {kd : Nat → Int32} (h : qr_V n xe xa kd) : ∀ i, i < n → (bt xe i = true ↔ kd (i + 1) = 1) := by
  intro i hi
  rcases h.2 i hi with ⟨h1, h2⟩ | ⟨h1, h2⟩
  · rw [h1, h2]; decide
  · rw [h1, h2]; decide
end
section
/-! the constructors and the calls of the entry phase -/
theorem qr_01 {n m : Nat} {so xe xre xco : Int32} {ck cp cn cd cu yco : Nat → Int32} (h : qr_So n m so xe xre xco ck cp cn cd cu yco) : so = 0 ∨ (so = 1 ∧ ¬ so = 0) := by
  rcases h with ⟨h, _⟩ | ⟨h, _⟩
  · exact Or.inl h
  · exact Or.inr ⟨h, by rw [h]; decide⟩
theorem qr_V1 {n : Nat} {xe xa : Int32} {kd : Nat → Int32} (h : qr_V n xe xa kd) (hn : n < 8) : qr_V (n + 1) (xe ||| ((1 : Int32) <<< (nI n &&& 31))) xa (upd kd (n + 1) 1) := by
  have e0 : ∀ j, bt (xe ||| ((1 : Int32) <<< (nI n &&& 31))) j = (bt xe j || decide (j = n)) := fun j => by rw [b_or, qb_one n (by omega)]
  refine ⟨⟨fun j hj => ?_, fun j => ?_⟩, fun i hi => ?_⟩
  · rw [e0, Bool.or_eq_true, decide_eq_true_eq] at hj
    rcases hj with hj | hj
    · have := h.1.1 j hj; omega
    · omega
  · rw [h.1.2 j, e0]
    by_cases e : j = n
    · rw [e, decide_eq_true rfl, Bool.or_true, decide_eq_false (Nat.lt_irrefl n), Bool.not_true, Bool.and_false, Bool.false_and]
    · rw [decide_eq_false e, Bool.or_false]
      congr 1
      exact decide_eq_decide.mpr (by omega)
  · rw [e0]
    by_cases e : i = n
    · rw [e, decide_eq_true rfl, Bool.or_true, pk_us]; exact Or.inl ⟨rfl, rfl⟩
    · rw [decide_eq_false e, Bool.or_false, pk_un (by omega)]; exact h.2 i (by omega)
theorem qr_V2 {n : Nat} {xe xa : Int32} {kd : Nat → Int32} (h : qr_V n xe xa kd) (hn : n < 8) : qr_V (n + 1) xe (xa ||| ((1 : Int32) <<< (nI n &&& 31))) (upd kd (n + 1) 2) := by
  have hen : bt xe n = false := by
    apply qb_ncf.mp
    intro z
    exact absurd (h.1.1 n z) (Nat.lt_irrefl n)
  refine ⟨⟨fun j hj => ?_, fun j => ?_⟩, fun i hi => ?_⟩
  · have := h.1.1 j hj; omega
  · rw [b_or, qb_one n (by omega), h.1.2 j]
    by_cases e : j = n
    · rw [e, decide_eq_true rfl, Bool.or_true, hen, decide_eq_true (by omega)]; rfl
    · rw [decide_eq_false e, Bool.or_false]
      congr 1
      exact decide_eq_decide.mpr (by omega)
  · by_cases e : i = n
    · rw [e, pk_us]; exact Or.inr ⟨hen, rfl⟩
    · rw [pk_un (by omega)]; exact h.2 i (by omega)
theorem qr_row_0 {n c : Nat} : qr_row n (fun _ => 0) c 0 0 := by
  refine ⟨fun j hj => ?_, fun j hj => ?_, fun j _ => b_0 j, fun i _ => ?_, rfl⟩
  · rw [b_0] at hj; exact absurd hj (by decide)
  · rw [b_0] at hj; exact absurd hj (by decide)
  · rw [b_0]; exact ⟨rfl, rfl⟩
theorem i_vc0 (k0 : Int32) (k1 : Int32) (k2 : Int32) : wpX_init (fun u => wpY_init (fun v => i_Rel 3 u v) k0 k1 k2) k0 k1 k2 := by
  obtain ⟨vl, h1, x1, y1⟩ := qr_clamp k0 8 (by decide) (by decide)
  obtain ⟨cl, h2, x2, y2⟩ := qr_clamp k1 24 (by decide) (by decide)
  obtain ⟨ll, h3, x3, y3⟩ := qr_clamp k2 32 (by decide) (by decide)
  unfold wpX_init
  refine x1 _ _ (x2 _ _ (x3 _ _ ?_))
  unfold wpY_init
  refine y1 _ _ (y2 _ _ (y3 _ _ ?_))
  refine qr_in (vl := vl) (cl := cl) (ll := ll) (n := 0) (m := 0) (L := 0) (K := 0) (nl := 0) ⟨⟨h1, h2, h3, by omega, by omega, by omega, by omega, by omega⟩, ⟨⟨fun j hj => ?_, fun j => ?_⟩, fun i hi => absurd hi (by omega)⟩, ⟨fun c hc => absurd hc (by omega), qr_row_0, fun c _ _ => qr_row_0⟩, ⟨fun l hl => absurd hl (by omega), fun _ _ _ _ _ => rfl⟩, ⟨fun j hj => ?_, fun i hi => absurd hi (by omega)⟩, Or.inl ⟨rfl, fun _ _ _ => rfl⟩⟩
  · rw [b_0] at hj; exact absurd hj (by decide)
  · rw [b_0, decide_eq_false (by omega)]; rfl
  · rw [b_0] at hj; exact absurd hj (by decide)
theorem i_vc_addVariable {k : Nat} {u : SX} {v : SY} (I : i_Rel k u v) (hk : k + 4 ≤ 2051) (v1 : Int32) : wpX_addVariable (fun r u' => wpY_addVariable (fun r' v' => r' = r ∧ i_Rel (k + 4) u' v') v v1) u v1 := by
  refine qr_el (P := fun u v => wpX_addVariable (fun r u' => wpY_addVariable (fun r' v' => r' = r ∧ i_Rel (k + 4) u' v') v v1) u v1) ?_ I
  intro vl cl ll n m L K nl so xe xa xop xon xre xsc xac xau xd xb xs xo xz xdc xou xrv xrn xv xco ck cp cn cd ov od dv dn mks lk kp kn dp dg kd va mr cu yco lnk li st tb hR
  obtain ⟨⟨b1, b2, b3, b4, b5, b6, b7, b8⟩, hV, hC, hL, hM, hS⟩ := hR
  have keep : i_Rel (k + 4) (nI vl, nI cl, nI ll, nI n, xe, xa, nI m, xop, xon, so, xre, nI nl, xsc, xac, xau, xd, xb, xs, xo, xz, xdc, xou, xrv, xrn, nI K, xv, nI L, xco, ck, cp, cn, cd, ov, od, dv, dn, mks, lk, kp, kn, dp, dg) (nI vl, nI cl, nI ll, so, nI n, nI m, nI L, nI K, kd, va, mr, cu, yco, lnk, li, st, tb) := qr_in ⟨⟨b1, b2, b3, b4, b5, b6, b7, b8⟩, hV, hC, hL, hM, hS⟩
  rcases hS with ⟨h0, hck⟩ | ⟨h1, h2⟩
  · have step : ∀ (xe' xa' : Int32) (kd' : Nat → Int32), qr_V (n + 1) xe' xa' kd' → n < vl → i_Rel (k + 4) (nI vl, nI cl, nI ll, nI (n + 1), xe', xa', nI m, xop, xon, so, xre, nI nl, xsc, xac, xau, xd, xb, xs, xo, xz, xdc, xou, xrv, xrn, nI K, xv, nI L, xco, ck, cp, cn, cd, ov, od, dv, dn, mks, lk, kp, kn, dp, dg) (nI vl, nI cl, nI ll, so, nI (n + 1), nI m, nI L, nI K, kd', va, mr, cu, yco, lnk, li, st, tb) := fun xe' xa' kd' hV' hn => qr_in ⟨⟨b1, b2, b3, hn, b5, b6, by omega, b8⟩, hV', qr_C_mono hC (by omega), qr_L_mono hL (by omega), hM, Or.inl ⟨h0, hck⟩⟩
    by_cases e1 : v1 = 1
    · subst e1
      by_cases hn : n < vl
      · refine br_t h0 (br_t rfl (br_t (nI_lt hn (by omega)) (nm_e (br_t rfl (nm_e (nm_r (nI_1 n) ?_))))))
        refine br_t h0 (br_t rfl (br_f (fun e => ?_) (nm_r (nI_1 n) ⟨vp_in_nI (by omega) (by omega), nm_r (e' := upd kd (n + 1) 1) (by rw [nI_clamp (by omega : n + 1 < 2 ^ 31)]) ⟨rfl, step _ _ _ (qr_V1 hV (by omega)) hn⟩⟩)))
        rw [nI_eq (by omega) (by omega)] at e; omega
      · refine br_t h0 (br_t rfl (br_f (nI_nlt (by omega) (by omega)) ?_))
        exact br_t h0 (br_t rfl (br_t (congrArg nI (by omega)) ⟨rfl, keep⟩))
    · by_cases e2 : v1 = 2
      · subst e2
        by_cases hn : n < vl
        · refine br_t h0 (br_f e1 (br_t rfl (br_t (nI_lt hn (by omega)) (nm_e (br_f e1 (nm_e (nm_r (nI_1 n) ?_)))))))
          refine br_t h0 (br_f e1 (br_t rfl (br_f (fun e => ?_) (nm_r (nI_1 n) ⟨vp_in_nI (by omega) (by omega), nm_r (e' := upd kd (n + 1) 2) (by rw [nI_clamp (by omega : n + 1 < 2 ^ 31)]) ⟨rfl, step _ _ _ (qr_V2 hV (by omega)) hn⟩⟩))))
          rw [nI_eq (by omega) (by omega)] at e; omega
        · refine br_t h0 (br_f e1 (br_t rfl (br_f (nI_nlt (by omega) (by omega)) ?_)))
          exact br_t h0 (br_f e1 (br_t rfl (br_t (congrArg nI (by omega)) ⟨rfl, keep⟩)))
      · refine br_t h0 (br_f e1 (br_f e2 ?_))
        exact br_t h0 (br_f e1 (br_f e2 ⟨rfl, keep⟩))
  · have hne : ¬ so = 0 := by rw [h1]; decide
    refine br_f hne ?_
    exact br_f hne ⟨rfl, keep⟩
theorem qr_sn (a b : Int32) : a - (-b) = a + b := by rw [Int32.sub_eq_add_neg, Int32.neg_neg]
theorem qr_an (a b : Int32) : a + (-b) = a - b := (Int32.sub_eq_add_neg a b).symm
theorem qr_addP {n m i : Nat} {xop xon : Int32} {ck cp cn cd cu : Nat → Int32} (h : qr_C n m xop xon ck cp cn cd cu) (hn : n ≤ 8) (hi : i < n) (hx : bt xon i = false) : qr_C n m (xop ||| ((1 : Int32) <<< (nI i &&& 31))) xon ck cp cn cd (upd cu (m * 17 + 8 + (i + 1)) 1) := by
  have e0 : ∀ j, bt (xop ||| ((1 : Int32) <<< (nI i &&& 31))) j = (bt xop j || decide (j = i)) := fun j => by rw [b_or, qb_one i (by omega)]
  have ei : m * 17 + 8 + (i + 1) = m * 17 + (9 + i) := by omega
  refine ⟨fun c hc => ⟨(h.1 c hc).1, ?_, (h.1 c hc).2.2⟩, ⟨fun j hj => ?_, h.2.1.2.1, fun j hj => ?_, fun j hj => ⟨?_, ?_⟩, ?_⟩, fun c h1 h2 => ?_⟩
  · rw [ei]; exact qr_row_upd (h.1 c hc).2.1 (by omega) (by omega)
  · rw [e0, Bool.or_eq_true, decide_eq_true_eq] at hj
    rcases hj with hj | hj
    · exact h.2.1.1 j hj
    · omega
  · rw [e0, Bool.or_eq_true, decide_eq_true_eq] at hj
    rcases hj with hj | hj
    · exact h.2.1.2.2.1 j hj
    · rw [hj]; exact hx
  · rw [e0]
    by_cases e : j = i
    · rw [e, pk_us, decide_eq_true rfl, Bool.or_true]; rfl
    · rw [pk_un (by omega), decide_eq_false e, Bool.or_false]; exact (h.2.1.2.2.2.1 j hj).1
  · rw [pk_un (by omega)]; exact (h.2.1.2.2.2.1 j hj).2
  · rw [pk_un (by omega)]; exact h.2.1.2.2.2.2
  · rw [ei]; exact qr_row_upd (h.2.2 c h1 h2) (by omega) (by omega)
theorem qr_addN {n m i : Nat} {xop xon : Int32} {ck cp cn cd cu : Nat → Int32} (h : qr_C n m xop xon ck cp cn cd cu) (hn : n ≤ 8) (hi : i < n) (hx : bt xop i = false) : qr_C n m xop (xon ||| ((1 : Int32) <<< (nI i &&& 31))) ck cp cn cd (upd cu (m * 17 + 8 - (i + 1)) 1) := by
  have e0 : ∀ j, bt (xon ||| ((1 : Int32) <<< (nI i &&& 31))) j = (bt xon j || decide (j = i)) := fun j => by rw [b_or, qb_one i (by omega)]
  have ei : m * 17 + 8 - (i + 1) = m * 17 + (7 - i) := by omega
  refine ⟨fun c hc => ⟨(h.1 c hc).1, ?_, (h.1 c hc).2.2⟩, ⟨h.2.1.1, fun j hj => ?_, fun j hj => ?_, fun j hj => ⟨?_, ?_⟩, ?_⟩, fun c h1 h2 => ?_⟩
  · rw [ei]; exact qr_row_upd (h.1 c hc).2.1 (by omega) (by omega)
  · rw [e0, Bool.or_eq_true, decide_eq_true_eq] at hj
    rcases hj with hj | hj
    · exact h.2.1.2.1 j hj
    · omega
  · rw [e0]
    by_cases e : j = i
    · rw [e, hx] at hj; exact absurd hj (by decide)
    · rw [decide_eq_false e, Bool.or_false]; exact h.2.1.2.2.1 j hj
  · rw [pk_un (by omega)]; exact (h.2.1.2.2.2.1 j hj).1
  · rw [e0]
    by_cases e : j = i
    · rw [e, pk_us, decide_eq_true rfl, Bool.or_true]; rfl
    · rw [pk_un (by omega), decide_eq_false e, Bool.or_false]; exact (h.2.1.2.2.2.1 j hj).2
  · rw [pk_un (by omega)]; exact h.2.1.2.2.2.2
  · rw [ei]; exact qr_row_upd (h.2.2 c h1 h2) (by omega) (by omega)
theorem i_vc_addLiteral {k : Nat} {u : SX} {v : SY} (I : i_Rel k u v) (hk : k + 4 ≤ 2051) (v1 : Int32) : wpX_addLiteral (fun r u' => wpY_addLiteral (fun r' v' => r' = r ∧ i_Rel (k + 4) u' v') v v1) u v1 := by
  refine qr_el (P := fun u v => wpX_addLiteral (fun r u' => wpY_addLiteral (fun r' v' => r' = r ∧ i_Rel (k + 4) u' v') v v1) u v1) ?_ I
  intro vl cl ll n m L K nl so xe xa xop xon xre xsc xac xau xd xb xs xo xz xdc xou xrv xrn xv xco ck cp cn cd ov od dv dn mks lk kp kn dp dg kd va mr cu yco lnk li st tb hR
  obtain ⟨⟨b1, b2, b3, b4, b5, b6, b7, b8⟩, hV, hC, hL, hM, hS⟩ := hR
  have keep : i_Rel (k + 4) (nI vl, nI cl, nI ll, nI n, xe, xa, nI m, xop, xon, so, xre, nI nl, xsc, xac, xau, xd, xb, xs, xo, xz, xdc, xou, xrv, xrn, nI K, xv, nI L, xco, ck, cp, cn, cd, ov, od, dv, dn, mks, lk, kp, kn, dp, dg) (nI vl, nI cl, nI ll, so, nI n, nI m, nI L, nI K, kd, va, mr, cu, yco, lnk, li, st, tb) := qr_in ⟨⟨b1, b2, b3, b4, b5, b6, b7, b8⟩, hV, hC, hL, hM, hS⟩
  have hn8 : n ≤ 8 := by omega
  rcases hS with ⟨h0, hck⟩ | ⟨h1, h2⟩
  · rcases qr_lit n hn8 v1 with hl | ⟨i, hi, rfl⟩ | ⟨i, hi, rfl⟩
    · refine br_t h0 (qx_lit0 hl (br_t rfl ?_))
      exact br_t h0 (qy_lit0 hl (br_t rfl ⟨rfl, keep⟩))
    · by_cases hm : m < cl
      · have hme : ¬ nI m = nI cl := fun e => by rw [nI_eq (by omega) (by omega)] at e; omega
        have hc1 : (nI (m * 17 + 8 + (i + 1))).toNatClampNeg = m * 17 + 8 + (i + 1) := nI_clamp (by omega)
        have hc2 : (nI (m * 17 + 8 - (i + 1))).toNatClampNeg = m * 17 + 8 - (i + 1) := nI_clamp (by omega)
        have hi1 : vp_in (nI (m * 17 + 8 + (i + 1))) 425 := vp_in_nI (by omega) (by omega)
        have hi2 : vp_in (nI (m * 17 + 8 - (i + 1))) 425 := vp_in_nI (by omega) (by omega)
        have hcu := (hC.2.1.2.2.2.1 i (by omega)).2
        refine br_t h0 (qx_litP hi hn8 (br_f (by decide) (br_t (nI_lt hm (by omega)) (qx_hasN (by omega) ?_))))
        cases hx : bt xon i
        · rw [hx] at hcu
          have hC' := qr_addP hC hn8 hi hx
          refine br_t rfl (br_f (nI_nle (by omega) (by omega)) ?_)
          rw [nI_pred i]
          refine nm_e ?_
          unfold wX_addLiteral_91
          refine qx_count ?_
          refine br_t h0 (qy_litP hi hn8 (br_f (by decide) (br_f hme ?_)))
          rw [qy_ix2 m (v := i + 1) (by omega), qy_ix1 m (i + 1), hc1, hc2]
          refine ⟨hi2, br_t hcu ⟨hi1, nm_r (e' := upd cu (m * 17 + 8 + (i + 1)) 1) rfl (qy_open (by omega) ⟨?_, ?_⟩)⟩⟩
          · rw [qr_cnt hC'.2.1]
          · exact qr_in ⟨⟨b1, b2, b3, b4, b5, b6, b7, b8⟩, hV, hC', hL, hM, Or.inl ⟨h0, hck⟩⟩
        · rw [hx] at hcu
          refine br_f (by decide) ?_
          refine br_t h0 (qy_litP hi hn8 (br_f (by decide) (br_f hme ?_)))
          rw [qy_ix2 m (v := i + 1) (by omega), hc2]
          exact ⟨hi2, br_f (by rw [hcu]; decide) ⟨rfl, keep⟩⟩
      · refine br_t h0 (qx_litP hi hn8 (br_f (by decide) (br_f (nI_nlt (by omega) (by omega)) ?_)))
        exact br_t h0 (qy_litP hi hn8 (br_f (by decide) (br_t (congrArg nI (by omega)) ⟨rfl, keep⟩)))
    · by_cases hm : m < cl
      · have hme : ¬ nI m = nI cl := fun e => by rw [nI_eq (by omega) (by omega)] at e; omega
        have hc1 : (nI (m * 17 + 8 + (i + 1))).toNatClampNeg = m * 17 + 8 + (i + 1) := nI_clamp (by omega)
        have hc2 : (nI (m * 17 + 8 - (i + 1))).toNatClampNeg = m * 17 + 8 - (i + 1) := nI_clamp (by omega)
        have hi1 : vp_in (nI (m * 17 + 8 + (i + 1))) 425 := vp_in_nI (by omega) (by omega)
        have hi2 : vp_in (nI (m * 17 + 8 - (i + 1))) 425 := vp_in_nI (by omega) (by omega)
        have hcu := (hC.2.1.2.2.2.1 i (by omega)).1
        refine br_t h0 (qx_litN hi hn8 (br_f (by decide) (br_t (nI_lt hm (by omega)) ?_)))
        rw [Int32.neg_neg]
        refine qx_hasP (by omega) ?_
        cases hx : bt xop i
        · rw [hx] at hcu
          have hC' := qr_addN hC hn8 hi hx
          refine br_t rfl (br_t (qr_nle (by omega)) ?_)
          rw [nI_pred i]
          refine nm_e ?_
          unfold wX_addLiteral_91
          refine qx_count ?_
          refine br_t h0 (qy_litN hi hn8 (br_f (by decide) (br_f hme ?_)))
          rw [qr_sn, qr_an, qy_ix2 m (v := i + 1) (by omega), qy_ix1 m (i + 1), hc1, hc2]
          refine ⟨hi1, br_t hcu ⟨hi2, nm_r (e' := upd cu (m * 17 + 8 - (i + 1)) 1) rfl (qy_open (by omega) ⟨?_, ?_⟩)⟩⟩
          · rw [qr_cnt hC'.2.1]
          · exact qr_in ⟨⟨b1, b2, b3, b4, b5, b6, b7, b8⟩, hV, hC', hL, hM, Or.inl ⟨h0, hck⟩⟩
        · rw [hx] at hcu
          refine br_f (by decide) ?_
          refine br_t h0 (qy_litN hi hn8 (br_f (by decide) (br_f hme ?_)))
          rw [qr_sn, qy_ix1 m (i + 1), hc1]
          exact ⟨hi1, br_f (by rw [hcu]; decide) ⟨rfl, keep⟩⟩
      · refine br_t h0 (qx_litN hi hn8 (br_f (by decide) (br_f (nI_nlt (by omega) (by omega)) ?_)))
        exact br_t h0 (qy_litN hi hn8 (br_f (by decide) (br_t (congrArg nI (by omega)) ⟨rfl, keep⟩)))
  · have hne : ¬ so = 0 := by rw [h1]; decide
    refine br_f hne ?_
    exact br_f hne ⟨rfl, keep⟩
theorem i_vc_endClause {k : Nat} {u : SX} {v : SY} (I : i_Rel k u v) (hk : k + 4 ≤ 2051) : wpX_endClause (fun r u' => wpY_endClause (fun r' v' => r' = r ∧ i_Rel (k + 4) u' v') v) u := by
  refine qr_el (P := fun u v => wpX_endClause (fun r u' => wpY_endClause (fun r' v' => r' = r ∧ i_Rel (k + 4) u' v') v) u) ?_ I
  intro vl cl ll n m L K nl so xe xa xop xon xre xsc xac xau xd xb xs xo xz xdc xou xrv xrn xv xco ck cp cn cd ov od dv dn mks lk kp kn dp dg kd va mr cu yco lnk li st tb hR
  obtain ⟨⟨b1, b2, b3, b4, b5, b6, b7, b8⟩, hV, hC, hL, hM, hS⟩ := hR
  have keep : i_Rel (k + 4) (nI vl, nI cl, nI ll, nI n, xe, xa, nI m, xop, xon, so, xre, nI nl, xsc, xac, xau, xd, xb, xs, xo, xz, xdc, xou, xrv, xrn, nI K, xv, nI L, xco, ck, cp, cn, cd, ov, od, dv, dn, mks, lk, kp, kn, dp, dg) (nI vl, nI cl, nI ll, so, nI n, nI m, nI L, nI K, kd, va, mr, cu, yco, lnk, li, st, tb) := qr_in ⟨⟨b1, b2, b3, b4, b5, b6, b7, b8⟩, hV, hC, hL, hM, hS⟩
  rcases hS with ⟨h0, hck⟩ | ⟨h1, h2⟩
  · by_cases hm : m < cl
    · have hme : ¬ nI m = nI cl := fun e => by rw [nI_eq (by omega) (by omega)] at e; omega
      have hin : vp_in (nI m) 88 := vp_in_nI (by omega) (by omega)
      have hc : (nI m).toNatClampNeg = m := nI_clamp (by omega)
      refine br_t h0 (br_t (nI_lt hm (by omega)) ?_)
      rw [hc]
      refine ⟨hin, nm_e ⟨hin, nm_e ⟨hin, nm_e ⟨hin, nm_e (nm_r (nI_1 m) ?_)⟩⟩⟩⟩
      refine br_t h0 (br_f hme (nm_r (nI_1 m) ⟨nI_pred m, qr_in ⟨⟨b1, b2, b3, b4, hm, b6, b7, b8⟩, hV, ⟨fun c hc => ?_, hC.2.2 (m + 1) (by omega) (by omega), fun c h1 h2 => hC.2.2 c (by omega) h2⟩, hL, hM, Or.inl ⟨h0, fun i h1 h2 => ?_⟩⟩⟩))
      · by_cases e : c = m
        · rw [e, pk_us, pk_us, pk_us, pk_us]; exact ⟨rfl, hC.2.1, rfl⟩
        · rw [pk_un e, pk_un e, pk_un e, pk_un e]; exact hC.1 c (by omega)
      · rw [pk_un (by omega)]; exact hck i (by omega) h2
    · refine br_t h0 (br_f (nI_nlt (by omega) (by omega)) ?_)
      exact br_t h0 (br_t (congrArg nI (by omega)) ⟨rfl, keep⟩)
  · have hne : ¬ so = 0 := by rw [h1]; decide
    refine br_f hne ?_
    exact br_f hne ⟨rfl, keep⟩
theorem i_vc_kindOf {k : Nat} {u : SX} {v : SY} (I : i_Rel k u v) (hk : k + 4 ≤ 2051) (v1 : Int32) : wpX_kindOf (fun r => wpY_kindOf (fun r' => r' = r ∧ i_Rel (k + 4) u v) v v1) u v1 := by
  refine qr_el (P := fun u v => wpX_kindOf (fun r => wpY_kindOf (fun r' => r' = r ∧ i_Rel (k + 4) u v) v v1) u v1) ?_ I
  intro vl cl ll n m L K nl so xe xa xop xon xre xsc xac xau xd xb xs xo xz xdc xou xrv xrn xv xco ck cp cn cd ov od dv dn mks lk kp kn dp dg kd va mr cu yco lnk li st tb hR
  obtain ⟨⟨b1, b2, b3, b4, b5, b6, b7, b8⟩, hV, hC, hL, hM, hS⟩ := hR
  have keep : i_Rel (k + 4) (nI vl, nI cl, nI ll, nI n, xe, xa, nI m, xop, xon, so, xre, nI nl, xsc, xac, xau, xd, xb, xs, xo, xz, xdc, xou, xrv, xrn, nI K, xv, nI L, xco, ck, cp, cn, cd, ov, od, dv, dn, mks, lk, kp, kn, dp, dg) (nI vl, nI cl, nI ll, so, nI n, nI m, nI L, nI K, kd, va, mr, cu, yco, lnk, li, st, tb) := qr_in ⟨⟨b1, b2, b3, b4, b5, b6, b7, b8⟩, hV, hC, hL, hM, hS⟩
  unfold wpX_kindOf
  dsimp only
  have hn8 : n ≤ 8 := by omega
  rcases qr_var n hn8 v1 with h0 | h0 | ⟨i, hi, rfl⟩
  · refine qx_var0 (Or.inl h0) (br_t rfl ?_)
    exact br_t h0 ⟨rfl, keep⟩
  · refine qx_var0 (Or.inr h0) (br_t rfl ?_)
    exact br_f h0.1 (br_f (fun z => absurd h0.2 (Int32.not_lt.mpr z)) ⟨rfl, keep⟩)
  · have hin : vp_in (nI (i + 1)) 9 := vp_in_nI (by omega) (by omega)
    have hc : (nI (i + 1)).toNatClampNeg = i + 1 := nI_clamp (by omega)
    refine qx_var1 hi hn8 (br_f (by decide) ?_)
    rw [nI_pred i]
    rcases hV.2 i hi with ⟨h1, h2⟩ | ⟨h1, h2⟩
    · refine br_f ((qb_bit1 xe (by omega)).mpr h1) ?_
      refine br_f (qr_n1 (by omega)) (br_t (nI_le (by omega) (by omega)) ⟨hin, ?_⟩)
      rw [hc, h2]; exact ⟨rfl, keep⟩
    · refine br_t ((qb_bit0 xe (by omega)).mpr h1) ?_
      refine br_f (qr_n1 (by omega)) (br_t (nI_le (by omega) (by omega)) ⟨hin, ?_⟩)
      rw [hc, h2]; exact ⟨rfl, keep⟩
theorem i_vc_clauseCount {k : Nat} {u : SX} {v : SY} (I : i_Rel k u v) (hk : k + 4 ≤ 2051) : wpX_clauseCount (fun r => wpY_clauseCount (fun r' => r' = r ∧ i_Rel (k + 4) u v) v) u := by
  refine qr_el (P := fun u v => wpX_clauseCount (fun r => wpY_clauseCount (fun r' => r' = r ∧ i_Rel (k + 4) u v) v) u) ?_ I
  intro vl cl ll n m L K nl so xe xa xop xon xre xsc xac xau xd xb xs xo xz xdc xou xrv xrn xv xco ck cp cn cd ov od dv dn mks lk kp kn dp dg kd va mr cu yco lnk li st tb hR
  obtain ⟨⟨b1, b2, b3, b4, b5, b6, b7, b8⟩, hV, hC, hL, hM, hS⟩ := hR
  have keep : i_Rel (k + 4) (nI vl, nI cl, nI ll, nI n, xe, xa, nI m, xop, xon, so, xre, nI nl, xsc, xac, xau, xd, xb, xs, xo, xz, xdc, xou, xrv, xrn, nI K, xv, nI L, xco, ck, cp, cn, cd, ov, od, dv, dn, mks, lk, kp, kn, dp, dg) (nI vl, nI cl, nI ll, so, nI n, nI m, nI L, nI K, kd, va, mr, cu, yco, lnk, li, st, tb) := qr_in ⟨⟨b1, b2, b3, b4, b5, b6, b7, b8⟩, hV, hC, hL, hM, hS⟩
  exact ⟨rfl, keep⟩
end
section
/-! calls without evaluation: clauseHas, play, undo, valueOf, markOf, inCore, lineKind, lineHas -/
theorem qr_ix (x : Int32) {n : Nat} (hn : n < 2 ^ 30) : x < 0 ∨ (¬ x < 0 ∧ nI n ≤ x ∧ ¬ x < nI n) ∨ ∃ j, j < n ∧ x = nI j := by
  rcases pk_ix x (n := n) (by omega) with h | h | h
  · exact Or.inl h
  · refine Or.inr (Or.inl ⟨?_, h, Int32.not_lt.mpr h⟩)
    rw [Int32.le_iff_toInt_le, nI_toInt (by omega)] at h
    rw [Int32.lt_iff_toInt_lt, qr_i0]; omega
  · exact Or.inr (Or.inr h)
theorem qr_gt {x : Int32} {m : Nat} (hm : m < 2 ^ 30) (h : nI (m + 1) ≤ x) : ¬ x ≤ nI m := by
  rw [Int32.le_iff_toInt_le, nI_toInt (by omega)] at h ⊢
  omega
section
variable {xvl xcl xll xn xe xa xm xop xon xso xre xnl xsc xac xau xd xb xs xo xz xdc xou xrv xrn xk xv xl xco : Int32} {ck cp cn cd ov od dv dn mks lk kp kn dp dg : Nat → Int32} {L K : Nat}
theorem qx_isL0 {post : Int32 → Prop} {x : Int32} (hx : x < 0 ∨ (¬ x < 0 ∧ nI L ≤ x ∧ ¬ x < nI L)) (h : post 0) : wpX_isLine post (xvl, xcl, xll, xn, xe, xa, xm, xop, xon, xso, xre, xnl, xsc, xac, xau, xd, xb, xs, xo, xz, xdc, xou, xrv, xrn, xk, xv, nI L, xco, ck, cp, cn, cd, ov, od, dv, dn, mks, lk, kp, kn, dp, dg) x := by
  unfold wpX_isLine
  dsimp only
  rcases hx with h0 | ⟨h0, h1, _⟩
  · exact br_t h0 h
  · exact br_f h0 (br_t h1 h)
theorem qx_isL1 {post : Int32 → Prop} {l : Nat} (hl : l < L) (hL : L ≤ 32) (h : post 1) : wpX_isLine post (xvl, xcl, xll, xn, xe, xa, xm, xop, xon, xso, xre, xnl, xsc, xac, xau, xd, xb, xs, xo, xz, xdc, xou, xrv, xrn, xk, xv, nI L, xco, ck, cp, cn, cd, ov, od, dv, dn, mks, lk, kp, kn, dp, dg) (nI l) := by
  unfold wpX_isLine
  dsimp only
  exact br_f (nI_pos (by omega)) (br_f (nI_ge hl (by omega)) h)
theorem qx_move {post : SX → Prop} {bit : Bool} {mark : Int32} (hK : K < 8) (hp : ∀ xv' : Int32, (∀ j, j ≠ K → bt xv' j = bt xv j) → bt xv' K = bit → post (xvl, xcl, xll, xn, xe, xa, xm, xop, xon, xso, xre, xnl, xsc, xac, xau, xd, xb, xs, xo, xz, xdc, xou, xrv, xrn, nI (K + 1), xv', xl, xco, ck, cp, cn, cd, ov, od, dv, dn, upd mks K mark, lk, kp, kn, dp, dg)) : wpX_move post (xvl, xcl, xll, xn, xe, xa, xm, xop, xon, xso, xre, xnl, xsc, xac, xau, xd, xb, xs, xo, xz, xdc, xou, xrv, xrn, nI K, xv, xl, xco, ck, cp, cn, cd, ov, od, dv, dn, mks, lk, kp, kn, dp, dg) (qr_b bit) mark := by
  have hin : vp_in (nI K) 8 := vp_in_nI hK (by omega)
  have hc : (nI K).toNatClampNeg = K := nI_clamp (by omega)
  unfold wpX_move
  dsimp only
  refine nm_e ?_
  cases bit
  · refine br_f (by decide) (nm_e ?_)
    unfold wX_move_37
    refine ⟨hin, nm_r (e' := upd mks K mark) (by rw [hc]) (nm_r (nI_1 K) (hp _ (fun j hj => ?_) ?_))⟩
    · rw [qb_andn, qb_one K (by omega), decide_eq_false hj, Bool.not_false, Bool.and_true]
    · rw [qb_andn, qb_one K (by omega), decide_eq_true rfl, Bool.not_true, Bool.and_false]
  · refine br_t rfl (nm_e ?_)
    unfold wX_move_37
    refine ⟨hin, nm_r (e' := upd mks K mark) (by rw [hc]) (nm_r (nI_1 K) (hp _ (fun j hj => ?_) ?_))⟩
    · rw [b_or, qb_one K (by omega), decide_eq_false hj, Bool.or_false]
    · rw [b_or, qb_one K (by omega), decide_eq_true rfl, Bool.or_true]
end
section
variable {ymv ymc yml yso yn ym yl yk : Int32} {kd va mr cu yco lnk li st tb : Nat → Int32} {K : Nat}
theorem qy_move {post : SY → Prop} {bit mark : Int32} (hK : K < 8) (hp : post (ymv, ymc, yml, yso, yn, ym, yl, nI (K + 1), kd, upd va (K + 1) bit, upd mr (K + 1) mark, cu, yco, lnk, li, st, tb)) : wpY_move post (ymv, ymc, yml, yso, yn, ym, yl, nI K, kd, va, mr, cu, yco, lnk, li, st, tb) bit mark := by
  have hin : vp_in (nI (K + 1)) 9 := vp_in_nI (by omega) (by omega)
  have hc : (nI (K + 1)).toNatClampNeg = K + 1 := nI_clamp (by omega)
  unfold wpY_move
  dsimp only
  exact nm_r (nI_1 K) ⟨hin, nm_r (e' := upd va (K + 1) bit) (by rw [hc]) ⟨hin, nm_r (e' := upd mr (K + 1) mark) (by rw [hc]) hp⟩⟩
end
theorem qr_Mmv {K : Nat} {xv xv' mark : Int32} {mks va mr : Nat → Int32} {bit : Bool} (h : qr_M K xv mks va mr) (h1 : ∀ j, j ≠ K → bt xv' j = bt xv j) (h2 : bt xv' K = bit) : qr_M (K + 1) xv' (upd mks K mark) (upd va (K + 1) (qr_b bit)) (upd mr (K + 1) mark) := by
  refine ⟨fun i hi => ?_, fun i hi => ?_⟩
  · by_cases e : i = K
    · omega
    · rw [h1 i e] at hi
      have := h.1 i hi; omega
  · by_cases e : i = K
    · rw [e, pk_us, pk_us, pk_us, h2]; exact ⟨rfl, rfl⟩
    · rw [pk_un (by omega), pk_un (by omega), pk_un (by omega), h1 i e]; exact h.2 i (by omega)
theorem i_vc_clauseHas {k : Nat} {u : SX} {v : SY} (I : i_Rel k u v) (hk : k + 4 ≤ 2051) (v1 : Int32) (v2 : Int32) : wpX_clauseHas (fun r => wpY_clauseHas (fun r' => r' = r ∧ i_Rel (k + 4) u v) v v1 v2) u v1 v2 := by
  refine qr_el (P := fun u v => wpX_clauseHas (fun r => wpY_clauseHas (fun r' => r' = r ∧ i_Rel (k + 4) u v) v v1 v2) u v1 v2) ?_ I
  intro vl cl ll n m L K nl so xe xa xop xon xre xsc xac xau xd xb xs xo xz xdc xou xrv xrn xv xco ck cp cn cd ov od dv dn mks lk kp kn dp dg kd va mr cu yco lnk li st tb hR
  obtain ⟨⟨b1, b2, b3, b4, b5, b6, b7, b8⟩, hV, hC, hL, hM, hS⟩ := hR
  have keep : i_Rel (k + 4) (nI vl, nI cl, nI ll, nI n, xe, xa, nI m, xop, xon, so, xre, nI nl, xsc, xac, xau, xd, xb, xs, xo, xz, xdc, xou, xrv, xrn, nI K, xv, nI L, xco, ck, cp, cn, cd, ov, od, dv, dn, mks, lk, kp, kn, dp, dg) (nI vl, nI cl, nI ll, so, nI n, nI m, nI L, nI K, kd, va, mr, cu, yco, lnk, li, st, tb) := qr_in ⟨⟨b1, b2, b3, b4, b5, b6, b7, b8⟩, hV, hC, hL, hM, hS⟩
  have hn8 : n ≤ 8 := by omega
  rcases qr_ix v1 (n := m + 1) (by omega) with h0 | ⟨h0, h1, _⟩ | ⟨c, hc, rfl⟩
  · refine br_t h0 ?_
    exact br_t h0 ⟨rfl, keep⟩
  · refine br_f h0 (br_f (qr_gt (by omega) h1) ?_)
    exact br_f h0 (br_f (qr_gt (by omega) h1) ⟨rfl, keep⟩)
  · have hcm : nI c ≤ nI m := nI_le (by omega) (by omega)
    have h0 : ¬ nI c < 0 := nI_pos (by omega)
    have hin : vp_in (nI c) 88 := vp_in_nI (by omega) (by omega)
    have hcl : (nI c).toNatClampNeg = c := nI_clamp (by omega)
    rcases qr_lit n hn8 v2 with hl | ⟨i, hi, rfl⟩ | ⟨i, hi, rfl⟩
    · refine br_f h0 (br_t hcm (qx_lit0 hl (br_t rfl ?_)))
      exact br_f h0 (br_t hcm (qy_lit0 hl (br_t rfl ⟨rfl, keep⟩)))
    · have hi1 : vp_in (nI (c * 17 + 8 + (i + 1))) 425 := vp_in_nI (by omega) (by omega)
      have hc1 : (nI (c * 17 + 8 + (i + 1))).toNatClampNeg = c * 17 + 8 + (i + 1) := nI_clamp (by omega)
      have fin : ∀ b : Bool, cu (c * 17 + 8 + (i + 1)) = qr_b b → (qr_b b = 0 → wpY_clauseHas (fun r' => r' = 0 ∧ i_Rel (k + 4) (nI vl, nI cl, nI ll, nI n, xe, xa, nI m, xop, xon, so, xre, nI nl, xsc, xac, xau, xd, xb, xs, xo, xz, xdc, xou, xrv, xrn, nI K, xv, nI L, xco, ck, cp, cn, cd, ov, od, dv, dn, mks, lk, kp, kn, dp, dg) (nI vl, nI cl, nI ll, so, nI n, nI m, nI L, nI K, kd, va, mr, cu, yco, lnk, li, st, tb)) (nI vl, nI cl, nI ll, so, nI n, nI m, nI L, nI K, kd, va, mr, cu, yco, lnk, li, st, tb) (nI c) (nI (i + 1))) ∧ (¬ qr_b b = 0 → wpY_clauseHas (fun r' => r' = 1 ∧ i_Rel (k + 4) (nI vl, nI cl, nI ll, nI n, xe, xa, nI m, xop, xon, so, xre, nI nl, xsc, xac, xau, xd, xb, xs, xo, xz, xdc, xou, xrv, xrn, nI K, xv, nI L, xco, ck, cp, cn, cd, ov, od, dv, dn, mks, lk, kp, kn, dp, dg) (nI vl, nI cl, nI ll, so, nI n, nI m, nI L, nI K, kd, va, mr, cu, yco, lnk, li, st, tb)) (nI vl, nI cl, nI ll, so, nI n, nI m, nI L, nI K, kd, va, mr, cu, yco, lnk, li, st, tb) (nI c) (nI (i + 1))) := by
        intro b hb
        refine ⟨fun e => br_f h0 (br_t hcm (qy_litP hi hn8 (br_f (by decide) ?_))), fun e => br_f h0 (br_t hcm (qy_litP hi hn8 (br_f (by decide) ?_)))⟩
        · rw [qy_ix1, hc1]; exact ⟨hi1, br_t (hb.trans e) ⟨rfl, keep⟩⟩
        · rw [qy_ix1, hc1]; exact ⟨hi1, br_f (fun z => e (hb.symm.trans z)) ⟨rfl, keep⟩⟩
      refine br_f h0 (br_t hcm (qx_litP hi hn8 (br_f (by decide) ?_)))
      by_cases e : c = m
      · subst e
        refine br_t (nI_le (Nat.le_refl _) (by omega)) ?_
        unfold wX_clauseHas_60
        exact qx_hasP (by omega) (fin _ (hC.2.1.2.2.2.1 i (by omega)).1)
      · refine br_f (nI_ge (by omega) (by omega)) ?_
        rw [hcl]
        refine ⟨hin, nm_e ⟨hin, nm_e ?_⟩⟩
        unfold wX_clauseHas_60
        exact qx_hasP (by omega) (fin _ ((hC.1 c (by omega)).2.1.2.2.2.1 i (by omega)).1)
    · have hi1 : vp_in (nI (c * 17 + 8 - (i + 1))) 425 := vp_in_nI (by omega) (by omega)
      have hc1 : (nI (c * 17 + 8 - (i + 1))).toNatClampNeg = c * 17 + 8 - (i + 1) := nI_clamp (by omega)
      have fin : ∀ b : Bool, cu (c * 17 + 8 - (i + 1)) = qr_b b → (qr_b b = 0 → wpY_clauseHas (fun r' => r' = 0 ∧ i_Rel (k + 4) (nI vl, nI cl, nI ll, nI n, xe, xa, nI m, xop, xon, so, xre, nI nl, xsc, xac, xau, xd, xb, xs, xo, xz, xdc, xou, xrv, xrn, nI K, xv, nI L, xco, ck, cp, cn, cd, ov, od, dv, dn, mks, lk, kp, kn, dp, dg) (nI vl, nI cl, nI ll, so, nI n, nI m, nI L, nI K, kd, va, mr, cu, yco, lnk, li, st, tb)) (nI vl, nI cl, nI ll, so, nI n, nI m, nI L, nI K, kd, va, mr, cu, yco, lnk, li, st, tb) (nI c) (-nI (i + 1))) ∧ (¬ qr_b b = 0 → wpY_clauseHas (fun r' => r' = 1 ∧ i_Rel (k + 4) (nI vl, nI cl, nI ll, nI n, xe, xa, nI m, xop, xon, so, xre, nI nl, xsc, xac, xau, xd, xb, xs, xo, xz, xdc, xou, xrv, xrn, nI K, xv, nI L, xco, ck, cp, cn, cd, ov, od, dv, dn, mks, lk, kp, kn, dp, dg) (nI vl, nI cl, nI ll, so, nI n, nI m, nI L, nI K, kd, va, mr, cu, yco, lnk, li, st, tb)) (nI vl, nI cl, nI ll, so, nI n, nI m, nI L, nI K, kd, va, mr, cu, yco, lnk, li, st, tb) (nI c) (-nI (i + 1))) := by
        intro b hb
        refine ⟨fun e => br_f h0 (br_t hcm (qy_litN hi hn8 (br_f (by decide) ?_))), fun e => br_f h0 (br_t hcm (qy_litN hi hn8 (br_f (by decide) ?_)))⟩
        · rw [qr_an, qy_ix2 c (v := i + 1) (by omega), hc1]; exact ⟨hi1, br_t (hb.trans e) ⟨rfl, keep⟩⟩
        · rw [qr_an, qy_ix2 c (v := i + 1) (by omega), hc1]; exact ⟨hi1, br_f (fun z => e (hb.symm.trans z)) ⟨rfl, keep⟩⟩
      refine br_f h0 (br_t hcm (qx_litN hi hn8 (br_f (by decide) ?_)))
      by_cases e : c = m
      · subst e
        refine br_t (nI_le (Nat.le_refl _) (by omega)) ?_
        unfold wX_clauseHas_60
        exact qx_hasN (by omega) (fin _ (hC.2.1.2.2.2.1 i (by omega)).2)
      · refine br_f (nI_ge (by omega) (by omega)) ?_
        rw [hcl]
        refine ⟨hin, nm_e ⟨hin, nm_e ?_⟩⟩
        unfold wX_clauseHas_60
        exact qx_hasN (by omega) (fin _ ((hC.1 c (by omega)).2.1.2.2.2.1 i (by omega)).2)
theorem i_vc_play {k : Nat} {u : SX} {v : SY} (I : i_Rel k u v) (hk : k + 4 ≤ 2051) (v1 : Int32) : wpX_play (fun r u' => wpY_play (fun r' v' => r' = r ∧ i_Rel (k + 4) u' v') v v1) u v1 := by
  refine qr_el (P := fun u v => wpX_play (fun r u' => wpY_play (fun r' v' => r' = r ∧ i_Rel (k + 4) u' v') v v1) u v1) ?_ I
  intro vl cl ll n m L K nl so xe xa xop xon xre xsc xac xau xd xb xs xo xz xdc xou xrv xrn xv xco ck cp cn cd ov od dv dn mks lk kp kn dp dg kd va mr cu yco lnk li st tb hR
  obtain ⟨⟨b1, b2, b3, b4, b5, b6, b7, b8⟩, hV, hC, hL, hM, hS⟩ := hR
  have keep : i_Rel (k + 4) (nI vl, nI cl, nI ll, nI n, xe, xa, nI m, xop, xon, so, xre, nI nl, xsc, xac, xau, xd, xb, xs, xo, xz, xdc, xou, xrv, xrn, nI K, xv, nI L, xco, ck, cp, cn, cd, ov, od, dv, dn, mks, lk, kp, kn, dp, dg) (nI vl, nI cl, nI ll, so, nI n, nI m, nI L, nI K, kd, va, mr, cu, yco, lnk, li, st, tb) := qr_in ⟨⟨b1, b2, b3, b4, b5, b6, b7, b8⟩, hV, hC, hL, hM, hS⟩
  rcases qr_01 hS with h0 | ⟨h1, hne⟩
  · refine br_t h0 ?_
    exact br_t h0 ⟨rfl, keep⟩
  · by_cases hK : K < n
    · have hKn : ¬ nI K = nI n := fun e => by rw [nI_eq (by omega) (by omega)] at e; omega
      have rel : ∀ (bit : Bool) (xv' : Int32), (∀ j, j ≠ K → bt xv' j = bt xv j) → bt xv' K = bit → i_Rel (k + 4) (nI vl, nI cl, nI ll, nI n, xe, xa, nI m, xop, xon, so, xre, nI nl, xsc, xac, xau, xd, xb, xs, xo, xz, xdc, xou, xrv, xrn, nI (K + 1), xv', nI L, xco, ck, cp, cn, cd, ov, od, dv, dn, upd mks K 1, lk, kp, kn, dp, dg) (nI vl, nI cl, nI ll, so, nI n, nI m, nI L, nI (K + 1), kd, upd va (K + 1) (qr_b bit), upd mr (K + 1) 1, cu, yco, lnk, li, st, tb) := fun bit xv' z1 z2 =>
        qr_in ⟨⟨b1, b2, b3, b4, b5, b6, hK, b8⟩, hV, hC, hL, qr_Mmv hM z1 z2, hS⟩
      by_cases e0 : v1 = 0
      · subst e0
        refine br_f hne (br_t (nI_lt hK (by omega)) (br_t rfl ?_))
        unfold wX_play_35
        refine qx_move (bit := false) (by omega) (fun xv' z1 z2 => ?_)
        refine br_f hne (br_f hKn (br_t rfl ?_))
        unfold wY_play_35
        exact qy_move (by omega) ⟨rfl, rel false xv' z1 z2⟩
      · by_cases e1 : v1 = 1
        · subst e1
          refine br_f hne (br_t (nI_lt hK (by omega)) (br_f e0 (br_t rfl ?_)))
          unfold wX_play_35
          refine qx_move (bit := true) (by omega) (fun xv' z1 z2 => ?_)
          refine br_f hne (br_f hKn (br_f e0 (br_t rfl ?_)))
          unfold wY_play_35
          exact qy_move (by omega) ⟨rfl, rel true xv' z1 z2⟩
        · refine br_f hne (br_t (nI_lt hK (by omega)) (br_f e0 (br_f e1 ?_)))
          exact br_f hne (br_f hKn (br_f e0 (br_f e1 ⟨rfl, keep⟩)))
    · refine br_f hne (br_f (nI_nlt (by omega) (by omega)) ?_)
      exact br_f hne (br_t (congrArg nI (by omega)) ⟨rfl, keep⟩)
theorem i_vc_undo {k : Nat} {u : SX} {v : SY} (I : i_Rel k u v) (hk : k + 4 ≤ 2051) : wpX_undo (fun r u' => wpY_undo (fun r' v' => r' = r ∧ i_Rel (k + 4) u' v') v) u := by
  refine qr_el (P := fun u v => wpX_undo (fun r u' => wpY_undo (fun r' v' => r' = r ∧ i_Rel (k + 4) u' v') v) u) ?_ I
  intro vl cl ll n m L K nl so xe xa xop xon xre xsc xac xau xd xb xs xo xz xdc xou xrv xrn xv xco ck cp cn cd ov od dv dn mks lk kp kn dp dg kd va mr cu yco lnk li st tb hR
  obtain ⟨⟨b1, b2, b3, b4, b5, b6, b7, b8⟩, hV, hC, hL, hM, hS⟩ := hR
  have keep : i_Rel (k + 4) (nI vl, nI cl, nI ll, nI n, xe, xa, nI m, xop, xon, so, xre, nI nl, xsc, xac, xau, xd, xb, xs, xo, xz, xdc, xou, xrv, xrn, nI K, xv, nI L, xco, ck, cp, cn, cd, ov, od, dv, dn, mks, lk, kp, kn, dp, dg) (nI vl, nI cl, nI ll, so, nI n, nI m, nI L, nI K, kd, va, mr, cu, yco, lnk, li, st, tb) := qr_in ⟨⟨b1, b2, b3, b4, b5, b6, b7, b8⟩, hV, hC, hL, hM, hS⟩
  rcases qr_01 hS with h0 | ⟨h1, hne⟩
  · refine br_t h0 ?_
    exact br_t h0 ⟨rfl, keep⟩
  · by_cases hK : K = 0
    · subst hK
      refine br_f hne (br_f (by decide) ?_)
      exact br_f hne (br_t rfl ⟨rfl, keep⟩)
    · obtain ⟨q, rfl⟩ : ∃ q, K = q + 1 := ⟨K - 1, by omega⟩
      have hin : vp_in (nI q) 8 := vp_in_nI (by omega) (by omega)
      have hc : (nI q).toNatClampNeg = q := nI_clamp (by omega)
      have hin9 : vp_in (nI (q + 1)) 9 := vp_in_nI (by omega) (by omega)
      have hc9 : (nI (q + 1)).toNatClampNeg = q + 1 := nI_clamp (by omega)
      refine br_f hne (br_t (nI_lt (a := 0) (by omega) (by omega)) (nm_r (nI_pred q) (nm_e ⟨hin, nm_r (e' := upd mks q 0) (by rw [hc]) ?_⟩)))
      refine br_f hne (br_f (nI_ne0 (by omega) (by omega)) ⟨hin9, nm_r (e' := upd va (q + 1) 0) (by rw [hc9]) ⟨hin9, nm_r (e' := upd mr (q + 1) 0) (by rw [hc9]) (nm_r (nI_pred q) ⟨nI_1 q, ?_⟩)⟩⟩)
      have e0 : ∀ j, bt (xv &&& (((1 : Int32) <<< (nI q &&& 31)) ^^^ (-1))) j = (bt xv j && !decide (j = q)) := fun j => by rw [qb_andn, qb_one q (by omega)]
      refine qr_in ⟨⟨b1, b2, b3, b4, b5, b6, by omega, b8⟩, hV, hC, hL, ⟨fun i hi => ?_, fun i hi => ?_⟩, hS⟩
      · rw [e0, Bool.and_eq_true, Bool.not_eq_true', decide_eq_false_iff_not] at hi
        have := hM.1 i hi.1; omega
      · rw [pk_un (by omega), pk_un (by omega), pk_un (by omega), e0, decide_eq_false (by omega), Bool.not_false, Bool.and_true]
        exact hM.2 i (by omega)
theorem i_vc_valueOf {k : Nat} {u : SX} {v : SY} (I : i_Rel k u v) (hk : k + 4 ≤ 2051) (v1 : Int32) : wpX_valueOf (fun r => wpY_valueOf (fun r' => r' = r ∧ i_Rel (k + 4) u v) v v1) u v1 := by
  refine qr_el (P := fun u v => wpX_valueOf (fun r => wpY_valueOf (fun r' => r' = r ∧ i_Rel (k + 4) u v) v v1) u v1) ?_ I
  intro vl cl ll n m L K nl so xe xa xop xon xre xsc xac xau xd xb xs xo xz xdc xou xrv xrn xv xco ck cp cn cd ov od dv dn mks lk kp kn dp dg kd va mr cu yco lnk li st tb hR
  obtain ⟨⟨b1, b2, b3, b4, b5, b6, b7, b8⟩, hV, hC, hL, hM, hS⟩ := hR
  have keep : i_Rel (k + 4) (nI vl, nI cl, nI ll, nI n, xe, xa, nI m, xop, xon, so, xre, nI nl, xsc, xac, xau, xd, xb, xs, xo, xz, xdc, xou, xrv, xrn, nI K, xv, nI L, xco, ck, cp, cn, cd, ov, od, dv, dn, mks, lk, kp, kn, dp, dg) (nI vl, nI cl, nI ll, so, nI n, nI m, nI L, nI K, kd, va, mr, cu, yco, lnk, li, st, tb) := qr_in ⟨⟨b1, b2, b3, b4, b5, b6, b7, b8⟩, hV, hC, hL, hM, hS⟩
  have hn8 : n ≤ 8 := by omega
  rcases qr_01 hS with h0 | ⟨h1, hne⟩
  · refine br_t h0 ?_
    exact br_t h0 ⟨rfl, keep⟩
  · rcases qr_var n hn8 v1 with h0 | h0 | ⟨i, hi, rfl⟩
    · refine br_f hne (qx_var0 (Or.inl h0) (br_t rfl ?_))
      exact br_f hne (br_t h0 ⟨rfl, keep⟩)
    · refine br_f hne (qx_var0 (Or.inr h0) (br_t rfl ?_))
      exact br_f hne (br_f h0.1 (br_f (fun z => absurd h0.2 (Int32.not_lt.mpr z)) ⟨rfl, keep⟩))
    · have hin : vp_in (nI (i + 1)) 9 := vp_in_nI (by omega) (by omega)
      have hc : (nI (i + 1)).toNatClampNeg = i + 1 := nI_clamp (by omega)
      by_cases hiK : i < K
      · refine br_f hne (qx_var1 hi hn8 (br_f (by decide) (br_t (nI_le (by omega) (by omega)) ?_)))
        rw [nI_pred i, qy_bx xv (by omega)]
        refine br_f hne (br_f (qr_n1 (by omega)) (br_t (nI_le (by omega) (by omega)) (br_t (nI_le (by omega) (by omega)) ⟨hin, ?_, keep⟩)))
        rw [hc, (hM.2 i hiK).1]
        rfl
      · refine br_f hne (qx_var1 hi hn8 (br_f (by decide) (br_f (nI_ge (by omega) (by omega)) ?_)))
        exact br_f hne (br_f (qr_n1 (by omega)) (br_t (nI_le (by omega) (by omega)) (br_f (nI_ge (by omega) (by omega)) ⟨rfl, keep⟩)))
theorem i_vc_markOf {k : Nat} {u : SX} {v : SY} (I : i_Rel k u v) (hk : k + 4 ≤ 2051) (v1 : Int32) : wpX_markOf (fun r => wpY_markOf (fun r' => r' = r ∧ i_Rel (k + 4) u v) v v1) u v1 := by
  refine qr_el (P := fun u v => wpX_markOf (fun r => wpY_markOf (fun r' => r' = r ∧ i_Rel (k + 4) u v) v v1) u v1) ?_ I
  intro vl cl ll n m L K nl so xe xa xop xon xre xsc xac xau xd xb xs xo xz xdc xou xrv xrn xv xco ck cp cn cd ov od dv dn mks lk kp kn dp dg kd va mr cu yco lnk li st tb hR
  obtain ⟨⟨b1, b2, b3, b4, b5, b6, b7, b8⟩, hV, hC, hL, hM, hS⟩ := hR
  have keep : i_Rel (k + 4) (nI vl, nI cl, nI ll, nI n, xe, xa, nI m, xop, xon, so, xre, nI nl, xsc, xac, xau, xd, xb, xs, xo, xz, xdc, xou, xrv, xrn, nI K, xv, nI L, xco, ck, cp, cn, cd, ov, od, dv, dn, mks, lk, kp, kn, dp, dg) (nI vl, nI cl, nI ll, so, nI n, nI m, nI L, nI K, kd, va, mr, cu, yco, lnk, li, st, tb) := qr_in ⟨⟨b1, b2, b3, b4, b5, b6, b7, b8⟩, hV, hC, hL, hM, hS⟩
  have hn8 : n ≤ 8 := by omega
  rcases qr_01 hS with h0 | ⟨h1, hne⟩
  · refine br_t h0 ?_
    exact br_t h0 ⟨rfl, keep⟩
  · rcases qr_var n hn8 v1 with h0 | h0 | ⟨i, hi, rfl⟩
    · refine br_f hne (qx_var0 (Or.inl h0) (br_t rfl ?_))
      exact br_f hne (br_t h0 ⟨rfl, keep⟩)
    · refine br_f hne (qx_var0 (Or.inr h0) (br_t rfl ?_))
      exact br_f hne (br_f h0.1 (br_f (fun z => absurd h0.2 (Int32.not_lt.mpr z)) ⟨rfl, keep⟩))
    · have hin : vp_in (nI (i + 1)) 9 := vp_in_nI (by omega) (by omega)
      have hc : (nI (i + 1)).toNatClampNeg = i + 1 := nI_clamp (by omega)
      have hin8 : vp_in (nI i) 8 := vp_in_nI (by omega) (by omega)
      have hc8 : (nI i).toNatClampNeg = i := nI_clamp (by omega)
      by_cases hiK : i < K
      · refine br_f hne (qx_var1 hi hn8 (br_f (by decide) (br_t (nI_le (by omega) (by omega)) ?_)))
        rw [nI_pred i, hc8]
        refine ⟨hin8, ?_⟩
        refine br_f hne (br_f (qr_n1 (by omega)) (br_t (nI_le (by omega) (by omega)) (br_t (nI_le (by omega) (by omega)) ⟨hin, ?_, keep⟩)))
        rw [hc]
        exact (hM.2 i hiK).2.symm
      · refine br_f hne (qx_var1 hi hn8 (br_f (by decide) (br_f (nI_ge (by omega) (by omega)) ?_)))
        exact br_f hne (br_f (qr_n1 (by omega)) (br_t (nI_le (by omega) (by omega)) (br_f (nI_ge (by omega) (by omega)) ⟨rfl, keep⟩)))
theorem i_vc_inCore {k : Nat} {u : SX} {v : SY} (I : i_Rel k u v) (hk : k + 4 ≤ 2051) (v1 : Int32) : wpX_inCore (fun r => wpY_inCore (fun r' => r' = r ∧ i_Rel (k + 4) u v) v v1) u v1 := by
  refine qr_el (P := fun u v => wpX_inCore (fun r => wpY_inCore (fun r' => r' = r ∧ i_Rel (k + 4) u v) v v1) u v1) ?_ I
  intro vl cl ll n m L K nl so xe xa xop xon xre xsc xac xau xd xb xs xo xz xdc xou xrv xrn xv xco ck cp cn cd ov od dv dn mks lk kp kn dp dg kd va mr cu yco lnk li st tb hR
  obtain ⟨⟨b1, b2, b3, b4, b5, b6, b7, b8⟩, hV, hC, hL, hM, hS⟩ := hR
  have keep : i_Rel (k + 4) (nI vl, nI cl, nI ll, nI n, xe, xa, nI m, xop, xon, so, xre, nI nl, xsc, xac, xau, xd, xb, xs, xo, xz, xdc, xou, xrv, xrn, nI K, xv, nI L, xco, ck, cp, cn, cd, ov, od, dv, dn, mks, lk, kp, kn, dp, dg) (nI vl, nI cl, nI ll, so, nI n, nI m, nI L, nI K, kd, va, mr, cu, yco, lnk, li, st, tb) := qr_in ⟨⟨b1, b2, b3, b4, b5, b6, b7, b8⟩, hV, hC, hL, hM, hS⟩
  rcases hS with ⟨h0, _⟩ | ⟨h1, hDB, hco, _, _⟩
  · refine br_t h0 ?_
    exact br_t h0 ⟨rfl, keep⟩
  · have hne : ¬ so = 0 := by rw [h1]; decide
    rcases qr_ix v1 (n := m) (by omega) with h0 | ⟨h0, _, h2⟩ | ⟨c, hc, rfl⟩
    · refine br_f hne (br_t h0 ?_)
      exact br_f hne (br_t h0 ⟨rfl, keep⟩)
    · refine br_f hne (br_f h0 (br_f h2 ?_))
      exact br_f hne (br_f h0 (br_f h2 ⟨rfl, keep⟩))
    · have hin : vp_in (nI c) 25 := vp_in_nI (by omega) (by omega)
      have hcl : (nI c).toNatClampNeg = c := nI_clamp (by omega)
      refine br_f hne (br_f (nI_pos (by omega)) (br_t (nI_lt hc (by omega)) ?_))
      rw [qy_bx xco (by omega)]
      refine br_f hne (br_f (nI_pos (by omega)) (br_t (nI_lt hc (by omega)) ⟨hin, ?_⟩))
      rw [hcl, hco c hc]
      cases bt xco c
      · exact br_t rfl ⟨rfl, keep⟩
      · exact br_f (by decide) ⟨rfl, keep⟩
theorem i_vc_lineKind {k : Nat} {u : SX} {v : SY} (I : i_Rel k u v) (hk : k + 4 ≤ 2051) (v1 : Int32) : wpX_lineKind (fun r => wpY_lineKind (fun r' => r' = r ∧ i_Rel (k + 4) u v) v v1) u v1 := by
  refine qr_el (P := fun u v => wpX_lineKind (fun r => wpY_lineKind (fun r' => r' = r ∧ i_Rel (k + 4) u v) v v1) u v1) ?_ I
  intro vl cl ll n m L K nl so xe xa xop xon xre xsc xac xau xd xb xs xo xz xdc xou xrv xrn xv xco ck cp cn cd ov od dv dn mks lk kp kn dp dg kd va mr cu yco lnk li st tb hR
  obtain ⟨⟨b1, b2, b3, b4, b5, b6, b7, b8⟩, hV, hC, hL, hM, hS⟩ := hR
  have keep : i_Rel (k + 4) (nI vl, nI cl, nI ll, nI n, xe, xa, nI m, xop, xon, so, xre, nI nl, xsc, xac, xau, xd, xb, xs, xo, xz, xdc, xou, xrv, xrn, nI K, xv, nI L, xco, ck, cp, cn, cd, ov, od, dv, dn, mks, lk, kp, kn, dp, dg) (nI vl, nI cl, nI ll, so, nI n, nI m, nI L, nI K, kd, va, mr, cu, yco, lnk, li, st, tb) := qr_in ⟨⟨b1, b2, b3, b4, b5, b6, b7, b8⟩, hV, hC, hL, hM, hS⟩
  unfold wpX_lineKind
  dsimp only
  rcases qr_ix v1 (n := L) (by omega) with h0 | h0 | ⟨l, hl, rfl⟩
  · refine qx_isL0 (Or.inl h0) (br_t rfl ?_)
    exact br_t h0 ⟨rfl, keep⟩
  · refine qx_isL0 (Or.inr h0) (br_t rfl ?_)
    exact br_f h0.1 (br_f h0.2.2 ⟨rfl, keep⟩)
  · have hin : vp_in (nI l) 32 := vp_in_nI (by omega) (by omega)
    have hcl : (nI l).toNatClampNeg = l := nI_clamp (by omega)
    refine qx_isL1 hl (by omega) (br_f (by decide) ?_)
    rw [hcl]
    refine ⟨hin, ?_⟩
    refine br_f (nI_pos (by omega)) (br_t (nI_lt hl (by omega)) ⟨hin, ?_, keep⟩)
    rw [hcl]
    exact (hL.1 l hl).1.symm
theorem i_vc_lineHas {k : Nat} {u : SX} {v : SY} (I : i_Rel k u v) (hk : k + 4 ≤ 2051) (v1 : Int32) (v2 : Int32) : wpX_lineHas (fun r => wpY_lineHas (fun r' => r' = r ∧ i_Rel (k + 4) u v) v v1 v2) u v1 v2 := by
  refine qr_el (P := fun u v => wpX_lineHas (fun r => wpY_lineHas (fun r' => r' = r ∧ i_Rel (k + 4) u v) v v1 v2) u v1 v2) ?_ I
  intro vl cl ll n m L K nl so xe xa xop xon xre xsc xac xau xd xb xs xo xz xdc xou xrv xrn xv xco ck cp cn cd ov od dv dn mks lk kp kn dp dg kd va mr cu yco lnk li st tb hR
  obtain ⟨⟨b1, b2, b3, b4, b5, b6, b7, b8⟩, hV, hC, hL, hM, hS⟩ := hR
  have keep : i_Rel (k + 4) (nI vl, nI cl, nI ll, nI n, xe, xa, nI m, xop, xon, so, xre, nI nl, xsc, xac, xau, xd, xb, xs, xo, xz, xdc, xou, xrv, xrn, nI K, xv, nI L, xco, ck, cp, cn, cd, ov, od, dv, dn, mks, lk, kp, kn, dp, dg) (nI vl, nI cl, nI ll, so, nI n, nI m, nI L, nI K, kd, va, mr, cu, yco, lnk, li, st, tb) := qr_in ⟨⟨b1, b2, b3, b4, b5, b6, b7, b8⟩, hV, hC, hL, hM, hS⟩
  have hn8 : n ≤ 8 := by omega
  unfold wpX_lineHas
  dsimp only
  rcases qr_ix v1 (n := L) (by omega) with h0 | h0 | ⟨l, hl, rfl⟩
  · refine qx_isL0 (Or.inl h0) (br_t rfl ?_)
    exact br_t h0 ⟨rfl, keep⟩
  · refine qx_isL0 (Or.inr h0) (br_t rfl ?_)
    exact br_f h0.1 (br_f h0.2.2 ⟨rfl, keep⟩)
  · have hin : vp_in (nI l) 32 := vp_in_nI (by omega) (by omega)
    have hcl : (nI l).toNatClampNeg = l := nI_clamp (by omega)
    have h0 : ¬ nI l < 0 := nI_pos (by omega)
    have hlt : nI l < nI L := nI_lt hl (by omega)
    obtain ⟨_, _, _, hx1, hx2, hrow, _⟩ := hL.1 l hl
    rw [hcl]
    rcases qr_lit n hn8 v2 with hx | ⟨i, hi, rfl⟩ | ⟨i, hi, rfl⟩
    · refine qx_isL1 hl (by omega) (br_f (by decide) (qx_lit0 hx (br_t rfl ?_)))
      exact br_f h0 (br_t hlt (qy_lit0 hx (br_t rfl ⟨rfl, keep⟩)))
    · have hi1 : vp_in (nI (l * 17 + 8 + (i + 1))) 544 := vp_in_nI (by omega) (by omega)
      have hc1 : (nI (l * 17 + 8 + (i + 1))).toNatClampNeg = l * 17 + 8 + (i + 1) := nI_clamp (by omega)
      have fin : ∀ r : Int32, li (l * 17 + 8 + (i + 1)) = r → wpY_lineHas (fun r' => r' = r ∧ i_Rel (k + 4) (nI vl, nI cl, nI ll, nI n, xe, xa, nI m, xop, xon, so, xre, nI nl, xsc, xac, xau, xd, xb, xs, xo, xz, xdc, xou, xrv, xrn, nI K, xv, nI L, xco, ck, cp, cn, cd, ov, od, dv, dn, mks, lk, kp, kn, dp, dg) (nI vl, nI cl, nI ll, so, nI n, nI m, nI L, nI K, kd, va, mr, cu, yco, lnk, li, st, tb)) (nI vl, nI cl, nI ll, so, nI n, nI m, nI L, nI K, kd, va, mr, cu, yco, lnk, li, st, tb) (nI l) (nI (i + 1)) := by
        intro r hr
        refine br_f h0 (br_t hlt (qy_litP hi hn8 (br_f (by decide) ?_)))
        rw [qy_ix1, hc1]
        exact ⟨hi1, hr, keep⟩
      have hli := (hrow i (by omega)).1
      refine qx_isL1 hl (by omega) (br_f (by decide) (qx_litP hi hn8 (br_f (by decide) ⟨hin, hin, qx_hasP (by omega) ?_⟩)))
      cases ha : bt (kp l) i
      · refine br_t rfl ⟨hin, hin, qx_hasP (by omega) ?_⟩
        cases hb : bt (dp l) i
        · exact br_t rfl (fin 0 (by rw [hli, ha, hb]; rfl))
        · exact br_f (by decide) (fin 2 (by rw [hli, ha, hb]; rfl))
      · exact br_f (by decide) (fin 1 (by rw [hli, ha]; rfl))
    · have hi1 : vp_in (nI (l * 17 + 8 - (i + 1))) 544 := vp_in_nI (by omega) (by omega)
      have hc1 : (nI (l * 17 + 8 - (i + 1))).toNatClampNeg = l * 17 + 8 - (i + 1) := nI_clamp (by omega)
      have fin : ∀ r : Int32, li (l * 17 + 8 - (i + 1)) = r → wpY_lineHas (fun r' => r' = r ∧ i_Rel (k + 4) (nI vl, nI cl, nI ll, nI n, xe, xa, nI m, xop, xon, so, xre, nI nl, xsc, xac, xau, xd, xb, xs, xo, xz, xdc, xou, xrv, xrn, nI K, xv, nI L, xco, ck, cp, cn, cd, ov, od, dv, dn, mks, lk, kp, kn, dp, dg) (nI vl, nI cl, nI ll, so, nI n, nI m, nI L, nI K, kd, va, mr, cu, yco, lnk, li, st, tb)) (nI vl, nI cl, nI ll, so, nI n, nI m, nI L, nI K, kd, va, mr, cu, yco, lnk, li, st, tb) (nI l) (-nI (i + 1)) := by
        intro r hr
        refine br_f h0 (br_t hlt (qy_litN hi hn8 (br_f (by decide) ?_)))
        rw [qr_an, qy_ix2 l (v := i + 1) (by omega), hc1]
        exact ⟨hi1, hr, keep⟩
      have hli := (hrow i (by omega)).2
      refine qx_isL1 hl (by omega) (br_f (by decide) (qx_litN hi hn8 (br_f (by decide) ⟨hin, hin, qx_hasN (by omega) ?_⟩)))
      cases ha : bt (kn l) i
      · refine br_t rfl ⟨hin, hin, qx_hasN (by omega) ?_⟩
        cases hb : bt (dg l) i
        · exact br_t rfl (fin 0 (by rw [hli, ha, hb]; rfl))
        · exact br_f (by decide) (fin 2 (by rw [hli, ha, hb]; rfl))
      · exact br_f (by decide) (fin 1 (by rw [hli, ha]; rfl))
end
section
/-! calls that evaluate: solve, verdict, standing, reply, coreDrop -/
theorem qr_DB0 {n m : Nat} {xe xop xon : Int32} {ck cp cn cd cu : Nat → Int32} (hm : m ≤ 24) (hn : n ≤ 8) (h : qr_C n m xop xon ck cp cn cd cu) (hck : ∀ i, m ≤ i → i < 88 → ck i = 0) : qb_DB n m (bt xe) (qr_P cu) (qr_N cu) ck cp cn cd := by
  have hPN : ∀ c, c < m → ∀ i, i < n → bt (cp c) i = qr_P cu c i ∧ bt (cn c) i = qr_N cu c i := by
    intro c hc i hi
    have h1 := (h.1 c hc).2.1.2.2.2.1 i (by omega)
    unfold qr_P qr_N
    rw [h1.1, h1.2, qr_bz, qr_bz]
    exact ⟨rfl, rfl⟩
  refine ⟨fun c hc => ⟨(h.1 c hc).1, hPN c hc, (h.1 c hc).2.2⟩, fun o i hi hk => ?_⟩
  rcases Nat.lt_or_ge i m with hlt | hge
  · have ho : o = true := by
      cases o
      · rw [(h.1 i hlt).1] at hk; exact absurd hk (by decide)
      · rfl
    subst ho
    have hr := (h.1 i hlt).2.1
    refine ⟨hr.1, hr.2.1, hr.2.2.1, qb_vini hlt hm (hPN i hlt) ?_⟩
    rw [(h.1 i hlt).2.2]
    exact (qb_oneT (by omega)).mpr rfl
  · rw [hck i hge hi] at hk
    cases o <;> exact absurd hk (by decide)
theorem qr_C_db {n m : Nat} {xe xop xon : Int32} {ck cp cn cd ck' cp' cn' cd' cu : Nat → Int32} (hm : m ≤ 24) (h : qr_C n m xop xon ck cp cn cd cu) (hDB : qb_DB n m (bt xe) (qr_P cu) (qr_N cu) ck' cp' cn' cd') : qr_C n m xop xon ck' cp' cn' cd' cu := by
  refine ⟨fun c hc => ?_, h.2⟩
  obtain ⟨h1, h2, h3⟩ := hDB.1 c hc
  obtain ⟨c1, c2, c3, _⟩ := hDB.2 true c (by omega) h1
  obtain ⟨r1, r2, r3, r4, r5⟩ := (h.1 c hc).2.1
  have f : ∀ x : Int32, (∀ j, bt x j = true → j < n) → ∀ i, ¬ i < n → bt x i = false := fun x hx i hi => qb_ncf.mp (fun z => hi (hx i z))
  refine ⟨h1, ⟨c1, c2, c3, fun i hi => ?_, r5⟩, h3⟩
  obtain ⟨a1, a2⟩ := r4 i hi
  by_cases hin : i < n
  · obtain ⟨e1, e2⟩ := h2 i hin
    unfold qr_P at e1
    unfold qr_N at e2
    rw [a1, qr_bz] at e1
    rw [a2, qr_bz] at e2
    rw [e1, e2]
    exact ⟨a1, a2⟩
  · rw [f _ c1 i hin, f _ c2 i hin, a1, a2, f _ r1 i hin, f _ r2 i hin]
    exact ⟨rfl, rfl⟩
theorem qr_m1 {c : Nat} (h : c < 2 ^ 30) : ¬ nI c = -1 := by
  intro e
  have := congrArg Int32.toInt e
  rw [nI_toInt (by omega), show (-1 : Int32).toInt = -1 from by decide] at this
  omega
theorem qr_VLc {n m : Nat} {xe : Int32} {cu : Nat → Int32} {S S' : Nat → Prop} (h : ∀ c, c < m → (S c ↔ S' c)) {k : Nat} {t : Nat → Bool} : qr_VL n m xe cu S k t ↔ qr_VL n m xe cu S' k t :=
  qb_VL (fun _ => qb_leafc h) k t
theorem qr_VLt {n m : Nat} {xe : Int32} {cu : Nat → Int32} {S : Nat → Prop} {d : Nat} (hd : d ≤ n) {t t' : Nat → Bool} (h : ∀ i, i < d → t i = t' i) : qr_VL n m xe cu S (n - d) t ↔ qr_VL n m xe cu S (n - d) t' :=
  qb_Vcg (qb_lf n m (qr_P cu) (qr_N cu) S) (n - d) (by omega) t t' (fun i hi => h i (by omega))
theorem qr_b01u {x y : Int32} {p : Prop} (h : qb_b01 x p) (k : qb_b01 y p) : y = x := by
  rcases h with ⟨rfl, h⟩ | ⟨rfl, h⟩
  · rcases k with ⟨rfl, k⟩ | ⟨rfl, k⟩
    · rfl
    · exact absurd h k
  · rcases k with ⟨rfl, k⟩ | ⟨rfl, k⟩
    · exact absurd k h
    · rfl
theorem qr_oc {o : Bool} {V : Prop} (h : V ↔ o = false) : qb_b01 (qb_oc o) V := by
  cases o
  · exact Or.inl ⟨rfl, h.mpr rfl⟩
  · exact Or.inr ⟨rfl, fun z => absurd (h.mp z) (by decide)⟩
theorem qr_allS {m : Nat} (hm : m ≤ 24) : ∀ c, c < m → (qb_S (((1 : Int32) <<< (nI m &&& 31)) - 1) c ↔ True) := fun c hc => ⟨fun _ => trivial, fun _ => (qb_lowT (by omega)).mpr hc⟩
theorem qr_yS {m : Nat} (hm : m ≤ 24) {yco : Nat → Int32} : ∀ c, c < m → (True ↔ (¬ nI c = -1 ∧ ((0 : Int32) = 0 ∨ ¬ yco c = 0))) := fun c hc => ⟨fun _ => ⟨qr_m1 (by omega), Or.inl rfl⟩, fun _ => trivial⟩
section
variable {ymv ymc yml yso yn ym yl yk : Int32} {kd va mr cu yco lnk li st tb : Nat → Int32} {n m : Nat} {xe xa : Int32}
theorem qr_value {post : Int32 → SY → Prop} {co wo : Int32} {S : Nat → Prop} {dep p : Nat} (hn8 : n ≤ 8) (hm : m ≤ 24) (hV : qr_V n xe xa kd) (hS : ∀ c, c < m → (S c ↔ (¬ nI c = wo ∧ (co = 0 ∨ ¬ yco c = 0)))) (hdep : dep ≤ n) (hp : p < 2 ^ dep)
    (h : ∀ (r : Int32) (tb : Nat → Int32), qb_b01 r (qr_VL n m xe cu S (n - dep) (bt (nI p))) → post r (ymv, ymc, yml, yso, nI n, nI m, yl, yk, kd, va, mr, cu, yco, lnk, li, st, tb)) : wpY_value post (ymv, ymc, yml, yso, nI n, nI m, yl, yk, kd, va, mr, cu, yco, lnk, li, st, tb) (nI dep) (nI p) co wo :=
  qy_value hn8 hm (qr_hP (xop := 0) (xon := 0)) hS hdep hp (qr_hK hV) h
theorem qy_s27 {post : Int32 → SY → Prop} (hn8 : n ≤ 8) (hm : m ≤ 24) (hV : qr_V n xe xa kd) (hp : ∀ (r : Int32) (yco tb : Nat → Int32), (∀ c, c < m → yco c = 1) → qb_b01 r (qr_VL n m xe cu (fun _ => True) n (bt 0)) → post r (ymv, ymc, yml, yso, nI n, nI m, yl, yk, kd, va, mr, cu, yco, lnk, li, st, tb)) :
    ∀ (k c f : Nat) (yco : Nat → Int32), c + k = m → k < f → (∀ c', c' < c → yco c' = 1) → wY_solve_27 post ymv ymc yml yso (nI n) (nI m) yl yk f (nI c) kd va mr cu yco lnk li st tb := by
  intro k
  induction k with
  | zero =>
    intro c f yco hc hf hI
    obtain ⟨f, rfl⟩ : ∃ g, f = g + 1 := ⟨f - 1, by omega⟩
    have e : c = m := by omega
    subst e
    exact br_t (nI_le (Nat.le_refl _) (by omega)) (qr_value (dep := 0) (p := 0) hn8 hm hV (qr_yS hm) (by omega) (by decide) (fun r tb hr => hp r yco tb hI hr))
  | succ k ih =>
    intro c f yco hc hf hI
    obtain ⟨f, rfl⟩ : ∃ g, f = g + 1 := ⟨f - 1, by omega⟩
    have hcl : (nI c).toNatClampNeg = c := nI_clamp (by omega)
    refine br_f (nI_ge (by omega) (by omega)) ⟨vp_in_nI (by omega) (by omega), nm_r (e' := upd yco c 1) (by rw [hcl]; rfl) (nm_r (nI_1 c) (ih (c + 1) f _ (by omega) (by omega) (fun c' h => ?_)))⟩
    by_cases e : c' = c
    · rw [e, pk_us]
    · rw [pk_un e]; exact hI c' (by omega)
end
theorem i_vc_solve {k : Nat} {u : SX} {v : SY} (I : i_Rel k u v) (hk : k + 4 ≤ 2051) : wpX_solve (fun r u' => wpY_solve (fun r' v' => r' = r ∧ i_Rel (k + 4) u' v') v) u := by
  refine qr_el (P := fun u v => wpX_solve (fun r u' => wpY_solve (fun r' v' => r' = r ∧ i_Rel (k + 4) u' v') v) u) ?_ I
  intro vl cl ll n m L K nl so xe xa xop xon xre xsc xac xau xd xb xs xo xz xdc xou xrv xrn xv xco ck cp cn cd ov od dv dn mks lk kp kn dp dg kd va mr cu yco lnk li st tb hR
  obtain ⟨⟨b1, b2, b3, b4, b5, b6, b7, b8⟩, hV, hC, hL, hM, hS⟩ := hR
  have keep : i_Rel (k + 4) (nI vl, nI cl, nI ll, nI n, xe, xa, nI m, xop, xon, so, xre, nI nl, xsc, xac, xau, xd, xb, xs, xo, xz, xdc, xou, xrv, xrn, nI K, xv, nI L, xco, ck, cp, cn, cd, ov, od, dv, dn, mks, lk, kp, kn, dp, dg) (nI vl, nI cl, nI ll, so, nI n, nI m, nI L, nI K, kd, va, mr, cu, yco, lnk, li, st, tb) := qr_in ⟨⟨b1, b2, b3, b4, b5, b6, b7, b8⟩, hV, hC, hL, hM, hS⟩
  have hn8 : n ≤ 8 := by omega
  have hm24 : m ≤ 24 := by omega
  rcases hS with ⟨h0, hck⟩ | ⟨h1, h2⟩
  · have hcnt := qr_cnt hC.2.1
    by_cases hop : (xop ||| xon) = 0
    · have hz : qr_cn (bt (xop ||| xon)) 8 = 0 := (qr_cn0 8).mpr (fun i _ => by rw [hop, b_0])
      refine br_t h0 (br_t hop ?_)
      unfold wpX_allClauses
      dsimp only
      refine qx_evaluate (base := 0) (p1 := 0) hn8 hm24 (by omega) hV.1 b8 (qr_DB0 hm24 hn8 hC hck) (fun j hj => (qb_lowT (by omega)).mp hj) ?_
      intro o nl xsc xac xau xd xb xs xo xz xdc xou xrv xrn ck cp cn cd ov od dv dn hnl hDB hVo
      have hVo' : qb_b01 (qb_oc o) (qr_VL n m xe cu (fun _ => True) n (bt 0)) := qb_b01c (qr_oc hVo) (qr_VLc (qr_allS hm24))
      refine br_t h0 (qy_open hm24 (br_t ?_ ⟨m + 1, qy_s27 hn8 hm24 hV (fun r yco tb hyc hr => ⟨qr_b01u hVo' hr, ?_⟩) m 0 (m + 1) yco (by omega) (by omega) (fun c' h => absurd h (by omega))⟩))
      · rw [hcnt, hz]; decide
      · refine qr_in ⟨⟨b1, b2, b3, b4, b5, b6, b7, hnl⟩, hV, qr_C_db hm24 hC hDB, hL, hM, Or.inr ⟨rfl, hDB, fun c hc => ?_, fun j hj => (qb_lowT (by omega)).mp hj, hVo'⟩⟩
        rw [hyc c hc, (qb_lowT (by omega)).mpr hc]; rfl
    · have hz : 0 < qr_cn (bt (xop ||| xon)) 8 := by
        rcases Nat.eq_zero_or_pos (qr_cn (bt (xop ||| xon)) 8) with e | e
        · exfalso
          apply hop
          apply qb_z.mpr
          intro i
          rcases Nat.lt_or_ge i 8 with h | h
          · exact (qr_cn0 8).mp e i h
          · apply qb_ncf.mp
            intro z
            have := (qb_orT.mp z).elim (hC.2.1.1 i) (hC.2.1.2.1 i)
            omega
        · exact e
      have hle := qr_cnle (f := bt (xop ||| xon)) 8
      refine br_t h0 (br_f hop ?_)
      refine br_t h0 (qy_open hm24 (br_f ?_ ⟨rfl, keep⟩))
      rw [hcnt]; exact nI_nle hz (by omega)
  · have hne : ¬ so = 0 := by rw [h1]; decide
    refine br_f hne ?_
    exact br_f hne ⟨rfl, keep⟩
theorem i_vc_verdict {k : Nat} {u : SX} {v : SY} (I : i_Rel k u v) (hk : k + 4 ≤ 2051) : wpX_verdict (fun r => wpY_verdict (fun r' v' => r' = r ∧ i_Rel (k + 4) u v') v) u := by
  refine qr_el (P := fun u v => wpX_verdict (fun r => wpY_verdict (fun r' v' => r' = r ∧ i_Rel (k + 4) u v') v) u) ?_ I
  intro vl cl ll n m L K nl so xe xa xop xon xre xsc xac xau xd xb xs xo xz xdc xou xrv xrn xv xco ck cp cn cd ov od dv dn mks lk kp kn dp dg kd va mr cu yco lnk li st tb hR
  obtain ⟨⟨b1, b2, b3, b4, b5, b6, b7, b8⟩, hV, hC, hL, hM, hS⟩ := hR
  have keep : i_Rel (k + 4) (nI vl, nI cl, nI ll, nI n, xe, xa, nI m, xop, xon, so, xre, nI nl, xsc, xac, xau, xd, xb, xs, xo, xz, xdc, xou, xrv, xrn, nI K, xv, nI L, xco, ck, cp, cn, cd, ov, od, dv, dn, mks, lk, kp, kn, dp, dg) (nI vl, nI cl, nI ll, so, nI n, nI m, nI L, nI K, kd, va, mr, cu, yco, lnk, li, st, tb) := qr_in ⟨⟨b1, b2, b3, b4, b5, b6, b7, b8⟩, hV, hC, hL, hM, hS⟩
  have hn8 : n ≤ 8 := by omega
  have hm24 : m ≤ 24 := by omega
  rcases hS with ⟨h0, hck⟩ | ⟨h1, hDB, hco, hcm, hre⟩
  · refine br_t h0 ?_
    exact br_t h0 ⟨rfl, keep⟩
  · have hne : ¬ so = 0 := by rw [h1]; decide
    refine br_f hne ?_
    refine br_f hne (qr_value (dep := 0) (p := 0) hn8 hm24 hV (qr_yS hm24) (by omega) (by decide) (fun r tb hr => ⟨qr_b01u hre hr, ?_⟩))
    exact qr_in ⟨⟨b1, b2, b3, b4, b5, b6, b7, b8⟩, hV, hC, hL, hM, Or.inr ⟨h1, hDB, hco, hcm, hre⟩⟩
theorem qr_va01 {K : Nat} {xv : Int32} {mks va mr : Nat → Int32} (h : qr_M K xv mks va mr) : ∀ i, i < K → (va (i + 1) = 0 ∨ va (i + 1) = 1) := by
  intro i hi
  rw [(h.2 i hi).1]
  cases bt xv i
  · exact Or.inl rfl
  · exact Or.inr rfl
theorem qr_pb {K p : Nat} {xv : Int32} {mks va mr : Nat → Int32} (hK : K ≤ 8) (h : qr_M K xv mks va mr) (hp : p < 2 ^ K) (hb : ∀ i, i < K → (p.testBit i = true ↔ va (i + 1) = 1)) : ∀ i, i < K → bt (nI p) i = bt xv i := by
  intro i hi
  have h256 := qb_p256 hK
  have h1 := hb i hi
  rw [(h.2 i hi).1, qr_b1] at h1
  rw [qb_nbt _ _ (by omega)]
  cases hx : bt xv i
  · exact qb_ncf.mp (fun z => by rw [h1, hx] at z; exact absurd z (by decide))
  · exact h1.mpr hx
theorem i_vc_standing {k : Nat} {u : SX} {v : SY} (I : i_Rel k u v) (hk : k + 4 ≤ 2051) : wpX_standing (fun r u' => wpY_standing (fun r' v' => r' = r ∧ i_Rel (k + 4) u' v') v) u := by
  refine qr_el (P := fun u v => wpX_standing (fun r u' => wpY_standing (fun r' v' => r' = r ∧ i_Rel (k + 4) u' v') v) u) ?_ I
  intro vl cl ll n m L K nl so xe xa xop xon xre xsc xac xau xd xb xs xo xz xdc xou xrv xrn xv xco ck cp cn cd ov od dv dn mks lk kp kn dp dg kd va mr cu yco lnk li st tb hR
  obtain ⟨⟨b1, b2, b3, b4, b5, b6, b7, b8⟩, hV, hC, hL, hM, hS⟩ := hR
  have keep : i_Rel (k + 4) (nI vl, nI cl, nI ll, nI n, xe, xa, nI m, xop, xon, so, xre, nI nl, xsc, xac, xau, xd, xb, xs, xo, xz, xdc, xou, xrv, xrn, nI K, xv, nI L, xco, ck, cp, cn, cd, ov, od, dv, dn, mks, lk, kp, kn, dp, dg) (nI vl, nI cl, nI ll, so, nI n, nI m, nI L, nI K, kd, va, mr, cu, yco, lnk, li, st, tb) := qr_in ⟨⟨b1, b2, b3, b4, b5, b6, b7, b8⟩, hV, hC, hL, hM, hS⟩
  have hn8 : n ≤ 8 := by omega
  have hm24 : m ≤ 24 := by omega
  have hK8 : K ≤ 8 := by omega
  rcases hS with ⟨h0, hck⟩ | ⟨h1, hDB, hco, hcm, hre⟩
  · refine br_t h0 ?_
    exact br_t h0 ⟨rfl, keep⟩
  · have hne : ¬ so = 0 := by rw [h1]; decide
    refine br_f hne ?_
    unfold wpX_allClauses
    dsimp only
    refine qx_evaluate (base := K) hn8 hm24 b7 hV.1 b8 hDB (fun j hj => (qb_lowT (by omega)).mp hj) ?_
    intro o nl xsc xac xau xd xb xs xo xz xdc xou xrv xrn ck cp cn cd ov od dv dn hnl hDB hVo
    have hVo' : qb_b01 (qb_oc o) (qr_VL n m xe cu (fun _ => True) (n - K) (bt xv)) := qb_b01c (qr_oc hVo) (qr_VLc (qr_allS hm24))
    refine br_f hne (qy_pos hK8 (qr_va01 hM) (fun p hp hpb => qr_value (dep := K) hn8 hm24 hV (qr_yS hm24) b7 hp (fun r tb hr => ⟨qr_b01u hVo' (qb_b01c hr (qr_VLt b7 (qr_pb hK8 hM hp hpb))), ?_⟩)))
    exact qr_in ⟨⟨b1, b2, b3, b4, b5, b6, b7, hnl⟩, hV, qr_C_db hm24 hC hDB, hL, hM, Or.inr ⟨h1, hDB, hco, hcm, hre⟩⟩
theorem i_vc_reply {k : Nat} {u : SX} {v : SY} (I : i_Rel k u v) (hk : k + 4 ≤ 2051) : wpX_reply (fun r u' => wpY_reply (fun r' v' => r' = r ∧ i_Rel (k + 4) u' v') v) u := by
  refine qr_el (P := fun u v => wpX_reply (fun r u' => wpY_reply (fun r' v' => r' = r ∧ i_Rel (k + 4) u' v') v) u) ?_ I
  intro vl cl ll n m L K nl so xe xa xop xon xre xsc xac xau xd xb xs xo xz xdc xou xrv xrn xv xco ck cp cn cd ov od dv dn mks lk kp kn dp dg kd va mr cu yco lnk li st tb hR
  obtain ⟨⟨b1, b2, b3, b4, b5, b6, b7, b8⟩, hV, hC, hL, hM, hS⟩ := hR
  have keep : i_Rel (k + 4) (nI vl, nI cl, nI ll, nI n, xe, xa, nI m, xop, xon, so, xre, nI nl, xsc, xac, xau, xd, xb, xs, xo, xz, xdc, xou, xrv, xrn, nI K, xv, nI L, xco, ck, cp, cn, cd, ov, od, dv, dn, mks, lk, kp, kn, dp, dg) (nI vl, nI cl, nI ll, so, nI n, nI m, nI L, nI K, kd, va, mr, cu, yco, lnk, li, st, tb) := qr_in ⟨⟨b1, b2, b3, b4, b5, b6, b7, b8⟩, hV, hC, hL, hM, hS⟩
  have hn8 : n ≤ 8 := by omega
  have hm24 : m ≤ 24 := by omega
  have hK8 : K ≤ 8 := by omega
  rcases hS with ⟨h0, hck⟩ | ⟨h1, hDB, hco, hcm, hre⟩
  · refine br_t h0 ?_
    exact br_t h0 ⟨rfl, keep⟩
  · have hne : ¬ so = 0 := by rw [h1]; decide
    by_cases hK : K < n
    · have hKn : ¬ nI K = nI n := fun e => by rw [nI_eq (by omega) (by omega)] at e; omega
      have h256 := qb_p256 (show K + 1 ≤ 8 by omega)
      have hpw : 2 ^ (K + 1) = 2 ^ K + 2 ^ K := by rw [Nat.pow_succ]; omega
      have hset : ∀ j, bt (((1 : Int32) <<< (nI m &&& 31)) - 1) j = true → j < m := fun j hj => (qb_lowT (by omega)).mp hj
      have main : ∀ z0 : Int32, (∀ post : Int32 → SY → Prop, wY_reply_43 post z0 (nI vl) (nI cl) (nI ll) so (nI n) (nI m) (nI L) (nI K) kd va mr cu yco lnk li st tb → wpY_reply post (nI vl, nI cl, nI ll, so, nI n, nI m, nI L, nI K, kd, va, mr, cu, yco, lnk, li, st, tb)) → wX_reply_44 (fun r u' => wpY_reply (fun r' v' => r' = r ∧ i_Rel (k + 4) u' v') (nI vl, nI cl, nI ll, so, nI n, nI m, nI L, nI K, kd, va, mr, cu, yco, lnk, li, st, tb)) ((1 : Int32) <<< (nI K &&& 31)) z0 (nI vl) (nI cl) (nI ll) (nI n) xe xa (nI m) xop xon so xre (nI nl) xsc xac xau xd xb xs xo xz xdc xou xrv xrn (nI K) xv (nI L) xco ck cp cn cd ov od dv dn mks lk kp kn dp dg := by
        intro z0 hY
        have ylem : ∀ post : Int32 → SY → Prop, (∀ (a b : Int32) (tb : Nat → Int32), qb_b01 a (qr_VL n m xe cu (fun _ => True) (n - (K + 1)) (bt (xv &&& (((1 : Int32) <<< (nI K &&& 31)) ^^^ (-1))))) → qb_b01 b (qr_VL n m xe cu (fun _ => True) (n - (K + 1)) (bt (xv ||| ((1 : Int32) <<< (nI K &&& 31))))) → ((a = z0 → wY_reply_102 post 0 (nI vl) (nI cl) (nI ll) so (nI n) (nI m) (nI L) (nI K) kd va mr cu yco lnk li st tb) ∧ (¬ a = z0 → ((b = z0 → wY_reply_102 post 1 (nI vl) (nI cl) (nI ll) so (nI n) (nI m) (nI L) (nI K) kd va mr cu yco lnk li st tb) ∧ (¬ b = z0 → wY_reply_102 post 0 (nI vl) (nI cl) (nI ll) so (nI n) (nI m) (nI L) (nI K) kd va mr cu yco lnk li st tb))))) → wpY_reply post (nI vl, nI cl, nI ll, so, nI n, nI m, nI L, nI K, kd, va, mr, cu, yco, lnk, li, st, tb) := by
          intro post hp
          apply hY
          unfold wY_reply_43
          refine qy_pos hK8 (qr_va01 hM) (fun p hpl hpb => ?_)
          have hb := qr_pb hK8 hM hpl hpb
          rw [nI_1 K]
          refine qr_value (dep := K + 1) (p := p) hn8 hm24 hV (qr_yS hm24) (by omega) (by omega) (fun a tb ha => ?_)
          dsimp only
          rw [nI_1 K, qy_p2 (by omega), nI_add]
          refine qr_value (dep := K + 1) (p := p + 2 ^ K) hn8 hm24 hV (qr_yS hm24) (by omega) (by omega) (fun b tb hb2 => ?_)
          refine hp a b tb (qb_b01c ha (qr_VLt (by omega) (fun i hi => ?_))) (qb_b01c hb2 (qr_VLt (by omega) (fun i hi => ?_)))
          · rw [qb_andn, qb_one K (by omega)]
            by_cases e : i = K
            · rw [e, decide_eq_true rfl, Bool.not_true, Bool.and_false, qb_nbt _ _ (by omega)]
              exact Nat.testBit_lt_two_pow hpl
            · rw [decide_eq_false e, Bool.not_false, Bool.and_true]; exact hb i (by omega)
          · rw [b_or, qb_one K (by omega), qb_nbt _ _ (by omega), Nat.add_comm]
            by_cases e : i = K
            · rw [e, decide_eq_true rfl, Bool.or_true, Nat.testBit_two_pow_add_eq, Nat.testBit_lt_two_pow hpl]; rfl
            · rw [decide_eq_false e, Bool.or_false, Nat.testBit_two_pow_add_gt (by omega), ← hb i (by omega), qb_nbt _ _ (by omega)]
        unfold wX_reply_44
        unfold wpX_allClauses
        dsimp only
        rw [nI_1 K]
        refine qx_evaluate (base := K + 1) hn8 hm24 hK hV.1 b8 hDB hset ?_
        intro o1 nl xsc xac xau xd xb xs xo xz xdc xou xrv xrn ck1 cp1 cn1 cd1 ov od dv dn hnl hDB1 hVo
        have hV1 : qb_b01 (qb_oc o1) (qr_VL n m xe cu (fun _ => True) (n - (K + 1)) (bt (xv &&& (((1 : Int32) <<< (nI K &&& 31)) ^^^ (-1))))) := qb_b01c (qr_oc hVo) (qr_VLc (qr_allS hm24))
        refine br_c (fun e1 => ?_) (fun e1 => ?_)
        · unfold wX_reply_108
          refine qx_move (bit := false) (by omega) (fun xv' m1 m2 => ?_)
          refine ylem _ (fun a b tb ha hb => br_t ((qr_b01u hV1 ha).trans e1) ?_)
          unfold wY_reply_102
          refine qy_move (by omega) ⟨rfl, ?_⟩
          exact qr_in ⟨⟨b1, b2, b3, b4, b5, b6, hK, hnl⟩, hV, qr_C_db hm24 hC hDB1, hL, qr_Mmv (bit := false) hM m1 m2, Or.inr ⟨h1, hDB1, hco, hcm, hre⟩⟩
        · dsimp only
          rw [nI_1 K]
          refine qx_evaluate (base := K + 1) hn8 hm24 hK hV.1 hnl hDB1 hset ?_
          intro o2 nl xsc xac xau xd xb xs xo xz xdc xou xrv xrn ck2 cp2 cn2 cd2 ov od dv dn hnl hDB2 hVo2
          have hV2 : qb_b01 (qb_oc o2) (qr_VL n m xe cu (fun _ => True) (n - (K + 1)) (bt (xv ||| ((1 : Int32) <<< (nI K &&& 31))))) := qb_b01c (qr_oc hVo2) (qr_VLc (qr_allS hm24))
          refine br_c (fun e2 => ?_) (fun e2 => ?_)
          · unfold wX_reply_108
            refine qx_move (bit := true) (by omega) (fun xv' m1 m2 => ?_)
            refine ylem _ (fun a b tb ha hb => br_f (fun z => e1 ((qr_b01u hV1 ha).symm.trans z)) (br_t ((qr_b01u hV2 hb).trans e2) ?_))
            unfold wY_reply_102
            refine qy_move (by omega) ⟨rfl, ?_⟩
            exact qr_in ⟨⟨b1, b2, b3, b4, b5, b6, hK, hnl⟩, hV, qr_C_db hm24 hC hDB2, hL, qr_Mmv (bit := true) hM m1 m2, Or.inr ⟨h1, hDB2, hco, hcm, hre⟩⟩
          · unfold wX_reply_108
            refine qx_move (bit := false) (by omega) (fun xv' m1 m2 => ?_)
            refine ylem _ (fun a b tb ha hb => br_f (fun z => e1 ((qr_b01u hV1 ha).symm.trans z)) (br_f (fun z => e2 ((qr_b01u hV2 hb).symm.trans z)) ?_))
            unfold wY_reply_102
            refine qy_move (by omega) ⟨rfl, ?_⟩
            exact qr_in ⟨⟨b1, b2, b3, b4, b5, b6, hK, hnl⟩, hV, qr_C_db hm24 hC hDB2, hL, qr_Mmv (bit := false) hM m1 m2, Or.inr ⟨h1, hDB2, hco, hcm, hre⟩⟩
      have hin9 : vp_in (nI (K + 1)) 9 := vp_in_nI (by omega) (by omega)
      have hc9 : (nI (K + 1)).toNatClampNeg = K + 1 := nI_clamp (by omega)
      refine br_f hne (br_t (nI_lt hK (by omega)) (nm_e ?_))
      rcases hV.2 K hK with ⟨x1, x2⟩ | ⟨x1, x2⟩
      · refine br_f ((qb_bit1 xe (by omega)).mpr x1) (main 1 (fun post hp => br_f hne (br_f hKn ?_)))
        rw [nI_1 K, hc9]
        exact ⟨hin9, br_t x2 hp⟩
      · refine br_t ((qb_bit0 xe (by omega)).mpr x1) (main 0 (fun post hp => br_f hne (br_f hKn ?_)))
        rw [nI_1 K, hc9]
        exact ⟨hin9, br_f (by rw [x2]; decide) hp⟩
    · refine br_f hne (br_f (nI_nlt (by omega) (by omega)) ?_)
      exact br_f hne (br_t (congrArg nI (by omega)) ⟨rfl, keep⟩)
theorem i_vc_coreDrop {k : Nat} {u : SX} {v : SY} (I : i_Rel k u v) (hk : k + 4 ≤ 2051) (v1 : Int32) : wpX_coreDrop (fun r u' => wpY_coreDrop (fun r' v' => r' = r ∧ i_Rel (k + 4) u' v') v v1) u v1 := by
  refine qr_el (P := fun u v => wpX_coreDrop (fun r u' => wpY_coreDrop (fun r' v' => r' = r ∧ i_Rel (k + 4) u' v') v v1) u v1) ?_ I
  intro vl cl ll n m L K nl so xe xa xop xon xre xsc xac xau xd xb xs xo xz xdc xou xrv xrn xv xco ck cp cn cd ov od dv dn mks lk kp kn dp dg kd va mr cu yco lnk li st tb hR
  obtain ⟨⟨b1, b2, b3, b4, b5, b6, b7, b8⟩, hV, hC, hL, hM, hS⟩ := hR
  have keep : i_Rel (k + 4) (nI vl, nI cl, nI ll, nI n, xe, xa, nI m, xop, xon, so, xre, nI nl, xsc, xac, xau, xd, xb, xs, xo, xz, xdc, xou, xrv, xrn, nI K, xv, nI L, xco, ck, cp, cn, cd, ov, od, dv, dn, mks, lk, kp, kn, dp, dg) (nI vl, nI cl, nI ll, so, nI n, nI m, nI L, nI K, kd, va, mr, cu, yco, lnk, li, st, tb) := qr_in ⟨⟨b1, b2, b3, b4, b5, b6, b7, b8⟩, hV, hC, hL, hM, hS⟩
  have hn8 : n ≤ 8 := by omega
  have hm24 : m ≤ 24 := by omega
  rcases hS with ⟨h0, hck⟩ | ⟨h1, hDB, hco, hcm, hre⟩
  · refine br_t h0 ?_
    exact br_t h0 ⟨rfl, keep⟩
  · have hne : ¬ so = 0 := by rw [h1]; decide
    have keep2 : ∀ tb : Nat → Int32, i_Rel (k + 4) (nI vl, nI cl, nI ll, nI n, xe, xa, nI m, xop, xon, so, xre, nI nl, xsc, xac, xau, xd, xb, xs, xo, xz, xdc, xou, xrv, xrn, nI K, xv, nI L, xco, ck, cp, cn, cd, ov, od, dv, dn, mks, lk, kp, kn, dp, dg) (nI vl, nI cl, nI ll, so, nI n, nI m, nI L, nI K, kd, va, mr, cu, yco, lnk, li, st, tb) := fun tb => qr_in ⟨⟨b1, b2, b3, b4, b5, b6, b7, b8⟩, hV, hC, hL, hM, Or.inr ⟨h1, hDB, hco, hcm, hre⟩⟩
    by_cases hr1 : xre = 1
    · refine br_f hne (br_t hr1 ?_)
      exact br_f hne (qr_value (dep := 0) (p := 0) hn8 hm24 hV (qr_yS hm24) (by omega) (by decide) (fun r tb hr => br_t ((qr_b01u hre hr).trans hr1) ⟨rfl, keep2 tb⟩))
    · rcases qr_ix v1 (n := m) (by omega) with h0 | ⟨h0, _, h2⟩ | ⟨c, hc, rfl⟩
      · refine br_f hne (br_f hr1 (br_t h0 ?_))
        exact br_f hne (qr_value (dep := 0) (p := 0) hn8 hm24 hV (qr_yS hm24) (by omega) (by decide) (fun r tb hr => br_f (fun z => hr1 ((qr_b01u hre hr).symm.trans z)) (br_t h0 ⟨rfl, keep2 tb⟩)))
      · refine br_f hne (br_f hr1 (br_f h0 (br_f h2 ?_)))
        exact br_f hne (qr_value (dep := 0) (p := 0) hn8 hm24 hV (qr_yS hm24) (by omega) (by decide) (fun r tb hr => br_f (fun z => hr1 ((qr_b01u hre hr).symm.trans z)) (br_f h0 (br_f h2 ⟨rfl, keep2 tb⟩))))
      · have hin : vp_in (nI c) 25 := vp_in_nI (by omega) (by omega)
        have hcl : (nI c).toNatClampNeg = c := nI_clamp (by omega)
        have hlt : nI c < nI m := nI_lt hc (by omega)
        have hp0 : ¬ nI c < 0 := nI_pos (by omega)
        cases hbc : bt xco c
        · refine br_f hne (br_f hr1 (br_f hp0 (br_t hlt (br_t ((qb_bit0 xco (by omega)).mpr hbc) ?_))))
          refine br_f hne (qr_value (dep := 0) (p := 0) hn8 hm24 hV (qr_yS hm24) (by omega) (by decide) (fun r tb hr => br_f (fun z => hr1 ((qr_b01u hre hr).symm.trans z)) (br_f hp0 (br_t hlt ⟨hin, br_t ?_ ⟨rfl, keep2 tb⟩⟩))))
          rw [hcl, hco c hc, hbc]; rfl
        · have e0 : ∀ j, bt (xco &&& (((1 : Int32) <<< (nI c &&& 31)) ^^^ (-1))) j = (bt xco j && !decide (j = c)) := fun j => by rw [qb_andn, qb_one c (by omega)]
          refine br_f hne (br_f hr1 (br_f hp0 (br_t hlt (br_f ((qb_bit1 xco (by omega)).mpr hbc) (nm_e ?_)))))
          refine qx_evaluate (base := 0) (p1 := 0) hn8 hm24 (by omega) hV.1 b8 hDB (fun j hj => ?_) ?_
          · rw [e0, Bool.and_eq_true] at hj
            exact hcm j hj.1
          intro o nl xsc xac xau xd xb xs xo xz xdc xou xrv xrn ck1 cp1 cn1 cd1 ov od dv dn hnl hDB1 hVo
          have hVo' : qb_b01 (qb_oc o) (qr_VL n m xe cu (qb_S (xco &&& (((1 : Int32) <<< (nI c &&& 31)) ^^^ (-1)))) n (bt 0)) := qr_oc hVo
          have ylem : ∀ post : Int32 → SY → Prop, (∀ tb : Nat → Int32, ((qb_oc o = 1 → post 0 (nI vl, nI cl, nI ll, so, nI n, nI m, nI L, nI K, kd, va, mr, cu, yco, lnk, li, st, tb)) ∧ (¬ qb_oc o = 1 → post 1 (nI vl, nI cl, nI ll, so, nI n, nI m, nI L, nI K, kd, va, mr, cu, upd yco c 0, lnk, li, st, tb)))) → wpY_coreDrop post (nI vl, nI cl, nI ll, so, nI n, nI m, nI L, nI K, kd, va, mr, cu, yco, lnk, li, st, tb) (nI c) := by
            intro post hp
            refine br_f hne (qr_value (dep := 0) (p := 0) hn8 hm24 hV (qr_yS hm24) (by omega) (by decide) (fun r tb hr => br_f (fun z => hr1 ((qr_b01u hre hr).symm.trans z)) (br_f hp0 (br_t hlt ⟨hin, br_f ?_ ?_⟩))))
            · rw [hcl, hco c hc, hbc]; decide
            · refine qr_value (dep := 0) (p := 0) (S := qb_S (xco &&& (((1 : Int32) <<< (nI c &&& 31)) ^^^ (-1)))) hn8 hm24 hV (fun c' hc' => ?_) (by omega) (by decide) (fun r' tb' hr' => ?_)
              · unfold qb_S
                rw [e0, Bool.and_eq_true, Bool.not_eq_true', decide_eq_false_iff_not, hco c' hc', nI_eq (by omega) (by omega)]
                constructor
                · intro z
                  exact ⟨z.2, Or.inr (by rw [z.1]; decide)⟩
                · intro z
                  refine ⟨?_, z.1⟩
                  rcases z.2 with y | y
                  · exact absurd y (by decide)
                  · exact qr_bn.mp y
              · have er : r' = qb_oc o := qr_b01u hVo' hr'
                dsimp only
                rw [er]
                refine br_c (fun z => (hp tb').1 z) (fun z => ⟨hin, nm_r (e' := upd yco c 0) (by rw [hcl]; rfl) ((hp tb').2 z)⟩)
          refine br_c (fun e1 => ?_) (fun e1 => ?_)
          · refine ylem _ (fun tb => br_t e1 ⟨rfl, ?_⟩)
            exact qr_in ⟨⟨b1, b2, b3, b4, b5, b6, b7, hnl⟩, hV, qr_C_db hm24 hC hDB1, hL, hM, Or.inr ⟨h1, hDB1, hco, hcm, hre⟩⟩
          · refine ylem _ (fun tb => br_f e1 ⟨rfl, ?_⟩)
            refine qr_in ⟨⟨b1, b2, b3, b4, b5, b6, b7, hnl⟩, hV, qr_C_db hm24 hC hDB1, hL, hM, Or.inr ⟨h1, hDB1, fun c' hc' => ?_, fun j hj => ?_, hre⟩⟩
            · rw [e0]
              by_cases e : c' = c
              · rw [e, pk_us, decide_eq_true rfl, Bool.not_true, Bool.and_false]; rfl
              · rw [pk_un e, decide_eq_false e, Bool.not_false, Bool.and_true]; exact hco c' hc'
            · rw [e0, Bool.and_eq_true] at hj
              exact hcm j hj.1
end
section
/-! the log: complete, refusals, addLine on both sides -/
theorem qr_3e1 {k d : Bool} : qr_3 k d = 1 ↔ k = true := by cases k <;> cases d <;> decide
theorem qr_3e2 {k d : Bool} : qr_3 k d = 2 ↔ (k = false ∧ d = true) := by cases k <;> cases d <;> decide
theorem qr_row3 {n l : Nat} {li : Nat → Int32} {a b c e : Int32} (hn8 : n ≤ 8) (h : qr_ln n li l a b c e) : (a ||| b) = 0 ↔ ∀ j, j < 17 → ¬ li (l * 17 + j) = 1 := by
  obtain ⟨h1, _, _, h4, h5⟩ := h
  constructor
  · intro hz j hj
    have hab : ∀ i, bt a i = false ∧ bt b i = false := fun i => by
      have := qb_z.mp hz i
      rw [b_or, Bool.or_eq_false_iff] at this
      exact this
    by_cases e8 : j = 8
    · rw [e8, h5]; decide
    · by_cases hlt : j < 8
      · have := (h4 (7 - j) (by omega)).2
        rw [show l * 17 + 8 - (7 - j + 1) = l * 17 + j by omega] at this
        rw [this, qr_3e1, (hab _).2]; decide
      · have := (h4 (j - 9) (by omega)).1
        rw [show l * 17 + 8 + (j - 9 + 1) = l * 17 + j by omega] at this
        rw [this, qr_3e1, (hab _).1]; decide
  · intro hj
    apply qb_z.mpr
    intro i
    apply qb_ncf.mp
    intro hi
    rcases qb_orT.mp hi with h | h
    · have hin := h1 i (Or.inl h)
      have := (h4 i (by omega)).1
      rw [show l * 17 + 8 + (i + 1) = l * 17 + (9 + i) by omega] at this
      exact hj (9 + i) (by omega) (this.trans (qr_3e1.mpr h))
    · have hin := h1 i (Or.inr (Or.inl h))
      have := (h4 i (by omega)).2
      rw [show l * 17 + 8 - (i + 1) = l * 17 + (7 - i) by omega] at this
      exact hj (7 - i) (by omega) (this.trans (qr_3e1.mpr h))
section
variable {vl cl ll n m L K nl : Nat} {so xe xa xop xon xre xsc xac xau xd xb xs xo xz xdc xou xrv xrn xv xco : Int32} {ck cp cn cd ov od dv dn mks lk kp kn dp dg kd va mr cu yco lnk li st tb : Nat → Int32}
theorem qy_lc {post : Int32 → Prop} {l : Nat} (hl : l < 32) (h1 : (∀ j, j < 17 → ¬ li (l * 17 + j) = 1) → post 1) (h0 : (¬ ∀ j, j < 17 → ¬ li (l * 17 + j) = 1) → post 0) : ∀ (k i f : Nat), i + k = 17 → k < f → (∀ j, j < i → ¬ li (l * 17 + j) = 1) → wY_logComplete_11 post (nI vl) (nI cl) (nI ll) so (nI n) (nI m) (nI (l + 1)) (nI K) kd va mr cu yco lnk li st tb f (nI i) := by
  intro k
  induction k with
  | zero =>
    intro i f hi hf hI
    obtain ⟨f, rfl⟩ : ∃ g, f = g + 1 := ⟨f - 1, by omega⟩
    have e : i = 17 := by omega
    subst e
    exact br_t (nI_le (Nat.le_refl _) (by omega)) (h1 hI)
  | succ k ih =>
    intro i f hi hf hI
    obtain ⟨f, rfl⟩ : ∃ g, f = g + 1 := ⟨f - 1, by omega⟩
    refine br_f (nI_ge (b := 17) (by omega) (by omega)) ?_
    rw [nI_pred l, qy_ix3, nI_clamp (by omega : l * 17 + i < 2 ^ 31)]
    refine ⟨vp_in_nI (by omega) (by omega), br_c (fun z => h0 (fun y => y i (by omega) z)) (fun z => nm_r (nI_1 i) (ih (i + 1) f (by omega) (by omega) (fun j hj => ?_)))⟩
    by_cases e : j = i
    · rw [e]; exact z
    · exact hI j (by omega)
theorem qr_cpl (hn8 : n ≤ 8) (hL32 : L ≤ 32) (hL : qr_L n L lk kp kn dp dg lnk li) : ∃ b : Bool, (∀ post : Int32 → Prop, post (qr_b b) → wpX_isComplete post (nI vl, nI cl, nI ll, nI n, xe, xa, nI m, xop, xon, so, xre, nI nl, xsc, xac, xau, xd, xb, xs, xo, xz, xdc, xou, xrv, xrn, nI K, xv, nI L, xco, ck, cp, cn, cd, ov, od, dv, dn, mks, lk, kp, kn, dp, dg)) ∧ (∀ post : Int32 → Prop, post (qr_b b) → wpY_logComplete post (nI vl, nI cl, nI ll, so, nI n, nI m, nI L, nI K, kd, va, mr, cu, yco, lnk, li, st, tb)) ∧ (b = true → 0 < L) := by
  rcases Nat.eq_zero_or_pos L with e | e
  · subst e
    refine ⟨false, fun post h => ?_, fun post h => ?_, fun z => absurd z (by decide)⟩
    · unfold wpX_isComplete
      dsimp only
      exact br_t (by decide) h
    · unfold wpY_logComplete
      dsimp only
      exact br_t rfl h
  · obtain ⟨l, rfl⟩ : ∃ l, L = l + 1 := ⟨L - 1, by omega⟩
    have hr := qr_row3 hn8 (hL.1 l (by omega)).2.2
    have hin : vp_in (nI l) 32 := vp_in_nI (by omega) (by omega)
    have hc : (nI l).toNatClampNeg = l := nI_clamp (by omega)
    by_cases hz : (kp l ||| kn l) = 0
    · refine ⟨true, fun post h => ?_, fun post h => ?_, fun _ => by omega⟩
      · unfold wpX_isComplete
        dsimp only
        rw [nI_pred l, hc]
        exact br_f (nI_nle (by omega) (by omega)) ⟨hin, hin, br_t hz h⟩
      · unfold wpY_logComplete
        dsimp only
        exact br_f (nI_ne0 (by omega) (by omega)) ⟨18, qy_lc (by omega) (fun _ => h) (fun z => absurd (hr.mp hz) z) 17 0 18 (by omega) (by omega) (fun j hj => absurd hj (by omega))⟩
    · refine ⟨false, fun post h => ?_, fun post h => ?_, fun _ => by omega⟩
      · unfold wpX_isComplete
        dsimp only
        rw [nI_pred l, hc]
        exact br_f (nI_nle (by omega) (by omega)) ⟨hin, hin, br_f hz h⟩
      · unfold wpY_logComplete
        dsimp only
        exact br_f (nI_ne0 (by omega) (by omega)) ⟨18, qy_lc (by omega) (fun z => absurd (hr.mpr z) hz) (fun _ => h) 17 0 18 (by omega) (by omega) (fun j hj => absurd hj (by omega))⟩
theorem qr_logref (hn8 : n ≤ 8) (hll : ll ≤ 32) (hLl : L ≤ ll) (hL : qr_L n L lk kp kn dp dg lnk li) :
    (so = 0 ∧ ∀ post : Int32 → Prop, post (-1) → wpX_logRefusal post (nI vl, nI cl, nI ll, nI n, xe, xa, nI m, xop, xon, so, xre, nI nl, xsc, xac, xau, xd, xb, xs, xo, xz, xdc, xou, xrv, xrn, nI K, xv, nI L, xco, ck, cp, cn, cd, ov, od, dv, dn, mks, lk, kp, kn, dp, dg)) ∨
    (¬ so = 0 ∧ (∀ post : Int32 → Prop, post (-10) → wpX_logRefusal post (nI vl, nI cl, nI ll, nI n, xe, xa, nI m, xop, xon, so, xre, nI nl, xsc, xac, xau, xd, xb, xs, xo, xz, xdc, xou, xrv, xrn, nI K, xv, nI L, xco, ck, cp, cn, cd, ov, od, dv, dn, mks, lk, kp, kn, dp, dg)) ∧ (∀ post : Int32 → Prop, post 1 → wpY_logComplete post (nI vl, nI cl, nI ll, so, nI n, nI m, nI L, nI K, kd, va, mr, cu, yco, lnk, li, st, tb))) ∨
    (¬ so = 0 ∧ L = ll ∧ (∀ post : Int32 → Prop, post (-4) → wpX_logRefusal post (nI vl, nI cl, nI ll, nI n, xe, xa, nI m, xop, xon, so, xre, nI nl, xsc, xac, xau, xd, xb, xs, xo, xz, xdc, xou, xrv, xrn, nI K, xv, nI L, xco, ck, cp, cn, cd, ov, od, dv, dn, mks, lk, kp, kn, dp, dg)) ∧ (∀ post : Int32 → Prop, post 0 → wpY_logComplete post (nI vl, nI cl, nI ll, so, nI n, nI m, nI L, nI K, kd, va, mr, cu, yco, lnk, li, st, tb))) ∨
    (¬ so = 0 ∧ L < ll ∧ (∀ post : Int32 → Prop, post 0 → wpX_logRefusal post (nI vl, nI cl, nI ll, nI n, xe, xa, nI m, xop, xon, so, xre, nI nl, xsc, xac, xau, xd, xb, xs, xo, xz, xdc, xou, xrv, xrn, nI K, xv, nI L, xco, ck, cp, cn, cd, ov, od, dv, dn, mks, lk, kp, kn, dp, dg)) ∧ (∀ post : Int32 → Prop, post 0 → wpY_logComplete post (nI vl, nI cl, nI ll, so, nI n, nI m, nI L, nI K, kd, va, mr, cu, yco, lnk, li, st, tb))) := by
  by_cases h0 : so = 0
  · refine Or.inl ⟨h0, fun post h => ?_⟩
    unfold wpX_logRefusal
    dsimp only
    exact br_t h0 h
  · obtain ⟨b, hX, hY, _⟩ := qr_cpl (so := so) (vl := vl) (cl := cl) (ll := ll) (m := m) (K := K) (nl := nl) (xe := xe) (xa := xa) (xop := xop) (xon := xon) (xre := xre) (xsc := xsc) (xac := xac) (xau := xau) (xd := xd) (xb := xb) (xs := xs) (xo := xo) (xz := xz) (xdc := xdc) (xou := xou) (xrv := xrv) (xrn := xrn) (xv := xv) (xco := xco) (ck := ck) (cp := cp) (cn := cn) (cd := cd) (ov := ov) (od := od) (dv := dv) (dn := dn) (mks := mks) (kd := kd) (va := va) (mr := mr) (cu := cu) (yco := yco) (st := st) (tb := tb) hn8 (by omega) hL
    cases b
    · rcases Nat.eq_or_lt_of_le hLl with e | e
      · refine Or.inr (Or.inr (Or.inl ⟨h0, e, fun post h => ?_, hY⟩))
        unfold wpX_logRefusal
        dsimp only
        exact br_f h0 (hX _ (br_t rfl (br_f (nI_nlt (by omega) (by omega)) h)))
      · refine Or.inr (Or.inr (Or.inr ⟨h0, e, fun post h => ?_, hY⟩))
        unfold wpX_logRefusal
        dsimp only
        exact br_f h0 (hX _ (br_t rfl (br_t (nI_lt e (by omega)) h)))
    · refine Or.inr (Or.inl ⟨h0, fun post h => ?_, hY⟩)
      unfold wpX_logRefusal
      dsimp only
      exact br_f h0 (hX _ (br_f (by decide) h))
end
/-- the dropped variables of a line -/
def qr_Dr (n : Nat) (xe : Int32) (o : Bool) (p q dr : Int32) : Prop :=
  ∀ j, bt dr j = true ↔ ((bt p j = true ∨ bt q j = true) ∧ ¬ bt xe j = o ∧ ¬ ∃ u, j < u ∧ u < n ∧ (bt p u = true ∨ bt q u = true) ∧ bt xe u = o)
def qr_st (st : Nat → Int32) (p q : Int32) : Prop := ∀ i, i < 8 → st (8 + (i + 1)) = qr_b (bt p i) ∧ st (8 - (i + 1)) = qr_b (bt q i)
def qr_tg (p dr : Int32) (i : Nat) : Int32 := qr_3 (bt p i && !bt dr i) (bt p i && bt dr i)
/-- the reference's row of a new line -/
def qr_Ln (L : Nat) (p q dr : Int32) (li li' : Nat → Int32) : Prop :=
  (∀ j, (j < L * 17 ∨ L * 17 + 17 ≤ j) → li' j = li j) ∧ (∀ i, i < 8 → li' (L * 17 + 8 + (i + 1)) = qr_tg p dr i ∧ li' (L * 17 + 8 - (i + 1)) = qr_tg q dr i) ∧ li' (L * 17 + 8) = 0
theorem qr_tg0 {p dr : Int32} {i : Nat} (h : bt p i = false) : qr_tg p dr i = 0 := by
  unfold qr_tg; rw [h]; rfl
theorem qr_tg1 {p dr : Int32} {i : Nat} (h : bt p i = true) (k : bt dr i = false) : qr_tg p dr i = 1 := by
  unfold qr_tg; rw [h, k]; rfl
theorem qr_tg2 {p dr : Int32} {i : Nat} (h : bt p i = true) (k : bt dr i = true) : qr_tg p dr i = 2 := by
  unfold qr_tg; rw [h, k]; rfl
theorem qr_L_add {n L : Nat} {kind p q dr : Int32} {lk kp kn dp dg lnk li li' : Nat → Int32} (hn8 : n ≤ 8) (hL32 : L < 32) (hk : kind = 1 ∨ kind = 2) (hp : ∀ j, bt p j = true → j < n) (hq : ∀ j, bt q j = true → j < n) (h : qr_L n L lk kp kn dp dg lnk li) (hl : qr_Ln L p q dr li li') :
    qr_L n (L + 1) (upd lk L kind) (upd kp L (p &&& (dr ^^^ (-1)))) (upd kn L (q &&& (dr ^^^ (-1)))) (upd dp L (p &&& dr)) (upd dg L (q &&& dr)) (upd lnk L kind) li' := by
  obtain ⟨h1, h2, h3⟩ := hl
  refine ⟨fun l hl => ?_, fun l i a b c => ?_⟩
  · by_cases e : l = L
    · rw [e, pk_us, pk_us, pk_us, pk_us, pk_us, pk_us]
      refine ⟨rfl, hk, ?_, fun j hj => ?_, fun j hj => ?_, fun i hi => ?_, h3⟩
      · intro j hj
        rcases hj with hj | hj | hj | hj
        · exact hp j (qb_andnT.mp hj).1
        · exact hq j (qb_andnT.mp hj).1
        · exact hp j (qb_andT.mp hj).1
        · exact hq j (qb_andT.mp hj).1
      · rw [b_and, (qb_andnT.mp hj).2, Bool.and_false]
      · rw [b_and, (qb_andnT.mp hj).2, Bool.and_false]
      · rw [(h2 i hi).1, (h2 i hi).2, qb_andn, qb_andn, b_and, b_and]
        exact ⟨rfl, rfl⟩
    · rw [pk_un e, pk_un e, pk_un e, pk_un e, pk_un e, pk_un e]
      obtain ⟨a1, a2, a3, a4, a5, a6, a7⟩ := h.1 l (by omega)
      refine ⟨a1, a2, a3, a4, a5, fun i hi => ?_, ?_⟩
      · rw [h1 _ (Or.inl (by omega)), h1 _ (Or.inl (by omega))]; exact a6 i hi
      · rw [h1 _ (Or.inl (by omega))]; exact a7
  · rw [h1 _ (Or.inr (by omega))]
    exact h.2 l i (by omega) b c
section
variable {xvl xcl xll xn xe xa xm xop xon xso xre xnl xsc xac xau xd xb xs xo xz xdc xou xrv xrn xk xv xl xco : Int32} {ck cp cn cd ov od dv dn mks lk kp kn dp dg : Nat → Int32} {n L : Nat}
theorem qx_a39 {post : Int32 → SX → Prop} {kind p q w x5 x7 : Int32} (hL : L < 32) (h : ∀ dr : Int32, dr = (x5 &&& (w ^^^ (-1))) &&& (x7 ^^^ (-1)) → post (nI L) (xvl, xcl, xll, xn, xe, xa, xm, xop, xon, xso, xre, xnl, xsc, xac, xau, xd, xb, xs, xo, xz, xdc, xou, xrv, xrn, xk, xv, nI (L + 1), xco, ck, cp, cn, cd, ov, od, dv, dn, mks, upd lk L kind, upd kp L (p &&& (dr ^^^ (-1))), upd kn L (q &&& (dr ^^^ (-1))), upd dp L (p &&& dr), upd dg L (q &&& dr))) : wX_addLine_39 post kind p q w x5 x7 xvl xcl xll xn xe xa xm xop xon xso xre xnl xsc xac xau xd xb xs xo xz xdc xou xrv xrn xk xv (nI L) xco ck cp cn cd ov od dv dn mks lk kp kn dp dg := by
  have hin : vp_in (nI L) 32 := vp_in_nI hL (by omega)
  have hc : (nI L).toNatClampNeg = L := nI_clamp (by omega)
  unfold wX_addLine_39
  rw [hc]
  exact nm_e ⟨hin, nm_e ⟨hin, nm_e ⟨hin, nm_e ⟨hin, nm_e ⟨hin, nm_e (nm_r (nI_1 L) (h _ rfl))⟩⟩⟩⟩⟩
theorem qx_addLine {post : Int32 → SX → Prop} {o : Bool} {p q : Int32} (hn8 : n ≤ 8) (hOM : qb_OM n xe xa) (hL : L < 32) (hp : ∀ j, bt p j = true → j < n) (hq : ∀ j, bt q j = true → j < n) (h : ∀ dr : Int32, qr_Dr n xe o p q dr → post (nI L) (xvl, xcl, xll, xn, xe, xa, xm, xop, xon, xso, xre, xnl, xsc, xac, xau, xd, xb, xs, xo, xz, xdc, xou, xrv, xrn, xk, xv, nI (L + 1), xco, ck, cp, cn, cd, ov, od, dv, dn, mks, upd lk L (qb_kd o), upd kp L (p &&& (dr ^^^ (-1))), upd kn L (q &&& (dr ^^^ (-1))), upd dp L (p &&& dr), upd dg L (q &&& dr))) : wpX_addLine post (xvl, xcl, xll, xn, xe, xa, xm, xop, xon, xso, xre, xnl, xsc, xac, xau, xd, xb, xs, xo, xz, xdc, xou, xrv, xrn, xk, xv, nI L, xco, ck, cp, cn, cd, ov, od, dv, dn, mks, lk, kp, kn, dp, dg) (qb_kd o) p q := by
  unfold wpX_addLine
  dsimp only
  refine qx_own rfl hOM (fun w hw => ?_)
  have hown : ∀ u, bt ((p ||| q) &&& w) u = true ↔ (u < n ∧ (bt p u = true ∨ bt q u = true) ∧ bt xe u = o) := by
    intro u
    rw [qb_andT, qb_orT, hw u]
    exact ⟨fun z => ⟨z.2.1, z.1, z.2.2⟩, fun z => ⟨z.2.1, z.1, z.2.2⟩⟩
  refine nm_e (nm_e (br_c (fun h0 => ?_) (fun h0 => ?_)))
  · refine qx_a39 hL (fun dr hdr => h dr (fun j => ?_))
    rw [hdr, qb_andnT, qb_andnT, qb_orT, b_0]
    constructor
    · intro z
      have hj : j < n := z.1.1.elim (hp j) (hq j)
      refine ⟨z.1.1, fun e => ?_, ?_⟩
      · have := z.1.2
        rw [(hw j).mpr ⟨hj, e⟩] at this
        exact absurd this (by decide)
      · rintro ⟨u, _, u2, u3, u4⟩
        exact qb_nzi ((hown u).mpr ⟨u2, u3, u4⟩) h0
    · intro z
      exact ⟨⟨z.1, qb_ncf.mp (fun y => z.2.1 ((hw j).mp y).2)⟩, rfl⟩
  · refine qx_hi (fun hh h8 hb1 hb2 => ?_)
    have hs := qb_hiT (fun j hj => by have := ((hown j).mp hj).1; omega) h0 hb1 hb2
    obtain ⟨s1, s2, s3⟩ := (hown hh).mp hs
    refine nm_e (qx_a39 hL (fun dr hdr => h dr (fun j => ?_)))
    rw [hdr, qb_andnT, qb_andnT, qb_orT, qb_lowF (by omega)]
    constructor
    · intro z
      have hj : j < n := z.1.1.elim (hp j) (hq j)
      refine ⟨z.1.1, fun e => ?_, ?_⟩
      · have := z.1.2
        rw [(hw j).mpr ⟨hj, e⟩] at this
        exact absurd this (by decide)
      · rintro ⟨u, u1, u2, u3, u4⟩
        have hu := (hown u).mpr ⟨u2, u3, u4⟩
        have := z.2
        rw [hb2 u (by omega) (by omega)] at hu
        exact absurd hu (by decide)
    · intro z
      refine ⟨⟨z.1, qb_ncf.mp (fun y => z.2.1 ((hw j).mp y).2)⟩, ?_⟩
      rcases Nat.lt_or_ge j hh with h4 | h4
      · exact absurd ⟨hh, h4, s1, s2, s3⟩ z.2.2
      · exact h4
end
theorem qr_8p (i : Nat) : (8 : Int32) + nI i = nI (8 + i) := nI_add 8 i
theorem qr_8m {i : Nat} (h : i ≤ 8) : (8 : Int32) - nI i = nI (8 - i) := pk_sub (a := 8) h
theorem qr_8n {i : Nat} (h : i ≤ 8) : (8 : Int32) + (-nI i) = nI (8 - i) := (qr_an 8 (nI i)).trans (qr_8m h)
theorem qr_ng1 (i : Nat) : -nI (i + 1) + 1 = -nI i := by
  rw [← nI_1, Int32.neg_add, Int32.sub_add_cancel]
section
variable {ymv ymc yml yso yn ym yl yk : Int32} {kd va mr cu yco lnk li st tb : Nat → Int32} {n L : Nat} {xe xa : Int32} {o : Bool} {p q dr : Int32}
def qr_hd (xe : Int32) (o : Bool) (p q : Int32) (u : Nat) : Prop := (bt p u = true ∨ bt q u = true) ∧ bt xe u = o
theorem qy_kd (hV : qr_V n xe xa kd) {i : Nat} (hi : i < n) : kd (i + 1) = qb_kd (bt xe i) := by
  rcases hV.2 i hi with ⟨h1, h2⟩ | ⟨h1, h2⟩
  · rw [h1, h2]; rfl
  · rw [h1, h2]; rfl
theorem qy_kde {a b : Bool} : qb_kd a = qb_kd b ↔ a = b := by cases a <;> cases b <;> decide
theorem qy_a71 {post : Int32 → SY → Prop} {J : Int32 → (Nat → Int32) → (Nat → Int32) → (Nat → Int32) → (Nat → Int32) → (Nat → Int32) → (Nat → Int32) → (Nat → Int32) → (Nat → Int32) → (Nat → Int32) → Prop} {x1 x4 x4' : Int32} {i idx : Nat} (hn8 : n ≤ 8) (hV : qr_V n xe xa kd) (hst : qr_st st p q) (hi : i < n) (hix : ((nI L * 17) + 8) + x4 = nI idx) (hidx : idx < 544) (hx4 : x4 + 1 = x4')
    (hJ : ∀ r : Int32, ((r = 2 ∧ (¬ bt xe i = o ∧ ¬ ∃ u, i < u ∧ u < n ∧ qr_hd xe o p q u)) ∨ (r = 1 ∧ ¬ (¬ bt xe i = o ∧ ¬ ∃ u, i < u ∧ u < n ∧ qr_hd xe o p q u))) → J x4' kd va mr cu yco lnk (upd li idx r) st tb) :
    ∀ (k u f : Nat) (x6 : Int32), u + k = n → k < f → i < u → (¬ x6 = 0 ↔ ∃ w, i < w ∧ w < u ∧ qr_hd xe o p q w) →
    wY_addLine_71 post J x1 (qb_kd (!o)) (qb_kd o) x4 (nI (i + 1)) ymv ymc yml yso (nI n) ym (nI L) yk kd va mr cu yco lnk li st tb f x6 (nI (u + 1)) := by
  intro k
  induction k with
  | zero =>
    intro u f x6 hu hf hiu hI
    obtain ⟨f, rfl⟩ : ∃ g, f = g + 1 := ⟨f - 1, by omega⟩
    have e : u = n := by omega
    subst e
    have hin : vp_in (nI (i + 1)) 9 := vp_in_nI (by omega) (by omega)
    have hin2 : vp_in (nI idx) 544 := vp_in_nI hidx (by omega)
    have hc : (nI idx).toNatClampNeg = idx := nI_clamp (by omega)
    refine br_t (nI_lt (by omega) (by omega)) ?_
    rw [hix, hc, nI_clamp (by omega : i + 1 < 2 ^ 31), qy_kd hV hi, qy_kde]
    refine ⟨hin, br_c (fun h1 => br_c (fun h2 => ⟨hin2, nm_e (nm_r hx4 (hJ 2 (Or.inl ⟨rfl, ?_, fun z => hI.mpr z h2⟩)))⟩) (fun h2 => ⟨hin2, nm_e (nm_r hx4 (hJ 1 (Or.inr ⟨rfl, fun z => z.2 (hI.mp h2)⟩)))⟩)) (fun h1 => ⟨hin2, nm_e (nm_r hx4 (hJ 1 (Or.inr ⟨rfl, fun z => h1 ?_⟩)))⟩)⟩
    · rw [h1]; cases o <;> decide
    · have := z.1
      revert this
      cases bt xe i <;> cases o <;> decide
  | succ k ih =>
    intro u f x6 hu hf hiu hI
    obtain ⟨f, rfl⟩ : ∃ g, f = g + 1 := ⟨f - 1, by omega⟩
    have hin : vp_in (nI (u + 1)) 9 := vp_in_nI (by omega) (by omega)
    have hi1 : vp_in (nI (8 + (u + 1))) 17 := vp_in_nI (by omega) (by omega)
    have hi2 : vp_in (nI (8 - (u + 1))) 17 := vp_in_nI (by omega) (by omega)
    obtain ⟨s1, s2⟩ := hst u (by omega)
    have same : ¬ qr_hd xe o p q u → wY_addLine_71 post J x1 (qb_kd (!o)) (qb_kd o) x4 (nI (i + 1)) ymv ymc yml yso (nI n) ym (nI L) yk kd va mr cu yco lnk li st tb f x6 (nI (u + 1 + 1)) := fun hn =>
      ih (u + 1) f x6 (by omega) (by omega) (by omega) (hI.trans ⟨fun ⟨w, a, b, c⟩ => ⟨w, a, by omega, c⟩, fun ⟨w, a, b, c⟩ => by
        by_cases e : w = u
        · rw [e] at c; exact absurd c hn
        · exact ⟨w, a, by omega, c⟩⟩)
    have one : qr_hd xe o p q u → wY_addLine_71 post J x1 (qb_kd (!o)) (qb_kd o) x4 (nI (i + 1)) ymv ymc yml yso (nI n) ym (nI L) yk kd va mr cu yco lnk li st tb f 1 (nI (u + 1 + 1)) := fun hy =>
      ih (u + 1) f 1 (by omega) (by omega) (by omega) ⟨fun _ => ⟨u, hiu, by omega, hy⟩, fun _ => by decide⟩
    refine br_f (nI_nlt (by omega) (by omega)) ?_
    rw [qr_8p, qr_8m (by omega), nI_clamp (by omega : u + 1 < 2 ^ 31), nI_clamp (by omega : 8 + (u + 1) < 2 ^ 31), nI_clamp (by omega : 8 - (u + 1) < 2 ^ 31), s1, s2, qy_kd hV (by omega), qy_kde, qr_be, qr_be]
    refine ⟨hin, br_c (fun h1 => ⟨hi1, br_c (fun h2 => ⟨hi2, br_c (fun h3 => nm_r (nI_1 (u + 1)) (same ?_)) (fun h3 => nm_r (nI_1 (u + 1)) (one ⟨Or.inr (qb_ncT.mp h3), h1⟩))⟩) (fun h2 => nm_r (nI_1 (u + 1)) (one ⟨Or.inl (qb_ncT.mp h2), h1⟩))⟩) (fun h1 => nm_r (nI_1 (u + 1)) (same (fun z => h1 z.2)))⟩
    rintro ⟨z | z, _⟩
    · rw [h2] at z; exact absurd z (by decide)
    · rw [h3] at z; exact absurd z (by decide)
theorem qr_drr {i : Nat} {r : Int32} (hdr : qr_Dr n xe o p q dr) (hp : bt p i = true ∨ bt q i = true) (h : (r = 2 ∧ (¬ bt xe i = o ∧ ¬ ∃ u, i < u ∧ u < n ∧ qr_hd xe o p q u)) ∨ (r = 1 ∧ ¬ (¬ bt xe i = o ∧ ¬ ∃ u, i < u ∧ u < n ∧ qr_hd xe o p q u))) : (r = 2 ∧ bt dr i = true) ∨ (r = 1 ∧ bt dr i = false) := by
  rcases h with ⟨h1, h2⟩ | ⟨h1, h2⟩
  · exact Or.inl ⟨h1, (hdr i).mpr ⟨hp, h2.1, h2.2⟩⟩
  · exact Or.inr ⟨h1, qb_ncf.mp (fun z => h2 ((hdr i).mp z).2)⟩
theorem qy_a20p {post : Int32 → SY → Prop} {li0 : Nat → Int32} (hn8 : n ≤ 8) (hV : qr_V n xe xa kd) (hL : L < 32) (hp : ∀ j, bt p j = true → j < n) (hst : qr_st st p q) (hdr : qr_Dr n xe o p q dr)
    (h : ∀ li : Nat → Int32, qr_Ln L p q dr li0 li → post (nI L) (ymv, ymc, yml, yso, nI n, ym, nI (L + 1), yk, kd, va, mr, cu, yco, upd lnk L (qb_kd o), li, st, tb)) :
    ∀ (k i f : Nat) (li : Nat → Int32), i + k = n → k < f → (∀ j, (j < L * 17 ∨ L * 17 + 17 ≤ j) → li j = li0 j) → (∀ j, j < 8 → li (L * 17 + 8 - (j + 1)) = qr_tg q dr j) → (∀ j, j < 8 → li (L * 17 + 8 + (j + 1)) = if j < i then qr_tg p dr j else 0) → li (L * 17 + 8) = 0 →
    wY_addLine_20 post (qb_kd o) (qb_kd (!o)) (qb_kd o) ymv ymc yml yso (nI n) ym (nI L) yk f (nI (i + 1)) kd va mr cu yco lnk li st tb := by
  intro k
  induction k with
  | zero =>
    intro i f li hi hf h1 h2 h3 h4
    obtain ⟨f, rfl⟩ : ∃ g, f = g + 1 := ⟨f - 1, by omega⟩
    have e : i = n := by omega
    subst e
    have hc : (nI L).toNatClampNeg = L := nI_clamp (by omega)
    refine br_t (nI_lt (by omega) (by omega)) ⟨vp_in_nI hL (by omega), nm_r (e' := upd lnk L (qb_kd o)) (by rw [hc]) (nm_r (nI_1 L) ?_)⟩
    rw [nI_pred L]
    refine h li ⟨h1, fun j hj => ⟨?_, h2 j hj⟩, h4⟩
    rw [h3 j hj]
    by_cases hji : j < i
    · rw [if_pos hji]
    · rw [if_neg hji, qr_tg0 (qb_ncf.mp (fun z => hji (hp j z)))]
  | succ k ih =>
    intro i f li hi hf h1 h2 h3 h4
    obtain ⟨f, rfl⟩ : ∃ g, f = g + 1 := ⟨f - 1, by omega⟩
    have hi1 : vp_in (nI (8 + (i + 1))) 17 := vp_in_nI (by omega) (by omega)
    obtain ⟨s1, s2⟩ := hst i (by omega)
    have next : ∀ li' : Nat → Int32, (∀ j, j ≠ L * 17 + 8 + (i + 1) → li' j = li j) → li' (L * 17 + 8 + (i + 1)) = qr_tg p dr i → wY_addLine_20 post (qb_kd o) (qb_kd (!o)) (qb_kd o) ymv ymc yml yso (nI n) ym (nI L) yk f (nI (i + 1 + 1)) kd va mr cu yco lnk li' st tb := by
      intro li' g1 g2
      refine ih (i + 1) f li' (by omega) (by omega) (fun j hj => ?_) (fun j hj => ?_) (fun j hj => ?_) ?_
      · rw [g1 j (by omega)]; exact h1 j hj
      · rw [g1 _ (by omega)]; exact h2 j hj
      · by_cases e : j = i
        · rw [e, g2, if_pos (by omega)]
        · rw [g1 _ (by omega), h3 j hj]
          by_cases hji : j < i
          · rw [if_pos hji, if_pos (by omega)]
          · rw [if_neg hji, if_neg (by omega)]
      · rw [g1 _ (by omega)]; exact h4
    refine br_f (nI_nlt (by omega) (by omega)) (br_f (nI_ne0 (by omega) (by omega)) ?_)
    rw [qr_8p, nI_clamp (by omega : 8 + (i + 1) < 2 ^ 31), s1, qr_be]
    refine ⟨hi1, br_c (fun hb => nm_r (nI_1 (i + 1)) (next li (fun _ _ => rfl) ?_)) (fun hb => br_t (nI_pos' (by omega)) (nm_r (nI_1 (i + 1)) ⟨n - (i + 1) + 1, ?_⟩))⟩
    · rw [h3 i (by omega), if_neg (by omega), qr_tg0 hb]
    · have hb' := qb_ncT.mp hb
      refine qy_a71 hn8 hV hst (by omega) (qy_ix1 L (i + 1)) (by omega) (nI_1 (i + 1)) (fun r hr => next _ (fun j hj => pk_un hj) ?_) (n - (i + 1)) (i + 1) _ 0 (by omega) (by omega) (by omega) ⟨fun z => absurd rfl z, fun ⟨w, a, b, _⟩ => absurd b (by omega)⟩
      rw [pk_us]
      rcases qr_drr hdr (Or.inl hb') hr with ⟨rfl, z⟩ | ⟨rfl, z⟩
      · exact (qr_tg2 hb' z).symm
      · exact (qr_tg1 hb' z).symm
theorem qy_a20n {post : Int32 → SY → Prop} {li0 : Nat → Int32} (hn8 : n ≤ 8) (hV : qr_V n xe xa kd) (hL : L < 32) (hp : ∀ j, bt p j = true → j < n) (hst : qr_st st p q) (hdr : qr_Dr n xe o p q dr)
    (h : ∀ li : Nat → Int32, qr_Ln L p q dr li0 li → post (nI L) (ymv, ymc, yml, yso, nI n, ym, nI (L + 1), yk, kd, va, mr, cu, yco, upd lnk L (qb_kd o), li, st, tb)) :
    ∀ (i f : Nat) (li : Nat → Int32), i ≤ n → n + 1 + i < f → (∀ j, (j < L * 17 ∨ L * 17 + 17 ≤ j) → li j = li0 j) → (∀ j, j < 8 → li (L * 17 + 8 - (j + 1)) = if i ≤ j then qr_tg q dr j else 0) → (∀ j, j < 8 → li (L * 17 + 8 + (j + 1)) = 0) → li (L * 17 + 8) = 0 →
    wY_addLine_20 post (qb_kd o) (qb_kd (!o)) (qb_kd o) ymv ymc yml yso (nI n) ym (nI L) yk f (-nI i) kd va mr cu yco lnk li st tb := by
  intro i
  induction i with
  | zero =>
    intro f li hi hf h1 h2 h3 h4
    obtain ⟨f, rfl⟩ : ∃ g, f = g + 1 := ⟨f - 1, by omega⟩
    refine br_f (nI_pos (n := n) (by omega)) (br_t rfl (nm_r (e' := nI (0 + 1)) (by decide) ?_))
    refine qy_a20p hn8 hV hL hp hst hdr h n 0 f li (by omega) (by omega) h1 (fun j hj => ?_) (fun j hj => ?_) h4
    · rw [h2 j hj, if_pos (by omega)]
    · rw [h3 j hj, if_neg (by omega)]
  | succ i ih =>
    intro f li hi hf h1 h2 h3 h4
    obtain ⟨f, rfl⟩ : ∃ g, f = g + 1 := ⟨f - 1, by omega⟩
    have hi1 : vp_in (nI (8 - (i + 1))) 17 := vp_in_nI (by omega) (by omega)
    obtain ⟨s1, s2⟩ := hst i (by omega)
    have next : ∀ li' : Nat → Int32, (∀ j, j ≠ L * 17 + 8 - (i + 1) → li' j = li j) → li' (L * 17 + 8 - (i + 1)) = qr_tg q dr i → wY_addLine_20 post (qb_kd o) (qb_kd (!o)) (qb_kd o) ymv ymc yml yso (nI n) ym (nI L) yk f (-nI i) kd va mr cu yco lnk li' st tb := by
      intro li' g1 g2
      refine ih f li' (by omega) (by omega) (fun j hj => ?_) (fun j hj => ?_) (fun j hj => ?_) ?_
      · rw [g1 j (by omega)]; exact h1 j hj
      · by_cases e : j = i
        · rw [e, g2, if_pos (by omega)]
        · rw [g1 _ (by omega), h2 j hj]
          by_cases hji : i + 1 ≤ j
          · rw [if_pos hji, if_pos (by omega)]
          · rw [if_neg hji, if_neg (by omega)]
      · rw [g1 _ (by omega)]; exact h3 j hj
      · rw [g1 _ (by omega)]; exact h4
    refine br_f (qr_nlt (by omega) hn8) (br_f (qr_nz (by omega)) ?_)
    rw [qr_8n (by omega), nI_clamp (by omega : 8 - (i + 1) < 2 ^ 31), s2, qr_be]
    refine ⟨hi1, br_c (fun hb => nm_r (qr_ng1 i) (next li (fun _ _ => rfl) ?_)) (fun hb => br_f ?_ (nm_r (Int32.neg_neg) (nm_r (nI_1 (i + 1)) ⟨n - (i + 1) + 1, ?_⟩)))⟩
    · rw [h2 i (by omega), if_neg (by omega), qr_tg0 hb]
    · rw [Int32.le_iff_toInt_le, sb_negT (by omega), qr_i0]; omega
    · have hb' := qb_ncT.mp hb
      refine qy_a71 hn8 hV hst (by omega) ((qr_an _ _).trans (qy_ix2 L (v := i + 1) (by omega))) (by omega) (qr_ng1 i) (fun r hr => next _ (fun j hj => pk_un hj) ?_) (n - (i + 1)) (i + 1) _ 0 (by omega) (by omega) (by omega) ⟨fun z => absurd rfl z, fun ⟨w, a, b, _⟩ => absurd b (by omega)⟩
      rw [pk_us]
      rcases qr_drr hdr (Or.inr hb') hr with ⟨rfl, z⟩ | ⟨rfl, z⟩
      · exact (qr_tg2 hb' z).symm
      · exact (qr_tg1 hb' z).symm
theorem qy_addLine {post : Int32 → SY → Prop} (hn8 : n ≤ 8) (hV : qr_V n xe xa kd) (hL : L < 32) (hp : ∀ j, bt p j = true → j < n) (hq : ∀ j, bt q j = true → j < n) (hst : qr_st st p q) (hdr : qr_Dr n xe o p q dr) (hz : ∀ i, i < 17 → li (L * 17 + i) = 0)
    (h : ∀ li' : Nat → Int32, qr_Ln L p q dr li li' → post (nI L) (ymv, ymc, yml, yso, nI n, ym, nI (L + 1), yk, kd, va, mr, cu, yco, upd lnk L (qb_kd o), li', st, tb)) : wpY_addLine post (ymv, ymc, yml, yso, nI n, ym, nI L, yk, kd, va, mr, cu, yco, lnk, li, st, tb) (qb_kd o) := by
  have key := qy_a20n hn8 hV hL hp hst hdr h n (2 * n + 2) li (Nat.le_refl _) (by omega) (fun _ _ => rfl) (fun j hj => by
    rw [show L * 17 + 8 - (j + 1) = L * 17 + (7 - j) by omega, hz _ (by omega)]
    split
    · exact (qr_tg0 (qb_ncf.mp (fun z => by have := hq j z; omega))).symm
    · rfl) (fun j hj => by rw [show L * 17 + 8 + (j + 1) = L * 17 + (9 + j) by omega, hz _ (by omega)]) (hz 8 (by omega))
  unfold wpY_addLine
  dsimp only
  cases o
  · exact br_t rfl (nm_e ⟨_, key⟩)
  · exact br_f (by decide) (nm_e ⟨_, key⟩)
end
end
section
/-! takeClause, takeCube -/
theorem qr_row01 {n c : Nat} {cu : Nat → Int32} {p q : Int32} (h : qr_row n cu c p q) : ∀ j, j < 17 → cu (c * 17 + j) = 0 ∨ cu (c * 17 + j) = 1 := by
  have hb : ∀ b : Bool, qr_b b = 0 ∨ qr_b b = 1 := by intro b; cases b <;> decide
  intro j hj
  by_cases e8 : j = 8
  · rw [e8, h.2.2.2.2]; exact Or.inl rfl
  · by_cases hlt : j < 8
    · have := (h.2.2.2.1 (7 - j) (by omega)).2
      rw [show c * 17 + 8 - (7 - j + 1) = c * 17 + j by omega] at this
      rw [this]; exact hb _
    · have := (h.2.2.2.1 (j - 9) (by omega)).1
      rw [show c * 17 + 8 + (j - 9 + 1) = c * 17 + j by omega] at this
      rw [this]; exact hb _
theorem qr_nar {x : Int32} (h : x = 0 ∨ x = 1) : vp_nar .boolean x = x := by
  rcases h with rfl | rfl <;> rfl
section
variable {ymv ymc yml yso yn ym yl yk : Int32} {kd va mr cu yco lnk li st tb : Nat → Int32} {n m L : Nat} {xe xa p q dr : Int32}
theorem qy_tc50 {post : Int32 → SY → Prop} {c : Nat} (hn8 : n ≤ 8) (hV : qr_V n xe xa kd) (hL : L < 32) (hc : c < 25) (hrow : qr_row n cu c p q) (hdr : qr_Dr n xe true p q dr) (hz : ∀ i, i < 17 → li (L * 17 + i) = 0)
    (h : ∀ st li' : Nat → Int32, qr_Ln L p q dr li li' → post (nI L) (ymv, ymc, yml, yso, nI n, ym, nI (L + 1), yk, kd, va, mr, cu, yco, upd lnk L 1, li', st, tb)) :
    ∀ (k i f : Nat) (st : Nat → Int32), i + k = 17 → k < f → (∀ j, j < i → st j = cu (c * 17 + j)) → wY_takeClause_50 post (nI c) ymv ymc yml yso (nI n) ym (nI L) yk f (nI i) kd va mr cu yco lnk li st tb := by
  intro k
  induction k with
  | zero =>
    intro i f st hi hf hI
    obtain ⟨f, rfl⟩ : ∃ g, f = g + 1 := ⟨f - 1, by omega⟩
    have e : i = 17 := by omega
    subst e
    refine br_t (nI_le (Nat.le_refl _) (by omega)) (qy_addLine (o := true) hn8 hV hL hrow.1 hrow.2.1 (fun j hj => ?_) hdr hz (fun li' hl => h st li' hl))
    rw [hI _ (by omega), hI _ (by omega), show c * 17 + (8 + (j + 1)) = c * 17 + 8 + (j + 1) by omega, show c * 17 + (8 - (j + 1)) = c * 17 + 8 - (j + 1) by omega]
    exact hrow.2.2.2.1 j hj
  | succ k ih =>
    intro i f st hi hf hI
    obtain ⟨f, rfl⟩ : ∃ g, f = g + 1 := ⟨f - 1, by omega⟩
    refine br_f (nI_ge (b := 17) (by omega) (by omega)) ?_
    rw [qy_ix3, nI_clamp (by omega : c * 17 + i < 2 ^ 31), nI_clamp (by omega : i < 2 ^ 31), qr_nar (qr_row01 hrow i (by omega))]
    refine ⟨vp_in_nI (by omega) (by omega), vp_in_nI (by omega) (by omega), nm_e (nm_r (nI_1 i) (ih (i + 1) f _ (by omega) (by omega) (fun j hj => ?_)))⟩
    by_cases e : j = i
    · rw [e, pk_us]
    · rw [pk_un e]; exact hI j (by omega)
end
theorem i_vc_takeClause {k : Nat} {u : SX} {v : SY} (I : i_Rel k u v) (hk : k + 4 ≤ 2051) (v1 : Int32) : wpX_takeClause (fun r u' => wpY_takeClause (fun r' v' => r' = r ∧ i_Rel (k + 4) u' v') v v1) u v1 := by
  refine qr_el (P := fun u v => wpX_takeClause (fun r u' => wpY_takeClause (fun r' v' => r' = r ∧ i_Rel (k + 4) u' v') v v1) u v1) ?_ I
  intro vl cl ll n m L K nl so xe xa xop xon xre xsc xac xau xd xb xs xo xz xdc xou xrv xrn xv xco ck cp cn cd ov od dv dn mks lk kp kn dp dg kd va mr cu yco lnk li st tb hR
  obtain ⟨⟨b1, b2, b3, b4, b5, b6, b7, b8⟩, hV, hC, hL, hM, hS⟩ := hR
  have keep : i_Rel (k + 4) (nI vl, nI cl, nI ll, nI n, xe, xa, nI m, xop, xon, so, xre, nI nl, xsc, xac, xau, xd, xb, xs, xo, xz, xdc, xou, xrv, xrn, nI K, xv, nI L, xco, ck, cp, cn, cd, ov, od, dv, dn, mks, lk, kp, kn, dp, dg) (nI vl, nI cl, nI ll, so, nI n, nI m, nI L, nI K, kd, va, mr, cu, yco, lnk, li, st, tb) := qr_in ⟨⟨b1, b2, b3, b4, b5, b6, b7, b8⟩, hV, hC, hL, hM, hS⟩
  have hn8 : n ≤ 8 := by omega
  have LR : (so = 0 ∧ ∀ post : Int32 → Prop, post (-1) → wpX_logRefusal post (nI vl, nI cl, nI ll, nI n, xe, xa, nI m, xop, xon, so, xre, nI nl, xsc, xac, xau, xd, xb, xs, xo, xz, xdc, xou, xrv, xrn, nI K, xv, nI L, xco, ck, cp, cn, cd, ov, od, dv, dn, mks, lk, kp, kn, dp, dg)) ∨
      (¬ so = 0 ∧ (∀ post : Int32 → Prop, post (-10) → wpX_logRefusal post (nI vl, nI cl, nI ll, nI n, xe, xa, nI m, xop, xon, so, xre, nI nl, xsc, xac, xau, xd, xb, xs, xo, xz, xdc, xou, xrv, xrn, nI K, xv, nI L, xco, ck, cp, cn, cd, ov, od, dv, dn, mks, lk, kp, kn, dp, dg)) ∧ (∀ post : Int32 → Prop, post 1 → wpY_logComplete post (nI vl, nI cl, nI ll, so, nI n, nI m, nI L, nI K, kd, va, mr, cu, yco, lnk, li, st, tb))) ∨
      (¬ so = 0 ∧ L = ll ∧ (∀ post : Int32 → Prop, post (-4) → wpX_logRefusal post (nI vl, nI cl, nI ll, nI n, xe, xa, nI m, xop, xon, so, xre, nI nl, xsc, xac, xau, xd, xb, xs, xo, xz, xdc, xou, xrv, xrn, nI K, xv, nI L, xco, ck, cp, cn, cd, ov, od, dv, dn, mks, lk, kp, kn, dp, dg)) ∧ (∀ post : Int32 → Prop, post 0 → wpY_logComplete post (nI vl, nI cl, nI ll, so, nI n, nI m, nI L, nI K, kd, va, mr, cu, yco, lnk, li, st, tb))) ∨
      (¬ so = 0 ∧ L < ll ∧ (∀ post : Int32 → Prop, post 0 → wpX_logRefusal post (nI vl, nI cl, nI ll, nI n, xe, xa, nI m, xop, xon, so, xre, nI nl, xsc, xac, xau, xd, xb, xs, xo, xz, xdc, xou, xrv, xrn, nI K, xv, nI L, xco, ck, cp, cn, cd, ov, od, dv, dn, mks, lk, kp, kn, dp, dg)) ∧ (∀ post : Int32 → Prop, post 0 → wpY_logComplete post (nI vl, nI cl, nI ll, so, nI n, nI m, nI L, nI K, kd, va, mr, cu, yco, lnk, li, st, tb))) := qr_logref hn8 b3 b6 hL
  unfold wpX_takeClause
  dsimp only
  rcases LR with ⟨h0, hX⟩ | ⟨hne, hX, hY⟩ | ⟨hne, e, hX, hY⟩ | ⟨hne, hlt, hX, hY⟩
  · refine hX _ (br_f (by decide) ?_)
    exact br_t h0 ⟨rfl, keep⟩
  · refine hX _ (br_f (by decide) ?_)
    exact br_f hne (hY _ (br_f (by decide) ⟨rfl, keep⟩))
  · refine hX _ (br_f (by decide) ?_)
    exact br_f hne (hY _ (br_t rfl (br_t (congrArg nI e) ⟨rfl, keep⟩)))
  · have hLe : ¬ nI L = nI ll := fun e => by rw [nI_eq (by omega) (by omega)] at e; omega
    rcases qr_ix v1 (n := m) (by omega) with h0 | ⟨h0, _, h2⟩ | ⟨c, hc, rfl⟩
    · refine hX _ (br_t rfl (br_t h0 ?_))
      exact br_f hne (hY _ (br_t rfl (br_f hLe (br_t h0 ⟨rfl, keep⟩))))
    · refine hX _ (br_t rfl (br_f h0 (br_f h2 ?_)))
      exact br_f hne (hY _ (br_t rfl (br_f hLe (br_f h0 (br_f h2 ⟨rfl, keep⟩)))))
    · have hp0 : ¬ nI c < 0 := nI_pos (by omega)
      have hcm : nI c < nI m := nI_lt hc (by omega)
      have hin : vp_in (nI c) 88 := vp_in_nI (by omega) (by omega)
      have hrow := (hC.1 c hc).2.1
      rw [nI_clamp (by omega : c < 2 ^ 31)]
      refine hX _ (br_t rfl (br_f hp0 (br_t hcm ⟨hin, hin, qx_addLine (o := true) hn8 hV.1 (by omega) hrow.1 hrow.2.1 (fun dr hdr => ?_)⟩)))
      refine br_f hne (hY _ (br_t rfl (br_f hLe (br_f hp0 (br_t hcm ⟨18, qy_tc50 hn8 hV (by omega) (by omega) hrow hdr (fun i hi => hL.2 L i (Nat.le_refl _) (by omega) hi) (fun st li' hl => ⟨rfl, ?_⟩) 17 0 18 st (by omega) (by omega) (fun j hj => absurd hj (by omega))⟩)))))
      exact qr_in ⟨⟨b1, b2, b3, b4, b5, hlt, b7, b8⟩, hV, hC, qr_L_add hn8 (by omega) (Or.inl rfl) hrow.1 hrow.2.1 hL hl, hM, hS⟩
theorem qr_rng {x : Int32} {n : Nat} (hn : n ≤ 8) : (∀ j, bt x j = true → j < n) ↔ (¬ x < 0 ∧ ¬ nI (2 ^ n) ≤ x) := by
  have h256 := qb_p256 hn
  constructor
  · intro h
    obtain ⟨w, hw, rfl⟩ := qb_small (by omega) h
    exact ⟨nI_pos (by omega), nI_ge hw (by omega)⟩
  · rintro ⟨h1, h2⟩ j hj
    obtain ⟨w, hw, rfl⟩ := nI_of h1
    rw [nI_leI (by omega) hw] at h2
    rw [qb_nbt _ _ (by omega)] at hj
    rcases Nat.lt_or_ge j n with h | h
    · exact h
    · rw [Nat.testBit_lt_two_pow (Nat.lt_of_lt_of_le (by omega : w < 2 ^ n) (Nat.pow_le_pow_right (by decide) h))] at hj
      exact absurd hj (by decide)
theorem qr_cov {n c : Nat} {cu st : Nat → Int32} {a b p q : Int32} (hn8 : n ≤ 8) (hst : qr_st st p q) (hst8 : st 8 = 0) (hrow : qr_row n cu c a b) : ¬ ((a &&& p) ||| (b &&& q)) = 0 ↔ ∃ j, j < 17 ∧ (¬ st j = 0 ∧ ¬ cu (c * 17 + j) = 0) := by
  constructor
  · intro h
    obtain ⟨i, hi⟩ := qb_nz h
    rcases qb_orT.mp hi with h | h
    · obtain ⟨h1, h2⟩ := qb_andT.mp h
      have hi8 := hrow.1 i h1
      refine ⟨8 + (i + 1), by omega, ?_, ?_⟩
      · rw [(hst i (by omega)).1, h2]; decide
      · rw [show c * 17 + (8 + (i + 1)) = c * 17 + 8 + (i + 1) by omega, (hrow.2.2.2.1 i (by omega)).1, h1]; decide
    · obtain ⟨h1, h2⟩ := qb_andT.mp h
      have hi8 := hrow.2.1 i h1
      refine ⟨8 - (i + 1), by omega, ?_, ?_⟩
      · rw [(hst i (by omega)).2, h2]; decide
      · rw [show c * 17 + (8 - (i + 1)) = c * 17 + 8 - (i + 1) by omega, (hrow.2.2.2.1 i (by omega)).2, h1]; decide
  · rintro ⟨j, hj, h1, h2⟩
    by_cases e8 : j = 8
    · rw [e8] at h1; exact absurd hst8 h1
    · by_cases hlt : j < 8
      · have e1 := (hst (7 - j) (by omega)).2
        have e2 := (hrow.2.2.2.1 (7 - j) (by omega)).2
        rw [show 8 - (7 - j + 1) = j by omega] at e1
        rw [show c * 17 + 8 - (7 - j + 1) = c * 17 + j by omega] at e2
        rw [e1, qr_bn] at h1
        rw [e2, qr_bn] at h2
        exact qb_nzi (qb_orT.mpr (Or.inr (qb_andT.mpr ⟨h2, h1⟩)))
      · have e1 := (hst (j - 9) (by omega)).1
        have e2 := (hrow.2.2.2.1 (j - 9) (by omega)).1
        rw [show 8 + (j - 9 + 1) = j by omega] at e1
        rw [show c * 17 + 8 + (j - 9 + 1) = c * 17 + j by omega] at e2
        rw [e1, qr_bn] at h1
        rw [e2, qr_bn] at h2
        exact qb_nzi (qb_orT.mpr (Or.inl (qb_andT.mpr ⟨h2, h1⟩)))
section
variable {ymv ymc yml yso yn ym yl yk : Int32} {kd va mr cu yco lnk li st tb : Nat → Int32} {n m L : Nat} {xe xa p q dr : Int32} {cp cn : Nat → Int32}
theorem qy_tc176 {post : Int32 → SY → Prop} {J : Int32 → Prop} {c : Nat} (hc : c < 25) (hT : (∃ j, j < 17 ∧ (¬ st j = 0 ∧ ¬ cu (c * 17 + j) = 0)) → J (nI (c + 1))) (hF : ¬ (∃ j, j < 17 ∧ (¬ st j = 0 ∧ ¬ cu (c * 17 + j) = 0)) → post (-11) (ymv, ymc, yml, yso, yn, ym, yl, yk, kd, va, mr, cu, yco, lnk, li, st, tb)) :
    ∀ (k j f : Nat) (x4 : Int32), j + k = 17 → k < f → (¬ x4 = 0 ↔ ∃ i, i < j ∧ (¬ st i = 0 ∧ ¬ cu (c * 17 + i) = 0)) → wY_takeCube_176 post J (nI c) ymv ymc yml yso yn ym yl yk kd va mr cu yco lnk li st tb f x4 (nI j) := by
  intro k
  induction k with
  | zero =>
    intro j f x4 hj hf hI
    obtain ⟨f, rfl⟩ : ∃ g, f = g + 1 := ⟨f - 1, by omega⟩
    have e : j = 17 := by omega
    subst e
    exact br_t (nI_le (Nat.le_refl _) (by omega)) (br_c (fun h => hF (fun z => hI.mpr z h)) (fun h => nm_r (nI_1 c) (hT (hI.mp h))))
  | succ k ih =>
    intro j f x4 hj hf hI
    obtain ⟨f, rfl⟩ : ∃ g, f = g + 1 := ⟨f - 1, by omega⟩
    have same : ¬ (¬ st j = 0 ∧ ¬ cu (c * 17 + j) = 0) → wY_takeCube_176 post J (nI c) ymv ymc yml yso yn ym yl yk kd va mr cu yco lnk li st tb f x4 (nI (j + 1)) := fun hn =>
      ih (j + 1) f x4 (by omega) (by omega) (qy_ls hI ⟨Or.inl, fun z => z.elim id (fun z => absurd z hn)⟩)
    have one : (¬ st j = 0 ∧ ¬ cu (c * 17 + j) = 0) → wY_takeCube_176 post J (nI c) ymv ymc yml yso yn ym yl yk kd va mr cu yco lnk li st tb f 1 (nI (j + 1)) := fun hy =>
      ih (j + 1) f 1 (by omega) (by omega) (qy_ls hI ⟨fun _ => Or.inr hy, fun _ => by decide⟩)
    refine br_f (nI_ge (b := 17) (by omega) (by omega)) ?_
    rw [qy_ix3, nI_clamp (by omega : c * 17 + j < 2 ^ 31), nI_clamp (by omega : j < 2 ^ 31)]
    exact ⟨vp_in_nI (by omega) (by omega), br_c (fun h => nm_r (nI_1 j) (same (fun z => z.1 h))) (fun h => ⟨vp_in_nI (by omega) (by omega), br_c (fun h2 => nm_r (nI_1 j) (same (fun z => z.2 h2))) (fun h2 => nm_r (nI_1 j) (one ⟨h, h2⟩))⟩)⟩
theorem qy_tc162 {post : Int32 → SY → Prop} (hn8 : n ≤ 8) (hm : m ≤ 24) (hV : qr_V n xe xa kd) (hL : L < 32) (hp : ∀ j, bt p j = true → j < n) (hq : ∀ j, bt q j = true → j < n) (hst : qr_st st p q) (hst8 : st 8 = 0) (hrow : ∀ c, c < m → qr_row n cu c (cp c) (cn c)) (hz : ∀ i, i < 17 → li (L * 17 + i) = 0)
    (hdr : (∀ c, c < m → ¬ (((cp c) &&& p) ||| ((cn c) &&& q)) = 0) → qr_Dr n xe false p q dr)
    (hAll : (∀ c, c < m → ¬ (((cp c) &&& p) ||| ((cn c) &&& q)) = 0) → ∀ li' : Nat → Int32, qr_Ln L p q dr li li' → post (nI L) (ymv, ymc, yml, yso, nI n, nI m, nI (L + 1), yk, kd, va, mr, cu, yco, upd lnk L 2, li', st, tb))
    (hNo : (¬ ∀ c, c < m → ¬ (((cp c) &&& p) ||| ((cn c) &&& q)) = 0) → post (-11) (ymv, ymc, yml, yso, nI n, nI m, nI L, yk, kd, va, mr, cu, yco, lnk, li, st, tb)) :
    ∀ (k c f : Nat), c + k = m → k < f → (∀ c', c' < c → ¬ (((cp c') &&& p) ||| ((cn c') &&& q)) = 0) → wY_takeCube_162 post ymv ymc yml yso (nI n) (nI m) (nI L) yk kd va mr cu yco lnk li st tb f (nI c) := by
  intro k
  induction k with
  | zero =>
    intro c f hc hf hI
    obtain ⟨f, rfl⟩ : ∃ g, f = g + 1 := ⟨f - 1, by omega⟩
    have e : c = m := by omega
    subst e
    exact br_t (nI_le (Nat.le_refl _) (by omega)) (qy_addLine (o := false) hn8 hV hL hp hq hst (hdr hI) hz (fun li' hl => hAll hI li' hl))
  | succ k ih =>
    intro c f hc hf hI
    obtain ⟨f, rfl⟩ : ∃ g, f = g + 1 := ⟨f - 1, by omega⟩
    have hcv := qr_cov hn8 hst hst8 (hrow c (by omega))
    refine br_f (nI_ge (by omega) (by omega)) ⟨18, qy_tc176 (by omega) (fun hx => ih (c + 1) f (by omega) (by omega) (fun c' h => ?_)) (fun hx => hNo (fun z => hx (hcv.mp (z c (by omega))))) 17 0 18 0 (by omega) (by omega) ⟨fun z => absurd rfl z, fun ⟨i, hi, _⟩ => absurd hi (by omega)⟩⟩
    by_cases e : c' = c
    · rw [e]; exact hcv.mpr hx
    · exact hI c' (by omega)
theorem qy_tc96 {post : Int32 → SY → Prop} (hn8 : n ≤ 8) (hm : m ≤ 24) (hV : qr_V n xe xa kd) (hL : L < 32) (hp : ∀ j, bt p j = true → j < n) (hq : ∀ j, bt q j = true → j < n) (hrow : ∀ c, c < m → qr_row n cu c (cp c) (cn c)) (hz : ∀ i, i < 17 → li (L * 17 + i) = 0)
    (hdr : (∀ c, c < m → ¬ (((cp c) &&& p) ||| ((cn c) &&& q)) = 0) → qr_Dr n xe false p q dr)
    (hAll : (∀ c, c < m → ¬ (((cp c) &&& p) ||| ((cn c) &&& q)) = 0) → ∀ st li' : Nat → Int32, qr_Ln L p q dr li li' → post (nI L) (ymv, ymc, yml, yso, nI n, nI m, nI (L + 1), yk, kd, va, mr, cu, yco, upd lnk L 2, li', st, tb))
    (hNo : (¬ ∀ c, c < m → ¬ (((cp c) &&& p) ||| ((cn c) &&& q)) = 0) → ∀ st : Nat → Int32, post (-11) (ymv, ymc, yml, yso, nI n, nI m, nI L, yk, kd, va, mr, cu, yco, lnk, li, st, tb)) :
    ∀ (k i f : Nat) (st : Nat → Int32), i + k = n → k < f → (∀ j, j < 8 → st (8 + (j + 1)) = (if j < i then qr_b (bt p j) else 0) ∧ st (8 - (j + 1)) = (if j < i then qr_b (bt q j) else 0)) → st 8 = 0 → wY_takeCube_96 post p q ymv ymc yml yso (nI n) (nI m) (nI L) yk f (nI (i + 1)) kd va mr cu yco lnk li st tb := by
  intro k
  induction k with
  | zero =>
    intro i f st hi hf hI h8
    obtain ⟨f, rfl⟩ : ∃ g, f = g + 1 := ⟨f - 1, by omega⟩
    have e : i = n := by omega
    subst e
    refine br_t (nI_lt (by omega) (by omega)) ⟨m + 1, qy_tc162 hn8 hm hV hL hp hq (fun j hj => ?_) h8 hrow hz hdr (fun z => hAll z st) (fun z => hNo z st) m 0 (m + 1) (by omega) (by omega) (fun c' h => absurd h (by omega))⟩
    rw [(hI j hj).1, (hI j hj).2]
    by_cases hji : j < i
    · rw [if_pos hji, if_pos hji]; exact ⟨rfl, rfl⟩
    · rw [if_neg hji, if_neg hji, qb_ncf.mp (fun z => hji (hp j z)), qb_ncf.mp (fun z => hji (hq j z))]; exact ⟨rfl, rfl⟩
  | succ k ih =>
    intro i f st hi hf hI h8
    obtain ⟨f, rfl⟩ : ∃ g, f = g + 1 := ⟨f - 1, by omega⟩
    have hi1 : vp_in (nI (8 + (i + 1))) 17 := vp_in_nI (by omega) (by omega)
    have hi2 : vp_in (nI (8 - (i + 1))) 17 := vp_in_nI (by omega) (by omega)
    have hc1 : (nI (8 + (i + 1))).toNatClampNeg = 8 + (i + 1) := nI_clamp (by omega)
    have hc2 : (nI (8 - (i + 1))).toNatClampNeg = 8 - (i + 1) := nI_clamp (by omega)
    have next : ∀ x y : Int32, x = qr_b (bt p i) → y = qr_b (bt q i) → wY_takeCube_96 post p q ymv ymc yml yso (nI n) (nI m) (nI L) yk f (nI (i + 1 + 1)) kd va mr cu yco lnk li (upd (upd st (8 + (i + 1)) x) (8 - (i + 1)) y) tb := by
      intro x y hx hy
      refine ih (i + 1) f _ (by omega) (by omega) (fun j hj => ⟨?_, ?_⟩) ?_
      · rw [pk_un (by omega)]
        by_cases e : j = i
        · rw [e, pk_us, if_pos (by omega)]; exact hx
        · rw [pk_un (by omega), (hI j hj).1]
          by_cases hji : j < i
          · rw [if_pos hji, if_pos (by omega)]
          · rw [if_neg hji, if_neg (by omega)]
      · by_cases e : j = i
        · rw [e, pk_us, if_pos (by omega)]; exact hy
        · rw [pk_un (by omega), pk_un (by omega), (hI j hj).2]
          by_cases hji : j < i
          · rw [if_pos hji, if_pos (by omega)]
          · rw [if_neg hji, if_neg (by omega)]
      · rw [pk_un (by omega), pk_un (by omega)]; exact h8
    have step : ∀ z0 : Int32, (z0 = 0 ∨ z0 = 1) → z0 = qr_b (bt p i) → wY_takeCube_128 post (wY_takeCube_96 post p q ymv ymc yml yso (nI n) (nI m) (nI L) yk f) p q (nI (i + 1)) z0 (nI (8 + (i + 1))) ymv ymc yml yso (nI n) (nI m) (nI L) yk kd va mr cu yco lnk li st tb := by
      intro z0 h01 hz0
      unfold wY_takeCube_128
      rw [nI_pred i, qr_8m (by omega), hc1, hc2, qr_nar h01, qr_nar (Or.inl rfl), qr_nar (Or.inr rfl)]
      refine ⟨hi1, nm_e (br_c (fun h => ⟨hi2, nm_e (nm_r (nI_1 (i + 1)) (next z0 1 hz0 ?_))⟩) (fun h => ⟨hi2, nm_e (nm_r (nI_1 (i + 1)) (next z0 0 hz0 ?_))⟩))⟩
      · rw [(qy_bx1 q (by omega)).mp h]; rfl
      · rw [qb_ncf.mp (fun z => h ((qy_bx1 q (by omega)).mpr z))]; rfl
    refine br_f (nI_nlt (by omega) (by omega)) ?_
    rw [nI_pred i, qr_8p]
    refine br_c (fun h => step 1 (Or.inr rfl) ?_) (fun h => step 0 (Or.inl rfl) ?_)
    · rw [(qy_bx1 p (by omega)).mp h]; rfl
    · rw [qb_ncf.mp (fun z => h ((qy_bx1 p (by omega)).mpr z))]; rfl
theorem qy_tc75 {post : Int32 → SY → Prop} (hn8 : n ≤ 8) (hm : m ≤ 24) (hV : qr_V n xe xa kd) (hL : L < 32) (hp : ∀ j, bt p j = true → j < n) (hq : ∀ j, bt q j = true → j < n) (hrow : ∀ c, c < m → qr_row n cu c (cp c) (cn c)) (hz : ∀ i, i < 17 → li (L * 17 + i) = 0)
    (hdr : (∀ c, c < m → ¬ (((cp c) &&& p) ||| ((cn c) &&& q)) = 0) → qr_Dr n xe false p q dr)
    (hAll : (∀ c, c < m → ¬ (((cp c) &&& p) ||| ((cn c) &&& q)) = 0) → ∀ st li' : Nat → Int32, qr_Ln L p q dr li li' → post (nI L) (ymv, ymc, yml, yso, nI n, nI m, nI (L + 1), yk, kd, va, mr, cu, yco, upd lnk L 2, li', st, tb))
    (hNo : (¬ ∀ c, c < m → ¬ (((cp c) &&& p) ||| ((cn c) &&& q)) = 0) → ∀ st : Nat → Int32, post (-11) (ymv, ymc, yml, yso, nI n, nI m, nI L, yk, kd, va, mr, cu, yco, lnk, li, st, tb)) :
    ∀ (k i f : Nat) (st : Nat → Int32), i + k = 17 → k < f → (∀ j, j < i → st j = 0) → wY_takeCube_75 post p q ymv ymc yml yso (nI n) (nI m) (nI L) yk f (nI i) kd va mr cu yco lnk li st tb := by
  intro k
  induction k with
  | zero =>
    intro i f st hi hf hI
    obtain ⟨f, rfl⟩ : ∃ g, f = g + 1 := ⟨f - 1, by omega⟩
    have e : i = 17 := by omega
    subst e
    refine br_t (nI_le (Nat.le_refl _) (by omega)) ⟨n + 1, qy_tc96 hn8 hm hV hL hp hq hrow hz hdr hAll hNo n 0 (n + 1) st (by omega) (by omega) (fun j hj => ?_) (hI 8 (by omega))⟩
    rw [hI _ (by omega), hI _ (by omega), if_neg (by omega), if_neg (by omega)]
    exact ⟨rfl, rfl⟩
  | succ k ih =>
    intro i f st hi hf hI
    obtain ⟨f, rfl⟩ : ∃ g, f = g + 1 := ⟨f - 1, by omega⟩
    refine br_f (nI_ge (b := 17) (by omega) (by omega)) ⟨vp_in_nI (by omega) (by omega), nm_r (e' := upd st i 0) (by rw [nI_clamp (by omega : i < 2 ^ 31)]; rfl) (nm_r (nI_1 i) (ih (i + 1) f _ (by omega) (by omega) (fun j hj => ?_)))⟩
    by_cases e : j = i
    · rw [e, pk_us]
    · rw [pk_un e]; exact hI j (by omega)
end
section
variable {xvl xcl xll xn xe xa xm xop xon xso xre xnl xsc xac xau xd xb xs xo xz xdc xou xrv xrn xk xv xl xco : Int32} {ck cp cn cd ov od dv dn mks lk kp kn dp dg : Nat → Int32} {n m L : Nat} {p q : Int32}
theorem qx_tc47 {post : Int32 → SX → Prop} (hn8 : n ≤ 8) (hm : m ≤ 24) (hOM : qb_OM n xe xa) (hL : L < 32) (hp : ∀ j, bt p j = true → j < n) (hq : ∀ j, bt q j = true → j < n)
    (hAll : (∀ c, c < m → ¬ (((cp c) &&& p) ||| ((cn c) &&& q)) = 0) → ∀ dr : Int32, qr_Dr n xe false p q dr → post (nI L) (xvl, xcl, xll, xn, xe, xa, nI m, xop, xon, xso, xre, xnl, xsc, xac, xau, xd, xb, xs, xo, xz, xdc, xou, xrv, xrn, xk, xv, nI (L + 1), xco, ck, cp, cn, cd, ov, od, dv, dn, mks, upd lk L 2, upd kp L (p &&& (dr ^^^ (-1))), upd kn L (q &&& (dr ^^^ (-1))), upd dp L (p &&& dr), upd dg L (q &&& dr)))
    (hNo : (¬ ∀ c, c < m → ¬ (((cp c) &&& p) ||| ((cn c) &&& q)) = 0) → post (-11) (xvl, xcl, xll, xn, xe, xa, nI m, xop, xon, xso, xre, xnl, xsc, xac, xau, xd, xb, xs, xo, xz, xdc, xou, xrv, xrn, xk, xv, nI L, xco, ck, cp, cn, cd, ov, od, dv, dn, mks, lk, kp, kn, dp, dg)) :
    ∀ (k c f : Nat), c + k = m → k < f → (∀ c', c' < c → ¬ (((cp c') &&& p) ||| ((cn c') &&& q)) = 0) → wX_takeCube_47 post p q xvl xcl xll xn xe xa (nI m) xop xon xso xre xnl xsc xac xau xd xb xs xo xz xdc xou xrv xrn xk xv (nI L) xco ck cp cn cd ov od dv dn mks lk kp kn dp dg f (nI c) := by
  intro k
  induction k with
  | zero =>
    intro c f hc hf hI
    obtain ⟨f, rfl⟩ : ∃ g, f = g + 1 := ⟨f - 1, by omega⟩
    have e : c = m := by omega
    subst e
    exact br_t (nI_le (Nat.le_refl _) (by omega)) (qx_addLine (o := false) hn8 hOM hL hp hq (fun dr hdr => hAll hI dr hdr))
  | succ k ih =>
    intro c f hc hf hI
    obtain ⟨f, rfl⟩ : ∃ g, f = g + 1 := ⟨f - 1, by omega⟩
    have hin : vp_in (nI c) 88 := vp_in_nI (by omega) (by omega)
    refine br_f (nI_ge (by omega) (by omega)) ?_
    rw [nI_clamp (by omega : c < 2 ^ 31)]
    refine ⟨hin, hin, br_c (fun h => hNo (fun z => z c (by omega) h)) (fun h => nm_r (nI_1 c) (ih (c + 1) f (by omega) (by omega) (fun c' h' => ?_)))⟩
    by_cases e : c' = c
    · rw [e]; exact h
    · exact hI c' (by omega)
end
theorem i_vc_takeCube {k : Nat} {u : SX} {v : SY} (I : i_Rel k u v) (hk : k + 4 ≤ 2051) (v1 : Int32) (v2 : Int32) : wpX_takeCube (fun r u' => wpY_takeCube (fun r' v' => r' = r ∧ i_Rel (k + 4) u' v') v v1 v2) u v1 v2 := by
  refine qr_el (P := fun u v => wpX_takeCube (fun r u' => wpY_takeCube (fun r' v' => r' = r ∧ i_Rel (k + 4) u' v') v v1 v2) u v1 v2) ?_ I
  intro vl cl ll n m L K nl so xe xa xop xon xre xsc xac xau xd xb xs xo xz xdc xou xrv xrn xv xco ck cp cn cd ov od dv dn mks lk kp kn dp dg kd va mr cu yco lnk li st tb hR
  obtain ⟨⟨b1, b2, b3, b4, b5, b6, b7, b8⟩, hV, hC, hL, hM, hS⟩ := hR
  have keep : i_Rel (k + 4) (nI vl, nI cl, nI ll, nI n, xe, xa, nI m, xop, xon, so, xre, nI nl, xsc, xac, xau, xd, xb, xs, xo, xz, xdc, xou, xrv, xrn, nI K, xv, nI L, xco, ck, cp, cn, cd, ov, od, dv, dn, mks, lk, kp, kn, dp, dg) (nI vl, nI cl, nI ll, so, nI n, nI m, nI L, nI K, kd, va, mr, cu, yco, lnk, li, st, tb) := qr_in ⟨⟨b1, b2, b3, b4, b5, b6, b7, b8⟩, hV, hC, hL, hM, hS⟩
  have hn8 : n ≤ 8 := by omega
  have LR : (so = 0 ∧ ∀ post : Int32 → Prop, post (-1) → wpX_logRefusal post (nI vl, nI cl, nI ll, nI n, xe, xa, nI m, xop, xon, so, xre, nI nl, xsc, xac, xau, xd, xb, xs, xo, xz, xdc, xou, xrv, xrn, nI K, xv, nI L, xco, ck, cp, cn, cd, ov, od, dv, dn, mks, lk, kp, kn, dp, dg)) ∨
      (¬ so = 0 ∧ (∀ post : Int32 → Prop, post (-10) → wpX_logRefusal post (nI vl, nI cl, nI ll, nI n, xe, xa, nI m, xop, xon, so, xre, nI nl, xsc, xac, xau, xd, xb, xs, xo, xz, xdc, xou, xrv, xrn, nI K, xv, nI L, xco, ck, cp, cn, cd, ov, od, dv, dn, mks, lk, kp, kn, dp, dg)) ∧ (∀ post : Int32 → Prop, post 1 → wpY_logComplete post (nI vl, nI cl, nI ll, so, nI n, nI m, nI L, nI K, kd, va, mr, cu, yco, lnk, li, st, tb))) ∨
      (¬ so = 0 ∧ L = ll ∧ (∀ post : Int32 → Prop, post (-4) → wpX_logRefusal post (nI vl, nI cl, nI ll, nI n, xe, xa, nI m, xop, xon, so, xre, nI nl, xsc, xac, xau, xd, xb, xs, xo, xz, xdc, xou, xrv, xrn, nI K, xv, nI L, xco, ck, cp, cn, cd, ov, od, dv, dn, mks, lk, kp, kn, dp, dg)) ∧ (∀ post : Int32 → Prop, post 0 → wpY_logComplete post (nI vl, nI cl, nI ll, so, nI n, nI m, nI L, nI K, kd, va, mr, cu, yco, lnk, li, st, tb))) ∨
      (¬ so = 0 ∧ L < ll ∧ (∀ post : Int32 → Prop, post 0 → wpX_logRefusal post (nI vl, nI cl, nI ll, nI n, xe, xa, nI m, xop, xon, so, xre, nI nl, xsc, xac, xau, xd, xb, xs, xo, xz, xdc, xou, xrv, xrn, nI K, xv, nI L, xco, ck, cp, cn, cd, ov, od, dv, dn, mks, lk, kp, kn, dp, dg)) ∧ (∀ post : Int32 → Prop, post 0 → wpY_logComplete post (nI vl, nI cl, nI ll, so, nI n, nI m, nI L, nI K, kd, va, mr, cu, yco, lnk, li, st, tb))) := qr_logref hn8 b3 b6 hL
  unfold wpX_takeCube
  dsimp only
  rcases LR with ⟨h0, hX⟩ | ⟨hne, hX, hY⟩ | ⟨hne, e, hX, hY⟩ | ⟨hne, hlt, hX, hY⟩
  · refine hX _ (br_f (by decide) ?_)
    exact br_t h0 ⟨rfl, keep⟩
  · refine hX _ (br_f (by decide) ?_)
    exact br_f hne (hY _ (br_f (by decide) ⟨rfl, keep⟩))
  · refine hX _ (br_f (by decide) ?_)
    exact br_f hne (hY _ (br_t rfl (br_t (congrArg nI e) ⟨rfl, keep⟩)))
  · have hLe : ¬ nI L = nI ll := fun e => by rw [nI_eq (by omega) (by omega)] at e; omega
    have hfull : ((v1 ||| v2) &&& ((((1 : Int32) <<< (nI n &&& 31)) - 1) ^^^ (-1))) = 0 ↔ ((∀ j, bt v1 j = true → j < n) ∧ (∀ j, bt v2 j = true → j < n)) := by
      constructor
      · intro h
        exact ⟨fun j hj => (qb_lowT (by omega)).mp (qb_sub h (qb_orT.mpr (Or.inl hj))), fun j hj => (qb_lowT (by omega)).mp (qb_sub h (qb_orT.mpr (Or.inr hj)))⟩
      · intro h
        exact qb_subz (fun j hj => (qb_lowT (by omega)).mpr ((qb_orT.mp hj).elim (h.1 j) (h.2 j)))
    have hnlt : ∀ x : Int32, ¬ nI (2 ^ n) ≤ x ↔ x < nI (2 ^ n) := fun x => Int32.not_le
    by_cases hb : ((v1 ||| v2) &&& ((((1 : Int32) <<< (nI n &&& 31)) - 1) ^^^ (-1))) = 0
    · obtain ⟨hp, hq⟩ := hfull.mp hb
      obtain ⟨p1, p2⟩ := (qr_rng hn8).mp hp
      obtain ⟨q1, q2⟩ := (qr_rng hn8).mp hq
      have q3 := (hnlt _).mp q2
      by_cases hpq : (v1 &&& v2) = 0
      · have hrow : ∀ c, c < m → qr_row n cu c (cp c) (cn c) := fun c hc => (hC.1 c hc).2.1
        have hzl : ∀ i, i < 17 → li (L * 17 + i) = 0 := fun i hi => hL.2 L i (Nat.le_refl _) (by omega) hi
        have ylem : ∀ post : Int32 → SY → Prop, (∃ n75 : Nat, wY_takeCube_75 post v1 v2 (nI vl) (nI cl) (nI ll) so (nI n) (nI m) (nI L) (nI K) n75 0 kd va mr cu yco lnk li st tb) → wpY_takeCube post (nI vl, nI cl, nI ll, so, nI n, nI m, nI L, nI K, kd, va, mr, cu, yco, lnk, li, st, tb) v1 v2 := by
          intro post h
          refine br_f hne (hY _ (br_t rfl (br_f hLe (br_f p1 (br_f q1 ?_)))))
          rw [qy_p2 (by omega)]
          exact br_f p2 (br_t q3 (br_t hpq h))
        refine hX _ (br_t rfl (nm_e (br_t hb (br_t hpq ⟨m + 1, qx_tc47 hn8 (by omega) hV.1 (by omega) hp hq (fun hA dr hdr => ?_) (fun hN => ?_) m 0 (m + 1) (by omega) (by omega) (fun c' h => absurd h (by omega))⟩))))
        · refine ylem _ ⟨18, qy_tc75 (dr := dr) hn8 (by omega) hV (by omega) hp hq hrow hzl (fun _ => hdr) (fun _ st li' hl => ⟨rfl, ?_⟩) (fun z => absurd hA z) 17 0 18 st (by omega) (by omega) (fun j hj => absurd hj (by omega))⟩
          exact qr_in ⟨⟨b1, b2, b3, b4, b5, hlt, b7, b8⟩, hV, hC, qr_L_add hn8 (by omega) (Or.inr rfl) hp hq hL hl, hM, hS⟩
        · refine ylem _ ⟨18, qy_tc75 (dr := 0) hn8 (by omega) hV (by omega) hp hq hrow hzl (fun z => absurd z hN) (fun z => absurd z hN) (fun _ st => ⟨rfl, ?_⟩) 17 0 18 st (by omega) (by omega) (fun j hj => absurd hj (by omega))⟩
          exact qr_in ⟨⟨b1, b2, b3, b4, b5, b6, b7, b8⟩, hV, hC, hL, hM, hS⟩
      · refine hX _ (br_t rfl (nm_e (br_t hb (br_f hpq ?_))))
        refine br_f hne (hY _ (br_t rfl (br_f hLe (br_f p1 (br_f q1 ?_)))))
        rw [qy_p2 (by omega)]
        exact br_f p2 (br_t q3 (br_f hpq ⟨rfl, keep⟩))
    · refine hX _ (br_t rfl (nm_e (br_f hb ?_)))
      refine br_f hne (hY _ (br_t rfl (br_f hLe (br_c (fun _ => ⟨rfl, keep⟩) (fun p1 => br_c (fun _ => ⟨rfl, keep⟩) (fun q1 => ?_))))))
      rw [qy_p2 (by omega)]
      refine br_c (fun _ => ⟨rfl, keep⟩) (fun p2 => br_c (fun q3 => ?_) (fun _ => ⟨rfl, keep⟩))
      exact absurd (hfull.mpr ⟨(qr_rng hn8).mpr ⟨p1, p2⟩, (qr_rng hn8).mpr ⟨q1, (hnlt _).mpr q3⟩⟩) hb
end
section
/-! resolve -/
def qr_F (li : Nat → Int32) (a b i j : Nat) : Bool := (decide (li (a * 17 + j) = 1) && !decide (j = 8 + (i + 1))) || (decide (li (b * 17 + j) = 1) && !decide (j = 8 - (i + 1)))
section
variable {xvl xcl xll xn xe xa xm xop xon xso xre xnl xsc xac xau xd xb xs xo xz xdc xou xrv xrn xk xv xl xco : Int32} {ck cp cn cd ov od dv dn mks lk kp kn dp dg : Nat → Int32} {n : Nat}
theorem qx_piv {post : Int32 → Prop} {a b i : Nat} {o : Bool} (ha : a < 32) (hb : b < 32) (hi : i < n) (hn8 : n ≤ 8) (hOM : qb_OM n xe xa) (hk : lk a = qb_kd o) (h1 : (lk a = lk b ∧ bt xe i = o ∧ bt (kp a) i = true ∧ bt (kn b) i = true) → post 1) (h0 : ¬ (lk a = lk b ∧ bt xe i = o ∧ bt (kp a) i = true ∧ bt (kn b) i = true) → post 0) : wpX_isPivot post (xvl, xcl, xll, xn, xe, xa, xm, xop, xon, xso, xre, xnl, xsc, xac, xau, xd, xb, xs, xo, xz, xdc, xou, xrv, xrn, xk, xv, xl, xco, ck, cp, cn, cd, ov, od, dv, dn, mks, lk, kp, kn, dp, dg) (nI a) (nI b) ((1 : Int32) <<< (nI i &&& 31)) := by
  have hina : vp_in (nI a) 32 := vp_in_nI ha (by omega)
  have hinb : vp_in (nI b) 32 := vp_in_nI hb (by omega)
  have hca : (nI a).toNatClampNeg = a := nI_clamp (by omega)
  have hcb : (nI b).toNatClampNeg = b := nI_clamp (by omega)
  unfold wpX_isPivot
  dsimp only
  simp only [hca, hcb]
  refine ⟨hina, hinb, br_c (fun e => ⟨hina, qx_own hk hOM (fun w hw => br_c (fun z => h0 (fun y => ?_)) (fun z => ⟨hina, br_c (fun y => h0 (fun x => ?_)) (fun y => ⟨hinb, br_c (fun x => h0 (fun t => ?_)) (fun x => h1 ⟨e, ?_, ?_, ?_⟩)⟩)⟩))⟩) (fun e => h0 (fun z => e z.1))⟩
  · have z' := (qb_bit0 w (by omega)).mp z
    rw [(hw i).mpr ⟨hi, y.2.1⟩] at z'
    exact absurd z' (by decide)
  · rw [(qb_bit0 _ (by omega)).mp y] at x
    exact absurd x.2.2.1 (by decide)
  · rw [(qb_bit0 _ (by omega)).mp x] at t
    exact absurd t.2.2.2 (by decide)
  · exact ((hw i).mp ((qb_bit1 w (by omega)).mp z)).2
  · exact (qb_bit1 _ (by omega)).mp y
  · exact (qb_bit1 _ (by omega)).mp x
end
section
variable {ymv ymc yml yso yn ym yl yk : Int32} {kd va mr cu yco lnk li st tb : Nat → Int32} {n L : Nat} {xe xa p q dr : Int32} {o : Bool}
theorem qy_r284 {post : Int32 → SY → Prop} {a : Nat} (ha : a < 32) (hka : lnk a = qb_kd o) (hn8 : n ≤ 8) (hV : qr_V n xe xa kd) (hL : L < 32) (hp : ∀ j, bt p j = true → j < n) (hq : ∀ j, bt q j = true → j < n) (hst : qr_st st p q) (hdr : (p &&& q) = 0 → qr_Dr n xe o p q dr) (hz : ∀ i, i < 17 → li (L * 17 + i) = 0)
    (hOK : (p &&& q) = 0 → ∀ li' : Nat → Int32, qr_Ln L p q dr li li' → post (nI L) (ymv, ymc, yml, yso, nI n, ym, nI (L + 1), yk, kd, va, mr, cu, yco, upd lnk L (qb_kd o), li', st, tb))
    (hCl : ¬ (p &&& q) = 0 → post (-13) (ymv, ymc, yml, yso, nI n, ym, nI L, yk, kd, va, mr, cu, yco, lnk, li, st, tb)) :
    ∀ (k u f : Nat), u + k = n → k < f → (∀ j, j < u → ¬ (bt p j = true ∧ bt q j = true)) → wY_resolve_284 post (nI a) ymv ymc yml yso (nI n) ym (nI L) yk kd va mr cu yco lnk li st tb f (nI (u + 1)) := by
  intro k
  induction k with
  | zero =>
    intro u f hu hf hI
    obtain ⟨f, rfl⟩ : ∃ g, f = g + 1 := ⟨f - 1, by omega⟩
    have e : u = n := by omega
    subst e
    have h0 : (p &&& q) = 0 := qb_z.mpr (fun j => qb_ncf.mp (fun z => hI j (hp j (qb_andT.mp z).1) (qb_andT.mp z)))
    refine br_t (nI_lt (by omega) (by omega)) ⟨vp_in_nI ha (by omega), ?_⟩
    rw [nI_clamp (by omega : a < 2 ^ 31), hka]
    exact qy_addLine hn8 hV hL hp hq hst (hdr h0) hz (fun li' hl => hOK h0 li' hl)
  | succ k ih =>
    intro u f hu hf hI
    obtain ⟨f, rfl⟩ : ∃ g, f = g + 1 := ⟨f - 1, by omega⟩
    have hi1 : vp_in (nI (8 + (u + 1))) 17 := vp_in_nI (by omega) (by omega)
    have hi2 : vp_in (nI (8 - (u + 1))) 17 := vp_in_nI (by omega) (by omega)
    obtain ⟨s1, s2⟩ := hst u (by omega)
    have next : ¬ (bt p u = true ∧ bt q u = true) → wY_resolve_284 post (nI a) ymv ymc yml yso (nI n) ym (nI L) yk kd va mr cu yco lnk li st tb f (nI (u + 1 + 1)) := fun hn =>
      ih (u + 1) f (by omega) (by omega) (fun j hj => by
        by_cases e : j = u
        · rw [e]; exact hn
        · exact hI j (by omega))
    refine br_f (nI_nlt (by omega) (by omega)) ?_
    rw [qr_8p, qr_8m (by omega), nI_clamp (by omega : 8 + (u + 1) < 2 ^ 31), nI_clamp (by omega : 8 - (u + 1) < 2 ^ 31), s1, s2, qr_be, qr_be]
    refine ⟨hi1, br_c (fun h => nm_r (nI_1 (u + 1)) (next (fun z => ?_))) (fun h => ⟨hi2, br_c (fun h2 => nm_r (nI_1 (u + 1)) (next (fun z => ?_))) (fun h2 => hCl ?_)⟩)⟩
    · rw [h] at z; exact absurd z.1 (by decide)
    · rw [h2] at z; exact absurd z.2 (by decide)
    · exact qb_nzi (qb_andT.mpr ⟨qb_ncT.mp h, qb_ncT.mp h2⟩)
theorem qy_r182 {post : Int32 → SY → Prop} {a b i : Nat} (ha : a < 32) (hb : b < 32) (hi : i < 8) (h : ∀ st : Nat → Int32, (∀ j, j < 17 → st j = qr_b (qr_F li a b i j)) → ∃ n284 : Nat, wY_resolve_284 post (nI a) ymv ymc yml yso yn ym yl yk kd va mr cu yco lnk li st tb n284 1) :
    ∀ (k j f : Nat) (st : Nat → Int32), j + k = 17 → k < f → (∀ j', j' < j → st j' = qr_b (qr_F li a b i j')) → wY_resolve_182 post (nI a) (nI b) (nI (i + 1)) ymv ymc yml yso yn ym yl yk f (nI j) kd va mr cu yco lnk li st tb := by
  intro k
  induction k with
  | zero =>
    intro j f st hj hf hI
    obtain ⟨f, rfl⟩ : ∃ g, f = g + 1 := ⟨f - 1, by omega⟩
    have e : j = 17 := by omega
    subst e
    exact br_t (nI_le (Nat.le_refl _) (by omega)) (h st hI)
  | succ k ih =>
    intro j f st hj hf hI
    obtain ⟨f, rfl⟩ : ∃ g, f = g + 1 := ⟨f - 1, by omega⟩
    have hinj : vp_in (nI j) 17 := vp_in_nI (by omega) (by omega)
    have hcj : (nI j).toNatClampNeg = j := nI_clamp (by omega)
    have next : ∀ x : Int32, x = qr_b (qr_F li a b i j) → wY_resolve_182 post (nI a) (nI b) (nI (i + 1)) ymv ymc yml yso yn ym yl yk f (nI (j + 1)) kd va mr cu yco lnk li (upd st j x) tb := fun x hx =>
      ih (j + 1) f _ (by omega) (by omega) (fun j' hj' => by
        by_cases e : j' = j
        · rw [e, pk_us]; exact hx
        · rw [pk_un e]; exact hI j' (by omega))
    have k251 : ∀ x y : Bool, (x || y) = qr_F li a b i j → wY_resolve_251 post (wY_resolve_182 post (nI a) (nI b) (nI (i + 1)) ymv ymc yml yso yn ym yl yk f) (nI a) (nI b) (nI (i + 1)) (nI j) (qr_b x) (qr_b y) ymv ymc yml yso yn ym yl yk kd va mr cu yco lnk li st tb := by
      intro x y hxy
      unfold wY_resolve_251
      rw [hcj, qr_nar (Or.inl rfl), qr_nar (Or.inr rfl)]
      cases x
      · cases y
        · exact br_t rfl (br_t rfl ⟨hinj, nm_e (nm_r (nI_1 j) (next 0 (by rw [← hxy]; rfl)))⟩)
        · exact br_t rfl (br_f (by decide) ⟨hinj, nm_e (nm_r (nI_1 j) (next 1 (by rw [← hxy]; rfl)))⟩)
      · exact br_f (by decide) ⟨hinj, nm_e (nm_r (nI_1 j) (next 1 (by rw [← hxy]; rfl)))⟩
    have k219 : ∀ x : Bool, x = (decide (li (a * 17 + j) = 1) && !decide (j = 8 + (i + 1))) → wY_resolve_219 post (wY_resolve_182 post (nI a) (nI b) (nI (i + 1)) ymv ymc yml yso yn ym yl yk f) (nI a) (nI b) (nI (i + 1)) (nI j) (qr_b x) ymv ymc yml yso yn ym yl yk kd va mr cu yco lnk li st tb := by
      intro x hx
      unfold wY_resolve_219 wY_resolve_250
      rw [qy_ix3 b j, nI_clamp (by omega : b * 17 + j < 2 ^ 31), qr_8m (by omega), nI_eq (by omega) (by omega)]
      refine ⟨vp_in_nI (by omega) (by omega), br_c (fun h => br_c (fun e => k251 x false ?_) (fun e => k251 x true ?_)) (fun h => k251 x false ?_)⟩
      · unfold qr_F; rw [← hx, decide_eq_true e]; cases x <;> simp
      · unfold qr_F; rw [← hx, decide_eq_true h, decide_eq_false e]; cases x <;> rfl
      · unfold qr_F; rw [← hx, decide_eq_false h]; cases x <;> rfl
    refine br_f (nI_ge (b := 17) (by omega) (by omega)) ?_
    unfold wY_resolve_218
    rw [qy_ix3 a j, nI_clamp (by omega : a * 17 + j < 2 ^ 31), qr_8p, nI_eq (by omega) (by omega)]
    refine ⟨vp_in_nI (by omega) (by omega), br_c (fun h => br_c (fun e => k219 false ?_) (fun e => k219 true ?_)) (fun h => k219 false ?_)⟩
    · rw [decide_eq_true e]; simp
    · rw [decide_eq_true h, decide_eq_false e]; rfl
    · rw [decide_eq_false h]; rfl
end
theorem qr_stF {n a b i : Nat} {li st : Nat → Int32} {p1 q1 d1 e1 p2 q2 d2 e2 : Int32} (hi : i < 8) (ha : qr_ln n li a p1 q1 d1 e1) (hb : qr_ln n li b p2 q2 d2 e2) (h : ∀ j, j < 17 → st j = qr_b (qr_F li a b i j)) :
    qr_st st ((p1 &&& (((1 : Int32) <<< (nI i &&& 31)) ^^^ (-1))) ||| p2) (q1 ||| (q2 &&& (((1 : Int32) <<< (nI i &&& 31)) ^^^ (-1)))) := by
  have dd : ∀ (x y : Bool) (z : Int32), z = qr_3 x y → decide (z = 1) = x := by
    intro x y z hz
    rw [hz]
    cases x <;> cases y <;> decide
  intro j hj
  obtain ⟨a1, a2⟩ := ha.2.2.2.1 j hj
  obtain ⟨c1, c2⟩ := hb.2.2.2.1 j hj
  constructor
  · rw [h _ (by omega), b_or, qb_andn, qb_one i (by omega)]
    unfold qr_F
    rw [show a * 17 + (8 + (j + 1)) = a * 17 + 8 + (j + 1) by omega, show b * 17 + (8 + (j + 1)) = b * 17 + 8 + (j + 1) by omega, dd _ _ _ a1, dd _ _ _ c1, decide_eq_false (by omega : ¬ 8 + (j + 1) = 8 - (i + 1)), Bool.not_false, Bool.and_true, show decide (8 + (j + 1) = 8 + (i + 1)) = decide (j = i) from decide_eq_decide.mpr (by omega)]
  · rw [h _ (by omega), b_or, qb_andn, qb_one i (by omega)]
    unfold qr_F
    rw [show a * 17 + (8 - (j + 1)) = a * 17 + 8 - (j + 1) by omega, show b * 17 + (8 - (j + 1)) = b * 17 + 8 - (j + 1) by omega, dd _ _ _ a2, dd _ _ _ c2, decide_eq_false (by omega : ¬ 8 - (j + 1) = 8 + (i + 1)), Bool.not_false, Bool.and_true, show decide (8 - (j + 1) = 8 - (i + 1)) = decide (j = i) from decide_eq_decide.mpr (by omega)]
theorem i_vc_resolve {k : Nat} {u : SX} {v : SY} (I : i_Rel k u v) (hk : k + 4 ≤ 2051) (v1 : Int32) (v2 : Int32) (v3 : Int32) : wpX_resolve (fun r u' => wpY_resolve (fun r' v' => r' = r ∧ i_Rel (k + 4) u' v') v v1 v2 v3) u v1 v2 v3 := by
  refine qr_el (P := fun u v => wpX_resolve (fun r u' => wpY_resolve (fun r' v' => r' = r ∧ i_Rel (k + 4) u' v') v v1 v2 v3) u v1 v2 v3) ?_ I
  intro vl cl ll n m L K nl so xe xa xop xon xre xsc xac xau xd xb xs xo xz xdc xou xrv xrn xv xco ck cp cn cd ov od dv dn mks lk kp kn dp dg kd va mr cu yco lnk li st tb hR
  obtain ⟨⟨b1, b2, b3, b4, b5, b6, b7, b8⟩, hV, hC, hL, hM, hS⟩ := hR
  have keep : i_Rel (k + 4) (nI vl, nI cl, nI ll, nI n, xe, xa, nI m, xop, xon, so, xre, nI nl, xsc, xac, xau, xd, xb, xs, xo, xz, xdc, xou, xrv, xrn, nI K, xv, nI L, xco, ck, cp, cn, cd, ov, od, dv, dn, mks, lk, kp, kn, dp, dg) (nI vl, nI cl, nI ll, so, nI n, nI m, nI L, nI K, kd, va, mr, cu, yco, lnk, li, st, tb) := qr_in ⟨⟨b1, b2, b3, b4, b5, b6, b7, b8⟩, hV, hC, hL, hM, hS⟩
  have hn8 : n ≤ 8 := by omega
  have LR : (so = 0 ∧ ∀ post : Int32 → Prop, post (-1) → wpX_logRefusal post (nI vl, nI cl, nI ll, nI n, xe, xa, nI m, xop, xon, so, xre, nI nl, xsc, xac, xau, xd, xb, xs, xo, xz, xdc, xou, xrv, xrn, nI K, xv, nI L, xco, ck, cp, cn, cd, ov, od, dv, dn, mks, lk, kp, kn, dp, dg)) ∨
      (¬ so = 0 ∧ (∀ post : Int32 → Prop, post (-10) → wpX_logRefusal post (nI vl, nI cl, nI ll, nI n, xe, xa, nI m, xop, xon, so, xre, nI nl, xsc, xac, xau, xd, xb, xs, xo, xz, xdc, xou, xrv, xrn, nI K, xv, nI L, xco, ck, cp, cn, cd, ov, od, dv, dn, mks, lk, kp, kn, dp, dg)) ∧ (∀ post : Int32 → Prop, post 1 → wpY_logComplete post (nI vl, nI cl, nI ll, so, nI n, nI m, nI L, nI K, kd, va, mr, cu, yco, lnk, li, st, tb))) ∨
      (¬ so = 0 ∧ L = ll ∧ (∀ post : Int32 → Prop, post (-4) → wpX_logRefusal post (nI vl, nI cl, nI ll, nI n, xe, xa, nI m, xop, xon, so, xre, nI nl, xsc, xac, xau, xd, xb, xs, xo, xz, xdc, xou, xrv, xrn, nI K, xv, nI L, xco, ck, cp, cn, cd, ov, od, dv, dn, mks, lk, kp, kn, dp, dg)) ∧ (∀ post : Int32 → Prop, post 0 → wpY_logComplete post (nI vl, nI cl, nI ll, so, nI n, nI m, nI L, nI K, kd, va, mr, cu, yco, lnk, li, st, tb))) ∨
      (¬ so = 0 ∧ L < ll ∧ (∀ post : Int32 → Prop, post 0 → wpX_logRefusal post (nI vl, nI cl, nI ll, nI n, xe, xa, nI m, xop, xon, so, xre, nI nl, xsc, xac, xau, xd, xb, xs, xo, xz, xdc, xou, xrv, xrn, nI K, xv, nI L, xco, ck, cp, cn, cd, ov, od, dv, dn, mks, lk, kp, kn, dp, dg)) ∧ (∀ post : Int32 → Prop, post 0 → wpY_logComplete post (nI vl, nI cl, nI ll, so, nI n, nI m, nI L, nI K, kd, va, mr, cu, yco, lnk, li, st, tb))) := qr_logref hn8 b3 b6 hL
  unfold wpX_resolve
  dsimp only
  rcases LR with ⟨h0, hX⟩ | ⟨hne, hX, hY⟩ | ⟨hne, e, hX, hY⟩ | ⟨hne, hlt, hX, hY⟩
  · refine hX _ (br_f (by decide) ?_)
    exact br_t h0 ⟨rfl, keep⟩
  · refine hX _ (br_f (by decide) ?_)
    exact br_f hne (hY _ (br_f (by decide) ⟨rfl, keep⟩))
  · refine hX _ (br_f (by decide) ?_)
    exact br_f hne (hY _ (br_t rfl (br_t (congrArg nI e) ⟨rfl, keep⟩)))
  · have hLe : ¬ nI L = nI ll := fun e => by rw [nI_eq (by omega) (by omega)] at e; omega
    rcases qr_ix v1 (n := L) (by omega) with h0 | h0 | ⟨a, ha, rfl⟩
    · refine hX _ (br_t rfl (qx_isL0 (Or.inl h0) (br_t rfl ?_)))
      exact br_f hne (hY _ (br_t rfl (br_f hLe (br_t h0 ⟨rfl, keep⟩))))
    · refine hX _ (br_t rfl (qx_isL0 (Or.inr h0) (br_t rfl ?_)))
      exact br_f hne (hY _ (br_t rfl (br_f hLe (br_f h0.1 (br_t h0.2.1 ⟨rfl, keep⟩)))))
    have pa : ¬ nI a < 0 := nI_pos (by omega)
    have qa : ¬ nI L ≤ nI a := nI_ge ha (by omega)
    rcases qr_ix v2 (n := L) (by omega) with h0 | h0 | ⟨b, hb, rfl⟩
    · refine hX _ (br_t rfl (qx_isL1 ha (by omega) (br_f (by decide) (qx_isL0 (Or.inl h0) (br_t rfl ?_)))))
      exact br_f hne (hY _ (br_t rfl (br_f hLe (br_f pa (br_f qa (br_t h0 ⟨rfl, keep⟩))))))
    · refine hX _ (br_t rfl (qx_isL1 ha (by omega) (br_f (by decide) (qx_isL0 (Or.inr h0) (br_t rfl ?_)))))
      exact br_f hne (hY _ (br_t rfl (br_f hLe (br_f pa (br_f qa (br_f h0.1 (br_t h0.2.1 ⟨rfl, keep⟩)))))))
    have pb : ¬ nI b < 0 := nI_pos (by omega)
    have qb : ¬ nI L ≤ nI b := nI_ge hb (by omega)
    rcases qr_var n hn8 v3 with h0 | h0 | ⟨i, hi, rfl⟩
    · refine hX _ (br_t rfl (qx_isL1 ha (by omega) (br_f (by decide) (qx_isL1 hb (by omega) (br_f (by decide) (qx_var0 (Or.inl h0) (br_t rfl ?_)))))))
      exact br_f hne (hY _ (br_t rfl (br_f hLe (br_f pa (br_f qa (br_f pb (br_f qb (br_t h0 ⟨rfl, keep⟩))))))))
    · refine hX _ (br_t rfl (qx_isL1 ha (by omega) (br_f (by decide) (qx_isL1 hb (by omega) (br_f (by decide) (qx_var0 (Or.inr h0) (br_t rfl ?_)))))))
      exact br_f hne (hY _ (br_t rfl (br_f hLe (br_f pa (br_f qa (br_f pb (br_f qb (br_f h0.1 (br_f (fun z => absurd h0.2 (Int32.not_lt.mpr z)) ⟨rfl, keep⟩)))))))))
    have hina : vp_in (nI a) 32 := vp_in_nI (by omega) (by omega)
    have hinb : vp_in (nI b) 32 := vp_in_nI (by omega) (by omega)
    have hini : vp_in (nI (i + 1)) 9 := vp_in_nI (by omega) (by omega)
    have hca : (nI a).toNatClampNeg = a := nI_clamp (by omega)
    have hcb : (nI b).toNatClampNeg = b := nI_clamp (by omega)
    have hci : (nI (i + 1)).toNatClampNeg = i + 1 := nI_clamp (by omega)
    obtain ⟨ea, ka, la⟩ := hL.1 a ha
    obtain ⟨eb, kb, lb⟩ := hL.1 b hb
    obtain ⟨o, ho⟩ : ∃ o : Bool, lnk a = qb_kd o := by
      rcases ka with z | z
      · exact ⟨true, z⟩
      · exact ⟨false, z⟩
    have la1 := (la.2.2.2.1 i (by omega)).1
    have lb2 := (lb.2.2.2.1 i (by omega)).2
    have ylem : ∀ post : Int32 → SY → Prop, ((lnk a = lnk b ∧ bt xe i = o ∧ bt (kp a) i = true ∧ bt (kn b) i = true) → ∃ n182 : Nat, wY_resolve_182 post (nI a) (nI b) (nI (i + 1)) (nI vl) (nI cl) (nI ll) so (nI n) (nI m) (nI L) (nI K) n182 0 kd va mr cu yco lnk li st tb) → (¬ (lnk a = lnk b ∧ bt xe i = o ∧ bt (kp a) i = true ∧ bt (kn b) i = true) → post (-12) (nI vl, nI cl, nI ll, so, nI n, nI m, nI L, nI K, kd, va, mr, cu, yco, lnk, li, st, tb)) → wpY_resolve post (nI vl, nI cl, nI ll, so, nI n, nI m, nI L, nI K, kd, va, mr, cu, yco, lnk, li, st, tb) (nI a) (nI b) (nI (i + 1)) := by
      intro post g1 g0
      refine br_f hne (hY _ (br_t rfl (br_f hLe (br_f pa (br_f qa (br_f pb (br_f qb (br_f (qr_n1 (by omega)) (br_t (nI_le (by omega) (by omega)) ?_)))))))))
      have g137 : lnk a = lnk b → bt xe i = o → wY_resolve_137 post (nI a) (nI b) (nI (i + 1)) (nI vl) (nI cl) (nI ll) so (nI n) (nI m) (nI L) (nI K) kd va mr cu yco lnk li st tb := by
        intro e1 e2
        unfold wY_resolve_137
        rw [qy_ix1 a (i + 1), qy_ix2 b (v := i + 1) (by omega), nI_clamp (by omega : a * 17 + 8 + (i + 1) < 2 ^ 31), nI_clamp (by omega : b * 17 + 8 - (i + 1) < 2 ^ 31), la1, lb2, qr_3e1, qr_3e1]
        exact ⟨vp_in_nI (by omega) (by omega), br_c (fun z1 => ⟨vp_in_nI (by omega) (by omega), br_c (fun z2 => g1 ⟨e1, e2, z1, z2⟩) (fun z2 => g0 (fun y => z2 y.2.2.2))⟩) (fun z1 => g0 (fun y => z1 y.2.2.1))⟩
      rw [hca, hcb, hci]
      refine ⟨hina, hinb, br_c (fun e1 => ⟨hina, ?_⟩) (fun e1 => g0 (fun y => e1 y.1))⟩
      rw [ho, qy_kd hV hi]
      cases o
      · refine br_f (by decide) ?_
        unfold wY_resolve_114
        rw [hca, hci, ho, qy_kd hV hi]
        refine ⟨hina, br_t rfl ⟨hini, ?_⟩⟩
        cases hx : bt xe i
        · exact br_f (by decide) (g137 e1 hx)
        · exact br_t rfl (g0 (fun y => by rw [hx] at y; exact absurd y.2.1 (by decide)))
      · refine br_t rfl ⟨hini, ?_⟩
        cases hx : bt xe i
        · exact br_t rfl (g0 (fun y => by rw [hx] at y; exact absurd y.2.1 (by decide)))
        · refine br_f (by decide) ?_
          unfold wY_resolve_114
          rw [hca, ho]
          exact ⟨hina, br_f (by decide) (g137 e1 hx)⟩
    simp only [hca, hcb]
    refine hX _ (br_t rfl (qx_isL1 ha (by omega) (br_f (by decide) (qx_isL1 hb (by omega) (br_f (by decide) (qx_var1 hi hn8 (br_f (by decide) ?_)))))))
    rw [nI_pred i]
    refine nm_e (qx_piv (o := o) (by omega) (by omega) hi hn8 hV.1 (ea.trans ho) (fun hp => br_f (by decide) ?_) (fun hp => br_t rfl ?_))
    · rw [ea, eb] at hp
      have hpn : ∀ j, bt ((kp a &&& (((1 : Int32) <<< (nI i &&& 31)) ^^^ (-1))) ||| kp b) j = true → j < n := by
        intro j hj
        rcases qb_orT.mp hj with z | z
        · exact la.1 j (Or.inl (qb_andnT.mp z).1)
        · exact lb.1 j (Or.inl z)
      have hqn : ∀ j, bt (kn a ||| (kn b &&& (((1 : Int32) <<< (nI i &&& 31)) ^^^ (-1)))) j = true → j < n := by
        intro j hj
        rcases qb_orT.mp hj with z | z
        · exact la.1 j (Or.inr (Or.inl z))
        · exact lb.1 j (Or.inr (Or.inl (qb_andnT.mp z).1))
      have hzl : ∀ i, i < 17 → li (L * 17 + i) = 0 := fun i hi => hL.2 L i (Nat.le_refl _) (by omega) hi
      refine ⟨hina, hinb, nm_e ⟨hina, hinb, nm_e (br_c (fun hc => ⟨hina, ?_⟩) (fun hc => ?_))⟩⟩
      · rw [ea, ho]
        refine qx_addLine hn8 hV.1 (by omega) hpn hqn (fun dr hdr => ?_)
        refine ylem _ (fun _ => ⟨18, qy_r182 (by omega) (by omega) (by omega) (fun st hst => ⟨n + 1, qy_r284 (dr := dr) (by omega) ho hn8 hV (by omega) hpn hqn (qr_stF (by omega) la lb hst) (fun _ => hdr) hzl (fun _ li' hl => ⟨rfl, ?_⟩) (fun z => absurd hc z) n 0 (n + 1) (by omega) (by omega) (fun j hj => absurd hj (by omega))⟩) 17 0 18 st (by omega) (by omega) (fun j hj => absurd hj (by omega))⟩) (fun z => absurd hp z)
        refine qr_in ⟨⟨b1, b2, b3, b4, b5, hlt, b7, b8⟩, hV, hC, qr_L_add hn8 (by omega) ?_ hpn hqn hL hl, hM, hS⟩
        cases o
        · exact Or.inr rfl
        · exact Or.inl rfl
      · refine ylem _ (fun _ => ⟨18, qy_r182 (by omega) (by omega) (by omega) (fun st hst => ⟨n + 1, qy_r284 (dr := 0) (by omega) ho hn8 hV (by omega) hpn hqn (qr_stF (by omega) la lb hst) (fun z => absurd z hc) hzl (fun z => absurd z hc) (fun _ => ⟨rfl, ?_⟩) n 0 (n + 1) (by omega) (by omega) (fun j hj => absurd hj (by omega))⟩) 17 0 18 st (by omega) (by omega) (fun j hj => absurd hj (by omega))⟩) (fun z => absurd hp z)
        exact qr_in ⟨⟨b1, b2, b3, b4, b5, b6, b7, b8⟩, hV, hC, hL, hM, hS⟩
    · rw [ea, eb] at hp
      exact ylem _ (fun z => absurd z hp) (fun _ => ⟨rfl, keep⟩)
end
section
/-! replay -/
theorem qb_subI {x y : Int32} : (x &&& (y ^^^ (-1))) = 0 ↔ ∀ i, bt x i = true → bt y i = true := ⟨fun h _ hi => qb_sub h hi, qb_subz⟩
def qr_Ac (K : Nat) (xv : Int32) (o : Bool) (p q : Int32) (i : Nat) : Prop := (bt p i = true → i < K ∧ bt xv i = !o) ∧ (bt q i = true → i < K ∧ bt xv i = o)
theorem qr_bne {a b : Bool} : qr_b a = qr_b b ↔ a = b := by cases a <;> cases b <;> decide
theorem qr_1m {a : Bool} : 1 - qr_b a = qr_b (!a) := by cases a <;> decide
theorem qr_nn {a b : Bool} : (!a) = (!b) ↔ a = b := by cases a <;> cases b <;> decide
section
variable {xvl xcl xll xn xe xa xm xop xon xso xre xnl xsc xac xau xd xb xs xo xz xdc xou xrv xrn xk xv xl xco : Int32} {ck cp cn cd ov od dv dn mks lk kp kn dp dg : Nat → Int32} {n K : Nat}
theorem qx_act {post : Int32 → Prop} {l : Nat} {o : Bool} (hl : l < 32) (hK : K ≤ 8) (hk : lk l = qb_kd o) (h1 : (∀ i, qr_Ac K xv o (kp l) (kn l) i) → post 1) (h0 : (¬ ∀ i, qr_Ac K xv o (kp l) (kn l) i) → post 0) : wpX_isActive post (xvl, xcl, xll, xn, xe, xa, xm, xop, xon, xso, xre, xnl, xsc, xac, xau, xd, xb, xs, xo, xz, xdc, xou, xrv, xrn, nI K, xv, xl, xco, ck, cp, cn, cd, ov, od, dv, dn, mks, lk, kp, kn, dp, dg) (nI l) := by
  have hin : vp_in (nI l) 32 := vp_in_nI hl (by omega)
  have e1 : ∀ j, bt (xv &&& (((1 : Int32) <<< (nI K &&& 31)) - 1)) j = true ↔ (j < K ∧ bt xv j = true) := fun j => by
    rw [qb_andT, qb_lowT (by omega)]; exact ⟨fun h => ⟨h.2, h.1⟩, fun h => ⟨h.2, h.1⟩⟩
  have e2 : ∀ j, bt ((((1 : Int32) <<< (nI K &&& 31)) - 1) &&& (xv ^^^ (-1))) j = true ↔ (j < K ∧ bt xv j = false) := fun j => by
    rw [qb_andnT, qb_lowT (by omega)]
  unfold wpX_isActive
  dsimp only
  rw [nI_clamp (by omega : l < 2 ^ 31)]
  refine nm_e (nm_e (nm_e ⟨hin, ?_⟩))
  rw [hk]
  cases o
  · refine br_f (by decide) ⟨hin, br_c (fun h => ⟨hin, br_c (fun h2 => h1 (fun i => ⟨fun z => (e1 i).mp (qb_subI.mp h i z), fun z => (e2 i).mp (qb_subI.mp h2 i z)⟩)) (fun h2 => h0 (fun z => h2 (qb_subI.mpr (fun i y => (e2 i).mpr ((z i).2 y)))))⟩) (fun h => h0 (fun z => h (qb_subI.mpr (fun i y => (e1 i).mpr ((z i).1 y)))))⟩
  · refine br_t rfl ⟨hin, br_c (fun h => ⟨hin, br_c (fun h2 => h1 (fun i => ⟨fun z => (e2 i).mp (qb_subI.mp h i z), fun z => (e1 i).mp (qb_subI.mp h2 i z)⟩)) (fun h2 => h0 (fun z => h2 (qb_subI.mpr (fun i y => (e1 i).mpr ((z i).2 y)))))⟩) (fun h => h0 (fun z => h (qb_subI.mpr (fun i y => (e2 i).mpr ((z i).1 y)))))⟩
end
section
variable {ymv ymc yml yso yn ym yl yk : Int32} {kd va mr cu yco lnk li st tb : Nat → Int32} {n K : Nat} {xv p q d e : Int32} {mks : Nat → Int32}
theorem qy_ap18 {post : Int32 → Prop} {l : Nat} {o : Bool} (hl : l < 32) (hn8 : n ≤ 8) (hK : K ≤ n) (hM : qr_M K xv mks va mr) (hln : qr_ln n li l p q d e) (h1 : (∀ i, qr_Ac K xv o p q i) → post 1) (h0 : (¬ ∀ i, qr_Ac K xv o p q i) → post 0) :
    ∀ (k i f : Nat), i + k = n → k < f → (∀ j, j < i → qr_Ac K xv o p q j) → wY_applies_18 post (nI l) (qr_b (!o)) ymv ymc yml yso (nI n) ym yl (nI K) kd va mr cu yco lnk li st tb f (nI (i + 1)) := by
  intro k
  induction k with
  | zero =>
    intro i f hi hf hI
    obtain ⟨f, rfl⟩ : ∃ g, f = g + 1 := ⟨f - 1, by omega⟩
    have e : i = n := by omega
    subst e
    refine br_t (nI_lt (by omega) (by omega)) (h1 (fun j => ?_))
    by_cases hj : j < i
    · exact hI j hj
    · exact ⟨fun z => absurd (hln.1 j (Or.inl z)) hj, fun z => absurd (hln.1 j (Or.inr (Or.inl z))) hj⟩
  | succ k ih =>
    intro i f hi hf hI
    obtain ⟨f, rfl⟩ : ∃ g, f = g + 1 := ⟨f - 1, by omega⟩
    have hin9 : vp_in (nI (i + 1)) 9 := vp_in_nI (by omega) (by omega)
    obtain ⟨l1, l2⟩ := hln.2.2.2.1 i (by omega)
    have next : qr_Ac K xv o p q i → wY_applies_18 post (nI l) (qr_b (!o)) ymv ymc yml yso (nI n) ym yl (nI K) kd va mr cu yco lnk li st tb f (nI (i + 1 + 1)) := fun h =>
      ih (i + 1) f (by omega) (by omega) (fun j hj => by
        by_cases e : j = i
        · rw [e]; exact h
        · exact hI j (by omega))
    have k64 : (bt p i = true → i < K ∧ bt xv i = !o) → wY_applies_64 post (wY_applies_18 post (nI l) (qr_b (!o)) ymv ymc yml yso (nI n) ym yl (nI K) kd va mr cu yco lnk li st tb f) (nI l) (qr_b (!o)) (nI (i + 1)) ymv ymc yml yso (nI n) ym yl (nI K) kd va mr cu yco lnk li st tb := by
      intro hp
      unfold wY_applies_64
      rw [qy_ix2 l (v := i + 1) (by omega), nI_clamp (by omega : l * 17 + 8 - (i + 1) < 2 ^ 31), l2, qr_3e1]
      refine ⟨vp_in_nI (by omega) (by omega), br_c (fun z => ?_) (fun z => nm_r (nI_1 (i + 1)) (next ⟨hp, fun y => absurd y z⟩))⟩
      by_cases hiK : i < K
      · refine br_f (nI_nlt (by omega) (by omega)) ⟨hin9, ?_⟩
        rw [nI_clamp (by omega : i + 1 < 2 ^ 31), (hM.2 i hiK).1, qr_1m, qr_bne, qr_nn]
        exact br_c (fun y => nm_r (nI_1 (i + 1)) (next ⟨hp, fun _ => ⟨hiK, y⟩⟩)) (fun y => h0 (fun x => y ((x i).2 z).2))
      · exact br_t (nI_lt (by omega) (by omega)) (h0 (fun x => hiK ((x i).2 z).1))
    refine br_f (nI_nlt (by omega) (by omega)) ?_
    rw [qy_ix1 l (i + 1), nI_clamp (by omega : l * 17 + 8 + (i + 1) < 2 ^ 31), l1, qr_3e1]
    refine ⟨vp_in_nI (by omega) (by omega), br_c (fun z => ?_) (fun z => k64 (fun y => absurd y z))⟩
    by_cases hiK : i < K
    · refine br_f (nI_nlt (by omega) (by omega)) ⟨hin9, ?_⟩
      rw [nI_clamp (by omega : i + 1 < 2 ^ 31), (hM.2 i hiK).1, qr_bne]
      exact br_c (fun y => k64 (fun _ => ⟨hiK, y⟩)) (fun y => h0 (fun x => y ((x i).1 z).2))
    · exact br_t (nI_lt (by omega) (by omega)) (h0 (fun x => hiK ((x i).1 z).1))
theorem qy_app {post : Int32 → Prop} {l : Nat} {o : Bool} (hl : l < 32) (hn8 : n ≤ 8) (hK : K ≤ n) (hM : qr_M K xv mks va mr) (hln : qr_ln n li l p q d e) (hk : lnk l = qb_kd o) (h1 : (∀ i, qr_Ac K xv o p q i) → post 1) (h0 : (¬ ∀ i, qr_Ac K xv o p q i) → post 0) : wpY_applies post (ymv, ymc, yml, yso, nI n, ym, yl, nI K, kd, va, mr, cu, yco, lnk, li, st, tb) (nI l) := by
  unfold wpY_applies
  dsimp only
  rw [nI_clamp (by omega : l < 2 ^ 31), hk]
  refine ⟨vp_in_nI hl (by omega), ?_⟩
  cases o
  · exact br_f (by decide) ⟨n + 1, qy_ap18 (o := false) hl hn8 hK hM hln h1 h0 n 0 (n + 1) (by omega) (by omega) (fun j hj => absurd hj (by omega))⟩
  · exact br_t rfl ⟨n + 1, qy_ap18 (o := true) hl hn8 hK hM hln h1 h0 n 0 (n + 1) (by omega) (by omega) (fun j hj => absurd hj (by omega))⟩
theorem qy_rpf {post : Int32 → SY → Prop} {x2 : Int32} {L : Nat} (hL32 : L ≤ 32) (hK : K < 8) {r : Bool} (h : post (qr_b r) (ymv, ymc, yml, yso, yn, ym, nI L, nI (K + 1), kd, upd va (K + 1) (qr_b r), upd mr (K + 1) 3, cu, yco, lnk, li, st, tb)) :
    ∀ (k l f : Nat), l + k = L → k < f → wY_replay_96 post (nI (K + 1)) x2 ymv ymc yml yso yn ym (nI L) (nI K) kd va mr cu yco lnk li st tb f (qr_b r) 1 (nI l) := by
  intro k
  induction k with
  | zero =>
    intro l f hl hf
    obtain ⟨f, rfl⟩ : ∃ g, f = g + 1 := ⟨f - 1, by omega⟩
    have e : l = L := by omega
    subst e
    exact br_t (nI_le (Nat.le_refl _) (by omega)) (qy_move hK h)
  | succ k ih =>
    intro l f hl hf
    obtain ⟨f, rfl⟩ : ∃ g, f = g + 1 := ⟨f - 1, by omega⟩
    have nx := ih (l + 1) f (by omega) (by omega)
    have k155 : ∀ x6 z0 : Int32, wY_replay_155 post (wY_replay_96 post (nI (K + 1)) x2 ymv ymc yml yso yn ym (nI L) (nI K) kd va mr cu yco lnk li st tb f) (nI (K + 1)) x2 (qr_b r) 1 (nI l) x6 z0 ymv ymc yml yso yn ym (nI L) (nI K) kd va mr cu yco lnk li st tb := by
      intro x6 z0
      unfold wY_replay_155
      exact br_f (by decide) (nm_r (nI_1 l) nx)
    have k129 : ∀ z0 : Int32, wY_replay_129 post (wY_replay_96 post (nI (K + 1)) x2 ymv ymc yml yso yn ym (nI L) (nI K) kd va mr cu yco lnk li st tb f) (nI (K + 1)) x2 (qr_b r) 1 (nI l) z0 ymv ymc yml yso yn ym (nI L) (nI K) kd va mr cu yco lnk li st tb := by
      intro z0
      unfold wY_replay_129
      rw [qy_ix2 l (v := K + 1) (by omega)]
      exact ⟨vp_in_nI (by omega) (by omega), br_c (fun _ => k155 _ _) (fun _ => k155 _ _)⟩
    refine br_f (nI_ge (by omega) (by omega)) ?_
    rw [qy_ix1 l (K + 1)]
    exact ⟨vp_in_nI (by omega) (by omega), br_c (fun _ => k129 _) (fun _ => k129 _)⟩
end
section
variable {vl cl ll n m L K nl : Nat} {so xe xa xop xon xre xsc xac xau xd xb xs xo xz xdc xou xrv xrn xv xco : Int32} {ck cp cn cd ov od dv dn mks lk kp kn dp dg kd va mr cu yco lnk li st tb : Nat → Int32}
theorem qr_rp {o : Bool} (hn8 : n ≤ 8) (hL32 : L ≤ 32) (hK : K < n) (hL : qr_L n L lk kp kn dp dg lnk li) (hM : qr_M K xv mks va mr) :
    ∀ (k l : Nat), l + k = L → ∃ r : Bool, (∀ (f : Nat) (post : Int32 → Prop), k < f → post (qr_b r) → wX_strategyBit_9 post (qb_kd o) ((1 : Int32) <<< (nI K &&& 31)) (nI vl) (nI cl) (nI ll) (nI n) xe xa (nI m) xop xon so xre (nI nl) xsc xac xau xd xb xs xo xz xdc xou xrv xrn (nI K) xv (nI L) xco ck cp cn cd ov od dv dn mks lk kp kn dp dg f (nI l)) ∧ (∀ (f : Nat) (post : Int32 → SY → Prop), k < f → post (qr_b r) (nI vl, nI cl, nI ll, so, nI n, nI m, nI L, nI (K + 1), kd, upd va (K + 1) (qr_b r), upd mr (K + 1) 3, cu, yco, lnk, li, st, tb) → wY_replay_96 post (nI (K + 1)) (qb_kd o) (nI vl) (nI cl) (nI ll) so (nI n) (nI m) (nI L) (nI K) kd va mr cu yco lnk li st tb f 0 0 (nI l)) := by
  intro k
  induction k with
  | zero =>
    intro l hl
    have e : l = L := by omega
    subst e
    refine ⟨false, fun f post hf h => ?_, fun f post hf h => ?_⟩
    · obtain ⟨f, rfl⟩ : ∃ g, f = g + 1 := ⟨f - 1, by omega⟩
      exact br_t (nI_le (Nat.le_refl _) (by omega)) h
    · obtain ⟨f, rfl⟩ : ∃ g, f = g + 1 := ⟨f - 1, by omega⟩
      exact br_t (nI_le (Nat.le_refl _) (by omega)) (qy_move (by omega) h)
  | succ k ih =>
    intro l hl
    obtain ⟨r, ihX, ihY⟩ := ih (l + 1) (by omega)
    obtain ⟨el, kl, hln⟩ := hL.1 l (by omega)
    obtain ⟨_, xpd, xqe, hrow, _⟩ := hln
    have hln := (hL.1 l (by omega)).2.2
    obtain ⟨l1, l2⟩ := hrow K (by omega)
    have hin : vp_in (nI l) 32 := vp_in_nI (by omega) (by omega)
    have hcl : (nI l).toNatClampNeg = l := nI_clamp (by omega)
    have c1 : (nI (l * 17 + 8 + (K + 1))).toNatClampNeg = l * 17 + 8 + (K + 1) := nI_clamp (by omega)
    have c2 : (nI (l * 17 + 8 - (K + 1))).toNatClampNeg = l * 17 + 8 - (K + 1) := nI_clamp (by omega)
    have i1 : vp_in (nI (l * 17 + 8 + (K + 1))) 544 := vp_in_nI (by omega) (by omega)
    have i2 : vp_in (nI (l * 17 + 8 - (K + 1))) 544 := vp_in_nI (by omega) (by omega)
    have t1 : li (l * 17 + 8 + (K + 1)) = 2 ↔ bt (dp l) K = true := by
      rw [l1, qr_3e2]
      refine ⟨fun z => z.2, fun z => ⟨qb_ncf.mp (fun y => ?_), z⟩⟩
      rw [xpd K y] at z; exact absurd z (by decide)
    have t2 : li (l * 17 + 8 - (K + 1)) = 2 ↔ bt (dg l) K = true := by
      rw [l2, qr_3e2]
      refine ⟨fun z => z.2, fun z => ⟨qb_ncf.mp (fun y => ?_), z⟩⟩
      rw [xqe K y] at z; exact absurd z (by decide)
    have hdt : ¬ (((dp l) ||| (dg l)) &&& ((1 : Int32) <<< (nI K &&& 31))) = 0 ↔ (bt (dp l) K = true ∨ bt (dg l) K = true) := by
      rw [qb_bit1 _ (by omega), qb_orT]
    -- the reference's step, by what it asks of the line
    have Y155 : ∀ (f : Nat) (post : Int32 → SY → Prop) (a b : Bool), (a = bt (dp l) K) → (b = bt (dg l) K) → wY_replay_155 post (wY_replay_96 post (nI (K + 1)) (qb_kd o) (nI vl) (nI cl) (nI ll) so (nI n) (nI m) (nI L) (nI K) kd va mr cu yco lnk li st tb f) (nI (K + 1)) (qb_kd o) 0 0 (nI l) (qr_b a) (qr_b b) (nI vl) (nI cl) (nI ll) so (nI n) (nI m) (nI L) (nI K) kd va mr cu yco lnk li st tb → wY_replay_96 post (nI (K + 1)) (qb_kd o) (nI vl) (nI cl) (nI ll) so (nI n) (nI m) (nI L) (nI K) kd va mr cu yco lnk li st tb (f + 1) 0 0 (nI l) := by
      intro f post a b ha hb h
      refine br_f (nI_ge (by omega) (by omega)) ?_
      unfold wY_replay_129
      rw [qy_ix1 l (K + 1), qy_ix2 l (v := K + 1) (by omega), c1, c2, t1, t2]
      refine ⟨i1, br_c (fun z => ⟨i2, br_c (fun y => ?_) (fun y => ?_)⟩) (fun z => ⟨i2, br_c (fun y => ?_) (fun y => ?_)⟩)⟩
      · rw [ha, hb, z, y] at h; exact h
      · rw [ha, hb, z, qb_ncf.mp y] at h; exact h
      · rw [ha, hb, qb_ncf.mp z, y] at h; exact h
      · rw [ha, hb, qb_ncf.mp z, qb_ncf.mp y] at h; exact h
    by_cases hk : lnk l = qb_kd o
    · by_cases hd : bt (dp l) K = true ∨ bt (dg l) K = true
      · by_cases hA : ∀ i, qr_Ac K xv o (kp l) (kn l) i
        · -- this line decides
          refine ⟨bt (dp l) K ^^ o, fun f post hf h => ?_, fun f post hf h => ?_⟩
          · obtain ⟨f, rfl⟩ : ∃ g, f = g + 1 := ⟨f - 1, by omega⟩
            refine br_f (nI_ge (by omega) (by omega)) ?_
            rw [hcl]
            refine ⟨hin, hin, br_f (hdt.mpr hd) ?_⟩
            unfold wX_strategyBit_40
            rw [hcl]
            refine ⟨hin, br_t (el.trans hk) (br_f (by decide) (qx_act (o := o) (by omega) (by omega) (el.trans hk) (fun _ => br_f (by decide) ⟨hin, ?_⟩) (fun z => absurd hA z)))⟩
            unfold wX_strategyBit_81
            refine br_c (fun z => ?_) (fun z => ?_)
            · rw [(qb_bit0 _ (by omega)).mp z] at h
              cases o
              · exact br_f (by decide) (br_t rfl h)
              · exact br_t rfl (br_t rfl h)
            · rw [(qb_bit1 _ (by omega)).mp z] at h
              cases o
              · exact br_f (by decide) (br_f (by decide) h)
              · exact br_t rfl (br_f (by decide) h)
          · obtain ⟨f, rfl⟩ : ∃ g, f = g + 1 := ⟨f - 1, by omega⟩
            refine Y155 f post _ _ rfl rfl ?_
            have k183 : wY_replay_183 post (wY_replay_96 post (nI (K + 1)) (qb_kd o) (nI vl) (nI cl) (nI ll) so (nI n) (nI m) (nI L) (nI K) kd va mr cu yco lnk li st tb f) (nI (K + 1)) (qb_kd o) 0 0 (nI l) (qr_b (bt (dp l) K)) (nI vl) (nI cl) (nI ll) so (nI n) (nI m) (nI L) (nI K) kd va mr cu yco lnk li st tb := by
              unfold wY_replay_183
              refine qy_app (by omega) hn8 (by omega) hM hln hk (fun _ => br_f (by decide) ?_) (fun z => absurd hA z)
              have fin := qy_rpf (x2 := qb_kd o) (by omega) (by omega) h k (l + 1) f (by omega) (by omega)
              cases hx : bt (dp l) K
              · rw [hx] at fin
                cases o
                · exact br_f (by decide) (br_t rfl (nm_r (nI_1 l) fin))
                · exact br_t rfl (br_t rfl (nm_r (nI_1 l) fin))
              · rw [hx] at fin
                cases o
                · exact br_f (by decide) (br_f (by decide) (nm_r (nI_1 l) fin))
                · exact br_t rfl (br_f (by decide) (nm_r (nI_1 l) fin))
            unfold wY_replay_155
            refine br_t rfl ⟨hin, ?_⟩
            rw [hcl]
            refine br_t hk (br_c (fun z => br_c (fun y => ?_) (fun _ => k183)) (fun _ => k183))
            exfalso
            rcases hd with hd | hd
            · rw [hd] at z; exact absurd z (by decide)
            · rw [hd] at y; exact absurd y (by decide)
        · refine ⟨r, fun f post hf h => ?_, fun f post hf h => ?_⟩
          · obtain ⟨f, rfl⟩ : ∃ g, f = g + 1 := ⟨f - 1, by omega⟩
            have nx := ihX f post (by omega) h
            refine br_f (nI_ge (by omega) (by omega)) ?_
            rw [hcl]
            refine ⟨hin, hin, br_f (hdt.mpr hd) ?_⟩
            unfold wX_strategyBit_40
            rw [hcl]
            exact ⟨hin, br_t (el.trans hk) (br_f (by decide) (qx_act (o := o) (by omega) (by omega) (el.trans hk) (fun z => absurd z hA) (fun _ => br_t rfl (nm_r (nI_1 l) nx))))⟩
          · obtain ⟨f, rfl⟩ : ∃ g, f = g + 1 := ⟨f - 1, by omega⟩
            have nx := ihY f post (by omega) h
            refine Y155 f post _ _ rfl rfl ?_
            have k183 : wY_replay_183 post (wY_replay_96 post (nI (K + 1)) (qb_kd o) (nI vl) (nI cl) (nI ll) so (nI n) (nI m) (nI L) (nI K) kd va mr cu yco lnk li st tb f) (nI (K + 1)) (qb_kd o) 0 0 (nI l) (qr_b (bt (dp l) K)) (nI vl) (nI cl) (nI ll) so (nI n) (nI m) (nI L) (nI K) kd va mr cu yco lnk li st tb := by
              unfold wY_replay_183
              exact qy_app (by omega) hn8 (by omega) hM hln hk (fun z => absurd z hA) (fun _ => br_t rfl (nm_r (nI_1 l) nx))
            unfold wY_replay_155
            refine br_t rfl ⟨hin, ?_⟩
            rw [hcl]
            exact br_t hk (br_c (fun z => br_c (fun y => nm_r (nI_1 l) nx) (fun _ => k183)) (fun _ => k183))
      · refine ⟨r, fun f post hf h => ?_, fun f post hf h => ?_⟩
        · obtain ⟨f, rfl⟩ : ∃ g, f = g + 1 := ⟨f - 1, by omega⟩
          have nx := ihX f post (by omega) h
          refine br_f (nI_ge (by omega) (by omega)) ?_
          rw [hcl]
          refine ⟨hin, hin, br_t (Classical.byContradiction (fun z => hd (hdt.mp z))) ?_⟩
          unfold wX_strategyBit_40
          rw [hcl]
          exact ⟨hin, br_t (el.trans hk) (br_t rfl (nm_r (nI_1 l) nx))⟩
        · obtain ⟨f, rfl⟩ : ∃ g, f = g + 1 := ⟨f - 1, by omega⟩
          have nx := ihY f post (by omega) h
          refine Y155 f post _ _ rfl rfl ?_
          unfold wY_replay_155
          refine br_t rfl ⟨hin, ?_⟩
          rw [hcl]
          refine br_t hk (br_t ?_ (br_t ?_ (nm_r (nI_1 l) nx)))
          · exact qr_be.mpr (qb_ncf.mp (fun z => hd (Or.inl z)))
          · exact qr_be.mpr (qb_ncf.mp (fun z => hd (Or.inr z)))
    · have hk' : ¬ lk l = qb_kd o := fun z => hk (el.symm.trans z)
      refine ⟨r, fun f post hf h => ?_, fun f post hf h => ?_⟩
      · obtain ⟨f, rfl⟩ : ∃ g, f = g + 1 := ⟨f - 1, by omega⟩
        have nx := ihX f post (by omega) h
        refine br_f (nI_ge (by omega) (by omega)) ?_
        unfold wX_strategyBit_40
        rw [hcl]
        exact ⟨hin, hin, br_c (fun _ => ⟨hin, br_f hk' (nm_r (nI_1 l) nx)⟩) (fun _ => ⟨hin, br_f hk' (nm_r (nI_1 l) nx)⟩)⟩
      · obtain ⟨f, rfl⟩ : ∃ g, f = g + 1 := ⟨f - 1, by omega⟩
        have nx := ihY f post (by omega) h
        refine Y155 f post _ _ rfl rfl ?_
        unfold wY_replay_155
        refine br_t rfl ⟨hin, ?_⟩
        rw [hcl]
        exact br_f hk (nm_r (nI_1 l) nx)
end
theorem i_vc_replay {k : Nat} {u : SX} {v : SY} (I : i_Rel k u v) (hk : k + 4 ≤ 2051) : wpX_replay (fun r u' => wpY_replay (fun r' v' => r' = r ∧ i_Rel (k + 4) u' v') v) u := by
  refine qr_el (P := fun u v => wpX_replay (fun r u' => wpY_replay (fun r' v' => r' = r ∧ i_Rel (k + 4) u' v') v) u) ?_ I
  intro vl cl ll n m L K nl so xe xa xop xon xre xsc xac xau xd xb xs xo xz xdc xou xrv xrn xv xco ck cp cn cd ov od dv dn mks lk kp kn dp dg kd va mr cu yco lnk li st tb hR
  obtain ⟨⟨b1, b2, b3, b4, b5, b6, b7, b8⟩, hV, hC, hL, hM, hS⟩ := hR
  have keep : i_Rel (k + 4) (nI vl, nI cl, nI ll, nI n, xe, xa, nI m, xop, xon, so, xre, nI nl, xsc, xac, xau, xd, xb, xs, xo, xz, xdc, xou, xrv, xrn, nI K, xv, nI L, xco, ck, cp, cn, cd, ov, od, dv, dn, mks, lk, kp, kn, dp, dg) (nI vl, nI cl, nI ll, so, nI n, nI m, nI L, nI K, kd, va, mr, cu, yco, lnk, li, st, tb) := qr_in ⟨⟨b1, b2, b3, b4, b5, b6, b7, b8⟩, hV, hC, hL, hM, hS⟩
  have hn8 : n ≤ 8 := by omega
  rcases qr_01 hS with h0 | ⟨h1, hne⟩
  · refine br_t h0 ?_
    exact br_t h0 ⟨rfl, keep⟩
  · have hcp : ∃ b : Bool, (∀ post : Int32 → Prop, post (qr_b b) → wpX_isComplete post (nI vl, nI cl, nI ll, nI n, xe, xa, nI m, xop, xon, so, xre, nI nl, xsc, xac, xau, xd, xb, xs, xo, xz, xdc, xou, xrv, xrn, nI K, xv, nI L, xco, ck, cp, cn, cd, ov, od, dv, dn, mks, lk, kp, kn, dp, dg)) ∧ (∀ post : Int32 → Prop, post (qr_b b) → wpY_logComplete post (nI vl, nI cl, nI ll, so, nI n, nI m, nI L, nI K, kd, va, mr, cu, yco, lnk, li, st, tb)) ∧ (b = true → 0 < L) := qr_cpl hn8 (by omega) hL
    obtain ⟨b, hX, hY, hb⟩ := hcp
    cases b
    · refine br_f hne (hX _ (br_t rfl ?_))
      exact br_f hne (hY _ (br_t rfl ⟨rfl, keep⟩))
    · by_cases hK : K < n
      · have hKn : ¬ nI K = nI n := fun e => by rw [nI_eq (by omega) (by omega)] at e; omega
        obtain ⟨l, rfl⟩ : ∃ l, L = l + 1 := ⟨L - 1, by have := hb rfl; omega⟩
        have hin : vp_in (nI l) 32 := vp_in_nI (by omega) (by omega)
        have hcl : (nI l).toNatClampNeg = l := nI_clamp (by omega)
        have hin9 : vp_in (nI (K + 1)) 9 := vp_in_nI (by omega) (by omega)
        have hc9 : (nI (K + 1)).toNatClampNeg = K + 1 := nI_clamp (by omega)
        obtain ⟨el, kl, _⟩ := hL.1 l (by omega)
        obtain ⟨o, ho⟩ : ∃ o : Bool, lnk l = qb_kd o := by
          rcases kl with z | z
          · exact ⟨true, z⟩
          · exact ⟨false, z⟩
        have ylem : ∀ post : Int32 → SY → Prop, (bt xe K = o → post (-9) (nI vl, nI cl, nI ll, so, nI n, nI m, nI (l + 1), nI K, kd, va, mr, cu, yco, lnk, li, st, tb)) → (¬ bt xe K = o → ∃ n96 : Nat, wY_replay_96 post (nI (K + 1)) (qb_kd o) (nI vl) (nI cl) (nI ll) so (nI n) (nI m) (nI (l + 1)) (nI K) kd va mr cu yco lnk li st tb n96 0 0 0) → wpY_replay post (nI vl, nI cl, nI ll, so, nI n, nI m, nI (l + 1), nI K, kd, va, mr, cu, yco, lnk, li, st, tb) := by
          intro post g1 g0
          refine br_f hne (hY _ (br_f (by decide) (br_f hKn (nm_r (nI_1 K) ?_))))
          rw [nI_pred l, hcl, hc9, ho, qy_kd hV hK]
          refine ⟨hin, nm_e ?_⟩
          cases o
          · refine br_f (by decide) ?_
            unfold wY_replay_70
            rw [hc9, qy_kd hV hK]
            refine br_t rfl ⟨hin9, ?_⟩
            cases hx : bt xe K
            · exact br_t rfl (g1 hx)
            · exact br_f (by decide) (g0 (by rw [hx]; decide))
          · refine br_t rfl ⟨hin9, ?_⟩
            cases hx : bt xe K
            · refine br_f (by decide) ?_
              unfold wY_replay_70
              exact br_f (by decide) (g0 (by rw [hx]; decide))
            · exact br_t rfl (g1 hx)
        refine br_f hne (hX _ (br_f (by decide) (br_t (nI_lt hK (by omega)) ?_)))
        rw [nI_pred l, hcl]
        refine ⟨hin, nm_e ?_⟩
        refine qx_own (el.trans ho) hV.1 (fun w hw => br_c (fun z => ?_) (fun z => ?_))
        · have hxe : ¬ bt xe K = o := fun e => by
            have := (qb_bit0 w (by omega)).mp z
            rw [(hw K).mpr ⟨hK, e⟩] at this
            exact absurd this (by decide)
          have hrp : ∃ r : Bool, (∀ (f : Nat) (post : Int32 → Prop), l + 1 < f → post (qr_b r) → wX_strategyBit_9 post (qb_kd o) ((1 : Int32) <<< (nI K &&& 31)) (nI vl) (nI cl) (nI ll) (nI n) xe xa (nI m) xop xon so xre (nI nl) xsc xac xau xd xb xs xo xz xdc xou xrv xrn (nI K) xv (nI (l + 1)) xco ck cp cn cd ov od dv dn mks lk kp kn dp dg f (nI 0)) ∧ (∀ (f : Nat) (post : Int32 → SY → Prop), l + 1 < f → post (qr_b r) (nI vl, nI cl, nI ll, so, nI n, nI m, nI (l + 1), nI (K + 1), kd, upd va (K + 1) (qr_b r), upd mr (K + 1) 3, cu, yco, lnk, li, st, tb) → wY_replay_96 post (nI (K + 1)) (qb_kd o) (nI vl) (nI cl) (nI ll) so (nI n) (nI m) (nI (l + 1)) (nI K) kd va mr cu yco lnk li st tb f 0 0 (nI 0)) := qr_rp hn8 (by omega) hK hL hM (l + 1) 0 (by omega)
          obtain ⟨r, rX, rY⟩ := hrp
          unfold wpX_strategyBit
          dsimp only
          rw [el, ho]
          refine nm_e ⟨l + 2, rX (l + 2) _ (by omega) ?_⟩
          refine qx_move (bit := r) (by omega) (fun xv' m1 m2 => ?_)
          refine ylem _ (fun e => absurd e hxe) (fun _ => ⟨l + 2, rY (l + 2) _ (by omega) ⟨rfl, ?_⟩⟩)
          exact qr_in ⟨⟨b1, b2, b3, b4, b5, b6, hK, b8⟩, hV, hC, hL, qr_Mmv (bit := r) hM m1 m2, hS⟩
        · have hxe : bt xe K = o := ((hw K).mp ((qb_bit1 w (by omega)).mp z)).2
          exact ylem _ (fun _ => ⟨rfl, keep⟩) (fun e => absurd hxe e)
      · refine br_f hne (hX _ (br_f (by decide) (br_f (nI_nlt (by omega) (by omega)) ?_)))
        exact br_f hne (hY _ (br_f (by decide) (br_t (congrArg nI (by omega)) ⟨rfl, keep⟩)))
end
