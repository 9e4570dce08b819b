section
theorem pk_us {f : Nat → Int32} {k : Nat} {x : Int32} : upd f k x k = x := if_pos rfl
theorem pk_un {f : Nat → Int32} {k j : Nat} {x : Int32} (h : j ≠ k) : upd f k x j = f j := if_neg h
theorem pk_sub {a b : Nat} (h : b ≤ a) : nI a - nI b = nI (a - b) := by
  obtain ⟨c, rfl⟩ : ∃ c, a = c + b := ⟨a - b, by omega⟩
  rw [← nI_add, Int32.add_sub_cancel, Nat.add_sub_cancel]
theorem pk_m1 (n : Nat) : nI (n + 1) + (-1) = nI n := by
  rw [← nI_1, Int32.add_assoc, show (1 : Int32) + (-1) = 0 from rfl, Int32.add_zero]
theorem pk_mul (a b : Nat) : nI a * nI b = nI (a * b) := (Int32.ofNat_mul a b).symm
theorem pk_div {a d : Nat} (ha : a < 2 ^ 31) (h0 : 0 < d) (hd : d < 2 ^ 31) : nI a / nI d = nI (a / d) := by
  apply Int32.toInt_inj.mp
  rw [lg_idiv_nonneg (by rw [nI_toInt ha]; omega) (by rw [nI_toInt hd]; omega), nI_toInt ha, nI_toInt hd, nI_toInt (Nat.lt_of_le_of_lt (Nat.div_le_self a d) ha)]
  first | rfl | exact (Int.natCast_ediv _ _).symm
theorem pk_rem {a d : Nat} (ha : a < 2 ^ 31) (h0 : 0 < d) (hd : d < 2 ^ 31) : nI a - nI a / nI d * nI d = nI (a % d) := by
  rw [pk_div ha h0 hd, pk_mul, pk_sub (Nat.div_mul_le_self a d)]
  exact congrArg nI (by have := Nat.div_add_mod' a d; omega)
theorem pk_ix (x : Int32) {n : Nat} (hn : n < 2 ^ 31) : x < 0 ∨ nI n ≤ x ∨ ∃ j : Nat, j < n ∧ x = nI j := by
  by_cases h : x < 0
  · exact Or.inl h
  · obtain ⟨j, hj, rfl⟩ := nI_of h
    by_cases h2 : j < n
    · exact Or.inr (Or.inr ⟨j, h2, rfl⟩)
    · exact Or.inr (Or.inl (nI_le (by omega) hj))
theorem pk_le {x y : Int32} {A B : Prop} (a b : Nat) (f : a ≤ b → A) (g : b < a → B) (hx : x = nI a := by rfl) (hy : y = nI b := by rfl) (ha : a < 2 ^ 31 := by omega) (hb : b < 2 ^ 31 := by omega) : (x ≤ y → A) ∧ (¬ x ≤ y → B) := by
  subst hx hy
  rw [nI_leI ha hb]
  exact ⟨f, fun z => g (by omega)⟩
theorem pk_lt {x y : Int32} {A B : Prop} (a b : Nat) (f : a < b → A) (g : b ≤ a → B) (hx : x = nI a := by rfl) (hy : y = nI b := by rfl) (ha : a < 2 ^ 31 := by omega) (hb : b < 2 ^ 31 := by omega) : (x < y → A) ∧ (¬ x < y → B) := by
  subst hx hy
  rw [nI_ltI ha hb]
  exact ⟨f, fun z => g (by omega)⟩
theorem pk_eq {x y : Int32} {A B : Prop} (a b : Nat) (f : a = b → A) (g : a ≠ b → B) (hx : x = nI a := by rfl) (hy : y = nI b := by rfl) (ha : a < 2 ^ 31 := by omega) (hb : b < 2 ^ 31 := by omega) : (x = y → A) ∧ (¬ x = y → B) := by
  subst hx hy
  rw [nI_eq ha hb]
  exact ⟨f, g⟩
theorem pk_in {x : Int32} (n N : Nat) (h : n < N) (hx : x = nI n := by rfl) (hN : N < 2 ^ 31 := by omega) : vp_in x N := by
  subst hx
  exact vp_in_nI h hN
theorem pk_cl {x : Int32} (n : Nat) (hx : x = nI n := by rfl) (h : n < 2 ^ 31 := by omega) : x.toNatClampNeg = n := by
  subst hx
  exact nI_clamp h
theorem pk_tn {n : Nat} (h : n < 2 ^ 32) : (nI n).toBitVec.toNat = n := Nat.mod_eq_of_lt h
theorem pk_and (x : Int32) {m : Int32} (k : Nat) (hm : m.toBitVec.toNat = 2 ^ k - 1) : x &&& m = nI (x.toBitVec.toNat % 2 ^ k) := by
  apply Int32.toBitVec_inj.mp
  apply BitVec.eq_of_toNat_eq
  rw [Int32.toBitVec_and, BitVec.toNat_and, hm, Nat.and_two_pow_sub_one_eq_mod]
  show _ = (BitVec.ofNat 32 _).toNat
  rw [BitVec.toNat_ofNat]
  exact (Nat.mod_eq_of_lt (Nat.lt_of_le_of_lt (Nat.mod_le _ _) x.toBitVec.isLt)).symm
theorem pk_andN {n : Nat} (h : n < 2 ^ 32) {m : Int32} (k : Nat) (hm : m.toBitVec.toNat = 2 ^ k - 1) : nI n &&& m = nI (n % 2 ^ k) := by
  rw [pk_and _ k hm, pk_tn h]
theorem pk_andE (x : Int32) {m : Int32} (k : Nat) (hm : m.toBitVec.toNat = 2 ^ k - 1) : ∃ j : Nat, j < 2 ^ k ∧ x &&& m = nI j := ⟨_, Nat.mod_lt _ (Nat.two_pow_pos k), pk_and x k hm⟩
theorem pk_andIn (x : Int32) {m : Int32} (k : Nat) (hm : m.toBitVec.toNat = 2 ^ k - 1) (hk : k ≤ 30) : vp_in (x &&& m) (2 ^ k) := by
  obtain ⟨j, hj, e⟩ := pk_andE x k hm
  rw [e]
  exact vp_in_nI hj (Nat.lt_of_le_of_lt (Nat.pow_le_pow_right (by decide) hk) (by decide))
theorem pk_shl (a s : Int32) (k : Nat) (hs : (s.toBitVec.smod 32).toNat = k) : (a <<< s).toBitVec.toNat = a.toBitVec.toNat * 2 ^ k % 2 ^ 32 := by
  show (a.toBitVec <<< (s.toBitVec.smod 32).toNat).toNat = _
  rw [hs, BitVec.toNat_shiftLeft, Nat.shiftLeft_eq]
theorem pk_shlN {n : Nat} (s : Int32) (k : Nat) (hs : (s.toBitVec.smod 32).toNat = k) (h : n * 2 ^ k < 2 ^ 32) : nI n <<< s = nI (n * 2 ^ k) := by
  apply Int32.toBitVec_inj.mp
  apply BitVec.eq_of_toNat_eq
  have hn : n < 2 ^ 32 := Nat.lt_of_le_of_lt (Nat.le_mul_of_pos_right n (Nat.two_pow_pos k)) h
  rw [pk_shl _ _ k hs, pk_tn hn, pk_tn h, Nat.mod_eq_of_lt h]
theorem pk_shr (a s : Int32) (k : Nat) (hs : (s.toBitVec.smod 32).toNat = k) : (a >>> s).toInt = a.toInt >>> k := by
  show (a.toBitVec.sshiftRight (s.toBitVec.smod 32).toNat).toInt = _
  rw [hs, BitVec.toInt_sshiftRight]
  rfl
theorem pk_shrN {n : Nat} (h : n < 2 ^ 31) (s : Int32) (k : Nat) (hs : (s.toBitVec.smod 32).toNat = k) : nI n >>> s = nI (n / 2 ^ k) := by
  apply Int32.toInt_inj.mp
  have h2 : n / 2 ^ k ≤ n := Nat.div_le_self _ _
  rw [pk_shr _ _ k hs, nI_toInt h, nI_toInt (by omega), Int.shiftRight_eq_div_pow]
  rfl
def bt (x : Int32) (i : Nat) : Bool := x.toBitVec.getLsbD i
theorem b_ext {x y : Int32} (h : ∀ i, i < 32 → bt x i = bt y i) : x = y := Int32.toBitVec_inj.mp (BitVec.eq_of_getLsbD_eq (fun i hi => h i hi))
theorem b_and (x y : Int32) (i : Nat) : bt (x &&& y) i = (bt x i && bt y i) := by unfold bt; rw [Int32.toBitVec_and, BitVec.getLsbD_and]
theorem b_xor (x y : Int32) (i : Nat) : bt (x ^^^ y) i = (bt x i ^^ bt y i) := by unfold bt; rw [Int32.toBitVec_xor, BitVec.getLsbD_xor]
theorem b_m1 : ∀ i, i < 32 → bt (-1) i = true := by decide +kernel
theorem s_l : ∀ n, n < 32 → ((nI n &&& 31).toBitVec.smod 32).toNat = n := by decide +kernel
theorem nx_and (a b : Nat) : nI a &&& nI b = nI (a &&& b) := by
  apply Int32.toBitVec_inj.1
  show BitVec.ofNat 32 a &&& BitVec.ofNat 32 b = BitVec.ofNat 32 (a &&& b)
  apply BitVec.eq_of_getLsbD_eq
  intro i hi
  simp [hi]
theorem nx_xor (a b : Nat) : nI a ^^^ nI b = nI (a ^^^ b) := by
  apply Int32.toBitVec_inj.1
  show BitVec.ofNat 32 a ^^^ BitVec.ofNat 32 b = BitVec.ofNat 32 (a ^^^ b)
  apply BitVec.eq_of_getLsbD_eq
  intro i hi
  simp [hi]
/-! ===== own rows on numbers ===== -/
theorem zz_or (a b : Nat) : nI a ||| nI b = nI (a ||| b) := by
  apply Int32.toBitVec_inj.1
  show BitVec.ofNat 32 a ||| BitVec.ofNat 32 b = BitVec.ofNat 32 (a ||| b)
  apply BitVec.eq_of_getLsbD_eq
  intro i hi
  simp [hi]
theorem zz_bt (s : Nat) {i : Nat} (hi : i < 32) : bt (nI s) i = s.testBit i := by
  show (BitVec.ofNat 32 s).getLsbD i = _
  rw [BitVec.getLsbD_ofNat, decide_eq_true hi, Bool.true_and]
theorem zz_andn (s d : Nat) : nI s &&& (nI d ^^^ (-1)) = nI (s ^^^ (s &&& d)) := by
  apply b_ext
  intro i hi
  rw [b_and, b_xor, b_m1 i hi, zz_bt _ hi, zz_bt _ hi, zz_bt _ hi, Nat.testBit_xor, Nat.testBit_and]
  cases s.testBit i <;> cases d.testBit i <;> rfl
theorem zz_sh : ∀ n, n < 9 → ((1 : Int32) <<< (nI n &&& 31)) = nI (2 ^ n) := by decide +kernel
theorem zz_p8 {n : Nat} (h : n ≤ 8) : 2 ^ n ≤ 256 := Nat.le_trans (Nat.pow_le_pow_right (by decide) h) (by decide)
theorem zz_pp (n : Nat) : 0 < 2 ^ n := Nat.two_pow_pos n
theorem zz_all : ∀ n, n < 9 → ((1 : Int32) <<< (nI n &&& 31)) - 1 = nI (2 ^ n - 1) := by decide +kernel
theorem zz_bit {v b : Nat} (hv : v < 256) (hb : b < 8) : ((nI v >>> (nI b &&& 31)) &&& 1) = nI (v / 2 ^ b % 2) := by
  have h1 : v / 2 ^ b ≤ v := Nat.div_le_self _ _
  rw [pk_shrN (by omega) _ b (s_l b (by omega)), pk_andN (by omega) 1 (by decide)]
theorem zz_due {v b : Nat} (hv : v < 256) (hb : b < 8) : ((nI v >>> (nI b &&& 31)) &&& 1) = 1 ↔ v.testBit b = true := by
  rw [zz_bit hv hb, Nat.testBit_eq_decide_div_mod_eq, decide_eq_true_iff]
  have h : v / 2 ^ b % 2 < 2 := Nat.mod_lt _ (by decide)
  exact nI_eq (b := 1) (by omega) (by decide)
theorem zz_pow : ∀ x, x < 256 → ((nI x &&& (nI x - 1)) = 0 ↔ (x = 0 ∨ x = 2 ^ x.log2)) := by decide +kernel
theorem zz_andz {x t : Nat} (hx : x < 256) (ht : t < 8) : (nI x &&& nI (2 ^ t)) = 0 ↔ x.testBit t = false := by
  have hp : 2 ^ t < 2 ^ 31 := Nat.pow_lt_pow_right (by decide) (by omega)
  have hl : (x &&& 2 ^ t) ≤ 2 ^ t := Nat.and_le_right
  rw [nx_and, ← nI_0, nI_eq (by omega) (by decide)]
  constructor
  · intro h
    have h2 : (x &&& 2 ^ t).testBit t = false := by rw [h]; exact Nat.zero_testBit t
    rw [Nat.testBit_and, Nat.testBit_two_pow_self, Bool.and_true] at h2
    exact h2
  · intro h
    apply Nat.eq_of_testBit_eq
    intro i
    rw [Nat.testBit_and, Nat.zero_testBit, Nat.testBit_two_pow]
    by_cases e : t = i
    · subst e; rw [h]; rfl
    · rw [decide_eq_false e, Bool.and_false]
end
section
/-! ===== parity, dot products over the two-element field, leading bits ===== -/
def zz_par (x : Nat) : Bool := x.testBit 0 ^^ (x.testBit 1 ^^ (x.testBit 2 ^^ (x.testBit 3 ^^ (x.testBit 4 ^^ (x.testBit 5 ^^ (x.testBit 6 ^^ x.testBit 7))))))
theorem zz_x4 (a b c d : Bool) : ((a ^^ b) ^^ (c ^^ d)) = ((a ^^ c) ^^ (b ^^ d)) := by
  cases a <;> cases b <;> cases c <;> cases d <;> rfl
theorem zz_par_xor (x y : Nat) : zz_par (x ^^^ y) = (zz_par x ^^ zz_par y) := by
  unfold zz_par
  rw [Nat.testBit_xor, Nat.testBit_xor, Nat.testBit_xor, Nat.testBit_xor, Nat.testBit_xor, Nat.testBit_xor, Nat.testBit_xor, Nat.testBit_xor]
  rw [zz_x4 (x.testBit 6), zz_x4 (x.testBit 5), zz_x4 (x.testBit 4), zz_x4 (x.testBit 3), zz_x4 (x.testBit 2), zz_x4 (x.testBit 1), zz_x4 (x.testBit 0)]
theorem zz_par_congr {x y : Nat} (h : ∀ b, b < 8 → x.testBit b = y.testBit b) : zz_par x = zz_par y := by
  unfold zz_par
  rw [h 0 (by decide), h 1 (by decide), h 2 (by decide), h 3 (by decide), h 4 (by decide), h 5 (by decide), h 6 (by decide), h 7 (by decide)]
def zz_dot (a s : Nat) : Bool := zz_par (a &&& s)
theorem zz_dot_x (a s t : Nat) : zz_dot a (s ^^^ t) = (zz_dot a s ^^ zz_dot a t) := by
  unfold zz_dot
  rw [Nat.and_xor_distrib_left, zz_par_xor]
theorem zz_dot_y (a b s : Nat) : zz_dot (a ^^^ b) s = (zz_dot a s ^^ zz_dot b s) := by
  unfold zz_dot
  rw [Nat.and_xor_distrib_right, zz_par_xor]
theorem zz_par0 : zz_par 0 = false := by decide
theorem zz_dot_0 (a : Nat) : zz_dot a 0 = false := by
  unfold zz_dot
  rw [Nat.and_zero]
  exact zz_par0
theorem zz_0_dot (a : Nat) : zz_dot 0 a = false := by
  unfold zz_dot
  rw [Nat.zero_and]
  exact zz_par0
theorem zz_dot_c (a b : Nat) : zz_dot a b = zz_dot b a := by
  unfold zz_dot
  rw [Nat.and_comm]
theorem zz_dot_congr {a f s : Nat} (h : ∀ b, b < 8 → s.testBit b = true → a.testBit b = f.testBit b) : zz_dot a s = zz_dot f s := by
  apply zz_par_congr
  intro b hb
  rw [Nat.testBit_and, Nat.testBit_and]
  cases e : s.testBit b
  · rw [Bool.and_false, Bool.and_false]
  · rw [h b hb e]
theorem zz_par_pow : ∀ b, b < 8 → zz_par (2 ^ b) = true := by decide +kernel
theorem zz_dot_p (a : Nat) {b : Nat} (hb : b < 8) : zz_dot a (2 ^ b) = a.testBit b := by
  cases e : a.testBit b
  · have h : a &&& 2 ^ b = 0 := by
      apply Nat.eq_of_testBit_eq
      intro i
      rw [Nat.testBit_and, Nat.zero_testBit, Nat.testBit_two_pow]
      by_cases e2 : b = i
      · subst e2; rw [e]; rfl
      · rw [decide_eq_false e2, Bool.and_false]
    unfold zz_dot
    rw [h]
    exact zz_par0
  · have h : a &&& 2 ^ b = 2 ^ b := by
      apply Nat.eq_of_testBit_eq
      intro i
      rw [Nat.testBit_and, Nat.testBit_two_pow]
      by_cases e2 : b = i
      · subst e2; rw [e]; rfl
      · rw [decide_eq_false e2, Bool.and_false]
    unfold zz_dot
    rw [h]
    exact zz_par_pow b hb
theorem zz_p_dot (a : Nat) {b : Nat} (hb : b < 8) : zz_dot (2 ^ b) a = a.testBit b := by
  rw [zz_dot_c]; exact zz_dot_p a hb
theorem zz_bl {x n b : Nat} (hx : x < 2 ^ n) (h : x.testBit b = true) : b < n := by
  rcases Nat.lt_or_ge b n with h1 | h1
  · exact h1
  · have h2 := Nat.testBit_lt_two_pow (Nat.lt_of_lt_of_le hx (Nat.pow_le_pow_right (by decide) h1))
    rw [h2] at h
    cases h
theorem zz_nz {x b : Nat} (h : x.testBit b = true) : x ≠ 0 := by
  intro e
  subst e
  rw [Nat.zero_testBit] at h
  cases h
theorem zz_top_hi {x b : Nat} (h : x.testBit b = true) : b ≤ x.log2 := (Nat.le_log2 (zz_nz h)).mpr (Nat.ge_two_pow_of_testBit h)
theorem zz_top_eq {x t : Nat} (h : x.testBit t = true) (hi : ∀ b, t < b → x.testBit b = false) : x.log2 = t := by
  have h1 := zz_top_hi h
  rcases Nat.lt_or_ge t x.log2 with h2 | h2
  · have h3 := hi _ h2
    rw [Nat.testBit_log2 (zz_nz h)] at h3
    cases h3
  · omega
theorem zz_top_lt {x n : Nat} (h0 : x ≠ 0) (hx : x < 2 ^ n) : x.log2 < n := (Nat.log2_lt h0).mpr hx
/-- rows that are reduced: nonzero, below 2^n, and a row's leading bit stands in no other row -/
def zz_rr (n m : Nat) (rs : Nat → Nat) : Prop := ∀ k, k < m → rs k ≠ 0 ∧ rs k < 2 ^ n ∧ ∀ j, j < m → j ≠ k → (rs j).testBit (rs k).log2 = false
/-- x has no leading bit -/
def zz_np (m : Nat) (rs : Nat → Nat) (x : Nat) : Prop := ∀ k, k < m → x.testBit (rs k).log2 = false
theorem zz_fix0 {n m : Nat} {rs : Nat → Nat} (hn : n ≤ 8) (R : zz_rr n m rs) (c : Nat → Bool) {f : Nat} (hf : f < 2 ^ n) : ∀ p, p ≤ m → ∃ a, a < 2 ^ n ∧ (∀ k, k < p → zz_dot a (rs k) = c k) ∧ (∀ b, (∀ k, k < m → b ≠ (rs k).log2) → a.testBit b = f.testBit b) := by
  intro p
  induction p with
  | zero => exact fun _ => ⟨f, hf, fun k hk => absurd hk (Nat.not_lt_zero k), fun _ _ => rfl⟩
  | succ p ih =>
    intro hp
    obtain ⟨a, ha, h1, h2⟩ := ih (by omega)
    obtain ⟨r0, rl, rj⟩ := R p (by omega)
    have ht : (rs p).log2 < n := zz_top_lt r0 rl
    by_cases e : zz_dot a (rs p) = c p
    · refine ⟨a, ha, fun k hk => ?_, h2⟩
      rcases Nat.lt_or_ge k p with h | h
      · exact h1 k h
      · have : k = p := by omega
        subst this
        exact e
    · refine ⟨a ^^^ 2 ^ (rs p).log2, Nat.xor_lt_two_pow ha (Nat.pow_lt_pow_right (by decide) ht), fun k hk => ?_, fun b hb => ?_⟩
      · rw [zz_dot_y, zz_p_dot _ (by omega)]
        rcases Nat.lt_or_ge k p with h | h
        · rw [rj k (by omega) (by omega), h1 k h, Bool.xor_false]
        · have : k = p := by omega
          subst this
          rw [Nat.testBit_log2 r0]
          revert e
          cases zz_dot a (rs k) <;> cases c k <;> simp
      · rw [Nat.testBit_xor, Nat.testBit_two_pow_of_ne (fun q => hb p (by omega) q.symm), Bool.xor_false]
        exact h2 b hb
/-- any f may be mended at the leading bits so that the rows' sums are as wished; what has no leading bit doesn't see it -/
theorem zz_fix {n m : Nat} {rs : Nat → Nat} (hn : n ≤ 8) (R : zz_rr n m rs) (c : Nat → Bool) {f : Nat} (hf : f < 2 ^ n) : ∃ a, a < 2 ^ n ∧ (∀ k, k < m → zz_dot a (rs k) = c k) ∧ (∀ l, zz_np m rs l → zz_dot a l = zz_dot f l) := by
  obtain ⟨a, ha, h1, h2⟩ := zz_fix0 hn R c hf m (Nat.le_refl m)
  refine ⟨a, ha, h1, fun l hl => zz_dot_congr fun b _ hb => h2 b fun k hk e => ?_⟩
  have h3 := hl k hk
  rw [← e, hb] at h3
  cases h3
/-- two solutions that differ at l -/
theorem zz_two {n m : Nat} {rs : Nat → Nat} (hn : n ≤ 8) (R : zz_rr n m rs) (c : Nat → Bool) {l : Nat} (hl : l < 2 ^ n) (h0 : l ≠ 0) (hp : zz_np m rs l) (y : Bool) : ∃ a, a < 2 ^ n ∧ (∀ k, k < m → zz_dot a (rs k) = c k) ∧ zz_dot a l = y := by
  have ht : l.log2 < n := zz_top_lt h0 hl
  cases y
  · obtain ⟨a, ha, h1, h2⟩ := zz_fix hn R c (f := 0) (Nat.two_pow_pos n)
    exact ⟨a, ha, h1, by rw [h2 l hp, zz_0_dot]⟩
  · obtain ⟨a, ha, h1, h2⟩ := zz_fix hn R c (f := 2 ^ l.log2) (Nat.pow_lt_pow_right (by decide) ht)
    exact ⟨a, ha, h1, by rw [h2 l hp, zz_p_dot _ (by omega), Nat.testBit_log2 h0]⟩
/-- the reduction by the first k rows -/
def zz_rd (rs rv : Nat → Nat) (x v : Nat) : Nat → Nat × Nat
  | 0 => (x, v)
  | k + 1 => if (zz_rd rs rv x v k).1.testBit (rs k).log2 = true then ((zz_rd rs rv x v k).1 ^^^ rs k, (zz_rd rs rv x v k).2 ^^^ rv k) else zz_rd rs rv x v k
section
variable {n m : Nat} {rs rv : Nat → Nat} {x v : Nat}
theorem zz_rd_t {k : Nat} (h : (zz_rd rs rv x v k).1.testBit (rs k).log2 = true) : zz_rd rs rv x v (k + 1) = ((zz_rd rs rv x v k).1 ^^^ rs k, (zz_rd rs rv x v k).2 ^^^ rv k) := if_pos h
theorem zz_rd_f {k : Nat} (h : (zz_rd rs rv x v k).1.testBit (rs k).log2 = false) : zz_rd rs rv x v (k + 1) = zz_rd rs rv x v k := if_neg (by rw [h]; decide)
theorem zz_rd_lt1 (R : zz_rr n m rs) (hx : x < 2 ^ n) : ∀ p, p ≤ m → (zz_rd rs rv x v p).1 < 2 ^ n := by
  intro p
  induction p with
  | zero => exact fun _ => hx
  | succ p ih =>
    intro hp
    have h1 := ih (by omega)
    cases e : (zz_rd rs rv x v p).1.testBit (rs p).log2
    · rw [zz_rd_f e]; exact h1
    · rw [zz_rd_t e]; exact Nat.xor_lt_two_pow h1 (R p (by omega)).2.1
theorem zz_rd_lt (R : zz_rr n m rs) (hv : ∀ k, k < m → rv k < 256) (hx : x < 2 ^ n) (h8 : v < 256) : ∀ p, p ≤ m → (zz_rd rs rv x v p).1 < 2 ^ n ∧ (zz_rd rs rv x v p).2 < 256 := by
  intro p
  induction p with
  | zero => exact fun _ => ⟨hx, h8⟩
  | succ p ih =>
    intro hp
    obtain ⟨h1, h2⟩ := ih (by omega)
    cases e : (zz_rd rs rv x v p).1.testBit (rs p).log2
    · rw [zz_rd_f e]; exact ⟨h1, h2⟩
    · rw [zz_rd_t e]
      exact ⟨Nat.xor_lt_two_pow h1 (R p (by omega)).2.1, Nat.xor_lt_two_pow (n := 8) h2 (hv p (by omega))⟩
theorem zz_rd_np0 (R : zz_rr n m rs) : ∀ p, p ≤ m → ∀ k, k < p → (zz_rd rs rv x v p).1.testBit (rs k).log2 = false := by
  intro p
  induction p with
  | zero => exact fun _ k hk => absurd hk (Nat.not_lt_zero k)
  | succ p ih =>
    intro hp k hk
    obtain ⟨r0, rl, rj⟩ := R p (by omega)
    rcases Nat.lt_or_ge k p with h | h
    · have h1 := ih (by omega) k h
      cases e : (zz_rd rs rv x v p).1.testBit (rs p).log2
      · rw [zz_rd_f e]; exact h1
      · rw [zz_rd_t e]
        show ((zz_rd rs rv x v p).1 ^^^ rs p).testBit (rs k).log2 = false
        rw [Nat.testBit_xor, h1, (R k (by omega)).2.2 p (by omega) (by omega)]
        rfl
    · have : k = p := by omega
      subst this
      cases e : (zz_rd rs rv x v k).1.testBit (rs k).log2
      · rw [zz_rd_f e]; exact e
      · rw [zz_rd_t e]
        show ((zz_rd rs rv x v k).1 ^^^ rs k).testBit (rs k).log2 = false
        rw [Nat.testBit_xor, e, Nat.testBit_log2 r0]
        rfl
theorem zz_rd_np (R : zz_rr n m rs) : zz_np m rs (zz_rd rs rv x v m).1 := zz_rd_np0 R m (Nat.le_refl m)
theorem zz_rd_sol {a β : Nat} : ∀ p, (∀ k, k < p → zz_dot a (rs k) = (rv k).testBit β) → (zz_dot a (zz_rd rs rv x v p).1 ^^ (zz_rd rs rv x v p).2.testBit β) = (zz_dot a x ^^ v.testBit β) := by
  intro p
  induction p with
  | zero => exact fun _ => rfl
  | succ p ih =>
    intro h
    have h1 := ih fun k hk => h k (by omega)
    cases e : (zz_rd rs rv x v p).1.testBit (rs p).log2
    · rw [zz_rd_f e]; exact h1
    · rw [zz_rd_t e]
      show (zz_dot a ((zz_rd rs rv x v p).1 ^^^ rs p) ^^ ((zz_rd rs rv x v p).2 ^^^ rv p).testBit β) = _
      rw [zz_dot_x, Nat.testBit_xor, h p (by omega), zz_x4, Bool.xor_self, Bool.xor_false]
      exact h1
theorem zz_rd_hom {a : Nat} : ∀ p, (∀ k, k < p → zz_dot a (rs k) = false) → zz_dot a (zz_rd rs rv x v p).1 = zz_dot a x := by
  intro p
  induction p with
  | zero => exact fun _ => rfl
  | succ p ih =>
    intro h
    have h1 := ih fun k hk => h k (by omega)
    cases e : (zz_rd rs rv x v p).1.testBit (rs p).log2
    · rw [zz_rd_f e]; exact h1
    · rw [zz_rd_t e]
      show zz_dot a ((zz_rd rs rv x v p).1 ^^^ rs p) = _
      rw [zz_dot_x, h p (by omega), Bool.xor_false]
      exact h1
end
/-- a bit alone in a row: the solutions agree there -/
theorem zz_kn_iff {n m : Nat} {rs : Nat → Nat} (hn : n ≤ 8) (R : zz_rr n m rs) (c : Nat → Bool) {b : Nat} (hb : b < n) : (∃ k, k < m ∧ rs k = 2 ^ b) ↔ ∀ a a', a < 2 ^ n → a' < 2 ^ n → (∀ k, k < m → zz_dot a (rs k) = c k) → (∀ k, k < m → zz_dot a' (rs k) = c k) → a.testBit b = a'.testBit b := by
  have hpb : 2 ^ b < 2 ^ n := Nat.pow_lt_pow_right (by decide) hb
  constructor
  · intro ⟨k, hk, e⟩ a a' _ _ h h'
    rw [← zz_dot_p a (b := b) (by omega), ← zz_dot_p a' (b := b) (by omega), ← e, h k hk, h' k hk]
  · intro H
    by_cases q : ∃ k, k < m ∧ (rs k).log2 = b
    · obtain ⟨k, hk, e⟩ := q
      obtain ⟨r0, rl, rj⟩ := R k hk
      refine ⟨k, hk, ?_⟩
      have tk : (rs k).testBit b = true := by rw [← e]; exact Nat.testBit_log2 r0
      have hp : zz_np m rs (rs k ^^^ 2 ^ b) := by
        intro j hj
        rw [Nat.testBit_xor, Nat.testBit_two_pow]
        by_cases ej : j = k
        · subst ej
          rw [e, tk, decide_eq_true rfl]
          rfl
        · have h1 := (R j hj).2.2 k hk (fun q => ej q.symm)
          rw [h1, decide_eq_false]
          · rfl
          · intro q
            rw [← q, tk] at h1
            cases h1
      by_cases z : rs k ^^^ 2 ^ b = 0
      · have h2 : (rs k ^^^ 2 ^ b) ^^^ 2 ^ b = 2 ^ b := by rw [z, Nat.zero_xor]
        rw [Nat.xor_assoc, Nat.xor_self, Nat.xor_zero] at h2
        exact h2
      · exfalso
        obtain ⟨a, ha, h1, h2⟩ := zz_two hn R c (Nat.xor_lt_two_pow rl hpb) z hp false
        obtain ⟨a', ha', h1', h2'⟩ := zz_two hn R c (Nat.xor_lt_two_pow rl hpb) z hp true
        have h3 := H a a' ha ha' h1 h1'
        rw [zz_dot_x, h1 k hk, zz_dot_p _ (by omega), h3] at h2
        rw [zz_dot_x, h1' k hk, zz_dot_p _ (by omega), h2] at h2'
        cases h2'
    · exfalso
      have hp : zz_np m rs (2 ^ b) := by
        intro j hj
        exact Nat.testBit_two_pow_of_ne fun e => q ⟨j, hj, e.symm⟩
      have z : 2 ^ b ≠ 0 := Nat.ne_of_gt (Nat.two_pow_pos b)
      obtain ⟨a, ha, h1, h2⟩ := zz_two hn R c hpb z hp false
      obtain ⟨a', ha', h1', h2'⟩ := zz_two hn R c hpb z hp true
      have h3 := H a a' ha ha' h1 h1'
      rw [zz_dot_p _ (by omega), h3] at h2
      rw [zz_dot_p _ (by omega), h2] at h2'
      cases h2'
end
section
/-! ===== counts below a bound ===== -/
def zz_cnt (p : Nat → Bool) : Nat → Nat
  | 0 => 0
  | k + 1 => zz_cnt p k + (if p k = true then 1 else 0)
theorem zz_cnt_le (p : Nat → Bool) : ∀ k, zz_cnt p k ≤ k := by
  intro k
  induction k with
  | zero => exact Nat.le_refl 0
  | succ k ih =>
    show zz_cnt p k + _ ≤ k + 1
    split <;> omega
theorem zz_cnt_congr {p q : Nat → Bool} : ∀ k, (∀ x, x < k → p x = q x) → zz_cnt p k = zz_cnt q k := by
  intro k
  induction k with
  | zero => exact fun _ => rfl
  | succ k ih =>
    intro h
    show zz_cnt p k + _ = zz_cnt q k + _
    rw [ih fun x hx => h x (by omega), h k (by omega)]
theorem zz_cnt_split (p : Nat → Bool) (a : Nat) : ∀ b, zz_cnt p (a + b) = zz_cnt p a + zz_cnt (fun x => p (a + x)) b := by
  intro b
  induction b with
  | zero => rfl
  | succ b ih =>
    show zz_cnt p (a + b) + _ = zz_cnt p a + (zz_cnt (fun x => p (a + x)) b + _)
    rw [ih, Nat.add_assoc]
    rfl
theorem zz_cnt_or {p q r : Nat → Bool} : ∀ k, (∀ x, x < k → r x = (p x || q x)) → (∀ x, x < k → p x = true → q x = true → False) → zz_cnt r k = zz_cnt p k + zz_cnt q k := by
  intro k
  induction k with
  | zero => exact fun _ _ => rfl
  | succ k ih =>
    intro h1 h2
    show zz_cnt r k + _ = (zz_cnt p k + _) + (zz_cnt q k + _)
    rw [ih (fun x hx => h1 x (by omega)) (fun x hx => h2 x (by omega)), h1 k (by omega)]
    have h3 := h2 k (by omega)
    cases e1 : p k <;> cases e2 : q k
    · simp
    · simp; omega
    · simp; omega
    · exact (h3 e1 e2).elim
/-- fewer bits -/
theorem zz_cnt_mono {p q : Nat → Bool} : ∀ k, (∀ x, x < k → p x = true → q x = true) → zz_cnt p k ≤ zz_cnt q k ∧ ((∃ x, x < k ∧ p x = false ∧ q x = true) → zz_cnt p k < zz_cnt q k) := by
  intro k
  induction k with
  | zero => exact fun _ => ⟨Nat.le_refl 0, fun ⟨x, hx, _⟩ => absurd hx (Nat.not_lt_zero x)⟩
  | succ k ih =>
    intro h
    obtain ⟨i1, i2⟩ := ih fun x hx => h x (by omega)
    have hk := h k (by omega)
    constructor
    · show zz_cnt p k + _ ≤ zz_cnt q k + _
      cases e1 : p k <;> cases e2 : q k
      · simp; omega
      · simp; omega
      · rw [hk e1] at e2; cases e2
      · simp; omega
    · intro ⟨x, hx, x1, x2⟩
      show zz_cnt p k + _ < zz_cnt q k + _
      rcases Nat.lt_or_ge x k with hl | hl
      · have i3 := i2 ⟨x, hl, x1, x2⟩
        cases e1 : p k <;> cases e2 : q k
        · simp; omega
        · simp; omega
        · rw [hk e1] at e2; cases e2
        · simp; omega
      · have : x = k := by omega
        subst this
        rw [x1, x2]
        simp
        omega
theorem zz_add_xor {k x : Nat} (h : x < 2 ^ k) : 2 ^ k + x = 2 ^ k ^^^ x := by
  apply Nat.eq_of_testBit_eq
  intro i
  rw [Nat.testBit_xor, Nat.testBit_two_pow]
  rcases Nat.lt_trichotomy i k with c | c | c
  · rw [Nat.testBit_two_pow_add_gt c, decide_eq_false (by omega), Bool.false_xor]
  · subst c
    rw [Nat.testBit_two_pow_add_eq, decide_eq_true rfl, Bool.true_xor]
  · have h1 : 2 ^ (k + 1) ≤ 2 ^ i := Nat.pow_le_pow_right (by decide) c
    have h2 : 2 ^ (k + 1) = 2 ^ k * 2 := Nat.pow_succ 2 k
    rw [decide_eq_false (by omega), Bool.false_xor, Nat.testBit_lt_two_pow (by omega), Nat.testBit_lt_two_pow (by omega)]
theorem zz_cnt_xor : ∀ (k s : Nat) (p : Nat → Bool), s < 2 ^ k → zz_cnt (fun x => p (x ^^^ s)) (2 ^ k) = zz_cnt p (2 ^ k) := by
  intro k
  induction k with
  | zero =>
    intro s p hs
    have : s = 0 := by
      have : 2 ^ 0 = 1 := rfl
      omega
    subst this
    exact zz_cnt_congr _ fun x _ => by rw [Nat.xor_zero]
  | succ k ih =>
    intro s p hs
    have e2 : 2 ^ (k + 1) = 2 ^ k + 2 ^ k := by rw [Nat.pow_succ]; omega
    rw [e2] at hs ⊢
    rw [zz_cnt_split, zz_cnt_split p]
    rcases Nat.lt_or_ge s (2 ^ k) with h | h
    · have c2 : zz_cnt (fun x => p ((2 ^ k + x) ^^^ s)) (2 ^ k) = zz_cnt (fun x => (fun y => p (2 ^ k + y)) (x ^^^ s)) (2 ^ k) := by
        apply zz_cnt_congr
        intro x hx
        show p ((2 ^ k + x) ^^^ s) = p (2 ^ k + (x ^^^ s))
        rw [zz_add_xor hx, zz_add_xor (Nat.xor_lt_two_pow hx h), Nat.xor_assoc]
      rw [c2, ih s p h, ih s (fun y => p (2 ^ k + y)) h]
    · obtain ⟨s', rfl⟩ : ∃ s', s = 2 ^ k + s' := ⟨s - 2 ^ k, by omega⟩
      have h' : s' < 2 ^ k := by omega
      have c1 : zz_cnt (fun x => p (x ^^^ (2 ^ k + s'))) (2 ^ k) = zz_cnt (fun x => (fun y => p (2 ^ k + y)) (x ^^^ s')) (2 ^ k) := by
        apply zz_cnt_congr
        intro x hx
        show p (x ^^^ (2 ^ k + s')) = p (2 ^ k + (x ^^^ s'))
        rw [zz_add_xor h', zz_add_xor (Nat.xor_lt_two_pow hx h'), ← Nat.xor_assoc, Nat.xor_comm x, Nat.xor_assoc]
      have c2 : zz_cnt (fun x => p ((2 ^ k + x) ^^^ (2 ^ k + s'))) (2 ^ k) = zz_cnt (fun x => p (x ^^^ s')) (2 ^ k) := by
        apply zz_cnt_congr
        intro x hx
        show p ((2 ^ k + x) ^^^ (2 ^ k + s')) = p (x ^^^ s')
        rw [zz_add_xor h', zz_add_xor hx]
        congr 1
        rw [Nat.xor_comm (2 ^ k) x, Nat.xor_assoc, ← Nat.xor_assoc (2 ^ k), Nat.xor_self, Nat.zero_xor]
      rw [c1, c2, ih s' (fun y => p (2 ^ k + y)) h', ih s' p h']
      exact Nat.add_comm _ _
/-- a proposition as a Bool -/
noncomputable def zz_b (P : Prop) : Bool := @decide P (Classical.propDecidable P)
theorem zz_b_t {P : Prop} (h : P) : zz_b P = true := @decide_eq_true P (Classical.propDecidable P) h
theorem zz_b_f {P : Prop} (h : ¬ P) : zz_b P = false := @decide_eq_false P (Classical.propDecidable P) h
theorem zz_b_i {P : Prop} : zz_b P = true ↔ P := @decide_eq_true_iff P (Classical.propDecidable P)
theorem zz_b_c {P Q : Prop} (h : P ↔ Q) : zz_b P = zz_b Q := by
  by_cases q : Q
  · rw [zz_b_t q, zz_b_t (h.mpr q)]
  · rw [zz_b_f q, zz_b_f (fun z => q (h.mp z))]
end
section
/-! ===== symbols, their solutions, what their sets span; rows against symbols ===== -/
def zz_sol (S V : Nat → Nat) (K : Nat → Prop) (c β a : Nat) : Prop := ∀ i, i < c → K i → zz_dot a (S i) = (V i).testBit β
def zz_hom (S : Nat → Nat) (K : Nat → Prop) (c a : Nat) : Prop := ∀ i, i < c → K i → zz_dot a (S i) = false
def zz_spn (S : Nat → Nat) (K : Nat → Prop) (c x : Nat) : Prop := ∀ a, zz_hom S K c a → zz_dot a x = false
section
variable {S V : Nat → Nat} {K : Nat → Prop} {c : Nat}
theorem zz_sol_s {β a : Nat} (hK : K c) : zz_sol S V K (c + 1) β a ↔ zz_sol S V K c β a ∧ zz_dot a (S c) = (V c).testBit β := by
  constructor
  · exact fun h => ⟨fun i hi hk => h i (by omega) hk, h c (by omega) hK⟩
  · intro ⟨h1, h2⟩ i hi hk
    rcases Nat.lt_or_ge i c with h | h
    · exact h1 i h hk
    · have : i = c := by omega
      subst this
      exact h2
theorem zz_sol_n {β a : Nat} (hK : ¬ K c) : zz_sol S V K (c + 1) β a ↔ zz_sol S V K c β a := by
  constructor
  · exact fun h i hi hk => h i (by omega) hk
  · intro h1 i hi hk
    rcases Nat.lt_or_ge i c with h | h
    · exact h1 i h hk
    · have : i = c := by omega
      subst this
      exact absurd hk hK
theorem zz_hom_s {a : Nat} (hK : K c) : zz_hom S K (c + 1) a ↔ zz_hom S K c a ∧ zz_dot a (S c) = false := by
  constructor
  · exact fun h => ⟨fun i hi hk => h i (by omega) hk, h c (by omega) hK⟩
  · intro ⟨h1, h2⟩ i hi hk
    rcases Nat.lt_or_ge i c with h | h
    · exact h1 i h hk
    · have : i = c := by omega
      subst this
      exact h2
theorem zz_hom_n {a : Nat} (hK : ¬ K c) : zz_hom S K (c + 1) a ↔ zz_hom S K c a := by
  constructor
  · exact fun h i hi hk => h i (by omega) hk
  · intro h1 i hi hk
    rcases Nat.lt_or_ge i c with h | h
    · exact h1 i h hk
    · have : i = c := by omega
      subst this
      exact absurd hk hK
theorem zz_spn_n {x : Nat} (hK : ¬ K c) : zz_spn S K (c + 1) x ↔ zz_spn S K c x :=
  ⟨fun h a ha => h a ((zz_hom_n hK).mpr ha), fun h a ha => h a ((zz_hom_n hK).mp ha)⟩
theorem zz_hom_x {a b : Nat} (ha : zz_hom S K c a) (hb : zz_hom S K c b) : zz_hom S K c (a ^^^ b) := by
  intro i hi hk
  rw [zz_dot_y, ha i hi hk, hb i hi hk]
  rfl
theorem zz_spn_x {x y : Nat} (hx : zz_spn S K c x) (hy : zz_spn S K c y) : zz_spn S K c (x ^^^ y) := by
  intro a ha
  rw [zz_dot_x, hx a ha, hy a ha]
  rfl
theorem zz_ex {P : Nat → Prop} {q : Nat → Bool} (h : ¬ ∀ a, P a → q a = false) : ∃ a, P a ∧ q a = true := by
  apply Classical.byContradiction
  intro n
  apply h
  intro a ha
  cases e : q a
  · rfl
  · exact (n ⟨a, ha, e⟩).elim
theorem zz_spn_s {x : Nat} (hK : K c) : zz_spn S K (c + 1) x ↔ zz_spn S K c x ∨ zz_spn S K c (x ^^^ S c) := by
  constructor
  · intro h
    apply Classical.byContradiction
    intro q
    have q1 : ¬ zz_spn S K c x := fun z => q (Or.inl z)
    have q2 : ¬ zz_spn S K c (x ^^^ S c) := fun z => q (Or.inr z)
    obtain ⟨a, ha, ea⟩ := zz_ex (q := fun a => zz_dot a x) q1
    obtain ⟨b, hb, eb⟩ := zz_ex (q := fun a => zz_dot a (x ^^^ S c)) q2
    have ea' : zz_dot a x = true := ea
    have eb' : (zz_dot b x ^^ zz_dot b (S c)) = true := by rw [← zz_dot_x]; exact eb
    cases h1 : zz_dot a (S c)
    · have h2 := h a ((zz_hom_s hK).mpr ⟨ha, h1⟩)
      rw [ea'] at h2
      cases h2
    · cases h3 : zz_dot b (S c)
      · have h2 := h b ((zz_hom_s hK).mpr ⟨hb, h3⟩)
        rw [h2, h3] at eb'
        cases eb'
      · have h4 := h (a ^^^ b) ((zz_hom_s hK).mpr ⟨zz_hom_x ha hb, by rw [zz_dot_y, h1, h3]; rfl⟩)
        rw [zz_dot_y, ea'] at h4
        rw [h3] at eb'
        revert h4 eb'
        cases zz_dot b x <;> decide
  · rintro (h | h) a ha
    · exact h a ((zz_hom_s hK).mp ha).1
    · have h1 := (zz_hom_s hK).mp ha
      have h2 := h a h1.1
      rw [zz_dot_x, h1.2, Bool.xor_false] at h2
      exact h2
theorem zz_spn_0 {x : Nat} (hx : x < 256) : zz_spn S K 0 x ↔ x = 0 := by
  constructor
  · intro h
    apply Classical.byContradiction
    intro q
    have h1 := h (2 ^ x.log2) (fun i hi _ => absurd hi (Nat.not_lt_zero i))
    rw [zz_p_dot _ (zz_top_lt (n := 8) q hx), Nat.testBit_log2 q] at h1
    cases h1
  · intro e a _
    rw [e]
    exact zz_dot_0 a
/-- the number of sets that the symbols' sets span -/
noncomputable def zz_num (S : Nat → Nat) (K : Nat → Prop) (c : Nat) : Nat := zz_cnt (fun x => zz_b (zz_spn S K c x)) 256
theorem zz_num_0 : zz_num S K 0 = 1 := by
  have h : zz_num S K 0 = zz_cnt (fun x => decide (x = 0)) 256 := by
    apply zz_cnt_congr
    intro x hx
    by_cases e : x = 0
    · rw [zz_b_t ((zz_spn_0 hx).mpr e), decide_eq_true e]
    · rw [zz_b_f (fun z => e ((zz_spn_0 hx).mp z)), decide_eq_false e]
  rw [h]
  decide +kernel
theorem zz_num_n (hK : ¬ K c) : zz_num S K (c + 1) = zz_num S K c := zz_cnt_congr _ fun x _ => zz_b_c (zz_spn_n hK)
theorem zz_num_in (hK : K c) (h : zz_spn S K c (S c)) : zz_num S K (c + 1) = zz_num S K c := by
  apply zz_cnt_congr
  intro x _
  apply zz_b_c
  rw [zz_spn_s hK]
  constructor
  · rintro (z | z)
    · exact z
    · have := zz_spn_x z h
      rw [Nat.xor_assoc, Nat.xor_self, Nat.xor_zero] at this
      exact this
  · exact Or.inl
theorem zz_num_out (hK : K c) (hS : S c < 256) (h : ¬ zz_spn S K c (S c)) : zz_num S K (c + 1) = zz_num S K c + zz_num S K c := by
  have h1 : zz_num S K (c + 1) = zz_cnt (fun x => zz_b (zz_spn S K c x)) 256 + zz_cnt (fun x => (fun y => zz_b (zz_spn S K c y)) (x ^^^ S c)) 256 := by
    apply zz_cnt_or
    · intro x _
      show zz_b (zz_spn S K (c + 1) x) = (zz_b (zz_spn S K c x) || zz_b (zz_spn S K c (x ^^^ S c)))
      rw [zz_b_c (zz_spn_s hK)]
      by_cases z1 : zz_spn S K c x
      · rw [zz_b_t z1, zz_b_t (Or.inl z1), Bool.true_or]
      · by_cases z2 : zz_spn S K c (x ^^^ S c)
        · rw [zz_b_t z2, zz_b_t (Or.inr z2), Bool.or_true]
        · rw [zz_b_f z1, zz_b_f z2, zz_b_f (fun z => z.elim z1 z2)]
          rfl
    · intro x _ e1 e2
      have z1 := zz_b_i.mp e1
      have z2 : zz_spn S K c (x ^^^ S c) := zz_b_i.mp e2
      have z3 := zz_spn_x z1 z2
      rw [← Nat.xor_assoc, Nat.xor_self, Nat.zero_xor] at z3
      exact h z3
  rw [h1]
  have h2 := zz_cnt_xor 8 (S c) (fun y => zz_b (zz_spn S K c y)) hS
  exact congrArg (zz_cnt (fun x => zz_b (zz_spn S K c x)) 256 + ·) h2
end
/-- the rows m, rs, rv and the flag σ stand for the first c symbols -/
def zz_ge (n : Nat) (S V : Nat → Nat) (K : Nat → Prop) (c m : Nat) (rs rv : Nat → Nat) (σ : Bool) : Prop :=
  zz_rr n m rs ∧ (∀ k, k < m → rv k < 256) ∧ zz_num S K c = 2 ^ m ∧ (∀ a, zz_hom S K c a ↔ ∀ k, k < m → zz_dot a (rs k) = false) ∧ (σ = true → ∀ β a, zz_sol S V K c β a ↔ ∀ k, k < m → zz_dot a (rs k) = (rv k).testBit β) ∧ (σ = false → ∃ β, β < 8 ∧ ∀ a, ¬ zz_sol S V K c β a)
theorem zz_ge_0 {n : Nat} {S V rs rv : Nat → Nat} {K : Nat → Prop} : zz_ge n S V K 0 0 rs rv true := by
  refine ⟨fun k hk => absurd hk (Nat.not_lt_zero k), fun k hk => absurd hk (Nat.not_lt_zero k), zz_num_0, fun a => ?_, fun _ β a => ?_, fun h => by cases h⟩
  · exact ⟨fun _ k hk => absurd hk (Nat.not_lt_zero k), fun _ k hk => absurd hk (Nat.not_lt_zero k)⟩
  · exact ⟨fun _ k hk => absurd hk (Nat.not_lt_zero k), fun _ k hk => absurd hk (Nat.not_lt_zero k)⟩
section
variable {n : Nat} {S V : Nat → Nat} {K : Nat → Prop} {c m : Nat} {rs rv : Nat → Nat} {σ : Bool}
theorem zz_ge_n (hK : ¬ K c) (G : zz_ge n S V K c m rs rv σ) : zz_ge n S V K (c + 1) m rs rv σ := by
  obtain ⟨g1, g2, g3, g4, g5, g6⟩ := G
  refine ⟨g1, g2, (zz_num_n hK).trans g3, fun a => (zz_hom_n hK).trans (g4 a), fun h β a => (zz_sol_n hK).trans (g5 h β a), fun h => ?_⟩
  obtain ⟨β, hβ, h1⟩ := g6 h
  exact ⟨β, hβ, fun a z => h1 a ((zz_sol_n hK).mp z)⟩
theorem zz_ge_8 (G : zz_ge n S V K c m rs rv σ) : m ≤ 8 := by
  have h1 : zz_num S K c ≤ 256 := zz_cnt_le _ _
  rw [G.2.2.1] at h1
  exact (Nat.pow_le_pow_iff_right (by decide)).mp (show 2 ^ m ≤ 2 ^ 8 from h1)
theorem zz_ge_spn (hn : n ≤ 8) (G : zz_ge n S V K c m rs rv σ) {x v : Nat} (hx : x < 2 ^ n) : zz_spn S K c x ↔ (zz_rd rs rv x v m).1 = 0 := by
  obtain ⟨g1, g2, g3, g4, g5, g6⟩ := G
  constructor
  · intro h
    apply Classical.byContradiction
    intro q
    have hlt : (zz_rd rs rv x v m).1 < 2 ^ n := zz_rd_lt1 g1 hx m (Nat.le_refl m)
    obtain ⟨a, _, h1, h2⟩ := zz_two hn g1 (fun _ => false) hlt q (zz_rd_np g1) true
    rw [zz_rd_hom m h1, h a ((g4 a).mpr h1)] at h2
    cases h2
  · intro h a ha
    rw [← zz_rd_hom (rv := rv) (v := v) m ((g4 a).mp ha), h]
    exact zz_dot_0 a
/-- a symbol that is reduced to no blocks -/
theorem zz_ge_z (hn : n ≤ 8) (hK : K c) (hS : S c < 2 ^ n) (hV : V c < 256) (G : zz_ge n S V K c m rs rv σ) (z : (zz_rd rs rv (S c) (V c) m).1 = 0) : zz_ge n S V K (c + 1) m rs rv (σ && decide ((zz_rd rs rv (S c) (V c) m).2 = 0)) := by
  have hsp := (zz_ge_spn (v := V c) hn G hS).mpr z
  have hlt := (zz_rd_lt G.1 G.2.1 hS hV m (Nat.le_refl m)).2
  obtain ⟨g1, g2, g3, g4, g5, g6⟩ := G
  refine ⟨g1, g2, (zz_num_in hK hsp).trans g3, fun a => ?_, fun h β a => ?_, fun h => ?_⟩
  · rw [zz_hom_s hK, ← g4 a]
    exact ⟨fun q => q.1, fun q => ⟨q, hsp a q⟩⟩
  · rw [Bool.and_eq_true, decide_eq_true_iff] at h
    rw [zz_sol_s hK, ← g5 h.1 β a]
    refine ⟨fun q => q.1, fun q => ⟨q, ?_⟩⟩
    have h1 := zz_rd_sol (x := S c) (v := V c) m ((g5 h.1 β a).mp q)
    rw [z, zz_dot_0, h.2, Nat.zero_testBit] at h1
    revert h1
    cases zz_dot a (S c) <;> cases (V c).testBit β <;> decide
  · cases eσ : σ
    · obtain ⟨β, hβ, h1⟩ := g6 eσ
      exact ⟨β, hβ, fun a q => h1 a ((zz_sol_s hK).mp q).1⟩
    · rw [eσ, Bool.true_and, decide_eq_false_iff_not] at h
      obtain ⟨β, hβ⟩ := Nat.exists_testBit_of_ne_zero h
      refine ⟨β, zz_bl (n := 8) hlt hβ, fun a q => ?_⟩
      have q1 := (zz_sol_s hK).mp q
      have h1 := zz_rd_sol (x := S c) (v := V c) m ((g5 eσ β a).mp q1.1)
      rw [z, zz_dot_0, hβ, q1.2, Bool.xor_self] at h1
      cases h1
/-- the rows behind a new row l, lv -/
def zz_nr (rs : Nat → Nat) (m l : Nat) : Nat → Nat := fun j => if j = m then l else if (rs j).testBit l.log2 = true then rs j ^^^ l else rs j
def zz_nv (rs rv : Nat → Nat) (m l lv : Nat) : Nat → Nat := fun j => if j = m then lv else if (rs j).testBit l.log2 = true then rv j ^^^ lv else rv j
theorem zz_nr_m {l : Nat} : zz_nr rs m l m = l := if_pos rfl
theorem zz_nv_m {l lv : Nat} : zz_nv rs rv m l lv m = lv := if_pos rfl
theorem zz_nr_t {l j : Nat} (h : j ≠ m) (e : (rs j).testBit l.log2 = true) : zz_nr rs m l j = rs j ^^^ l := (if_neg h).trans (if_pos e)
theorem zz_nr_f {l j : Nat} (h : j ≠ m) (e : (rs j).testBit l.log2 = false) : zz_nr rs m l j = rs j := (if_neg h).trans (if_neg (by rw [e]; decide))
theorem zz_nv_t {l lv j : Nat} (h : j ≠ m) (e : (rs j).testBit l.log2 = true) : zz_nv rs rv m l lv j = rv j ^^^ lv := (if_neg h).trans (if_pos e)
theorem zz_nv_f {l lv j : Nat} (h : j ≠ m) (e : (rs j).testBit l.log2 = false) : zz_nv rs rv m l lv j = rv j := (if_neg h).trans (if_neg (by rw [e]; decide))
theorem zz_nr_rr (R : zz_rr n m rs) {l : Nat} (h0 : l ≠ 0) (hl : l < 2 ^ n) (hp : zz_np m rs l) : zz_rr n (m + 1) (zz_nr rs m l) := by
  have tl : l.testBit l.log2 = true := Nat.testBit_log2 h0
  -- a row keeps its leading bit
  have key : ∀ k, k < m → (zz_nr rs m l k).log2 = (rs k).log2 ∧ zz_nr rs m l k ≠ 0 ∧ zz_nr rs m l k < 2 ^ n ∧ (zz_nr rs m l k).testBit l.log2 = false := by
    intro k hk
    obtain ⟨r0, rl, rj⟩ := R k hk
    cases e : (rs k).testBit l.log2
    · rw [zz_nr_f (by omega) e]
      exact ⟨rfl, r0, rl, e⟩
    · rw [zz_nr_t (by omega) e]
      have t1 : (rs k ^^^ l).testBit (rs k).log2 = true := by
        rw [Nat.testBit_xor, Nat.testBit_log2 r0, hp k hk]
        rfl
      have h1 := zz_top_hi e
      have h2 : l.log2 ≠ (rs k).log2 := by
        intro q
        have := hp k hk
        rw [← q, tl] at this
        cases this
      refine ⟨zz_top_eq t1 fun b hb => ?_, zz_nz t1, Nat.xor_lt_two_pow rl hl, ?_⟩
      · have b1 : (rs k).testBit b = false := by
          cases q : (rs k).testBit b
          · rfl
          · have := zz_top_hi q
            omega
        have b2 : l.testBit b = false := by
          cases q : l.testBit b
          · rfl
          · have := zz_top_hi q
            omega
        rw [Nat.testBit_xor, b1, b2]
        rfl
      · rw [Nat.testBit_xor, e, tl]
        rfl
  intro k hk
  rcases Nat.lt_or_ge k m with h | h
  · obtain ⟨k1, k2, k3, k4⟩ := key k h
    refine ⟨k2, k3, fun j hj hjk => ?_⟩
    rw [k1]
    rcases Nat.lt_or_ge j m with h' | h'
    · have h1 := (R k h).2.2 j h' hjk
      cases e : (rs j).testBit l.log2
      · rw [zz_nr_f (by omega) e]; exact h1
      · rw [zz_nr_t (by omega) e, Nat.testBit_xor, h1, hp k h]
        rfl
    · have : j = m := by omega
      subst this
      rw [zz_nr_m]
      exact hp k h
  · have : k = m := by omega
    subst this
    rw [zz_nr_m]
    refine ⟨h0, hl, fun j hj hjk => (key j (by omega)).2.2.2⟩
/-- sums of the new rows are as wished iff those of the old ones and of the new row are -/
theorem zz_nr_sol {l lv a β : Nat} : (∀ k, k < m + 1 → zz_dot a (zz_nr rs m l k) = (zz_nv rs rv m l lv k).testBit β) ↔ (∀ k, k < m → zz_dot a (rs k) = (rv k).testBit β) ∧ zz_dot a l = lv.testBit β := by
  have key : zz_dot a l = lv.testBit β → ∀ k, k < m → (zz_dot a (zz_nr rs m l k) = (zz_nv rs rv m l lv k).testBit β ↔ zz_dot a (rs k) = (rv k).testBit β) := by
    intro hl k hk
    cases e : (rs k).testBit l.log2
    · rw [zz_nr_f (by omega) e, zz_nv_f (by omega) e]
    · rw [zz_nr_t (by omega) e, zz_nv_t (by omega) e, zz_dot_x, Nat.testBit_xor, hl]
      cases zz_dot a (rs k) <;> cases (rv k).testBit β <;> cases lv.testBit β <;> decide
  constructor
  · intro h
    have hl := h m (by omega)
    rw [zz_nr_m, zz_nv_m] at hl
    exact ⟨fun k hk => (key hl k hk).mp (h k (by omega)), hl⟩
  · intro ⟨h, hl⟩ k hk
    rcases Nat.lt_or_ge k m with h' | h'
    · exact (key hl k h').mpr (h k h')
    · have : k = m := by omega
      subst this
      rw [zz_nr_m, zz_nv_m]
      exact hl
theorem zz_nr_hom {l a : Nat} : (∀ k, k < m + 1 → zz_dot a (zz_nr rs m l k) = false) ↔ (∀ k, k < m → zz_dot a (rs k) = false) ∧ zz_dot a l = false := by
  have h := zz_nr_sol (rs := rs) (rv := fun _ => 0) (m := m) (l := l) (lv := 0) (a := a) (β := 0)
  have e : ∀ k, (zz_nv rs (fun _ => 0) m l 0 k).testBit 0 = false := by
    intro k
    unfold zz_nv
    split
    · exact Nat.zero_testBit 0
    · split
      · rw [Nat.xor_self]; exact Nat.zero_testBit 0
      · exact Nat.zero_testBit 0
  simp only [e, Nat.zero_testBit] at h
  exact h
/-- a symbol that gives a new row -/
theorem zz_ge_r (hn : n ≤ 8) (hK : K c) (hS : S c < 2 ^ n) (hV : V c < 256) (G : zz_ge n S V K c m rs rv σ) (z : (zz_rd rs rv (S c) (V c) m).1 ≠ 0) : m < 8 ∧ zz_ge n S V K (c + 1) (m + 1) (zz_nr rs m (zz_rd rs rv (S c) (V c) m).1) (zz_nv rs rv m (zz_rd rs rv (S c) (V c) m).1 (zz_rd rs rv (S c) (V c) m).2) σ := by
  have hsp : ¬ zz_spn S K c (S c) := fun q => z ((zz_ge_spn (v := V c) hn G hS).mp q)
  have hlt := zz_rd_lt G.1 G.2.1 hS hV m (Nat.le_refl m)
  have h256 := zz_p8 hn
  have main : zz_ge n S V K (c + 1) (m + 1) (zz_nr rs m (zz_rd rs rv (S c) (V c) m).1) (zz_nv rs rv m (zz_rd rs rv (S c) (V c) m).1 (zz_rd rs rv (S c) (V c) m).2) σ := by
    obtain ⟨g1, g2, g3, g4, g5, g6⟩ := G
    refine ⟨zz_nr_rr g1 z hlt.1 (zz_rd_np g1), fun k hk => ?_, ?_, fun a => ?_, fun h β a => ?_, fun h => ?_⟩
    · unfold zz_nv
      split
      · exact hlt.2
      · split
        · exact Nat.xor_lt_two_pow (n := 8) (g2 k (by omega)) hlt.2
        · exact g2 k (by omega)
    · rw [zz_num_out hK (by omega) hsp, g3, Nat.pow_succ]
      omega
    · rw [zz_hom_s hK, zz_nr_hom, g4 a]
      exact ⟨fun q => ⟨q.1, (zz_rd_hom m q.1).trans q.2⟩, fun q => ⟨q.1, (zz_rd_hom m q.1).symm.trans q.2⟩⟩
    · rw [zz_sol_s hK, zz_nr_sol, g5 h β a]
      have key : (∀ k, k < m → zz_dot a (rs k) = (rv k).testBit β) → (zz_dot a (S c) = (V c).testBit β ↔ zz_dot a (zz_rd rs rv (S c) (V c) m).1 = (zz_rd rs rv (S c) (V c) m).2.testBit β) := by
        intro q
        have h1 := zz_rd_sol (x := S c) (v := V c) m q
        revert h1
        cases zz_dot a (S c) <;> cases (V c).testBit β <;> cases zz_dot a (zz_rd rs rv (S c) (V c) m).1 <;> cases (zz_rd rs rv (S c) (V c) m).2.testBit β <;> decide
      exact ⟨fun q => ⟨q.1, (key q.1).mp q.2⟩, fun q => ⟨q.1, (key q.1).mpr q.2⟩⟩
    · obtain ⟨β, hβ, h1⟩ := g6 h
      exact ⟨β, hβ, fun a q => h1 a ((zz_sol_s hK).mp q).1⟩
  exact ⟨zz_ge_8 main, main⟩
end
end
section
/-! ===== the component's reduction, walked ===== -/
theorem zz_topBit_4 {x : Nat} (h0 : x ≠ 0) (hx : x < 256) {post : Int32 → Prop} (hp : post (nI (2 ^ x.log2))) : ∀ j, j < 8 → x < 2 ^ (j + 1) → wX_topBit_4 post (nI x) (j + 1) (nI (2 ^ j)) := by
  intro j
  induction j with
  | zero =>
    intro _ h
    have e : x.log2 = 0 := by
      have := zz_top_lt h0 h
      omega
    rw [e] at hp
    exact br_t (by decide) hp
  | succ j ih =>
    intro hj h
    have p1 : 1 < 2 ^ (j + 1) := Nat.one_lt_two_pow (by omega)
    have p2 : 2 ^ (j + 1) < 2 ^ 31 := Nat.pow_lt_pow_right (by decide) (by omega)
    have c1 : ¬ nI (2 ^ (j + 1)) ≤ 1 := nI_ge (a := 1) p1 p2
    cases e : x.testBit (j + 1)
    · have hl : x < 2 ^ (j + 1) := by
        rcases Nat.lt_or_ge x (2 ^ (j + 1)) with q | q
        · exact q
        · rw [Nat.testBit_of_two_pow_le_and_two_pow_add_one_gt q h] at e
          cases e
      have e2 : nI (2 ^ (j + 1)) >>> ((1 : Int32) &&& 31) = nI (2 ^ j) := by
        rw [pk_shrN p2 _ 1 (by decide)]
        apply congrArg nI
        rw [Nat.pow_succ, Nat.pow_one]
        exact Nat.mul_div_cancel _ (by decide)
      exact br_f c1 (br_t ((zz_andz hx (by omega)).mpr e) (nm_r e2 (ih (by omega) hl)))
    · have el : x.log2 = j + 1 := zz_top_eq e fun b hb => Nat.testBit_lt_two_pow (Nat.lt_of_lt_of_le h (Nat.pow_le_pow_right (by decide) (by omega)))
      rw [el] at hp
      have c2 : ¬ (nI x &&& nI (2 ^ (j + 1))) = 0 := by
        intro q
        rw [(zz_andz hx (by omega)).mp q] at e
        cases e
      exact br_f c1 (br_f c2 hp)
theorem zz_topBit {x : Nat} (h0 : x ≠ 0) (hx : x < 256) {post : Int32 → Prop} (hp : post (nI (2 ^ x.log2))) : wpX_topBit post (nI x) := Exists.intro 8 (zz_topBit_4 h0 hx hp 7 (by decide) hx)
section
variable {n m : Nat} {rs rv : Nat → Nat} {x v : Nat} {fn fc fs le lw : Int32} {aS aV aR aW : Nat → Int32} {post : SX → Prop}
theorem zz_red (hn : n ≤ 8) (hm : m ≤ 8) (R : zz_rr n m rs) (hv : ∀ k, k < m → rv k < 256) (hx : x < 2 ^ n) (h8 : v < 256) (hA : ∀ k, k < m → aR k = nI (rs k) ∧ aW k = nI (rv k)) (hp : post (fn, fc, nI m, fs, nI (zz_rd rs rv x v m).1, nI (zz_rd rs rv x v m).2, aS, aV, aR, aW)) : ∀ d k, k + d = m → wX_reduce_12 post fn fc (nI m) fs aS aV aR aW (d + 1) (nI k) (nI (zz_rd rs rv x v k).1) (nI (zz_rd rs rv x v k).2) := by
  intro d
  induction d with
  | zero =>
    intro k hk
    have : k = m := by omega
    subst this
    exact br_t (nI_le (Nat.le_refl k) (by omega)) hp
  | succ d ih =>
    intro k hk
    have hi : vp_in (nI k) 8 := vp_in_nI (by omega) (by decide)
    obtain ⟨r0, rl, rj⟩ := R k (by omega)
    have h256 := zz_p8 hn
    have hlt := zz_rd_lt R hv hx h8 k (by omega)
    have ht := zz_top_lt r0 rl
    refine br_f (nI_ge (by omega) (by omega)) ⟨hi, ?_⟩
    rw [nI_clamp (by omega), (hA k (by omega)).1, (hA k (by omega)).2]
    refine zz_topBit r0 (by omega) ?_
    have h1 := ih (k + 1) (by omega)
    cases e : (zz_rd rs rv x v k).1.testBit (rs k).log2
    · rw [zz_rd_f e] at h1
      exact br_t ((zz_andz (by omega) (by omega)).mpr e) (nm_r (nI_1 k) h1)
    · rw [zz_rd_t e] at h1
      have c2 : ¬ (nI (zz_rd rs rv x v k).1 &&& nI (2 ^ (rs k).log2)) = 0 := by
        intro q
        rw [(zz_andz (by omega) (by omega)).mp q] at e
        cases e
      exact br_f c2 ⟨hi, nm_r (nx_xor _ _) ⟨hi, nm_r (nx_xor _ _) (nm_r (nI_1 k) h1)⟩⟩
theorem zz_reduce (hn : n ≤ 8) (hm : m ≤ 8) (R : zz_rr n m rs) (hv : ∀ k, k < m → rv k < 256) (hx : x < 2 ^ n) (h8 : v < 256) (hA : ∀ k, k < m → aR k = nI (rs k) ∧ aW k = nI (rv k)) (hp : post (fn, fc, nI m, fs, nI (zz_rd rs rv x v m).1, nI (zz_rd rs rv x v m).2, aS, aV, aR, aW)) : wpX_reduce post (fn, fc, nI m, fs, le, lw, aS, aV, aR, aW) (nI x) (nI v) :=
  Exists.intro (m + 1) (zz_red hn hm R hv hx h8 hA hp m 0 (by omega))
theorem zz_ent48 {l lv : Nat} (hm : m < 8) (h0 : l ≠ 0) (hl : l < 256) (hr : ∀ k, k < m → rs k < 256) (H : ∀ aR aW : Nat → Int32, (∀ k, k < m + 1 → aR k = nI (zz_nr rs m l k) ∧ aW k = nI (zz_nv rs rv m l lv k)) → post (fn, fc, nI (m + 1), fs, nI l, nI lv, aS, aV, aR, aW)) : ∀ (d k : Nat) (aR aW : Nat → Int32), k + d = m → (∀ j, j < k → aR j = nI (zz_nr rs m l j) ∧ aW j = nI (zz_nv rs rv m l lv j)) → (∀ j, k ≤ j → j < m → aR j = nI (rs j) ∧ aW j = nI (rv j)) → wX_enter_48 post (nI (2 ^ l.log2)) fn fc (nI m) fs (nI l) (nI lv) (d + 1) (nI k) aS aV aR aW := by
  have ht : l.log2 < 8 := zz_top_lt (n := 8) h0 hl
  intro d
  induction d with
  | zero =>
    intro k aR aW hk h1 h2
    have : k = m := by omega
    subst this
    have hi : vp_in (nI k) 8 := vp_in_nI (by omega) (by decide)
    refine br_t (nI_le (Nat.le_refl k) (by omega)) ⟨hi, nm_r (e' := upd aR k (nI l)) (by rw [nI_clamp (by omega)]) ⟨hi, nm_r (e' := upd aW k (nI lv)) (by rw [nI_clamp (by omega)]) (nm_r (nI_1 k) (H _ _ fun j hj => ?_))⟩⟩
    rcases Nat.lt_or_ge j k with h | h
    · rw [pk_un (by omega), pk_un (by omega)]
      exact h1 j h
    · have : j = k := by omega
      subst this
      rw [pk_us, pk_us, zz_nr_m, zz_nv_m]
      exact ⟨rfl, rfl⟩
  | succ d ih =>
    intro k aR aW hk h1 h2
    have hi : vp_in (nI k) 8 := vp_in_nI (by omega) (by decide)
    have hrk := hr k (by omega)
    refine br_f (nI_ge (by omega) (by omega)) ⟨hi, ?_⟩
    rw [nI_clamp (by omega), (h2 k (by omega) (by omega)).1, (h2 k (by omega) (by omega)).2]
    cases e : (rs k).testBit l.log2
    · refine br_t ((zz_andz hrk ht).mpr e) (nm_r (nI_1 k) (ih (k + 1) aR aW (by omega) (fun j hj => ?_) (fun j hj hj' => h2 j (by omega) hj')))
      rcases Nat.lt_or_ge j k with h | h
      · exact h1 j h
      · have : j = k := by omega
        subst this
        rw [zz_nr_f (by omega) e, zz_nv_f (by omega) e]
        exact h2 j (by omega) (by omega)
    · have c2 : ¬ (nI (rs k) &&& nI (2 ^ l.log2)) = 0 := by
        intro q
        rw [(zz_andz hrk ht).mp q] at e
        cases e
      refine br_f c2 ⟨hi, hi, nm_r (e' := upd aR k (nI (rs k ^^^ l))) (by rw [nx_xor]) ⟨hi, hi, nm_r (e' := upd aW k (nI (rv k ^^^ lv))) (by rw [nx_xor]) (nm_r (nI_1 k) (ih (k + 1) _ _ (by omega) (fun j hj => ?_) (fun j hj hj' => ?_)))⟩⟩
      · rcases Nat.lt_or_ge j k with h | h
        · rw [pk_un (by omega), pk_un (by omega)]
          exact h1 j h
        · have : j = k := by omega
          subst this
          rw [pk_us, pk_us, zz_nr_t (by omega) e, zz_nv_t (by omega) e]
          exact ⟨rfl, rfl⟩
      · rw [pk_un (by omega), pk_un (by omega)]
        exact h2 j (by omega) hj'
end
def zz_01 (σ : Bool) : Int32 := if σ = true then 1 else 0
/-- the shared facts of a state: n blocks, c symbols, their sets S and numbers V -/
def zz_F (n c : Nat) (aS aV : Nat → Int32) (S V : Nat → Nat) : Prop := 1 ≤ n ∧ n ≤ 8 ∧ c ≤ 16 ∧ ∀ i, i < c → aS i = nI (S i) ∧ S i < 2 ^ n ∧ aV i = nI (V i) ∧ V i < 256
/-- a state of the component whose rows stand for the first i symbols -/
def zz_JX (n c : Nat) (aS aV : Nat → Int32) (S V : Nat → Nat) (K : Nat → Prop) (i : Nat) (u : SX) : Prop := ∃ (m : Nat) (rs rv : Nat → Nat) (σ : Bool) (le lv : Int32) (aR aW : Nat → Int32), u = (nI n, nI c, nI m, zz_01 σ, le, lv, aS, aV, aR, aW) ∧ zz_ge n S V K i m rs rv σ ∧ ∀ k, k < m → aR k = nI (rs k) ∧ aW k = nI (rv k)
section
variable {n c : Nat} {aS aV : Nat → Int32} {S V : Nat → Nat}
theorem zz_enter {K : Nat → Prop} {i : Nat} {u : SX} {post : SX → Prop} (hn : n ≤ 8) (hK : K i) (hS : S i < 2 ^ n) (hV : V i < 256) (J : zz_JX n c aS aV S V K i u) (H : ∀ u', zz_JX n c aS aV S V K (i + 1) u' → post u') : wpX_enter post u (nI (S i)) (nI (V i)) := by
  obtain ⟨m, rs, rv, σ, le, lv, aR, aW, rfl, G, hA⟩ := J
  have hm := zz_ge_8 G
  have h256 := zz_p8 hn
  have hlt := zz_rd_lt G.1 G.2.1 hS hV m (Nat.le_refl m)
  unfold wpX_enter
  dsimp only
  refine zz_reduce hn hm G.1 G.2.1 hS hV hA ?_
  dsimp only
  by_cases z : (zz_rd rs rv (S i) (V i) m).1 = 0
  · have hz := zz_ge_z hn hK hS hV G z
    refine br_t (by rw [z]; rfl) ?_
    cases σ
    · exact br_t rfl (H _ ⟨m, rs, rv, false, _, _, aR, aW, rfl, hz, hA⟩)
    · refine br_f (by decide) ?_
      by_cases z2 : (zz_rd rs rv (S i) (V i) m).2 = 0
      · rw [decide_eq_true z2] at hz
        exact br_t (by rw [z2]; rfl) (H _ ⟨m, rs, rv, true, _, _, aR, aW, rfl, hz, hA⟩)
      · rw [decide_eq_false z2] at hz
        exact br_f (nI_ne0 (by omega) (by omega)) (H _ ⟨m, rs, rv, false, _, _, aR, aW, rfl, hz, hA⟩)
  · obtain ⟨hm8, hz⟩ := zz_ge_r hn hK hS hV G z
    refine br_f (nI_ne0 (by omega) (by omega)) ?_
    refine zz_topBit z (by omega) ?_
    refine Exists.intro (m + 1) (zz_ent48 (rs := rs) (rv := rv) hm8 z (by omega) (fun k hk => ?_) (fun aR' aW' hA' => H _ ⟨m + 1, _, _, σ, _, _, aR', aW', rfl, hz, hA'⟩) m 0 aR aW (by omega) (fun j hj => absurd hj (Nat.not_lt_zero j)) (fun j _ hj => hA j hj))
    have := (G.1 k hk).2.1
    omega
theorem zz_rall {w : Int32} {post : SX → Prop} (F : zz_F n c aS aV S V) (H : ∀ u', zz_JX n c aS aV S V (fun i => ¬ nI i = w) c u' → post u') : ∀ (d i m : Nat) (rs rv : Nat → Nat) (σ : Bool) (le lv : Int32) (aR aW : Nat → Int32), i + d = c → zz_ge n S V (fun i => ¬ nI i = w) i m rs rv σ → (∀ k, k < m → aR k = nI (rs k) ∧ aW k = nI (rv k)) → wX_reduceAll_12 post w (d + 1) (nI i) (nI n) (nI c) (nI m) (zz_01 σ) le lv aS aV aR aW := by
  obtain ⟨hn1, hn, hc, hF⟩ := F
  intro d
  induction d with
  | zero =>
    intro i m rs rv σ le lv aR aW hi G hA
    have : i = c := by omega
    subst this
    exact br_t (nI_le (Nat.le_refl i) (by omega)) (H _ ⟨m, rs, rv, σ, le, lv, aR, aW, rfl, G, hA⟩)
  | succ d ih =>
    intro i m rs rv σ le lv aR aW hi G hA
    have hin : vp_in (nI i) 16 := vp_in_nI (by omega) (by decide)
    obtain ⟨f1, f2, f3, f4⟩ := hF i (by omega)
    refine br_f (nI_ge (by omega) (by omega)) ?_
    by_cases e : nI i = w
    · exact br_t e (nm_r (nI_1 i) (ih (i + 1) m rs rv σ le lv aR aW (by omega) (zz_ge_n (fun z => z e) G) hA))
    · refine br_f e ⟨hin, hin, ?_⟩
      rw [nI_clamp (by omega), f1, f3]
      refine zz_enter (K := fun i => ¬ nI i = w) hn e f2 f4 ⟨m, rs, rv, σ, le, lv, aR, aW, rfl, G, hA⟩ ?_
      rintro u' ⟨m', rs', rv', σ', le', lv', aR', aW', rfl, G', hA'⟩
      dsimp only
      exact nm_r (nI_1 i) (ih (i + 1) m' rs' rv' σ' le' lv' aR' aW' (by omega) G' hA')
theorem zz_reduceAll {w m0 s0 le lv : Int32} {aR aW : Nat → Int32} {post : SX → Prop} (F : zz_F n c aS aV S V) (H : ∀ u', zz_JX n c aS aV S V (fun i => ¬ nI i = w) c u' → post u') : wpX_reduceAll post (nI n, nI c, m0, s0, le, lv, aS, aV, aR, aW) w :=
  Exists.intro (c + 1) (zz_rall F H c 0 0 (fun _ => 0) (fun _ => 0) true le lv aR aW (by omega) zz_ge_0 (fun k hk => absurd hk (Nat.not_lt_zero k)))
end
end
section
/-! ===== what known, settle and useful answer, said of the solutions alone ===== -/
def zz_kn (n : Nat) (Q : Nat → Nat → Prop) (r : Nat) : Prop := r < 2 ^ n ∧ ((∀ β, β < 8 → ∃ a, a < 2 ^ n ∧ Q β a) → ∀ b, b < n → (r.testBit b = true ↔ ∀ β, β < 8 → ∀ a a', a < 2 ^ n → a' < 2 ^ n → Q β a → Q β a' → a.testBit b = a'.testBit b)) ∧ ((∃ β, β < 8 ∧ ∀ a, a < 2 ^ n → ¬ Q β a) → r = 0)
theorem zz_solv (n : Nat) (Q : Nat → Nat → Prop) : (∀ β, β < 8 → ∃ a, a < 2 ^ n ∧ Q β a) ∨ (∃ β, β < 8 ∧ ∀ a, a < 2 ^ n → ¬ Q β a) := by
  by_cases h : ∃ β, β < 8 ∧ ∀ a, a < 2 ^ n → ¬ Q β a
  · exact Or.inr h
  · refine Or.inl fun β hβ => Classical.byContradiction fun q => h ⟨β, hβ, fun a ha z => q ⟨a, ha, z⟩⟩
theorem zz_bit_eq {n r r' : Nat} (h : r < 2 ^ n) (h' : r' < 2 ^ n) (e : ∀ b, b < n → (r.testBit b = true ↔ r'.testBit b = true)) : r = r' := by
  apply Nat.eq_of_testBit_eq
  intro b
  rcases Nat.lt_or_ge b n with hb | hb
  · have := e b hb
    revert this
    cases r.testBit b <;> cases r'.testBit b <;> simp
  · have hp := Nat.pow_le_pow_right (n := 2) (by decide) hb
    rw [Nat.testBit_lt_two_pow (Nat.lt_of_lt_of_le h hp), Nat.testBit_lt_two_pow (Nat.lt_of_lt_of_le h' hp)]
theorem zz_kn_u {n : Nat} {Q : Nat → Nat → Prop} {r r' : Nat} (h : zz_kn n Q r) (h' : zz_kn n Q r') : r = r' := by
  rcases zz_solv n Q with s | s
  · exact zz_bit_eq h.1 h'.1 fun b hb => (h.2.1 s b hb).trans (h'.2.1 s b hb).symm
  · rw [h.2.2 s, h'.2.2 s]
def zz_kw (rs : Nat → Nat) (i0 : Nat) : Nat → Nat
  | 0 => i0
  | k + 1 => zz_kw rs i0 k ||| (if rs k = 2 ^ (rs k).log2 then rs k else 0)
theorem zz_kw_b {rs : Nat → Nat} {i0 b : Nat} : ∀ k, (zz_kw rs i0 k).testBit b = true ↔ i0.testBit b = true ∨ ∃ j, j < k ∧ rs j = 2 ^ b := by
  intro k
  induction k with
  | zero => exact ⟨Or.inl, fun h => h.elim id fun ⟨j, hj, _⟩ => absurd hj (Nat.not_lt_zero j)⟩
  | succ k ih =>
    show (zz_kw rs i0 k ||| (if rs k = 2 ^ (rs k).log2 then rs k else 0)).testBit b = true ↔ _
    rw [Nat.testBit_or, Bool.or_eq_true, ih]
    constructor
    · rintro ((h | ⟨j, hj, e⟩) | h)
      · exact Or.inl h
      · exact Or.inr ⟨j, by omega, e⟩
      · refine Or.inr ⟨k, by omega, ?_⟩
        by_cases e : rs k = 2 ^ (rs k).log2
        · rw [if_pos e, e, Nat.testBit_two_pow, decide_eq_true_iff] at h
          rw [← h]
          exact e
        · rw [if_neg e, Nat.zero_testBit] at h
          cases h
    · rintro (h | ⟨j, hj, e⟩)
      · exact Or.inl (Or.inl h)
      · rcases Nat.lt_or_ge j k with q | q
        · exact Or.inl (Or.inr ⟨j, q, e⟩)
        · have : j = k := by omega
          subst this
          refine Or.inr ?_
          have e2 : rs j = 2 ^ (rs j).log2 := by rw [e, Nat.log2_two_pow]
          rw [if_pos e2, e, Nat.testBit_two_pow_self]
theorem zz_kw_lt {n : Nat} {rs : Nat → Nat} {i0 : Nat} (h0 : i0 < 2 ^ n) : ∀ m, (∀ k, k < m → rs k < 2 ^ n) → zz_kw rs i0 m < 2 ^ n := by
  intro m
  induction m with
  | zero => exact fun _ => h0
  | succ m ih =>
    intro h
    refine Nat.or_lt_two_pow (ih fun k hk => h k (by omega)) ?_
    split
    · exact h m (by omega)
    · exact Nat.two_pow_pos n
section
variable {n : Nat} {S V : Nat → Nat} {K : Nat → Prop} {c m : Nat} {rs rv : Nat → Nat} {σ : Bool}
theorem zz_ge_ex (hn : n ≤ 8) (G : zz_ge n S V K c m rs rv true) (β : Nat) : ∃ a, a < 2 ^ n ∧ zz_sol S V K c β a := by
  obtain ⟨a, ha, h1, _⟩ := zz_fix hn G.1 (fun k => (rv k).testBit β) (f := 0) (Nat.two_pow_pos n)
  exact ⟨a, ha, (G.2.2.2.2.1 rfl β a).mpr h1⟩
/-- at every place of the numbers the same blocks are known -/
theorem zz_ge_ag (hn : n ≤ 8) (G : zz_ge n S V K c m rs rv true) {b : Nat} (hb : b < n) (β : Nat) : (∃ k, k < m ∧ rs k = 2 ^ b) ↔ ∀ a a', a < 2 ^ n → a' < 2 ^ n → zz_sol S V K c β a → zz_sol S V K c β a' → a.testBit b = a'.testBit b := by
  have g5 := G.2.2.2.2.1 rfl β
  rw [zz_kn_iff hn G.1 (fun k => (rv k).testBit β) hb]
  exact ⟨fun h a a' ha ha' s s' => h a a' ha ha' ((g5 a).mp s) ((g5 a').mp s'), fun h a a' ha ha' s s' => h a a' ha ha' ((g5 a).mpr s) ((g5 a').mpr s')⟩
theorem zz_kn_X (hn : n ≤ 8) (G : zz_ge n S V K c m rs rv σ) : zz_kn n (zz_sol S V K c) (if σ = true then zz_kw rs 0 m else 0) := by
  cases σ
  · rw [if_neg (by decide)]
    refine ⟨Nat.two_pow_pos n, fun h => ?_, fun _ => rfl⟩
    obtain ⟨β, hβ, q⟩ := G.2.2.2.2.2 rfl
    obtain ⟨a, _, ha⟩ := h β hβ
    exact absurd ha (q a)
  · rw [if_pos rfl]
    refine ⟨zz_kw_lt (Nat.two_pow_pos n) m fun k hk => (G.1 k hk).2.1, fun _ b hb => ?_, fun ⟨β, hβ, q⟩ => ?_⟩
    · rw [zz_kw_b, Nat.zero_testBit]
      constructor
      · rintro (h | h)
        · cases h
        · exact fun β _ => (zz_ge_ag hn G hb β).mp h
      · exact fun h => Or.inr ((zz_ge_ag hn G hb 0).mpr (h 0 (by decide)))
    · obtain ⟨a, ha, h⟩ := zz_ge_ex hn G β
      exact absurd h (q a ha)
/-- a sum of blocks: not settled, or settled with the number s -/
def zz_ss (n : Nat) (Q : Nat → Nat → Prop) (x : Nat) (e r : Int32) : Prop := (r = e ∧ ∃ β, β < 8 ∧ ((∀ a, a < 2 ^ n → ¬ Q β a) ∨ ∃ a a', a < 2 ^ n ∧ a' < 2 ^ n ∧ Q β a ∧ Q β a' ∧ zz_dot a x = false ∧ zz_dot a' x = true)) ∨ (∃ s, s < 256 ∧ r = nI s ∧ ∀ β, β < 8 → (∃ a, a < 2 ^ n ∧ Q β a) ∧ ∀ a, a < 2 ^ n → Q β a → zz_dot a x = s.testBit β)
theorem zz_ss_no {n : Nat} {Q : Nat → Nat → Prop} {x : Nat} (h : ∃ β, β < 8 ∧ ((∀ a, a < 2 ^ n → ¬ Q β a) ∨ ∃ a a', a < 2 ^ n ∧ a' < 2 ^ n ∧ Q β a ∧ Q β a' ∧ zz_dot a x = false ∧ zz_dot a' x = true)) {s : Nat} (h' : ∀ β, β < 8 → (∃ a, a < 2 ^ n ∧ Q β a) ∧ ∀ a, a < 2 ^ n → Q β a → zz_dot a x = s.testBit β) : False := by
  obtain ⟨β, hβ, q⟩ := h
  obtain ⟨⟨a, ha, h1⟩, h2⟩ := h' β hβ
  rcases q with q | ⟨a1, a2, l1, l2, q1, q2, d1, d2⟩
  · exact q a ha h1
  · rw [h2 a1 l1 q1, ← h2 a2 l2 q2, d2] at d1
    cases d1
theorem zz_ss_u {n : Nat} {Q : Nat → Nat → Prop} {x : Nat} {e e' r r' : Int32} (h : zz_ss n Q x e r) (h' : zz_ss n Q x e' r') : (r = e ∧ r' = e') ∨ ∃ s, s < 256 ∧ r = nI s ∧ r' = nI s := by
  rcases h with ⟨h1, h2⟩ | ⟨s, s1, s2, s3⟩ <;> rcases h' with ⟨h1', h2'⟩ | ⟨s', s1', s2', s3'⟩
  · exact Or.inl ⟨h1, h1'⟩
  · exact (zz_ss_no h2 s3').elim
  · exact (zz_ss_no h2' s3).elim
  · refine Or.inr ⟨s, s1, s2, ?_⟩
    have : s = s' := by
      refine zz_bit_eq (n := 8) s1 s1' fun b hb => ?_
      obtain ⟨⟨a, ha, h1⟩, h2⟩ := s3 b hb
      rw [← h2 a ha h1, ← (s3' b hb).2 a ha h1]
    rw [this]
    exact s2'
theorem zz_ss_z (hn : n ≤ 8) (G : zz_ge n S V K c m rs rv true) {x : Nat} (hx : x < 2 ^ n) (z : (zz_rd rs rv x 0 m).1 = 0) : ∀ β, β < 8 → (∃ a, a < 2 ^ n ∧ zz_sol S V K c β a) ∧ ∀ a, a < 2 ^ n → zz_sol S V K c β a → zz_dot a x = (zz_rd rs rv x 0 m).2.testBit β := by
  refine fun β hβ => ⟨zz_ge_ex hn G β, fun a ha h => ?_⟩
  have h1 := zz_rd_sol (x := x) (v := 0) m ((G.2.2.2.2.1 rfl β a).mp h)
  rw [z, zz_dot_0, Nat.zero_testBit, Bool.xor_false, Bool.false_xor] at h1
  exact h1.symm
theorem zz_ss_X (hn : n ≤ 8) (G : zz_ge n S V K c m rs rv σ) {x : Nat} (hx : x < 2 ^ n) : zz_ss n (zz_sol S V K c) x (-1) (if σ = true ∧ (zz_rd rs rv x 0 m).1 = 0 then nI (zz_rd rs rv x 0 m).2 else -1) := by
  cases σ
  · rw [if_neg (fun h => by cases h.1)]
    obtain ⟨β, hβ, q⟩ := G.2.2.2.2.2 rfl
    exact Or.inl ⟨rfl, β, hβ, Or.inl fun a _ => q a⟩
  · have g5 := G.2.2.2.2.1 rfl
    by_cases z : (zz_rd rs rv x 0 m).1 = 0
    · rw [if_pos ⟨rfl, z⟩]
      exact Or.inr ⟨_, (zz_rd_lt G.1 G.2.1 hx (by decide) m (Nat.le_refl m)).2, rfl, zz_ss_z hn G hx z⟩
    · rw [if_neg (fun h => z h.2)]
      have hl := zz_rd_lt1 (rv := rv) (v := 0) G.1 hx m (Nat.le_refl m)
      have key : ∀ a, (∀ k, k < m → zz_dot a (rs k) = (rv k).testBit 0) → zz_dot a x = (zz_dot a (zz_rd rs rv x 0 m).1 ^^ (zz_rd rs rv x 0 m).2.testBit 0) := by
        intro a h
        rw [zz_rd_sol (x := x) (v := 0) m h, Nat.zero_testBit, Bool.xor_false]
      obtain ⟨a, ha, h1, h2⟩ := zz_two hn G.1 (fun k => (rv k).testBit 0) hl z (zz_rd_np G.1) ((zz_rd rs rv x 0 m).2.testBit 0)
      obtain ⟨a', ha', h1', h2'⟩ := zz_two hn G.1 (fun k => (rv k).testBit 0) hl z (zz_rd_np G.1) (!(zz_rd rs rv x 0 m).2.testBit 0)
      refine Or.inl ⟨rfl, 0, by decide, Or.inr ⟨a, a', ha, ha', (g5 0 a).mpr h1, (g5 0 a').mpr h1', ?_, ?_⟩⟩
      · rw [key a h1, h2, Bool.xor_self]
      · rw [key a' h1', h2']
        cases (zz_rd rs rv x 0 m).2.testBit 0 <;> rfl
/-- a row more, with the number 0, makes more blocks known -/
def zz_hp (n : Nat) (Q : Nat → Prop) (x nw : Nat) : Prop := (∃ a, a < 2 ^ n ∧ Q a ∧ zz_dot a x = false) ∧ ∃ b, b < n ∧ nw.testBit b = false ∧ ∀ a a', a < 2 ^ n → a' < 2 ^ n → Q a → Q a' → zz_dot a x = false → zz_dot a' x = false → a.testBit b = a'.testBit b
theorem zz_kn_k (hn : n ≤ 8) (G : zz_ge n S V K c m rs rv true) {nw : Nat} (hw : zz_kn n (zz_sol S V K c) nw) (b : Nat) : nw.testBit b = true ↔ ∃ k, k < m ∧ rs k = 2 ^ b := by
  have e := zz_kn_u hw (zz_kn_X hn G)
  rw [if_pos rfl] at e
  rw [e, zz_kw_b, Nat.zero_testBit]
  exact ⟨fun h => h.elim (fun z => by cases z) id, Or.inr⟩
/-- a settled sum doesn't help -/
theorem zz_hp_no (hn : n ≤ 8) (G : zz_ge n S V K c m rs rv true) {nw x s : Nat} (hw : zz_kn n (zz_sol S V K c) nw) (hs : ∀ β, β < 8 → (∃ a, a < 2 ^ n ∧ zz_sol S V K c β a) ∧ ∀ a, a < 2 ^ n → zz_sol S V K c β a → zz_dot a x = s.testBit β) : ¬ zz_hp n (zz_sol S V K c 0) x nw := by
  rintro ⟨⟨a, ha, h1, h2⟩, b, hb, h3, h4⟩
  have hs0 := (hs 0 (by decide)).2
  have e := hs0 a ha h1
  rw [h2] at e
  have : nw.testBit b = true := by
    rw [zz_kn_k hn G hw b, zz_ge_ag hn G hb 0]
    exact fun a a' l l' q q' => h4 a a' l l' q q' ((hs0 a l q).trans e.symm) ((hs0 a' l' q').trans e.symm)
  rw [h3] at this
  cases this
/-- what the component asks of the rows behind a new one -/
theorem zz_hp_X (hn : n ≤ 8) (G : zz_ge n S V K c m rs rv true) {nw x : Nat} (hw : zz_kn n (zz_sol S V K c) nw) (hx : x < 2 ^ n) (z : (zz_rd rs rv x 0 m).1 ≠ 0) : (∃ b, (zz_kw (zz_nr rs m (zz_rd rs rv x 0 m).1) (if (zz_rd rs rv x 0 m).1 = 2 ^ (zz_rd rs rv x 0 m).1.log2 then (zz_rd rs rv x 0 m).1 else 0) m).testBit b = true ∧ nw.testBit b = false) ↔ zz_hp n (zz_sol S V K c 0) x nw := by
  have g5 := G.2.2.2.2.1 rfl 0
  have hl := zz_rd_lt1 (rv := rv) (v := 0) G.1 hx m (Nat.le_refl m)
  have RR := zz_nr_rr G.1 z hl (zz_rd_np G.1)
  have key : ∀ a, (zz_sol S V K c 0 a ∧ zz_dot a x = false) ↔ (∀ k, k < m + 1 → zz_dot a (zz_nr rs m (zz_rd rs rv x 0 m).1 k) = (zz_nv rs rv m (zz_rd rs rv x 0 m).1 (zz_rd rs rv x 0 m).2 k).testBit 0) := by
    intro a
    rw [zz_nr_sol, g5 a]
    have k1 : (∀ k, k < m → zz_dot a (rs k) = (rv k).testBit 0) → (zz_dot a x = false ↔ zz_dot a (zz_rd rs rv x 0 m).1 = (zz_rd rs rv x 0 m).2.testBit 0) := by
      intro h
      have h1 := zz_rd_sol (x := x) (v := 0) m h
      rw [Nat.zero_testBit, Bool.xor_false] at h1
      rw [← h1]
      cases zz_dot a (zz_rd rs rv x 0 m).1 <;> cases (zz_rd rs rv x 0 m).2.testBit 0 <;> decide
    exact ⟨fun q => ⟨q.1, (k1 q.1).mp q.2⟩, fun q => ⟨q.1, (k1 q.1).mpr q.2⟩⟩
  have kb : ∀ b, (zz_kw (zz_nr rs m (zz_rd rs rv x 0 m).1) (if (zz_rd rs rv x 0 m).1 = 2 ^ (zz_rd rs rv x 0 m).1.log2 then (zz_rd rs rv x 0 m).1 else 0) m).testBit b = true ↔ ∃ k, k < m + 1 ∧ zz_nr rs m (zz_rd rs rv x 0 m).1 k = 2 ^ b := by
    intro b
    rw [zz_kw_b]
    constructor
    · rintro (h | ⟨j, hj, e⟩)
      · refine ⟨m, by omega, ?_⟩
        rw [zz_nr_m]
        by_cases e : (zz_rd rs rv x 0 m).1 = 2 ^ (zz_rd rs rv x 0 m).1.log2
        · rw [if_pos e, e, Nat.testBit_two_pow, decide_eq_true_iff] at h
          rw [← h]
          exact e
        · rw [if_neg e, Nat.zero_testBit] at h
          cases h
      · exact ⟨j, by omega, e⟩
    · rintro ⟨j, hj, e⟩
      rcases Nat.lt_or_ge j m with q | q
      · exact Or.inr ⟨j, q, e⟩
      · have : j = m := by omega
        subst this
        rw [zz_nr_m] at e
        refine Or.inl ?_
        have e2 : (zz_rd rs rv x 0 j).1 = 2 ^ (zz_rd rs rv x 0 j).1.log2 := by rw [e, Nat.log2_two_pow]
        rw [if_pos e2, e, Nat.testBit_two_pow_self]
  constructor
  · rintro ⟨b, h1, h2⟩
    have h3 := (kb b).mp h1
    have hb : b < n := by
      obtain ⟨k, hk, e⟩ := h3
      have h4 := (RR k hk).2.1
      rw [e] at h4
      exact (Nat.pow_lt_pow_iff_right (by decide)).mp h4
    have h5 := (zz_kn_iff hn RR (fun k => (zz_nv rs rv m (zz_rd rs rv x 0 m).1 (zz_rd rs rv x 0 m).2 k).testBit 0) hb).mp h3
    refine ⟨?_, b, hb, h2, fun a a' l l' q q' d d' => h5 a a' l l' ((key a).mp ⟨q, d⟩) ((key a').mp ⟨q', d'⟩)⟩
    obtain ⟨a, ha, h6, _⟩ := zz_fix hn RR (fun k => (zz_nv rs rv m (zz_rd rs rv x 0 m).1 (zz_rd rs rv x 0 m).2 k).testBit 0) (f := 0) (Nat.two_pow_pos n)
    exact ⟨a, ha, (key a).mpr h6⟩
  · rintro ⟨_, b, hb, h2, h4⟩
    refine ⟨b, (kb b).mpr ?_, h2⟩
    rw [zz_kn_iff hn RR (fun k => (zz_nv rs rv m (zz_rd rs rv x 0 m).1 (zz_rd rs rv x 0 m).2 k).testBit 0) hb]
    exact fun a a' l l' q q' => h4 a a' l l' ((key a).mpr q).1 ((key a').mpr q').1 ((key a).mpr q).2 ((key a').mpr q').2
end
end
section
/-! ===== knownNow, settle, wouldHelp, walked ===== -/
section
variable {n m : Nat} {rs rv : Nat → Nat} {fn fc fs le lw : Int32} {aS aV aR aW : Nat → Int32}
theorem zz_pow_t {x : Nat} (hx : x < 256) (h : x = 2 ^ x.log2) : (nI x &&& (nI x - 1)) = 0 := (zz_pow x hx).mpr (Or.inr h)
theorem zz_pow_f {x : Nat} (hx : x < 256) (h0 : x ≠ 0) (h : ¬ x = 2 ^ x.log2) : ¬ (nI x &&& (nI x - 1)) = 0 := fun q => ((zz_pow x hx).mp q).elim h0 h
theorem zz_kw_t {i0 k : Nat} (h : rs k = 2 ^ (rs k).log2) : zz_kw rs i0 (k + 1) = zz_kw rs i0 k ||| rs k := by
  show zz_kw rs i0 k ||| _ = _
  rw [if_pos h]
theorem zz_kw_f {i0 k : Nat} (h : ¬ rs k = 2 ^ (rs k).log2) : zz_kw rs i0 (k + 1) = zz_kw rs i0 k := by
  show zz_kw rs i0 k ||| _ = _
  rw [if_neg h, Nat.or_zero]
theorem zz_know1 {post : Int32 → Prop} (hm : m ≤ 8) (hr : ∀ k, k < m → rs k ≠ 0 ∧ rs k < 256) (hA : ∀ k, k < m → aR k = nI (rs k)) (hp : post (nI (zz_kw rs 0 m))) : ∀ d k, k + d = m → wX_knownNow_4 post fn fc (nI m) 1 le lw aS aV aR aW (d + 1) (nI (zz_kw rs 0 k)) (nI k) := by
  intro d
  induction d with
  | zero =>
    intro k hk
    have : k = m := by omega
    subst this
    exact br_t (nI_le (Nat.le_refl k) (by omega)) hp
  | succ d ih =>
    intro k hk
    have hi : vp_in (nI k) 8 := vp_in_nI (by omega) (by decide)
    obtain ⟨r0, rl⟩ := hr k (by omega)
    have h1 := ih (k + 1) (by omega)
    refine br_f (nI_ge (by omega) (by omega)) (br_f (by decide) ⟨hi, hi, ?_⟩)
    rw [nI_clamp (by omega), hA k (by omega)]
    by_cases e : rs k = 2 ^ (rs k).log2
    · rw [zz_kw_t e] at h1
      exact br_t (zz_pow_t rl e) ⟨hi, nm_r (zz_or _ _) (nm_r (nI_1 k) h1)⟩
    · rw [zz_kw_f e] at h1
      exact br_f (zz_pow_f rl r0 e) (nm_r (nI_1 k) h1)
theorem zz_know0 {post : Int32 → Prop} (hm : m ≤ 8) (hp : post 0) : ∀ d k, k + d = m → wX_knownNow_4 post fn fc (nI m) 0 le lw aS aV aR aW (d + 1) 0 (nI k) := by
  intro d
  induction d with
  | zero =>
    intro k hk
    have : k = m := by omega
    subst this
    exact br_t (nI_le (Nat.le_refl k) (by omega)) hp
  | succ d ih =>
    intro k hk
    exact br_f (nI_ge (by omega) (by omega)) (br_t rfl (nm_r (nI_1 k) (ih (k + 1) (by omega))))
end
section
variable {n c i : Nat} {aS aV : Nat → Int32} {S V : Nat → Nat} {K : Nat → Prop} {u : SX}
theorem zz_knownNow {post : Int32 → Prop} (hn : n ≤ 8) (J : zz_JX n c aS aV S V K i u) (H : ∀ r, zz_kn n (zz_sol S V K i) r → post (nI r)) : wpX_knownNow post u := by
  obtain ⟨m, rs, rv, σ, le, lv, aR, aW, rfl, G, hA⟩ := J
  have hm := zz_ge_8 G
  have h256 := zz_p8 hn
  have hr : ∀ k, k < m → rs k ≠ 0 ∧ rs k < 256 := fun k hk => ⟨(G.1 k hk).1, by have := (G.1 k hk).2.1; omega⟩
  have hk := H _ (zz_kn_X hn G)
  cases σ
  · rw [if_neg (by decide)] at hk
    exact Exists.intro (m + 1) (zz_know0 hm hk m 0 (by omega))
  · rw [if_pos rfl] at hk
    exact Exists.intro (m + 1) (zz_know1 hm hr (fun k hk => (hA k hk).1) hk m 0 (by omega))
theorem zz_settle {x : Nat} {post : Int32 → SX → Prop} (hn : n ≤ 8) (hx : x < 2 ^ n) (J : zz_JX n c aS aV S V K i u) (H : ∀ r u', zz_JX n c aS aV S V K i u' → zz_ss n (zz_sol S V K i) x (-1) r → post r u') : wpX_settle post u (nI x) := by
  obtain ⟨m, rs, rv, σ, le, lv, aR, aW, rfl, G, hA⟩ := J
  have hm := zz_ge_8 G
  have h256 := zz_p8 hn
  have hlt := zz_rd_lt1 (rv := rv) (v := 0) G.1 hx m (Nat.le_refl m)
  have hs := zz_ss_X hn G hx
  unfold wpX_settle
  dsimp only
  refine zz_reduce (v := 0) hn hm G.1 G.2.1 hx (by decide) hA ?_
  dsimp only
  have J' : zz_JX n c aS aV S V K i (nI n, nI c, nI m, zz_01 σ, nI (zz_rd rs rv x 0 m).1, nI (zz_rd rs rv x 0 m).2, aS, aV, aR, aW) := ⟨m, rs, rv, σ, _, _, aR, aW, rfl, G, hA⟩
  cases σ
  · rw [if_neg (fun h => by cases h.1)] at hs
    exact br_t rfl (H _ _ J' hs)
  · refine br_f (by decide) ?_
    by_cases z : (zz_rd rs rv x 0 m).1 = 0
    · rw [if_pos ⟨rfl, z⟩] at hs
      exact br_t (by rw [z]; rfl) (H _ _ J' hs)
    · rw [if_neg (fun h => z h.2)] at hs
      exact br_f (nI_ne0 (by omega) (by omega)) (H _ _ J' hs)
end
theorem zz_diff {T w : Nat} (hT : T < 256) : (nI T &&& (nI w ^^^ (-1))) = 0 ↔ ¬ ∃ b, T.testBit b = true ∧ w.testBit b = false := by
  have hl : T ^^^ (T &&& w) < 2 ^ 8 := Nat.xor_lt_two_pow hT (Nat.lt_of_le_of_lt Nat.and_le_left hT)
  have hb : ∀ b, (T ^^^ (T &&& w)).testBit b = (T.testBit b && !w.testBit b) := by
    intro b
    rw [Nat.testBit_xor, Nat.testBit_and]
    cases T.testBit b <;> cases w.testBit b <;> rfl
  rw [zz_andn, ← nI_0, nI_eq (by omega) (by decide)]
  constructor
  · rintro h ⟨b, h1, h2⟩
    have h3 := hb b
    rw [h, h1, h2, Nat.zero_testBit] at h3
    cases h3
  · intro h
    apply Nat.eq_of_testBit_eq
    intro b
    rw [hb b, Nat.zero_testBit]
    cases e1 : T.testBit b
    · rfl
    · cases e2 : w.testBit b
      · exact (h ⟨b, e1, e2⟩).elim
      · rfl
section
variable {n m : Nat} {rs rv : Nat → Nat} {fn fc fr fs le lw : Int32} {aS aV aR aW : Nat → Int32} {post : Int32 → SX → Prop}
theorem zz_wh76 {J : Int32 → Int32 → Prop} {x2 x3 x4 : Int32} {t k y : Nat} (hy : y < 256) (h0 : y ≠ 0) (h : J (nI (t ||| (if y = 2 ^ y.log2 then y else 0))) (nI (k + 1))) : wX_wouldHelp_76 post J x2 x3 x4 (nI t) (nI k) (nI y) fn fc fr fs le lw aS aV aR aW := by
  unfold wX_wouldHelp_76
  by_cases e : y = 2 ^ y.log2
  · rw [if_pos e] at h
    exact br_t (zz_pow_t hy e) (nm_r (zz_or _ _) (nm_r (nI_1 k) h))
  · rw [if_neg e] at h
    exact br_f (zz_pow_f hy h0 e) (nm_r (zz_or _ 0) (nm_r (nI_1 k) h))
theorem zz_wh35 {l nw i0 : Nat} (hm : m ≤ 8) (h0 : l ≠ 0) (hl : l < 256) (hr : ∀ k, k < m → rs k < 256 ∧ zz_nr rs m l k ≠ 0 ∧ zz_nr rs m l k < 256) (hA : ∀ k, k < m → aR k = nI (rs k)) (h1 : (nI (zz_kw (zz_nr rs m l) i0 m) &&& (nI nw ^^^ (-1))) = 0 → post 0 (fn, fc, nI m, fs, le, lw, aS, aV, aR, aW)) (h2 : ¬ (nI (zz_kw (zz_nr rs m l) i0 m) &&& (nI nw ^^^ (-1))) = 0 → post 1 (fn, fc, nI m, fs, le, lw, aS, aV, aR, aW)) : ∀ d k, k + d = m → wX_wouldHelp_35 post (nI nw) (nI l) (nI (2 ^ l.log2)) fn fc (nI m) fs le lw aS aV aR aW (d + 1) (nI (zz_kw (zz_nr rs m l) i0 k)) (nI k) := by
  have ht : l.log2 < 8 := zz_top_lt (n := 8) h0 hl
  intro d
  induction d with
  | zero =>
    intro k hk
    have : k = m := by omega
    subst this
    exact br_t (nI_le (Nat.le_refl k) (by omega)) (br_c h1 h2)
  | succ d ih =>
    intro k hk
    have hi : vp_in (nI k) 8 := vp_in_nI (by omega) (by decide)
    obtain ⟨r1, r2, r3⟩ := hr k (by omega)
    have h3 := ih (k + 1) (by omega)
    refine br_f (nI_ge (by omega) (by omega)) ⟨hi, ?_⟩
    rw [nI_clamp (by omega), hA k (by omega)]
    cases e : (rs k).testBit l.log2
    · have e2 := zz_nr_f (rs := rs) (m := m) (l := l) (j := k) (by omega) e
      refine br_t ((zz_andz r1 ht).mpr e) ⟨hi, ?_⟩
      rw [← e2]
      exact zz_wh76 r3 r2 h3
    · have e2 := zz_nr_t (rs := rs) (m := m) (l := l) (j := k) (by omega) e
      have c2 : ¬ (nI (rs k) &&& nI (2 ^ l.log2)) = 0 := by
        intro q
        rw [(zz_andz r1 ht).mp q] at e
        cases e
      refine br_f c2 ⟨hi, ?_⟩
      rw [nx_xor, ← e2]
      exact zz_wh76 r3 r2 h3
end
theorem zz_would {n c i : Nat} {aS aV : Nat → Int32} {S V : Nat → Nat} {K : Nat → Prop} {u : SX} {x nw : Nat} {post : Int32 → SX → Prop} (hn : n ≤ 8) (hx : x < 2 ^ n) (J : zz_JX n c aS aV S V K i u) (hw : zz_kn n (zz_sol S V K i) nw) (hs : ∀ β, β < 8 → ∃ a, a < 2 ^ n ∧ zz_sol S V K i β a) (hu : ∃ β, β < 8 ∧ ((∀ a, a < 2 ^ n → ¬ zz_sol S V K i β a) ∨ ∃ a a', a < 2 ^ n ∧ a' < 2 ^ n ∧ zz_sol S V K i β a ∧ zz_sol S V K i β a' ∧ zz_dot a x = false ∧ zz_dot a' x = true)) (H : ∀ r u', zz_JX n c aS aV S V K i u' → ((r = 1 ∧ zz_hp n (zz_sol S V K i 0) x nw) ∨ (r = 0 ∧ ¬ zz_hp n (zz_sol S V K i 0) x nw)) → post r u') : wpX_wouldHelp post u (nI x) (nI nw) := by
  obtain ⟨m, rs, rv, σ, le, lv, aR, aW, rfl, G, hA⟩ := J
  cases σ
  · obtain ⟨β, hβ, q⟩ := G.2.2.2.2.2 rfl
    obtain ⟨a, _, ha⟩ := hs β hβ
    exact absurd ha (q a)
  · have hm := zz_ge_8 G
    have h256 := zz_p8 hn
    have z : (zz_rd rs rv x 0 m).1 ≠ 0 := fun z => zz_ss_no hu (zz_ss_z hn G hx z)
    have hlt := zz_rd_lt1 (rv := rv) (v := 0) G.1 hx m (Nat.le_refl m)
    have RR := zz_nr_rr G.1 z hlt (zz_rd_np G.1)
    have hr : ∀ k, k < m → rs k < 256 ∧ zz_nr rs m (zz_rd rs rv x 0 m).1 k ≠ 0 ∧ zz_nr rs m (zz_rd rs rv x 0 m).1 k < 256 := by
      intro k hk
      have q1 := (G.1 k hk).2.1
      have q2 := (RR k (by omega)).2.1
      exact ⟨by omega, (RR k (by omega)).1, by omega⟩
    have hX := zz_hp_X hn G hw hx z
    have J' : zz_JX n c aS aV S V K i (nI n, nI c, nI m, zz_01 true, nI (zz_rd rs rv x 0 m).1, nI (zz_rd rs rv x 0 m).2, aS, aV, aR, aW) := ⟨m, rs, rv, true, _, _, aR, aW, rfl, G, hA⟩
    unfold wpX_wouldHelp
    dsimp only
    refine zz_reduce (v := 0) hn hm G.1 G.2.1 hx (by decide) hA ?_
    dsimp only
    refine zz_topBit z (by omega) ?_
    have hT : ∀ i0, i0 < 2 ^ n → zz_kw (zz_nr rs m (zz_rd rs rv x 0 m).1) i0 m < 256 := by
      intro i0 h0
      have := zz_kw_lt h0 m (rs := zz_nr rs m (zz_rd rs rv x 0 m).1) fun k hk => (RR k (by omega)).2.1
      omega
    by_cases e : (zz_rd rs rv x 0 m).1 = 2 ^ (zz_rd rs rv x 0 m).1.log2
    · rw [if_pos e] at hX
      have hT' := hT _ hlt
      refine br_t (zz_pow_t (by omega) e) (Exists.intro (m + 1) (zz_wh35 (i0 := (zz_rd rs rv x 0 m).1) hm z (by omega) hr (fun k hk => (hA k hk).1) (fun q => ?_) (fun q => ?_) m 0 (by omega)))
      · exact H _ _ J' (Or.inr ⟨rfl, fun y => (zz_diff hT').mp q (hX.mpr y)⟩)
      · exact H _ _ J' (Or.inl ⟨rfl, hX.mp (Classical.byContradiction fun y => q ((zz_diff hT').mpr y))⟩)
    · rw [if_neg e] at hX
      have hT' := hT 0 (Nat.two_pow_pos n)
      refine br_f (zz_pow_f (by omega) z e) (Exists.intro (m + 1) (zz_wh35 (i0 := 0) hm z (by omega) hr (fun k hk => (hA k hk).1) (fun q => ?_) (fun q => ?_) m 0 (by omega)))
      · exact H _ _ J' (Or.inr ⟨rfl, fun y => (zz_diff hT').mp q (hX.mpr y)⟩)
      · exact H _ _ J' (Or.inl ⟨rfl, hX.mp (Classical.byContradiction fun y => q ((zz_diff hT').mpr y))⟩)
end
section
/-! ===== members and ones; the reference's table, its solutions ===== -/
def zz_ms (x : Nat) : Nat → Nat
  | 0 => 0
  | b + 1 => zz_ms x b + x / 2 ^ b % 2
theorem zz_ms_le (x : Nat) : ∀ b, zz_ms x b ≤ b := by
  intro b
  induction b with
  | zero => exact Nat.le_refl 0
  | succ b ih =>
    have h : x / 2 ^ b % 2 < 2 := Nat.mod_lt _ (by decide)
    show zz_ms x b + x / 2 ^ b % 2 ≤ b + 1
    omega
theorem zz_ms_s {x k : Nat} (hx : x < 256) (hk : k < 8) : nI (zz_ms x k) + ((nI x >>> (nI k &&& 31)) &&& 1) = nI (zz_ms x (k + 1)) := by
  rw [zz_bit hx hk, nI_add]
  rfl
theorem zz_ones {x : Nat} {post : Int32 → Prop} (hx : x < 256) (hp : post (nI (zz_ms x 8))) : wpX_ones post (nI x) := by
  have key : ∀ d k, k + d = 8 → wX_ones_4 post (nI x) (d + 1) (nI (zz_ms x k)) (nI k) := by
    intro d
    induction d with
    | zero =>
      intro k hk
      have : k = 8 := by omega
      subst this
      exact br_t (by decide) hp
    | succ d ih =>
      intro k hk
      exact br_f (nI_ge (b := 8) (by omega) (by decide)) (nm_r (zz_ms_s hx (by omega)) (nm_r (nI_1 k) (ih (k + 1) (by omega))))
  exact Exists.intro 9 (key 8 0 rfl)
section
variable {fn fh fs fa : Int32} {aS aV od tr : Nat → Int32}
theorem zz_members {x : Nat} {post : Int32 → Prop} (hx : x < 256) (hp : post (nI (zz_ms x 8))) : wpY_members post (fn, fh, fs, fa, aS, aV, od, tr) (nI x) := by
  have key : ∀ d k, k + d = 8 → wY_members_4 post (nI x) fn fh fs fa aS aV od tr (d + 1) (nI (zz_ms x k)) (nI k) := by
    intro d
    induction d with
    | zero =>
      intro k hk
      have : k = 8 := by omega
      subst this
      exact br_t (by decide) hp
    | succ d ih =>
      intro k hk
      exact br_f (nI_ge (b := 8) (by omega) (by decide)) (nm_r (zz_ms_s hx (by omega)) (nm_r (nI_1 k) (ih (k + 1) (by omega))))
  exact Exists.intro 9 (key 8 0 rfl)
end
def zz_od (od : Nat → Int32) : Prop := ∀ j, j < 256 → od j = zz_01 (zz_par j)
theorem zz_par_ms : ∀ j, j < 256 → zz_par j = decide (zz_ms j 8 % 2 = 1) := by decide +kernel
theorem zz_nar1 : vp_nar .boolean 1 = 1 := rfl
theorem zz_nar0 : vp_nar .boolean 0 = 0 := rfl
theorem zz_init65 {fn fh fs fa : Int32} {aS aV tr : Nat → Int32} {post : SY → Prop} (H : ∀ od, zz_od od → post (fn, fh, fs, fa, aS, aV, od, tr)) : ∀ (d k : Nat) (od : Nat → Int32), k + d = 256 → (∀ j, j < k → od j = zz_01 (zz_par j)) → wY_init_65 post fn fh fs fa (d + 1) (nI k) aS aV od tr := by
  intro d
  induction d with
  | zero =>
    intro k od hk h
    have : k = 256 := by omega
    subst this
    exact br_t (by decide) (H od h)
  | succ d ih =>
    intro k od hk h
    have hi : vp_in (nI k) 256 := vp_in_nI (by omega) (by decide)
    have hm := zz_ms_le k 8
    refine br_f (nI_ge (b := 256) (by omega) (by decide)) (zz_members (by omega) ⟨by decide, ?_⟩)
    have e1 : nI (zz_ms k 8) - nI (zz_ms k 8) / 2 * 2 = nI (zz_ms k 8 % 2) := pk_rem (d := 2) (by omega) (by decide) (by decide)
    rw [e1, nI_clamp (by omega)]
    have hp := zz_par_ms k (by omega)
    have h2 : zz_ms k 8 % 2 < 2 := Nat.mod_lt _ (by decide)
    by_cases e : zz_ms k 8 % 2 = 1
    · rw [decide_eq_true e] at hp
      refine br_t (by rw [e]; rfl) ⟨hi, nm_e (nm_r (nI_1 k) (ih (k + 1) _ (by omega) fun j hj => ?_))⟩
      rcases Nat.lt_or_ge j k with q | q
      · rw [pk_un (by omega)]; exact h j q
      · have : j = k := by omega
        subst this
        rw [pk_us, hp]
        rfl
    · rw [decide_eq_false e] at hp
      have e0 : zz_ms k 8 % 2 = 0 := by omega
      refine br_f (by rw [e0]; decide) ⟨hi, nm_e (nm_r (nI_1 k) (ih (k + 1) _ (by omega) fun j hj => ?_))⟩
      rcases Nat.lt_or_ge j k with q | q
      · rw [pk_un (by omega)]; exact h j q
      · have : j = k := by omega
        subst this
        rw [pk_us, hp]
        rfl
theorem zz_01_i {p q : Bool} : zz_01 p = zz_01 q ↔ p = q := by
  cases p <;> cases q <;> decide
section
variable {n c : Nat} {aS aV od tr : Nat → Int32} {S V : Nat → Nat} {fs fa : Int32}
theorem zz_sv32 {post : Int32 → Prop} {J : Int32 → Prop} {a β i : Nat} {w x2 : Int32} {y : Bool} {fn fh : Int32} (F : zz_F n c aS aV S V) (O : zz_od od) (hi : i < c) (h0 : ¬ nI i = w → ¬ zz_dot a (S i) = y → post 0) (hJ : (¬ nI i = w → zz_dot a (S i) = y) → J (nI (i + 1))) : wY_solves_32 post J (nI a) x2 w (nI i) (zz_01 y) fn fh fs fa aS aV od tr := by
  obtain ⟨hn1, hn, hc, hF⟩ := F
  obtain ⟨f1, f2, f3, f4⟩ := hF i hi
  have h256 := zz_p8 hn
  have hin : vp_in (nI i) 16 := vp_in_nI (by omega) (by decide)
  have hl : (a &&& S i) ≤ S i := Nat.and_le_right
  unfold wY_solves_32
  by_cases e : nI i = w
  · exact br_t e (nm_r (nI_1 i) (hJ fun z => absurd e z))
  · refine br_f e ⟨hin, ?_⟩
    rw [nI_clamp (n := i) (by omega), f1, nx_and]
    refine ⟨vp_in_nI (by omega) (by decide), ?_⟩
    rw [nI_clamp (by omega), O _ (by omega)]
    by_cases q : zz_dot a (S i) = y
    · exact br_t (zz_01_i.mpr q) (nm_r (nI_1 i) (hJ fun _ => q))
    · exact br_f (fun z => q (zz_01_i.mp z)) (h0 e q)
theorem zz_solves {post : Int32 → Prop} {a β : Nat} {w : Int32} (F : zz_F n c aS aV S V) (O : zz_od od) (hβ : β < 8) (h1 : zz_sol S V (fun i => ¬ nI i = w) c β a → post 1) (h0 : ¬ zz_sol S V (fun i => ¬ nI i = w) c β a → post 0) : wpY_solves post (nI n, nI c, fs, fa, aS, aV, od, tr) (nI a) (nI β) w := by
  have F' := F
  obtain ⟨hn1, hn, hc, hF⟩ := F'
  have key : ∀ d i, i + d = c → zz_sol S V (fun i => ¬ nI i = w) i β a → wY_solves_3 post (nI a) (nI β) w (nI n) (nI c) fs fa aS aV od tr (d + 1) (nI i) := by
    intro d
    induction d with
    | zero =>
      intro i hi hs
      have : i = c := by omega
      subst this
      exact br_t (nI_le (Nat.le_refl i) (by omega)) (h1 hs)
    | succ d ih =>
      intro i hi hs
      obtain ⟨f1, f2, f3, f4⟩ := hF i (by omega)
      have hin : vp_in (nI i) 16 := vp_in_nI (by omega) (by decide)
      refine br_f (nI_ge (by omega) (by omega)) ⟨hin, ?_⟩
      rw [nI_clamp (by omega), f3]
      have g0 : ¬ nI i = w → ¬ zz_dot a (S i) = (V i).testBit β → post 0 := fun e q => h0 fun z => q (z i (by omega) e)
      have gJ : (¬ nI i = w → zz_dot a (S i) = (V i).testBit β) → wY_solves_3 post (nI a) (nI β) w (nI n) (nI c) fs fa aS aV od tr (d + 1) (nI (i + 1)) := by
        intro q
        apply ih (i + 1) (by omega)
        by_cases e : nI i = w
        · exact (zz_sol_n (K := fun i => ¬ nI i = w) (fun z => z e)).mpr hs
        · exact (zz_sol_s (K := fun i => ¬ nI i = w) e).mpr ⟨hs, q e⟩
      cases e : (V i).testBit β
      · rw [e] at g0 gJ
        exact br_f (fun z => by rw [(zz_due f4 hβ).mp z] at e; cases e) (zz_sv32 (β := β) (y := false) F O (by omega) g0 gJ)
      · rw [e] at g0 gJ
        exact br_t ((zz_due f4 hβ).mpr e) (zz_sv32 (β := β) (y := true) F O (by omega) g0 gJ)
  exact Exists.intro (c + 1) (key c 0 (by omega) (fun i hi => absurd hi (Nat.not_lt_zero i)))
end
/-! the blocks that are 1 in a solution, those that are 1 in all, whether there is one -/
def zz_so (q : Nat → Bool) : Nat → Nat
  | 0 => 0
  | k + 1 => if q k = true then zz_so q k ||| k else zz_so q k
def zz_al (q : Nat → Bool) (n : Nat) : Nat → Nat
  | 0 => 2 ^ n - 1
  | k + 1 => if q k = true then zz_al q n k &&& k else zz_al q n k
def zz_an (q : Nat → Bool) : Nat → Bool
  | 0 => false
  | k + 1 => if q k = true then true else zz_an q k
section
variable {q : Nat → Bool} {n : Nat}
theorem zz_so_b {b : Nat} : ∀ k, (zz_so q k).testBit b = true ↔ ∃ a, a < k ∧ q a = true ∧ a.testBit b = true := by
  intro k
  induction k with
  | zero =>
    constructor
    · intro h
      rw [show zz_so q 0 = 0 from rfl, Nat.zero_testBit] at h
      cases h
    · exact fun ⟨a, ha, _⟩ => absurd ha (Nat.not_lt_zero a)
  | succ k ih =>
    by_cases e : q k = true
    · rw [show zz_so q (k + 1) = zz_so q k ||| k from if_pos e, Nat.testBit_or, Bool.or_eq_true, ih]
      constructor
      · rintro (⟨a, ha, h⟩ | h)
        · exact ⟨a, by omega, h⟩
        · exact ⟨k, by omega, e, h⟩
      · rintro ⟨a, ha, h1, h2⟩
        rcases Nat.lt_or_ge a k with z | z
        · exact Or.inl ⟨a, z, h1, h2⟩
        · have : a = k := by omega
          subst this
          exact Or.inr h2
    · rw [show zz_so q (k + 1) = zz_so q k from if_neg e, ih]
      constructor
      · exact fun ⟨a, ha, h⟩ => ⟨a, by omega, h⟩
      · rintro ⟨a, ha, h1, h2⟩
        rcases Nat.lt_or_ge a k with z | z
        · exact ⟨a, z, h1, h2⟩
        · have : a = k := by omega
          subst this
          exact absurd h1 e
theorem zz_al_b {b : Nat} : ∀ k, (zz_al q n k).testBit b = true ↔ b < n ∧ ∀ a, a < k → q a = true → a.testBit b = true := by
  intro k
  induction k with
  | zero =>
    rw [show zz_al q n 0 = 2 ^ n - 1 from rfl, Nat.testBit_two_pow_sub_one, decide_eq_true_iff]
    exact ⟨fun h => ⟨h, fun a ha => absurd ha (Nat.not_lt_zero a)⟩, fun h => h.1⟩
  | succ k ih =>
    by_cases e : q k = true
    · rw [show zz_al q n (k + 1) = zz_al q n k &&& k from if_pos e, Nat.testBit_and, Bool.and_eq_true, ih]
      constructor
      · rintro ⟨⟨h1, h2⟩, h3⟩
        refine ⟨h1, fun a ha h => ?_⟩
        rcases Nat.lt_or_ge a k with z | z
        · exact h2 a z h
        · have : a = k := by omega
          subst this
          exact h3
      · exact fun h => ⟨⟨h.1, fun a ha => h.2 a (by omega)⟩, h.2 k (by omega) e⟩
    · rw [show zz_al q n (k + 1) = zz_al q n k from if_neg e, ih]
      constructor
      · rintro ⟨h1, h2⟩
        refine ⟨h1, fun a ha h => ?_⟩
        rcases Nat.lt_or_ge a k with z | z
        · exact h2 a z h
        · have : a = k := by omega
          subst this
          exact absurd h e
      · exact fun h => ⟨h.1, fun a ha => h.2 a (by omega)⟩
theorem zz_an_b : ∀ k, zz_an q k = true ↔ ∃ a, a < k ∧ q a = true := by
  intro k
  induction k with
  | zero => exact ⟨fun h => (by cases h), fun ⟨a, ha, _⟩ => absurd ha (Nat.not_lt_zero a)⟩
  | succ k ih =>
    by_cases e : q k = true
    · rw [show zz_an q (k + 1) = true from if_pos e]
      exact ⟨fun _ => ⟨k, by omega, e⟩, fun _ => rfl⟩
    · rw [show zz_an q (k + 1) = zz_an q k from if_neg e, ih]
      constructor
      · exact fun ⟨a, ha, h⟩ => ⟨a, by omega, h⟩
      · rintro ⟨a, ha, h1⟩
        rcases Nat.lt_or_ge a k with z | z
        · exact ⟨a, z, h1⟩
        · have : a = k := by omega
          subst this
          exact absurd h1 e
theorem zz_so_lt : ∀ k, k ≤ 2 ^ n → zz_so q k < 2 ^ n := by
  intro k
  induction k with
  | zero => exact fun _ => Nat.two_pow_pos n
  | succ k ih =>
    intro hk
    by_cases e : q k = true
    · rw [show zz_so q (k + 1) = zz_so q k ||| k from if_pos e]
      exact Nat.or_lt_two_pow (ih (by omega)) (by omega)
    · rw [show zz_so q (k + 1) = zz_so q k from if_neg e]
      exact ih (by omega)
theorem zz_al_lt : ∀ k, zz_al q n k < 2 ^ n := by
  intro k
  have hp := Nat.two_pow_pos n
  induction k with
  | zero =>
    show 2 ^ n - 1 < 2 ^ n
    omega
  | succ k ih =>
    by_cases e : q k = true
    · rw [show zz_al q n (k + 1) = zz_al q n k &&& k from if_pos e]
      exact Nat.lt_of_le_of_lt Nat.and_le_left ih
    · rw [show zz_al q n (k + 1) = zz_al q n k from if_neg e]
      exact ih
/-- the open blocks: where two solutions differ -/
theorem zz_open {b : Nat} (hb : b < n) (h : zz_an q (2 ^ n) = true) : (zz_so q (2 ^ n) ^^^ zz_al q n (2 ^ n)).testBit b = false ↔ ∀ a a', a < 2 ^ n → a' < 2 ^ n → q a = true → q a' = true → a.testBit b = a'.testBit b := by
  obtain ⟨a0, l0, h0⟩ := (zz_an_b _).mp h
  have h1 := zz_so_b (q := q) (b := b) (2 ^ n)
  have h2 := zz_al_b (q := q) (n := n) (b := b) (2 ^ n)
  rw [Nat.testBit_xor]
  constructor
  · intro e
    cases e1 : (zz_so q (2 ^ n)).testBit b
    · have k1 : ∀ a, a < 2 ^ n → q a = true → a.testBit b = false := by
        intro a l z
        cases e3 : a.testBit b
        · rfl
        · have := h1.mpr ⟨a, l, z, e3⟩
          rw [e1] at this
          cases this
      exact fun a a' l l' z z' => (k1 a l z).trans (k1 a' l' z').symm
    · have e2 : (zz_al q n (2 ^ n)).testBit b = true := by
        rw [e1] at e
        revert e
        cases (zz_al q n (2 ^ n)).testBit b <;> decide
      have k1 := (h2.mp e2).2
      exact fun a a' l l' z z' => (k1 a l z).trans (k1 a' l' z').symm
  · intro H
    cases e0 : a0.testBit b
    · have e1 : (zz_so q (2 ^ n)).testBit b = false := by
        cases e1 : (zz_so q (2 ^ n)).testBit b
        · rfl
        · obtain ⟨a, l, z, e3⟩ := h1.mp e1
          rw [H a a0 l l0 z h0, e0] at e3
          cases e3
      have e2 : (zz_al q n (2 ^ n)).testBit b = false := by
        cases e2 : (zz_al q n (2 ^ n)).testBit b
        · rfl
        · have := (h2.mp e2).2 a0 l0 h0
          rw [e0] at this
          cases this
      rw [e1, e2]
      rfl
    · have e1 := h1.mpr ⟨a0, l0, h0, e0⟩
      have e2 := h2.mpr ⟨hb, fun a l z => (H a a0 l l0 z h0).trans e0⟩
      rw [e1, e2]
      rfl
end
end
section
/-! ===== solve, consistent, knownWithout, sumOf of the reference ===== -/
section
variable {n c : Nat} {aS aV od tr : Nat → Int32} {S V : Nat → Nat}
theorem zz_01_n (y : Bool) : narrow .boolean (.int (zz_01 y)) = .int (zz_01 y) := by
  cases y <;> rfl
theorem zz_solve {post : Int32 → SY → Prop} {β : Nat} {w fs fa : Int32} (q : Nat → Bool) (F : zz_F n c aS aV S V) (O : zz_od od) (hβ : β < 8) (hq : ∀ a, q a = zz_b (zz_sol S V (fun i => ¬ nI i = w) c β a)) (H : post (zz_01 (zz_an q (2 ^ n))) (nI n, nI c, nI (zz_so q (2 ^ n)), nI (zz_al q n (2 ^ n)), aS, aV, od, tr)) : wpY_solve post (nI n, nI c, fs, fa, aS, aV, od, tr) (nI β) w := by
  have hn := F.2.1
  have h256 := zz_p8 hn
  have hsh := zz_sh n (by omega)
  have key : ∀ d a, a + d = 2 ^ n → wY_solve_22 post (nI β) w (nI n) (nI c) aS aV od tr (d + 1) (zz_01 (zz_an q a)) (nI a) (nI (zz_so q a)) (nI (zz_al q n a)) := by
    intro d
    induction d with
    | zero =>
      intro a ha
      have : a = 2 ^ n := by omega
      subst this
      refine br_t (by rw [hsh]; exact nI_le (Nat.le_refl _) (by omega)) ⟨zz_01_n _, H⟩
    | succ d ih =>
      intro a ha
      have h1 := ih (a + 1) (by omega)
      refine br_f (by rw [hsh]; exact nI_ge (by omega) (by omega)) (zz_solves F O hβ (fun hs => ?_) (fun hs => ?_))
      · have e : q a = true := (hq a).trans (zz_b_t hs)
        rw [show zz_so q (a + 1) = zz_so q a ||| a from if_pos e, show zz_al q n (a + 1) = zz_al q n a &&& a from if_pos e, show zz_an q (a + 1) = true from if_pos e] at h1
        exact br_f (by decide) (nm_r (zz_or _ _) (nm_r (nx_and _ _) (nm_r (nI_1 a) h1)))
      · have e : ¬ q a = true := by rw [hq a, zz_b_f hs]; decide
        rw [show zz_so q (a + 1) = zz_so q a from if_neg e, show zz_al q n (a + 1) = zz_al q n a from if_neg e, show zz_an q (a + 1) = zz_an q a from if_neg e] at h1
        exact br_t rfl (nm_r (nI_1 a) h1)
  exact nm_r (zz_all n (by omega)) (Exists.intro (2 ^ n + 1) (key (2 ^ n) 0 (by omega)))
/-- solve at a place: no solution, or one, with the open blocks op -/
theorem zz_solveQ {post : Int32 → SY → Prop} {β : Nat} {w fs fa : Int32} (F : zz_F n c aS aV S V) (O : zz_od od) (hβ : β < 8) (H0 : ∀ s l : Int32, (∀ a, a < 2 ^ n → ¬ zz_sol S V (fun i => ¬ nI i = w) c β a) → post 0 (nI n, nI c, s, l, aS, aV, od, tr)) (H1 : ∀ s l : Nat, (∃ a, a < 2 ^ n ∧ zz_sol S V (fun i => ¬ nI i = w) c β a) → (s ^^^ l < 2 ^ n) → (∀ b, b < n → ((s ^^^ l).testBit b = false ↔ ∀ a a', a < 2 ^ n → a' < 2 ^ n → zz_sol S V (fun i => ¬ nI i = w) c β a → zz_sol S V (fun i => ¬ nI i = w) c β a' → a.testBit b = a'.testBit b)) → post 1 (nI n, nI c, nI s, nI l, aS, aV, od, tr)) : wpY_solve post (nI n, nI c, fs, fa, aS, aV, od, tr) (nI β) w := by
  refine zz_solve (fun a => zz_b (zz_sol S V (fun i => ¬ nI i = w) c β a)) F O hβ (fun _ => rfl) ?_
  cases e : zz_an (fun a => zz_b (zz_sol S V (fun i => ¬ nI i = w) c β a)) (2 ^ n)
  · refine H0 _ _ fun a ha z => ?_
    have := (zz_an_b (q := fun a => zz_b (zz_sol S V (fun i => ¬ nI i = w) c β a)) (2 ^ n)).mpr ⟨a, ha, zz_b_t z⟩
    rw [e] at this
    cases this
  · obtain ⟨a, ha, h⟩ := (zz_an_b _).mp e
    refine H1 _ _ ⟨a, ha, zz_b_i.mp h⟩ (Nat.xor_lt_two_pow (zz_so_lt _ (Nat.le_refl _)) (zz_al_lt _)) fun b hb => ?_
    rw [zz_open hb e]
    exact ⟨fun h a a' l l' z z' => h a a' l l' (zz_b_t z) (zz_b_t z'), fun h a a' l l' z z' => h a a' l l' (zz_b_i.mp z) (zz_b_i.mp z')⟩
theorem zz_consY {post : Int32 → SY → Prop} {fs fa : Int32} (F : zz_F n c aS aV S V) (O : zz_od od) (H0 : ∀ s l : Int32, (∃ β, β < 8 ∧ ∀ a, a < 2 ^ n → ¬ zz_sol S V (fun i => ¬ nI i = -1) c β a) → post 0 (nI n, nI c, s, l, aS, aV, od, tr)) (H1 : ∀ s l : Int32, (∀ β, β < 8 → ∃ a, a < 2 ^ n ∧ zz_sol S V (fun i => ¬ nI i = -1) c β a) → post 1 (nI n, nI c, s, l, aS, aV, od, tr)) : wpY_consistent post (nI n, nI c, fs, fa, aS, aV, od, tr) := by
  have key : ∀ (d β : Nat) (fs fa : Int32), β + d = 8 → (∀ β', β' < β → ∃ a, a < 2 ^ n ∧ zz_sol S V (fun i => ¬ nI i = -1) c β' a) → wY_consistent_2 post (d + 1) (nI β) (nI n) (nI c) fs fa aS aV od tr := by
    intro d
    induction d with
    | zero =>
      intro β fs fa hβ h
      have : β = 8 := by omega
      subst this
      exact br_t (by decide) (H1 _ _ h)
    | succ d ih =>
      intro β fs fa hβ h
      refine br_f (nI_ge (b := 8) (by omega) (by decide)) (zz_solveQ F O (by omega) (fun s l hs => ?_) (fun s l hs _ _ => ?_))
      · exact br_t rfl (H0 _ _ ⟨β, by omega, hs⟩)
      · refine br_f (by decide) (nm_r (nI_1 β) (ih (β + 1) _ _ (by omega) fun β' h' => ?_))
        rcases Nat.lt_or_ge β' β with z | z
        · exact h β' z
        · have : β' = β := by omega
          subst this
          exact hs
  exact Exists.intro 9 (key 8 0 fs fa rfl (fun β h => absurd h (Nat.not_lt_zero β)))
theorem zz_kwoY {post : Int32 → SY → Prop} {w fs fa : Int32} (F : zz_F n c aS aV S V) (O : zz_od od) (H : ∀ (r : Nat) (s l : Int32), zz_kn n (zz_sol S V (fun i => ¬ nI i = w) c) r → post (nI r) (nI n, nI c, s, l, aS, aV, od, tr)) : wpY_knownWithout post (nI n, nI c, fs, fa, aS, aV, od, tr) w := by
  have hn := F.2.1
  have h256 := zz_p8 hn
  have hall := zz_all n (by omega)
  have key : ∀ (d β op : Nat) (fs fa : Int32), β + d = 8 → op < 2 ^ n → (∀ β', β' < β → ∃ a, a < 2 ^ n ∧ zz_sol S V (fun i => ¬ nI i = w) c β' a) → (∀ b, b < n → (op.testBit b = false ↔ ∀ β', β' < β → ∀ a a', a < 2 ^ n → a' < 2 ^ n → zz_sol S V (fun i => ¬ nI i = w) c β' a → zz_sol S V (fun i => ¬ nI i = w) c β' a' → a.testBit b = a'.testBit b)) → wY_knownWithout_4 post w (d + 1) (nI op) (nI β) (nI n) (nI c) fs fa aS aV od tr := by
    intro d
    induction d with
    | zero =>
      intro β op fs fa hβ ho h1 h2
      have : β = 8 := by omega
      subst this
      refine br_t (by decide) ?_
      rw [hall, pk_sub (by omega)]
      refine H _ _ _ ⟨by omega, fun _ b hb => ?_, fun ⟨β, hβ, q⟩ => ?_⟩
      · rw [show 2 ^ n - 1 - op = 2 ^ n - (op + 1) from by omega, Nat.testBit_two_pow_sub_succ ho, decide_eq_true hb, Bool.true_and, ← h2 b hb]
        cases op.testBit b <;> decide
      · obtain ⟨a, ha, h⟩ := h1 β hβ
        exact absurd h (q a ha)
    | succ d ih =>
      intro β op fs fa hβ ho h1 h2
      refine br_f (nI_ge (b := 8) (by omega) (by decide)) (zz_solveQ F O (by omega) (fun s l hs => ?_) (fun s l hs hlt hb => ?_))
      · refine br_t rfl (H 0 _ _ ⟨Nat.two_pow_pos n, fun q => ?_, fun _ => rfl⟩)
        obtain ⟨a, ha, h⟩ := q β (by omega)
        exact absurd h (hs a ha)
      · refine br_f (by decide) (nm_r (e' := nI (op ||| (s ^^^ l))) (by rw [nx_xor, zz_or]) (nm_r (nI_1 β) (ih (β + 1) _ _ _ (by omega) (Nat.or_lt_two_pow ho hlt) (fun β' h' => ?_) (fun b hbn => ?_))))
        · rcases Nat.lt_or_ge β' β with z | z
          · exact h1 β' z
          · have : β' = β := by omega
            subst this
            exact hs
        · rw [Nat.testBit_or, Bool.or_eq_false_iff, h2 b hbn, hb b hbn]
          constructor
          · rintro ⟨k1, k2⟩ β' h'
            rcases Nat.lt_or_ge β' β with z | z
            · exact k1 β' z
            · have : β' = β := by omega
              subst this
              exact k2
          · exact fun k => ⟨fun β' h' => k β' (by omega), k β (by omega)⟩
  refine Exists.intro 9 (key 8 0 0 fs fa rfl (Nat.two_pow_pos n) (fun β h => absurd h (Nat.not_lt_zero β)) (fun b _ => ?_))
  rw [Nat.zero_testBit]
  exact ⟨fun _ β h => absurd h (Nat.not_lt_zero β), fun _ => rfl⟩
/-- the kinds of sums that were met: 1 for even, 2 for odd -/
def zz_kd (p0 p1 : Bool) : Int32 := if p0 = true then (if p1 = true then 3 else 1) else (if p1 = true then 2 else 0)
theorem zz_sum26 {post : Int32 → Prop} {J : Int32 → Int32 → Prop} {x β : Nat} {x2 fs fa : Int32} (F : zz_F n c aS aV S V) (O : zz_od od) (hx : x < 2 ^ n) (hβ : β < 8) (H0 : ((∀ a, a < 2 ^ n → ¬ zz_sol S V (fun i => ¬ nI i = -1) c β a) ∨ ∃ a a', a < 2 ^ n ∧ a' < 2 ^ n ∧ zz_sol S V (fun i => ¬ nI i = -1) c β a ∧ zz_sol S V (fun i => ¬ nI i = -1) c β a' ∧ zz_dot a x = false ∧ zz_dot a' x = true) → post (-2)) (H1 : ∀ y : Bool, (∃ a, a < 2 ^ n ∧ zz_sol S V (fun i => ¬ nI i = -1) c β a) → (∀ a, a < 2 ^ n → zz_sol S V (fun i => ¬ nI i = -1) c β a → zz_dot a x = y) → J (if y = true then x2 ||| nI (2 ^ β) else x2) (nI (β + 1))) : ∃ k, wY_sumOf_26 post J (nI x) x2 (nI β) (nI n) (nI c) fs fa aS aV od tr k 0 0 := by
  have hn := F.2.1
  have h256 := zz_p8 hn
  have hsh := zz_sh n (by omega)
  have key : ∀ (d a : Nat) (p0 p1 : Bool), a + d = 2 ^ n → (p0 = true ↔ ∃ a', a' < a ∧ zz_sol S V (fun i => ¬ nI i = -1) c β a' ∧ zz_dot a' x = false) → (p1 = true ↔ ∃ a', a' < a ∧ zz_sol S V (fun i => ¬ nI i = -1) c β a' ∧ zz_dot a' x = true) → wY_sumOf_26 post J (nI x) x2 (nI β) (nI n) (nI c) fs fa aS aV od tr (d + 1) (zz_kd p0 p1) (nI a) := by
    intro d
    induction d with
    | zero =>
      intro a p0 p1 ha h0 h1
      have : a = 2 ^ n := by omega
      subst this
      refine br_t (by rw [hsh]; exact nI_le (Nat.le_refl _) (by omega)) ?_
      have no0 : p0 = false → ∀ a, a < 2 ^ n → zz_sol S V (fun i => ¬ nI i = -1) c β a → zz_dot a x = true := by
        intro e a l z
        cases e2 : zz_dot a x
        · have := h0.mpr ⟨a, l, z, e2⟩
          rw [e] at this
          cases this
        · rfl
      have no1 : p1 = false → ∀ a, a < 2 ^ n → zz_sol S V (fun i => ¬ nI i = -1) c β a → zz_dot a x = false := by
        intro e a l z
        cases e2 : zz_dot a x
        · rfl
        · have := h1.mpr ⟨a, l, z, e2⟩
          rw [e] at this
          cases this
      cases p0 <;> cases p1
      · refine br_t rfl (H0 (Or.inl fun a l z => ?_))
        have e1 := no0 rfl a l z
        rw [no1 rfl a l z] at e1
        cases e1
      · obtain ⟨a, l, z, e⟩ := h1.mp rfl
        exact br_f (by decide) (br_f (by decide) (br_t rfl (nm_r (by rw [zz_sh β (by omega)]; rfl) (nm_r (nI_1 β) (H1 true ⟨a, l, z⟩ (no0 rfl))))))
      · obtain ⟨a, l, z, e⟩ := h0.mp rfl
        exact br_f (by decide) (br_f (by decide) (br_f (by decide) (nm_r (nI_1 β) (H1 false ⟨a, l, z⟩ (no1 rfl)))))
      · obtain ⟨a, l, z, e⟩ := h0.mp rfl
        obtain ⟨a', l', z', e'⟩ := h1.mp rfl
        exact br_f (by decide) (br_t rfl (H0 (Or.inr ⟨a, a', l, l', z, z', e, e'⟩)))
    | succ d ih =>
      intro a p0 p1 ha h0 h1
      have ext : ∀ (y : Bool) (p : Bool), (p = true ↔ ∃ a', a' < a ∧ zz_sol S V (fun i => ¬ nI i = -1) c β a' ∧ zz_dot a' x = y) → ¬ (zz_sol S V (fun i => ¬ nI i = -1) c β a ∧ zz_dot a x = y) → (p = true ↔ ∃ a', a' < a + 1 ∧ zz_sol S V (fun i => ¬ nI i = -1) c β a' ∧ zz_dot a' x = y) := by
        intro y p h k
        rw [h]
        constructor
        · exact fun ⟨a', l, z⟩ => ⟨a', by omega, z⟩
        · rintro ⟨a', l, z⟩
          rcases Nat.lt_or_ge a' a with q | q
          · exact ⟨a', q, z⟩
          · have : a' = a := by omega
            subst this
            exact absurd z k
      have new : ∀ (y : Bool), (zz_sol S V (fun i => ¬ nI i = -1) c β a ∧ zz_dot a x = y) → (true = true ↔ ∃ a', a' < a + 1 ∧ zz_sol S V (fun i => ¬ nI i = -1) c β a' ∧ zz_dot a' x = y) := by
        intro y k
        exact ⟨fun _ => ⟨a, by omega, k⟩, fun _ => rfl⟩
      have hl : (a &&& x) ≤ x := Nat.and_le_right
      refine br_f (by rw [hsh]; exact nI_ge (by omega) (by omega)) (zz_solves F O hβ (fun hs => ?_) (fun hs => ?_))
      · refine br_f (by decide) ?_
        rw [nx_and]
        refine ⟨vp_in_nI (by omega) (by decide), ?_⟩
        rw [nI_clamp (by omega), O _ (by omega)]
        show (zz_01 (zz_dot a x) = 0 → _) ∧ (¬ zz_01 (zz_dot a x) = 0 → _)
        cases e : zz_dot a x
        · have h2 := ih (a + 1) true p1 (by omega) (new false ⟨hs, e⟩) (ext true p1 h1 (fun z => by rw [e] at z; cases z.2))
          refine br_t rfl (nm_r ?_ (nm_r (nI_1 a) h2))
          cases p0 <;> cases p1 <;> decide
        · have h2 := ih (a + 1) p0 true (by omega) (ext false p0 h0 (fun z => by rw [e] at z; cases z.2)) (new true ⟨hs, e⟩)
          refine br_f (by decide) (nm_r ?_ (nm_r (nI_1 a) h2))
          cases p0 <;> cases p1 <;> decide
      · exact br_t rfl (nm_r (nI_1 a) (ih (a + 1) p0 p1 (by omega) (ext false p0 h0 (fun z => hs z.1)) (ext true p1 h1 (fun z => hs z.1))))
  refine ⟨2 ^ n + 1, key (2 ^ n) 0 false false (by omega) ?_ ?_⟩
  · exact ⟨fun h => (by cases h), fun ⟨a, l, _⟩ => absurd l (Nat.not_lt_zero a)⟩
  · exact ⟨fun h => (by cases h), fun ⟨a, l, _⟩ => absurd l (Nat.not_lt_zero a)⟩
theorem zz_sumY {post : Int32 → Prop} {x : Nat} {fs fa : Int32} (F : zz_F n c aS aV S V) (O : zz_od od) (hx : x < 2 ^ n) (H : ∀ r, zz_ss n (zz_sol S V (fun i => ¬ nI i = -1) c) x (-2) r → post r) : ∃ k, wY_sumOf_14 post (nI x) (nI n) (nI c) fs fa aS aV od tr k 0 0 := by
  have key : ∀ (d β s : Nat), β + d = 8 → s < 2 ^ β → (∀ β', β' < β → (∃ a, a < 2 ^ n ∧ zz_sol S V (fun i => ¬ nI i = -1) c β' a) ∧ ∀ a, a < 2 ^ n → zz_sol S V (fun i => ¬ nI i = -1) c β' a → zz_dot a x = s.testBit β') → wY_sumOf_14 post (nI x) (nI n) (nI c) fs fa aS aV od tr (d + 1) (nI s) (nI β) := by
    intro d
    induction d with
    | zero =>
      intro β s hβ hs h
      have : β = 8 := by omega
      subst this
      exact br_t (by decide) (H _ (Or.inr ⟨s, hs, rfl, h⟩))
    | succ d ih =>
      intro β s hβ hs h
      refine br_f (nI_ge (b := 8) (by omega) (by decide)) (zz_sum26 F O hx (by omega) (fun q => H _ (Or.inl ⟨rfl, β, by omega, q⟩)) (fun y e1 e2 => ?_))
      have hb : s.testBit β = false := Nat.testBit_lt_two_pow hs
      have hp : 2 ^ (β + 1) = 2 ^ β * 2 := Nat.pow_succ 2 β
      cases y
      · rw [if_neg (by decide)]
        refine ih (β + 1) s (by omega) (by omega) fun β' h' => ?_
        rcases Nat.lt_or_ge β' β with z | z
        · exact h β' z
        · have : β' = β := by omega
          subst this
          rw [hb]
          exact ⟨e1, e2⟩
      · rw [if_pos rfl, zz_or]
        refine ih (β + 1) (s ||| 2 ^ β) (by omega) (Nat.or_lt_two_pow (by omega) (Nat.pow_lt_pow_right (by decide) (by omega))) fun β' h' => ?_
        rw [Nat.testBit_or, Nat.testBit_two_pow]
        rcases Nat.lt_or_ge β' β with z | z
        · rw [decide_eq_false (by omega), Bool.or_false]
          exact h β' z
        · have : β' = β := by omega
          subst this
          rw [decide_eq_true rfl, Bool.or_true]
          exact ⟨e1, e2⟩
  exact ⟨9, key 8 0 0 rfl (by decide) (fun β h => absurd h (Nat.not_lt_zero β))⟩
end
end
section
/-! ===== rank of the reference ===== -/
section
variable {fn fh fs fa : Int32} {aS aV od : Nat → Int32}
theorem zz_1n0 : ¬ (1 : Int32) = 0 := by decide
theorem zz_spread {s : Nat} {tr : Nat → Int32} {P : Nat → Prop} {post : SY → Prop} (hs : s < 256) (hT : ∀ j, j < 256 → (¬ tr j = 0 ↔ P j)) (H : ∀ tr', (∀ j, j < 256 → (¬ tr' j = 0 ↔ P j ∨ P (j ^^^ s))) → post (fn, fh, fs, fa, aS, aV, od, tr')) : wpY_spread post (fn, fh, fs, fa, aS, aV, od, tr) (nI s) := by
  have xl : ∀ j, j < 256 → j ^^^ s < 256 := fun j hj => Nat.xor_lt_two_pow (n := 8) hj hs
  have xx : ∀ j, (j ^^^ s) ^^^ s = j := fun j => by rw [Nat.xor_assoc, Nat.xor_self, Nat.xor_zero]
  have key : ∀ (d k : Nat) (tr : Nat → Int32), k + d = 256 → (∀ j, j < 256 → ¬ tr j = 0 → P j ∨ P (j ^^^ s)) → (∀ j, j < 256 → P j → ¬ tr j = 0) → (∀ i, i < k → P i → ¬ tr (i ^^^ s) = 0) → wY_spread_2 post (nI s) fn fh fs fa (d + 1) (nI k) aS aV od tr := by
    intro d
    induction d with
    | zero =>
      intro k tr hk h1 h2 h3
      have : k = 256 := by omega
      subst this
      refine br_t (by decide) (H tr fun j hj => ⟨h1 j hj, fun z => z.elim (h2 j hj) fun z => ?_⟩)
      have := h3 (j ^^^ s) (xl j hj) z
      rw [xx] at this
      exact this
    | succ d ih =>
      intro k tr hk h1 h2 h3
      have hi : vp_in (nI k) 256 := vp_in_nI (by omega) (by decide)
      have hxk := xl k (by omega)
      refine br_f (nI_ge (b := 256) (by omega) (by decide)) ⟨hi, ?_⟩
      rw [nI_clamp (by omega), nx_xor]
      by_cases e : tr k = 0
      · refine br_t e (nm_r (nI_1 k) (ih (k + 1) tr (by omega) h1 h2 fun i hi hP => ?_))
        rcases Nat.lt_or_ge i k with z | z
        · exact h3 i z hP
        · have : i = k := by omega
          subst this
          exact absurd e (h2 i (by omega) hP)
      · refine br_f e ⟨vp_in_nI hxk (by decide), ?_⟩
        rw [nI_clamp (by omega)]
        refine nm_e (nm_r (nI_1 k) (ih (k + 1) _ (by omega) (fun j hj hz => ?_) (fun j hj hP => ?_) (fun i hi hP => ?_)))
        · by_cases ej : j = k ^^^ s
          · subst ej
            rw [xx]
            exact (h1 k (by omega) e).symm
          · rw [pk_un ej] at hz
            exact h1 j hj hz
        · by_cases ej : j = k ^^^ s
          · subst ej
            rw [pk_us]
            exact zz_1n0
          · rw [pk_un ej]
            exact h2 j hj hP
        · by_cases ej : i ^^^ s = k ^^^ s
          · rw [ej, pk_us]
            exact zz_1n0
          · rw [pk_un ej]
            rcases Nat.lt_or_ge i k with z | z
            · exact h3 i z hP
            · have : i = k := by omega
              subst this
              exact absurd rfl ej
  exact Exists.intro 257 (key 256 0 tr rfl (fun j hj z => Or.inl ((hT j hj).mp z)) (fun j hj => (hT j hj).mpr) (fun i hi => absurd hi (Nat.not_lt_zero i)))
theorem zz_rank87 {m : Nat} {tr : Nat → Int32} {post : Int32 → SY → Prop} (hm : m ≤ 8) (H : post (nI m) (fn, fh, fs, fa, aS, aV, od, tr)) : ∃ k, wY_rank_87 post (nI (2 ^ m)) fn fh fs fa aS aV od tr k 0 := by
  have h256 := zz_p8 hm
  have key : ∀ (d r : Nat), r + d = m → wY_rank_87 post (nI (2 ^ m)) fn fh fs fa aS aV od tr (d + 1) (nI r) := by
    intro d
    induction d with
    | zero =>
      intro r hr
      have : r = m := by omega
      subst this
      by_cases e : r = 8
      · subst e
        exact br_t (by decide) H
      · refine br_f (nI_ge (b := 8) (by omega) (by decide)) (br_t ?_ H)
        rw [zz_sh r (by omega)]
        exact nI_le (Nat.le_refl _) (by omega)
    | succ d ih =>
      intro r hr
      refine br_f (nI_ge (b := 8) (by omega) (by decide)) (br_f ?_ (nm_r (nI_1 r) (ih (r + 1) (by omega))))
      rw [zz_sh r (by omega)]
      exact nI_ge (Nat.pow_lt_pow_right (by decide) (by omega)) (by omega)
  exact ⟨m + 1, key m 0 (by omega)⟩
theorem zz_rank60 {m : Nat} {p : Nat → Bool} {tr : Nat → Int32} {post : Int32 → SY → Prop} (hm : m ≤ 8) (hp : zz_cnt p 256 = 2 ^ m) (hT : ∀ j, j < 256 → (¬ tr j = 0 ↔ p j = true)) (H : post (nI m) (fn, fh, fs, fa, aS, aV, od, tr)) : ∃ k, wY_rank_60 post fn fh fs fa aS aV od tr k 0 0 := by
  have key : ∀ (d k : Nat), k + d = 256 → wY_rank_60 post fn fh fs fa aS aV od tr (d + 1) (nI (zz_cnt p k)) (nI k) := by
    intro d
    induction d with
    | zero =>
      intro k hk
      have : k = 256 := by omega
      subst this
      rw [hp]
      exact br_t (by decide) (zz_rank87 hm H)
    | succ d ih =>
      intro k hk
      have hi : vp_in (nI k) 256 := vp_in_nI (by omega) (by decide)
      have h1 := ih (k + 1) (by omega)
      refine br_f (nI_ge (b := 256) (by omega) (by decide)) ⟨hi, ?_⟩
      rw [nI_clamp (by omega)]
      by_cases e : tr k = 0
      · have e2 : ¬ p k = true := fun z => (hT k (by omega)).mpr z e
        rw [show zz_cnt p (k + 1) = zz_cnt p k + 0 from congrArg (zz_cnt p k + ·) (if_neg e2), Nat.add_zero] at h1
        exact br_t e (nm_r (nI_1 k) h1)
      · have e2 : p k = true := (hT k (by omega)).mp e
        rw [show zz_cnt p (k + 1) = zz_cnt p k + 1 from congrArg (zz_cnt p k + ·) (if_pos e2)] at h1
        exact br_f e (nm_r (nI_1 _) (nm_r (nI_1 k) h1))
  exact ⟨257, key 256 0 rfl⟩
end
theorem zz_nm1 {i : Nat} (h : i < 2 ^ 31) : ¬ nI i = -1 := by
  intro e
  have := nI_pos h
  rw [e] at this
  exact this (by decide)
theorem zz_rankY {n c m : Nat} {aS aV od tr : Nat → Int32} {S V : Nat → Nat} {fs fa : Int32} {post : Int32 → SY → Prop} (F : zz_F n c aS aV S V) (hm : m ≤ 8) (hN : zz_num S (fun i => ¬ nI i = -1) c = 2 ^ m) (H : ∀ tr', post (nI m) (nI n, nI c, fs, fa, aS, aV, od, tr')) : wpY_rank post (nI n, nI c, fs, fa, aS, aV, od, tr) := by
  obtain ⟨hn1, hn, hc, hF⟩ := F
  have h256 := zz_p8 hn
  have k34 : ∀ (d i : Nat) (tr : Nat → Int32), i + d = c → (∀ j, j < 256 → (¬ tr j = 0 ↔ zz_spn S (fun i => ¬ nI i = -1) i j)) → wY_rank_34 post 0 (d + 1) (nI i) (nI n) (nI c) fs fa aS aV od tr := by
    intro d
    induction d with
    | zero =>
      intro i tr hi hT
      have : i = c := by omega
      subst this
      exact br_t (nI_le (Nat.le_refl i) (by omega)) (zz_rank60 (p := fun x => zz_b (zz_spn S (fun i => ¬ nI i = -1) i x)) hm hN (fun j hj => (hT j hj).trans zz_b_i.symm) (H tr))
    | succ d ih =>
      intro i tr hi hT
      have hin : vp_in (nI i) 16 := vp_in_nI (by omega) (by decide)
      obtain ⟨f1, f2, f3, f4⟩ := hF i (by omega)
      refine br_f (nI_ge (by omega) (by omega)) ⟨hin, ?_⟩
      rw [nI_clamp (by omega), f1]
      refine zz_spread (by omega) hT fun tr' hT' => ?_
      refine nm_r (nI_1 i) (ih (i + 1) tr' (by omega) fun j hj => ?_)
      rw [hT' j hj]
      exact (zz_spn_s (K := fun i => ¬ nI i = -1) (zz_nm1 (by omega))).symm
  have k4 : ∀ (d k : Nat) (tr : Nat → Int32), k + d = 256 → (∀ j, j < k → (¬ tr j = 0 ↔ j = 0)) → wY_rank_4 post 0 (nI n) (nI c) fs fa (d + 1) (nI k) aS aV od tr := by
    intro d
    induction d with
    | zero =>
      intro k tr hk h
      have : k = 256 := by omega
      subst this
      exact br_t (by decide) (Exists.intro (c + 1) (k34 c 0 tr (by omega) fun j hj => (h j hj).trans (zz_spn_0 hj).symm))
    | succ d ih =>
      intro k tr hk h
      have hi : vp_in (nI k) 256 := vp_in_nI (by omega) (by decide)
      refine br_f (nI_ge (b := 256) (by omega) (by decide)) ?_
      rw [nI_clamp (by omega)]
      by_cases e : k = 0
      · subst e
        refine br_t rfl ⟨hi, nm_e (nm_r (nI_1 0) (ih 1 _ (by omega) fun j hj => ?_))⟩
        have : j = 0 := by omega
        subst this
        rw [pk_us]
        exact ⟨fun _ => rfl, fun _ => zz_1n0⟩
      · refine br_f (nI_ne0 (by omega) (by omega)) ⟨hi, nm_e (nm_r (nI_1 k) (ih (k + 1) _ (by omega) fun j hj => ?_))⟩
        rcases Nat.lt_or_ge j k with z | z
        · rw [pk_un (by omega)]
          exact h j z
        · have : j = k := by omega
          subst this
          rw [pk_us]
          exact ⟨fun z => absurd rfl z, fun z => absurd z e⟩
  exact Exists.intro 257 (k4 256 0 tr rfl fun j hj => absurd hj (Nat.not_lt_zero j))
end
section
/-! ===== the set of a number ===== -/
def zz_dx (r : Nat) : Nat := r * 7919 + 104729
def zz_sz (r : Nat) : Nat := 1 + zz_dx r / 7 % 3
def zz_rt (n r : Nat) : Nat → Nat
  | 0 => zz_dx r
  | k + 1 => zz_rt n r k / n
def zz_sj (n r : Nat) : Nat → Nat
  | 0 => 0
  | k + 1 => zz_sj n r k ^^^ 2 ^ (zz_rt n r k % n)
def zz_dr (n r : Nat) : Nat := if zz_sj n r (zz_sz r) = 0 then 1 else zz_sj n r (zz_sz r)
theorem zz_rt_le (n r : Nat) : ∀ k, zz_rt n r k ≤ zz_dx r := by
  intro k
  induction k with
  | zero => exact Nat.le_refl _
  | succ k ih => exact Nat.le_trans (Nat.div_le_self _ _) ih
theorem zz_sj_lt {n : Nat} (h1 : 1 ≤ n) (r : Nat) : ∀ k, zz_sj n r k < 2 ^ n := by
  intro k
  induction k with
  | zero => exact Nat.two_pow_pos n
  | succ k ih => exact Nat.xor_lt_two_pow ih (Nat.pow_lt_pow_right (by decide) (Nat.mod_lt _ h1))
theorem zz_dr_lt {n : Nat} (h1 : 1 ≤ n) (r : Nat) : zz_dr n r < 2 ^ n := by
  unfold zz_dr
  split
  · exact Nat.one_lt_two_pow (by omega)
  · exact zz_sj_lt h1 r _
theorem zz_e1 (r : Nat) : nI r * 7919 + 104729 = nI (zz_dx r) := by
  show nI r * nI 7919 + nI 104729 = _
  rw [pk_mul, nI_add]
  rfl
theorem zz_e2 {r : Nat} (hr : r < 10000) : 1 + ((nI (zz_dx r) / 7) - (nI (zz_dx r) / 7) / 3 * 3) = nI (zz_sz r) := by
  have hx : zz_dx r < 2 ^ 31 := by
    unfold zz_dx
    omega
  have h7 : zz_dx r / 7 ≤ zz_dx r := Nat.div_le_self _ _
  have e1 : nI (zz_dx r) / 7 = nI (zz_dx r / 7) := pk_div (d := 7) hx (by decide) (by decide)
  have e2 : nI (zz_dx r / 7) - nI (zz_dx r / 7) / 3 * 3 = nI (zz_dx r / 7 % 3) := pk_rem (d := 3) (by omega) (by decide) (by decide)
  rw [e1, e2]
  exact nI_add 1 _
theorem zz_e3 {n a : Nat} (h1 : 1 ≤ n) (hn : n ≤ 8) (ha : a < 2 ^ 31) : (1 : Int32) <<< ((nI a - nI a / nI n * nI n) &&& 31) = nI (2 ^ (a % n)) := by
  have hl : a % n < n := Nat.mod_lt _ h1
  rw [pk_rem ha h1 (by omega), zz_sh (a % n) (by omega)]
theorem zz_drawn {n r : Nat} {fc fr fs le lw : Int32} {aS aV aR aW : Nat → Int32} {post : Int32 → Prop} (h1 : 1 ≤ n) (hn : n ≤ 8) (hr : r < 10000) (hp : post (nI (zz_dr n r))) : wpX_drawn post (nI n, fc, fr, fs, le, lw, aS, aV, aR, aW) (nI r) := by
  have hx : zz_dx r < 2 ^ 31 := by
    unfold zz_dx
    omega
  have hz : zz_sz r ≤ 3 := by
    have : zz_dx r / 7 % 3 < 3 := Nat.mod_lt _ (by decide)
    unfold zz_sz
    omega
  have h256 := zz_p8 hn
  have key : ∀ d k, k + d = zz_sz r → wX_drawn_44 post (nI (zz_sz r)) (nI n) (nI n) fc fr fs le lw aS aV aR aW (d + 1) (nI (zz_sj n r k)) (nI (zz_rt n r k)) (nI k) := by
    intro d
    induction d with
    | zero =>
      intro k hk
      have : k = zz_sz r := by omega
      subst this
      have hl := zz_sj_lt h1 r (zz_sz r)
      unfold zz_dr at hp
      refine br_t (nI_le (Nat.le_refl _) (by omega)) ?_
      by_cases e : zz_sj n r (zz_sz r) = 0
      · rw [if_pos e] at hp
        exact br_t (by rw [e]; rfl) hp
      · rw [if_neg e] at hp
        exact br_f (nI_ne0 (by omega) (by omega)) hp
    | succ d ih =>
      intro k hk
      have hk' := zz_rt_le n r k
      have hz0 : ¬ nI n = 0 := nI_ne0 (by omega) (by omega)
      refine br_f (nI_ge (by omega) (by omega)) ⟨hz0, nm_r (e' := nI (zz_sj n r (k + 1))) ?_ ⟨hz0, nm_r (e' := nI (zz_rt n r (k + 1))) ?_ (nm_r (nI_1 k) (ih (k + 1) (by omega)))⟩⟩
      · rw [zz_e3 h1 hn (by omega), nx_xor]
        rfl
      · exact pk_div (by omega) (by omega) (by omega)
  refine nm_r (zz_e1 r) ⟨by decide, by decide, nm_r (zz_e2 hr) (br_f (nI_nle (by omega) (by omega)) (Exists.intro (zz_sz r + 1) (key (zz_sz r) 0 (by omega))))⟩
section
variable {fh fs fa : Int32} {aS aV od tr : Nat → Int32} {post : Int32 → Prop}
theorem zz_y92 {s : Nat} {fn : Int32} (hs : s < 2 ^ 31) (hp : post (nI (if s = 0 then 1 else s))) : wY_setOf_92 post (nI s) fn fh fs fa aS aV od tr := by
  unfold wY_setOf_92
  by_cases e : s = 0
  · rw [if_pos e] at hp
    exact br_t (by rw [e]; rfl) hp
  · rw [if_neg e] at hp
    exact br_f (nI_ne0 (by omega) hs) hp
theorem zz_setOfY {n r : Nat} (h1 : 1 ≤ n) (hn : n ≤ 8) (hr : r < 10000) (hp : post (nI (zz_dr n r))) : wpY_setOf post (nI n, fh, fs, fa, aS, aV, od, tr) (nI r) := by
  have hx : zz_dx r < 2 ^ 31 := by
    unfold zz_dx
    omega
  have hz : zz_sz r = 1 ∨ zz_sz r = 2 ∨ zz_sz r = 3 := by
    have : zz_dx r / 7 % 3 < 3 := Nat.mod_lt _ (by decide)
    unfold zz_sz
    omega
  have h256 := zz_p8 hn
  have hz0 : ¬ nI n = 0 := nI_ne0 (by omega) (by omega)
  have s1 : 2 ^ (zz_dx r % n) = zz_sj n r 1 := by
    show _ = 0 ^^^ 2 ^ (zz_dx r % n)
    rw [Nat.zero_xor]
  have l1 := zz_sj_lt h1 r 1
  have l2 := zz_sj_lt h1 r 2
  have l3 := zz_sj_lt h1 r 3
  have q1 := zz_rt_le n r 1
  have q2 := zz_rt_le n r 2
  unfold zz_dr at hp
  refine br_f (nI_pos (by omega)) (br_t (nI_le (b := 9999) (by omega) (by decide)) (nm_r (zz_e1 r) ⟨by decide, by decide, nm_r (zz_e2 hr) ⟨hz0, nm_r (e' := nI (zz_sj n r 1)) (by rw [zz_e3 h1 hn hx, s1]) ?_⟩⟩))
  have s2 : nI (zz_sj n r 1) ^^^ ((1 : Int32) <<< (((nI (zz_dx r) / nI n) - (nI (zz_dx r) / nI n) / nI n * nI n) &&& 31)) = nI (zz_sj n r 2) := by
    rw [pk_div hx (by omega) (by omega)]
    have := zz_e3 (a := zz_dx r / n) h1 hn (Nat.lt_of_le_of_lt q1 hx)
    rw [this, nx_xor]
    rfl
  have s3 : nI (zz_sj n r 2) ^^^ ((1 : Int32) <<< (((nI (zz_dx r) / (nI n * nI n)) - (nI (zz_dx r) / (nI n * nI n)) / nI n * nI n) &&& 31)) = nI (zz_sj n r 3) := by
    have hnn : n * n ≤ 64 := Nat.mul_le_mul hn hn
    have hnp : 0 < n * n := Nat.mul_pos h1 h1
    rw [pk_mul, pk_div hx hnp (by omega), ← Nat.div_div_eq_div_mul]
    have := zz_e3 (a := zz_dx r / n / n) h1 hn (Nat.lt_of_le_of_lt q2 hx)
    rw [this, nx_xor]
    rfl
  rcases hz with hz | hz | hz
  · rw [hz] at hp ⊢
    exact br_t (by decide) (br_t (by decide) (zz_y92 (by omega) hp))
  · rw [hz] at hp ⊢
    exact br_f (by decide) ⟨hz0, hz0, nm_r s2 (br_t (by decide) (zz_y92 (by omega) hp))⟩
  · rw [hz] at hp ⊢
    have hnn : n * n ≤ 64 := Nat.mul_le_mul hn hn
    have hnp : 0 < n * n := Nat.mul_pos h1 h1
    exact br_f (by decide) ⟨hz0, hz0, nm_r s2 (br_f (by decide) ⟨by rw [pk_mul]; exact nI_ne0 hnp (by omega), hz0, nm_r s3 (zz_y92 (by omega) hp)⟩)⟩
end
end
section
/-! ===== peeling ===== -/
def zz_op (S : Nat → Nat) (e i : Nat) : Nat := S i ^^^ (S i &&& e)
def zz_pl (S : Nat → Nat) (d : Nat) : Nat → Nat
  | 0 => d
  | i + 1 => if zz_op S (zz_pl S d i) i = 0 ∨ zz_op S (zz_pl S d i) i = 2 ^ (zz_op S (zz_pl S d i) i).log2 then zz_pl S d i ||| zz_op S (zz_pl S d i) i else zz_pl S d i
def zz_it (S : Nat → Nat) (c d : Nat) : Nat → Nat
  | 0 => d
  | k + 1 => zz_pl S (zz_it S c d k) c
section
variable {n c : Nat} {S : Nat → Nat} {d : Nat}
theorem zz_op_lt {e i : Nat} (hS : S i < 2 ^ n) : zz_op S e i < 2 ^ n := Nat.xor_lt_two_pow hS (Nat.lt_of_le_of_lt Nat.and_le_left hS)
theorem zz_pl_lt (hS : ∀ i, i < c → S i < 2 ^ n) (hd : d < 2 ^ n) : ∀ i, i ≤ c → zz_pl S d i < 2 ^ n := by
  intro i
  induction i with
  | zero => exact fun _ => hd
  | succ i ih =>
    intro hi
    have h := ih (by omega)
    show (if _ then _ else _) < 2 ^ n
    split
    · exact Nat.or_lt_two_pow h (zz_op_lt (hS i (by omega)))
    · exact h
theorem zz_pl_up {b : Nat} (h : d.testBit b = true) : ∀ i, (zz_pl S d i).testBit b = true := by
  intro i
  induction i with
  | zero => exact h
  | succ i ih =>
    show (if _ then _ else _ : Nat).testBit b = true
    split
    · rw [Nat.testBit_or, ih, Bool.true_or]
    · exact ih
theorem zz_it_lt (hS : ∀ i, i < c → S i < 2 ^ n) (hd : d < 2 ^ n) : ∀ k, zz_it S c d k < 2 ^ n := by
  intro k
  induction k with
  | zero => exact hd
  | succ k ih => exact zz_pl_lt hS ih c (Nat.le_refl c)
theorem zz_it_st {k : Nat} (h : zz_it S c d (k + 1) = zz_it S c d k) : ∀ j, zz_it S c d (k + j) = zz_it S c d k := by
  intro j
  induction j with
  | zero => rfl
  | succ j ih =>
    show zz_pl S (zz_it S c d (k + j)) c = _
    rw [ih]
    exact h
theorem zz_it_fix (hS : ∀ i, i < c → S i < 2 ^ n) (hd : d < 2 ^ n) : zz_it S c d (n + 1) = zz_it S c d n := by
  have key : ∀ j, zz_it S c d (j + 1) = zz_it S c d j ∨ j < zz_cnt (fun b => (zz_it S c d (j + 1)).testBit b) n := by
    intro j
    have step : zz_it S c d (j + 1) = zz_it S c d j ∨ zz_cnt (fun b => (zz_it S c d j).testBit b) n < zz_cnt (fun b => (zz_it S c d (j + 1)).testBit b) n := by
      by_cases e : zz_it S c d (j + 1) = zz_it S c d j
      · exact Or.inl e
      · refine Or.inr ((zz_cnt_mono n fun b _ hb => ?_).2 ?_)
        · exact zz_pl_up hb c
        · apply Classical.byContradiction
          intro q
          apply e
          refine zz_bit_eq (zz_it_lt hS hd (j + 1)) (zz_it_lt hS hd j) fun b hb => ⟨fun h => ?_, fun h => zz_pl_up h c⟩
          cases e2 : (zz_it S c d j).testBit b
          · exact (q ⟨b, hb, e2, h⟩).elim
          · rfl
    induction j with
    | zero =>
      rcases step with h | h
      · exact Or.inl h
      · exact Or.inr (by omega)
    | succ j ih =>
      rcases step with h | h
      · exact Or.inl h
      · have stepj : zz_it S c d (j + 1) = zz_it S c d j ∨ zz_cnt (fun b => (zz_it S c d j).testBit b) n < zz_cnt (fun b => (zz_it S c d (j + 1)).testBit b) n := by
          by_cases e : zz_it S c d (j + 1) = zz_it S c d j
          · exact Or.inl e
          · refine Or.inr ((zz_cnt_mono n fun b _ hb => ?_).2 ?_)
            · exact zz_pl_up hb c
            · apply Classical.byContradiction
              intro q
              apply e
              refine zz_bit_eq (zz_it_lt hS hd (j + 1)) (zz_it_lt hS hd j) fun b hb => ⟨fun h => ?_, fun h => zz_pl_up h c⟩
              cases e2 : (zz_it S c d j).testBit b
              · exact (q ⟨b, hb, e2, h⟩).elim
              · rfl
        rcases ih stepj with h2 | h2
        · refine Or.inl ?_
          show zz_pl S (zz_it S c d (j + 1)) c = zz_it S c d (j + 1)
          rw [h2]
          exact h2
        · exact Or.inr (by omega)
  rcases key n with h | h
  · exact h
  · have := zz_cnt_le (fun b => (zz_it S c d (n + 1)).testBit b) n
    omega
end
/-- the peeled blocks from d on -/
def zz_pe (n : Nat) (S : Nat → Nat) (c d : Nat) : Nat := zz_it S c d n
theorem zz_pe_lt {n c d : Nat} {S : Nat → Nat} (hS : ∀ i, i < c → S i < 2 ^ n) (hd : d < 2 ^ n) : zz_pe n S c d < 2 ^ n := zz_it_lt hS hd n
section
variable {n c : Nat} {aS aV : Nat → Int32} {S V : Nat → Nat} {post : Int32 → Prop}
theorem zz_pl_t {d i : Nat} (h : zz_op S (zz_pl S d i) i = 0 ∨ zz_op S (zz_pl S d i) i = 2 ^ (zz_op S (zz_pl S d i) i).log2) : zz_pl S d (i + 1) = zz_pl S d i ||| zz_op S (zz_pl S d i) i := if_pos h
theorem zz_pl_f {d i : Nat} (h : ¬ (zz_op S (zz_pl S d i) i = 0 ∨ zz_op S (zz_pl S d i) i = 2 ^ (zz_op S (zz_pl S d i) i).log2)) : zz_pl S d (i + 1) = zz_pl S d i := if_neg h
theorem zz_peel18 {J : Int32 → Int32 → Prop} {d j bf : Nat} {fr fs le lw : Int32} {aR aW : Nat → Int32} (F : zz_F n c aS aV S V) (hd : d < 2 ^ n) (hb : bf < 2 ^ n) (h1 : bf = zz_pl S d c → post (nI (zz_pl S d c))) (h2 : bf ≠ zz_pl S d c → J (nI (zz_pl S d c)) (nI (j + 1))) : ∃ k, wX_peelFrom_18 post J (nI j) (nI bf) (nI n) (nI c) fr fs le lw aS aV aR aW k (nI d) 0 := by
  obtain ⟨hn1, hn, hc, hF⟩ := F
  have h256 := zz_p8 hn
  have hS : ∀ i, i < c → S i < 2 ^ n := fun i hi => (hF i hi).2.1
  have key : ∀ e i, i + e = c → wX_peelFrom_18 post J (nI j) (nI bf) (nI n) (nI c) fr fs le lw aS aV aR aW (e + 1) (nI (zz_pl S d i)) (nI i) := by
    intro e
    induction e with
    | zero =>
      intro i hi
      have : i = c := by omega
      subst this
      have hl := zz_pl_lt hS hd i (Nat.le_refl i)
      refine br_t (nI_le (Nat.le_refl i) (by omega)) (br_c (fun z => h1 ((nI_eq (by omega) (by omega)).mp z)) (fun z => nm_r (nI_1 j) (h2 fun y => z (congrArg nI y))))
    | succ e ih =>
      intro i hi
      have hin : vp_in (nI i) 16 := vp_in_nI (by omega) (by decide)
      obtain ⟨f1, f2, f3, f4⟩ := hF i (by omega)
      have ho := zz_op_lt (e := zz_pl S d i) f2
      have h3 := ih (i + 1) (by omega)
      refine br_f (nI_ge (by omega) (by omega)) ⟨hin, nm_r (e' := nI (zz_op S (zz_pl S d i) i)) ?_ ?_⟩
      · rw [nI_clamp (by omega), f1, zz_andn]
        rfl
      · by_cases q : zz_op S (zz_pl S d i) i = 0 ∨ zz_op S (zz_pl S d i) i = 2 ^ (zz_op S (zz_pl S d i) i).log2
        · rw [zz_pl_t q] at h3
          exact br_t ((zz_pow _ (by omega)).mpr q) (nm_r (zz_or _ _) (nm_r (nI_1 i) h3))
        · rw [zz_pl_f q] at h3
          exact br_f (fun z => q ((zz_pow _ (by omega)).mp z)) (nm_r (nI_1 i) h3)
  exact ⟨c + 1, key c 0 (by omega)⟩
theorem zz_peelX {d : Nat} {fr fs le lw : Int32} {aR aW : Nat → Int32} (F : zz_F n c aS aV S V) (hd : d < 2 ^ n) (hp : post (nI (zz_pe n S c d))) : wpX_peelFrom post (nI n, nI c, fr, fs, le, lw, aS, aV, aR, aW) (nI d) := by
  have hn := F.2.1
  have hS : ∀ i, i < c → S i < 2 ^ n := fun i hi => (F.2.2.2 i hi).2.1
  have hfx := zz_it_fix hS hd
  have key : ∀ e j, j + e = n + 1 → wX_peelFrom_4 post (nI n) (nI c) fr fs le lw aS aV aR aW (e + 1) (nI (zz_it S c d j)) (nI j) := by
    intro e
    induction e with
    | zero =>
      intro j hj
      have : j = n + 1 := by omega
      subst this
      rw [hfx]
      exact br_t (nI_lt (by omega) (by omega)) hp
    | succ e ih =>
      intro j hj
      refine br_f (nI_nlt (by omega) (by omega)) (zz_peel18 F (zz_it_lt hS hd j) (zz_it_lt hS hd j) (fun q => ?_) (fun q => ih (j + 1) (by omega)))
      have h1 := zz_it_st (S := S) (c := c) (d := d) (k := j) q.symm (n - j)
      rw [show j + (n - j) = n from by omega] at h1
      rw [← q, ← h1]
      exact hp
  exact Exists.intro (n + 2) (key (n + 1) 0 (by omega))
theorem zz_peel15 {J : Int32 → Int32 → Prop} {d j : Nat} {fs fa : Int32} {od tr : Nat → Int32} (F : zz_F n c aS aV S V) (hd : d < 2 ^ n) (h2 : J (nI (zz_pl S d c)) (nI (j + 1))) : ∃ k, wY_peelFrom_15 post J (nI j) (nI n) (nI c) fs fa aS aV od tr k (nI d) 0 := by
  obtain ⟨hn1, hn, hc, hF⟩ := F
  have h256 := zz_p8 hn
  have hS : ∀ i, i < c → S i < 2 ^ n := fun i hi => (hF i hi).2.1
  have key : ∀ e i, i + e = c → wY_peelFrom_15 post J (nI j) (nI n) (nI c) fs fa aS aV od tr (e + 1) (nI (zz_pl S d i)) (nI i) := by
    intro e
    induction e with
    | zero =>
      intro i hi
      have : i = c := by omega
      subst this
      exact br_t (nI_le (Nat.le_refl i) (by omega)) (nm_r (nI_1 j) h2)
    | succ e ih =>
      intro i hi
      have hin : vp_in (nI i) 16 := vp_in_nI (by omega) (by decide)
      obtain ⟨f1, f2, f3, f4⟩ := hF i (by omega)
      have ho := zz_op_lt (e := zz_pl S d i) f2
      have h3 := ih (i + 1) (by omega)
      refine br_f (nI_ge (by omega) (by omega)) ⟨hin, nm_r (e' := nI (zz_op S (zz_pl S d i) i)) ?_ ?_⟩
      · rw [nI_clamp (by omega), f1, zz_andn]
        rfl
      · by_cases q0 : zz_op S (zz_pl S d i) i = 0
        · rw [zz_pl_t (Or.inl q0), q0, Nat.or_zero] at h3
          exact br_t (by rw [q0]; rfl) (br_t rfl (nm_r (nI_1 i) h3))
        · refine br_f (nI_ne0 (by omega) (by omega)) ?_
          by_cases q : zz_op S (zz_pl S d i) i = 2 ^ (zz_op S (zz_pl S d i) i).log2
          · rw [zz_pl_t (Or.inr q)] at h3
            exact br_t (zz_pow_t (by omega) q) (br_f (by decide) (nm_r (zz_or _ _) (nm_r (nI_1 i) h3)))
          · rw [zz_pl_f (fun z => z.elim q0 q)] at h3
            exact br_f (zz_pow_f (by omega) q0 q) (br_t rfl (nm_r (nI_1 i) h3))
  exact ⟨c + 1, key c 0 (by omega)⟩
theorem zz_peelY {d : Nat} {fs fa : Int32} {od tr : Nat → Int32} (F : zz_F n c aS aV S V) (hd : d < 2 ^ n) (hp : post (nI (zz_pe n S c d))) : wpY_peelFrom post (nI n, nI c, fs, fa, aS, aV, od, tr) (nI d) := by
  have hn := F.2.1
  have hS : ∀ i, i < c → S i < 2 ^ n := fun i hi => (F.2.2.2 i hi).2.1
  have key : ∀ e j, j + e = n → wY_peelFrom_4 post (nI n) (nI c) fs fa aS aV od tr (e + 1) (nI (zz_it S c d j)) (nI j) := by
    intro e
    induction e with
    | zero =>
      intro j hj
      have : j = n := by omega
      subst this
      exact br_t (nI_le (Nat.le_refl j) (by omega)) hp
    | succ e ih =>
      intro j hj
      exact br_f (nI_ge (by omega) (by omega)) (zz_peel15 F (zz_it_lt hS hd j) (ih (j + 1) (by omega)))
  exact Exists.intro (n + 1) (key n 0 (by omega))
/-! ===== seeds ===== -/
theorem zz_badN {x : Nat} {fs fa fh : Int32} {od tr : Nat → Int32} (hn : n ≤ 8) (hx : x < 2 ^ n) (hp : post 0) : wpY_badSet post (nI n, fh, fs, fa, aS, aV, od, tr) (nI x) := by
  have h256 := zz_p8 hn
  exact br_f (nI_pos (by omega)) (br_t (by rw [zz_sh n (by omega)]; exact nI_lt hx (by omega)) hp)
theorem zz_seedY1 {x : Nat} {fs fa : Int32} {od tr : Nat → Int32} (F : zz_F n c aS aV S V) (hx : x < 2 ^ n) (h1 : zz_pe n S c x = 2 ^ n - 1 → post 1) (h0 : ¬ zz_pe n S c x = 2 ^ n - 1 → post 0) : wpY_isSeed post (nI n, nI c, fs, fa, aS, aV, od, tr) (nI x) := by
  have hn := F.2.1
  have h256 := zz_p8 hn
  have hpe := zz_pe_lt (fun i hi => (F.2.2.2 i hi).2.1) hx
  unfold wpY_isSeed
  dsimp only
  refine zz_badN hn hx (br_t rfl (zz_peelY F hx ?_))
  rw [zz_all n (by omega)]
  exact br_c (fun z => h1 ((nI_eq (by omega) (by omega)).mp z)) (fun z => h0 fun y => z (congrArg nI y))
/-- the best seed among the sets below k -/
def zz_sd (n : Nat) (S : Nat → Nat) (c : Nat) : Nat → Nat
  | 0 => 2 ^ n - 1
  | k + 1 => if zz_ms k 8 < zz_ms (zz_sd n S c k) 8 ∧ zz_pe n S c k = 2 ^ n - 1 then k else zz_sd n S c k
theorem zz_sd_t {k : Nat} (h1 : zz_ms k 8 < zz_ms (zz_sd n S c k) 8) (h2 : zz_pe n S c k = 2 ^ n - 1) : zz_sd n S c (k + 1) = k := if_pos ⟨h1, h2⟩
theorem zz_sd_f {k : Nat} (h : ¬ (zz_ms k 8 < zz_ms (zz_sd n S c k) 8 ∧ zz_pe n S c k = 2 ^ n - 1)) : zz_sd n S c (k + 1) = zz_sd n S c k := if_neg h
theorem zz_sd_lt : ∀ k, k ≤ 2 ^ n → zz_sd n S c k < 2 ^ n := by
  intro k
  have hp := Nat.two_pow_pos n
  induction k with
  | zero =>
    intro _
    show 2 ^ n - 1 < 2 ^ n
    omega
  | succ k ih =>
    intro hk
    show (if _ then _ else _ : Nat) < 2 ^ n
    split
    · omega
    · exact ih (by omega)
theorem zz_ms_all : ∀ n, n < 9 → zz_ms (2 ^ n - 1) 8 = n := by decide +kernel
theorem zz_sd_ms (hn : n ≤ 8) : ∀ k, zz_ms (zz_sd n S c k) 8 ≤ n := by
  intro k
  induction k with
  | zero => exact Nat.le_of_eq (zz_ms_all n (by omega))
  | succ k ih =>
    by_cases e : zz_ms k 8 < zz_ms (zz_sd n S c k) 8 ∧ zz_pe n S c k = 2 ^ n - 1
    · rw [zz_sd_t e.1 e.2]
      omega
    · rw [zz_sd_f e]
      exact ih
theorem zz_sd_end (hn : n ≤ 8) : zz_sd n S c (2 ^ n) = zz_sd n S c (2 ^ n - 1) := by
  have hp := Nat.two_pow_pos n
  have e : 2 ^ n = (2 ^ n - 1) + 1 := by omega
  have h := zz_sd_ms (S := S) (c := c) hn (2 ^ n - 1)
  have h2 := zz_ms_all n (by omega)
  have h3 := zz_sd_f (n := n) (S := S) (c := c) (k := 2 ^ n - 1) (fun q => by omega)
  rw [← e] at h3
  exact h3
theorem zz_seedX {fr fs le lw : Int32} {aR aW : Nat → Int32} (F : zz_F n c aS aV S V) (hp : post (nI (zz_sd n S c (2 ^ n)))) : wpX_seed post (nI n, nI c, fr, fs, le, lw, aS, aV, aR, aW) := by
  have hn := F.2.1
  have h256 := zz_p8 hn
  have h0 := Nat.two_pow_pos n
  rw [zz_sd_end hn] at hp
  have key : ∀ e k, k + e = 2 ^ n - 1 → wX_seed_13 post (nI (2 ^ n - 1)) (nI n) (nI c) fr fs le lw aS aV aR aW (e + 1) (nI (zz_sd n S c k)) (nI k) := by
    intro e
    induction e with
    | zero =>
      intro k hk
      have : k = 2 ^ n - 1 := by omega
      subst this
      exact br_t (nI_le (Nat.le_refl _) (by omega)) hp
    | succ e ih =>
      intro k hk
      have hs := zz_sd_lt (n := n) (S := S) (c := c) k (by omega)
      have m1 := zz_ms_le k 8
      have m2 := zz_ms_le (zz_sd n S c k) 8
      have h3 := ih (k + 1) (by omega)
      have hpe := zz_pe_lt (d := k) (fun i hi => (F.2.2.2 i hi).2.1) (by omega)
      refine br_f (nI_ge (by omega) (by omega)) (zz_ones (by omega) (zz_ones (by omega) ?_))
      by_cases q : zz_ms k 8 < zz_ms (zz_sd n S c k) 8
      · refine br_f (nI_ge q (by omega)) (zz_peelX F (by omega) ?_)
        by_cases q2 : zz_pe n S c k = 2 ^ n - 1
        · rw [zz_sd_t q q2] at h3
          exact br_t (congrArg nI q2) (nm_r (nI_1 k) h3)
        · rw [zz_sd_f (fun z => q2 z.2)] at h3
          exact br_f (fun z => q2 ((nI_eq (by omega) (by omega)).mp z)) (nm_r (nI_1 k) h3)
      · rw [zz_sd_f (fun z => q z.1)] at h3
        exact br_t (nI_le (by omega) (by omega)) (nm_r (nI_1 k) h3)
  exact nm_r (zz_all n (by omega)) (Exists.intro (2 ^ n - 1 + 1) (key (2 ^ n - 1) 0 (by omega)))
theorem zz_seedY {fs fa : Int32} {od tr : Nat → Int32} (F : zz_F n c aS aV S V) (hp : post (nI (zz_sd n S c (2 ^ n)))) : wpY_seed post (nI n, nI c, fs, fa, aS, aV, od, tr) := by
  have hn := F.2.1
  have h256 := zz_p8 hn
  have h0 := Nat.two_pow_pos n
  have hsh := zz_sh n (by omega)
  have key : ∀ e k, k + e = 2 ^ n → wY_seed_16 post (nI n) (nI c) fs fa aS aV od tr (e + 1) (nI (zz_sd n S c k)) (nI (zz_ms (zz_sd n S c k) 8)) (nI k) := by
    intro e
    induction e with
    | zero =>
      intro k hk
      have : k = 2 ^ n := by omega
      subst this
      exact br_t (by rw [hsh]; exact nI_le (Nat.le_refl _) (by omega)) hp
    | succ e ih =>
      intro k hk
      have m1 := zz_ms_le k 8
      have m2 := zz_ms_le (zz_sd n S c k) 8
      have h3 := ih (k + 1) (by omega)
      refine br_f (by rw [hsh]; exact nI_ge (by omega) (by omega)) (zz_members (by omega) ?_)
      by_cases q : zz_ms k 8 < zz_ms (zz_sd n S c k) 8
      · refine br_f (nI_ge q (by omega)) (zz_seedY1 F (by omega) (fun q2 => ?_) (fun q2 => ?_))
        · rw [zz_sd_t q q2] at h3
          exact br_t rfl (nm_r (nI_1 k) h3)
        · rw [zz_sd_f (fun z => q2 z.2)] at h3
          exact br_f (by decide) (nm_r (nI_1 k) h3)
      · rw [zz_sd_f (fun z => q z.1)] at h3
        exact br_t (nI_le (by omega) (by omega)) (nm_r (nI_1 k) h3)
  have h4 := key (2 ^ n) 0 (by omega)
  rw [show zz_sd n S c 0 = 2 ^ n - 1 from rfl, zz_ms_all n (by omega)] at h4
  exact nm_r (zz_all n (by omega)) (Exists.intro (2 ^ n + 1) h4)
end
end
section
/-! ===== helps, useful ===== -/
section
variable {n c : Nat} {aS aV od : Nat → Int32} {S V : Nat → Nat}
theorem zz_helpsY {post : Int32 → Prop} {x nw : Nat} {fs fa : Int32} {tr : Nat → Int32} (F : zz_F n c aS aV S V) (O : zz_od od) (hx : x < 2 ^ n) (hw : zz_kn n (zz_sol S V (fun i => ¬ nI i = -1) c) nw) (hs : ∀ β, β < 8 → ∃ a, a < 2 ^ n ∧ zz_sol S V (fun i => ¬ nI i = -1) c β a) (h1 : zz_hp n (zz_sol S V (fun i => ¬ nI i = -1) c 0) x nw → post 1) (h0 : ¬ zz_hp n (zz_sol S V (fun i => ¬ nI i = -1) c 0) x nw → post 0) : wpY_helps post (nI n, nI c, fs, fa, aS, aV, od, tr) (nI x) (nI nw) := by
  have hn := F.2.1
  have h256 := zz_p8 hn
  have hsh := zz_sh n (by omega)
  have hall := zz_all n (by omega)
  have h0n := Nat.two_pow_pos n
  -- the bits that solve and make the sum even
  have hq : ∃ q : Nat → Bool, ∀ a, q a = true ↔ (zz_sol S V (fun i => ¬ nI i = -1) c 0 a ∧ zz_dot a x = false) := ⟨fun a => zz_b (zz_sol S V (fun i => ¬ nI i = -1) c 0 a ∧ zz_dot a x = false), fun a => zz_b_i⟩
  obtain ⟨q, hq⟩ := hq
  have key : ∀ d a, a + d = 2 ^ n → wY_helps_18 post (nI x) (nI nw) (nI n) (nI c) fs fa aS aV od tr (d + 1) (nI (zz_so q a)) (nI (zz_al q n a)) (zz_01 (zz_an q a)) (nI a) := by
    intro d
    induction d with
    | zero =>
      intro a ha
      have : a = 2 ^ n := by omega
      subst this
      have ho : zz_so q (2 ^ n) ^^^ zz_al q n (2 ^ n) < 2 ^ n := Nat.xor_lt_two_pow (zz_so_lt _ (Nat.le_refl _)) (zz_al_lt _)
      refine br_t (by rw [hsh]; exact nI_le (Nat.le_refl _) (by omega)) ?_
      refine nm_r (e' := nI (2 ^ n - ((zz_so q (2 ^ n) ^^^ zz_al q n (2 ^ n)) + 1))) ?_ ?_
      · rw [hall, nx_xor, pk_sub (by omega)]
        exact congrArg nI (by omega)
      · cases e : zz_an q (2 ^ n)
        · refine br_t rfl (h0 fun z => ?_)
          obtain ⟨a, l, z1, z2⟩ := z.1
          have := (zz_an_b (q := q) (2 ^ n)).mpr ⟨a, l, (hq a).mpr ⟨z1, z2⟩⟩
          rw [e] at this
          cases this
        · refine br_f (by decide) ?_
          obtain ⟨a0, l0, z0⟩ := (zz_an_b (q := q) (2 ^ n)).mp e
          have hb : ∀ b, b < n → ((2 ^ n - ((zz_so q (2 ^ n) ^^^ zz_al q n (2 ^ n)) + 1)).testBit b = true ↔ ∀ a a', a < 2 ^ n → a' < 2 ^ n → zz_sol S V (fun i => ¬ nI i = -1) c 0 a → zz_sol S V (fun i => ¬ nI i = -1) c 0 a' → zz_dot a x = false → zz_dot a' x = false → a.testBit b = a'.testBit b) := by
            intro b hb
            rw [Nat.testBit_two_pow_sub_succ ho, decide_eq_true hb, Bool.true_and]
            have h3 := zz_open (q := q) hb e
            have h4 : (!(zz_so q (2 ^ n) ^^^ zz_al q n (2 ^ n)).testBit b) = true ↔ (zz_so q (2 ^ n) ^^^ zz_al q n (2 ^ n)).testBit b = false := by
              cases (zz_so q (2 ^ n) ^^^ zz_al q n (2 ^ n)).testBit b <;> decide
            rw [h4, h3]
            exact ⟨fun h a a' l l' s s' d d' => h a a' l l' ((hq a).mpr ⟨s, d⟩) ((hq a').mpr ⟨s', d'⟩), fun h a a' l l' z z' => h a a' l l' ((hq a).mp z).1 ((hq a').mp z').1 ((hq a).mp z).2 ((hq a').mp z').2⟩
          have hlt : 2 ^ n - ((zz_so q (2 ^ n) ^^^ zz_al q n (2 ^ n)) + 1) < 2 ^ n := by omega
          have hwl := hw.1
          refine br_c (fun z => h0 fun y => ?_) (fun z => h1 ⟨⟨a0, l0, (hq a0).mp z0⟩, ?_⟩)
          · obtain ⟨_, b, b1, b2, b3⟩ := y
            have e2 := (nI_eq (by omega) (by omega)).mp z
            have := (hb b b1).mpr b3
            rw [e2, b2] at this
            cases this
          · apply Classical.byContradiction
            intro y
            apply z
            apply congrArg nI
            refine zz_bit_eq hlt hwl fun b b1 => ⟨fun t => ?_, fun t => ?_⟩
            · cases e3 : nw.testBit b
              · exact (y ⟨b, b1, e3, (hb b b1).mp t⟩).elim
              · rfl
            · refine (hb b b1).mpr fun a a' l l' s s' _ _ => ?_
              exact (hw.2.1 hs b b1).mp t 0 (by decide) a a' l l' s s'
    | succ d ih =>
      intro a ha
      have hl : (a &&& x) ≤ x := Nat.and_le_right
      have h3 := ih (a + 1) (by omega)
      refine br_f (by rw [hsh]; exact nI_ge (by omega) (by omega)) ?_
      rw [nx_and]
      refine ⟨vp_in_nI (by omega) (by decide), ?_⟩
      rw [nI_clamp (by omega), O _ (by omega)]
      show (zz_01 (zz_dot a x) = 0 → _) ∧ (¬ zz_01 (zz_dot a x) = 0 → _)
      cases e : zz_dot a x
      · refine br_t rfl (zz_solves (β := 0) F O (by decide) (fun hz => ?_) (fun hz => ?_))
        · have e2 : q a = true := (hq a).mpr ⟨hz, e⟩
          rw [show zz_so q (a + 1) = zz_so q a ||| a from if_pos e2, show zz_al q n (a + 1) = zz_al q n a &&& a from if_pos e2, show zz_an q (a + 1) = true from if_pos e2] at h3
          exact br_f (by decide) (nm_r (zz_or _ _) (nm_r (nx_and _ _) (nm_r (nI_1 a) h3)))
        · have e2 : ¬ q a = true := fun z => hz ((hq a).mp z).1
          rw [show zz_so q (a + 1) = zz_so q a from if_neg e2, show zz_al q n (a + 1) = zz_al q n a from if_neg e2, show zz_an q (a + 1) = zz_an q a from if_neg e2] at h3
          exact br_t rfl (nm_r (nI_1 a) h3)
      · have e2 : ¬ q a = true := fun z => by
          have := ((hq a).mp z).2
          rw [e] at this
          cases this
        rw [show zz_so q (a + 1) = zz_so q a from if_neg e2, show zz_al q n (a + 1) = zz_al q n a from if_neg e2, show zz_an q (a + 1) = zz_an q a from if_neg e2] at h3
        exact br_f (by decide) (nm_r (nI_1 a) h3)
  exact nm_r hall (Exists.intro (2 ^ n + 1) (key (2 ^ n) 0 (by omega)))
end
/-- the least number with P below 10000, -1 if there is none -/
def zz_us (P : Nat → Prop) (r : Int32) : Prop := (∃ k, k < 10000 ∧ r = nI k ∧ P k ∧ ∀ j, j < k → ¬ P j) ∨ (r = -1 ∧ ∀ j, j < 10000 → ¬ P j)
theorem zz_us_u {P : Nat → Prop} {r r' : Int32} (h : zz_us P r) (h' : zz_us P r') : r' = r := by
  rcases h with ⟨k, k1, k2, k3, k4⟩ | ⟨e, k4⟩ <;> rcases h' with ⟨k', k1', k2', k3', k4'⟩ | ⟨e', k4'⟩
  · rcases Nat.lt_trichotomy k k' with c | c | c
    · exact absurd k3 (k4' k c)
    · rw [k2, k2', c]
    · exact absurd k3' (k4 k' c)
  · exact absurd k3 (k4' k k1)
  · exact absurd k3' (k4 k' k1')
  · rw [e, e']
/-- the answer of useful -/
def zz_uf (n : Nat) (Q : Nat → Nat → Prop) (r : Int32) : Prop := ((∃ β, β < 8 ∧ ∀ a, a < 2 ^ n → ¬ Q β a) ∧ r = -1) ∨ ((∀ β, β < 8 → ∃ a, a < 2 ^ n ∧ Q β a) ∧ ∃ nw, zz_kn n Q nw ∧ zz_us (fun k => zz_hp n (Q 0) (zz_dr n k) nw) r)
theorem zz_uf_u {n : Nat} {Q : Nat → Nat → Prop} {r r' : Int32} (h : zz_uf n Q r) (h' : zz_uf n Q r') : r' = r := by
  have no : (∃ β, β < 8 ∧ ∀ a, a < 2 ^ n → ¬ Q β a) → (∀ β, β < 8 → ∃ a, a < 2 ^ n ∧ Q β a) → False := by
    rintro ⟨β, hβ, q⟩ s
    obtain ⟨a, l, z⟩ := s β hβ
    exact q a l z
  rcases h with ⟨h1, h2⟩ | ⟨h1, nw, h2, h3⟩ <;> rcases h' with ⟨h1', h2'⟩ | ⟨h1', nw', h2', h3'⟩
  · rw [h2, h2']
  · exact (no h1 h1').elim
  · exact (no h1' h1).elim
  · have := zz_kn_u h2 h2'
    subst this
    exact zz_us_u h3 h3'
section
variable {n c : Nat} {aS aV : Nat → Int32} {S V : Nat → Nat} {post : Int32 → SX → Prop}
theorem zz_useX21 {nw : Nat} (F : zz_F n c aS aV S V) (hw : zz_kn n (zz_sol S V (fun i => ¬ nI i = -1) c) nw) (hs : ∀ β, β < 8 → ∃ a, a < 2 ^ n ∧ zz_sol S V (fun i => ¬ nI i = -1) c β a) (H : ∀ r u', zz_JX n c aS aV S V (fun i => ¬ nI i = -1) c u' → zz_us (fun k => zz_hp n (zz_sol S V (fun i => ¬ nI i = -1) c 0) (zz_dr n k) nw) r → post r u') : ∀ (d k m : Nat) (rs rv : Nat → Nat) (σ : Bool) (le lv : Int32) (aR aW : Nat → Int32), k + d = 10000 → (∀ j, j < k → ¬ zz_hp n (zz_sol S V (fun i => ¬ nI i = -1) c 0) (zz_dr n j) nw) → zz_ge n S V (fun i => ¬ nI i = -1) c m rs rv σ → (∀ k, k < m → aR k = nI (rs k) ∧ aW k = nI (rv k)) → wX_useful_21 post (nI nw) (d + 1) (nI k) (nI n) (nI c) (nI m) (zz_01 σ) le lv aS aV aR aW := by
  have h1 := F.1
  have hn := F.2.1
  have h256 := zz_p8 hn
  intro d
  induction d with
  | zero =>
    intro k m rs rv σ le lv aR aW hk hj G hA
    have : k = 10000 := by omega
    subst this
    exact br_t (by decide) (H _ _ ⟨m, rs, rv, σ, le, lv, aR, aW, rfl, G, hA⟩ (Or.inr ⟨rfl, hj⟩))
  | succ d ih =>
    intro k m rs rv σ le lv aR aW hk hj G hA
    have hd := zz_dr_lt h1 k
    have ext : ¬ zz_hp n (zz_sol S V (fun i => ¬ nI i = -1) c 0) (zz_dr n k) nw → ∀ j, j < k + 1 → ¬ zz_hp n (zz_sol S V (fun i => ¬ nI i = -1) c 0) (zz_dr n j) nw := by
      intro q j hj'
      rcases Nat.lt_or_ge j k with z | z
      · exact hj j z
      · have : j = k := by omega
        subst this
        exact q
    have hσ : σ = true := by
      cases σ
      · obtain ⟨β, hβ, q⟩ := G.2.2.2.2.2 rfl
        obtain ⟨a, _, ha⟩ := hs β hβ
        exact absurd ha (q a)
      · rfl
    subst hσ
    refine br_f (nI_ge (b := 10000) (by omega) (by decide)) (zz_drawn h1 hn (by omega) ?_)
    refine zz_settle hn hd ⟨m, rs, rv, true, le, lv, aR, aW, rfl, G, hA⟩ ?_
    rintro r u' ⟨m', rs', rv', σ', le', lv', aR', aW', rfl, G', hA'⟩ hss
    dsimp only
    rcases hss with ⟨rfl, hu⟩ | ⟨s, s1, rfl, s3⟩
    · refine br_f (by decide) (zz_would hn hd ⟨m', rs', rv', σ', le', lv', aR', aW', rfl, G', hA'⟩ hw hs hu ?_)
      rintro r u'' ⟨m2, rs2, rv2, σ2, le2, lv2, aR2, aW2, rfl, G2, hA2⟩ hr
      dsimp only
      rcases hr with ⟨rfl, hh⟩ | ⟨rfl, hh⟩
      · exact br_f (by decide) (H _ _ ⟨m2, rs2, rv2, σ2, le2, lv2, aR2, aW2, rfl, G2, hA2⟩ (Or.inl ⟨k, by omega, rfl, hh, hj⟩))
      · exact br_t rfl (nm_r (nI_1 k) (ih (k + 1) m2 rs2 rv2 σ2 le2 lv2 aR2 aW2 (by omega) (ext hh) G2 hA2))
    · exact br_t (nI_pos' (by omega)) (nm_r (nI_1 k) (ih (k + 1) m' rs' rv' σ' le' lv' aR' aW' (by omega) (ext (zz_hp_no hn G hw s3)) G' hA'))
theorem zz_useX {m0 s0 le lv : Int32} {aR aW : Nat → Int32} (F : zz_F n c aS aV S V) (H : ∀ r u', zz_JX n c aS aV S V (fun i => ¬ nI i = -1) c u' → zz_uf n (zz_sol S V (fun i => ¬ nI i = -1) c) r → post r u') : wpX_useful post (nI n, nI c, m0, s0, le, lv, aS, aV, aR, aW) := by
  have hn := F.2.1
  unfold wpX_useful
  dsimp only
  refine zz_reduceAll F ?_
  rintro u' ⟨m, rs, rv, σ, le', lv', aR', aW', rfl, G, hA⟩
  have J : zz_JX n c aS aV S V (fun i => ¬ nI i = -1) c (nI n, nI c, nI m, zz_01 σ, le', lv', aS, aV, aR', aW') := ⟨m, rs, rv, σ, le', lv', aR', aW', rfl, G, hA⟩
  dsimp only
  cases σ
  · obtain ⟨β, hβ, q⟩ := G.2.2.2.2.2 rfl
    exact br_t rfl (H _ _ J (Or.inl ⟨⟨β, hβ, fun a _ => q a⟩, rfl⟩))
  · have hs : ∀ β, β < 8 → ∃ a, a < 2 ^ n ∧ zz_sol S V (fun i => ¬ nI i = -1) c β a := fun β _ => zz_ge_ex hn G β
    refine br_f (by decide) (zz_knownNow hn J fun r hr => ?_)
    exact Exists.intro 10001 (zz_useX21 F hr hs (fun r' u' J' h' => H r' u' J' (Or.inr ⟨hs, r, hr, h'⟩)) 10000 0 m rs rv true le' lv' aR' aW' (by omega) (fun j hj => absurd hj (Nat.not_lt_zero j)) G hA)
end
section
variable {n c : Nat} {aS aV od : Nat → Int32} {S V : Nat → Nat} {post : Int32 → SY → Prop}
theorem zz_useY38 {nw : Nat} {fs fa : Int32} (F : zz_F n c aS aV S V) (O : zz_od od) (hw : zz_kn n (zz_sol S V (fun i => ¬ nI i = -1) c) nw) (hs : ∀ β, β < 8 → ∃ a, a < 2 ^ n ∧ zz_sol S V (fun i => ¬ nI i = -1) c β a) (H : ∀ r tr, zz_us (fun k => zz_hp n (zz_sol S V (fun i => ¬ nI i = -1) c 0) (zz_dr n k) nw) r → post r (nI n, nI c, fs, fa, aS, aV, od, tr)) : ∀ (d k : Nat) (tr : Nat → Int32), k + d = 10000 → (∀ j, j < k → ¬ zz_hp n (zz_sol S V (fun i => ¬ nI i = -1) c 0) (zz_dr n j) nw) → (∀ s, s < 256 → ¬ tr s = 0 → ¬ zz_hp n (zz_sol S V (fun i => ¬ nI i = -1) c 0) s nw) → wY_useful_38 post (nI nw) (nI n) (nI c) fs fa (d + 1) (nI k) aS aV od tr := by
  have h1 := F.1
  have hn := F.2.1
  have h256 := zz_p8 hn
  intro d
  induction d with
  | zero =>
    intro k tr hk hj hT
    have : k = 10000 := by omega
    subst this
    exact br_t (by decide) (H _ _ (Or.inr ⟨rfl, hj⟩))
  | succ d ih =>
    intro k tr hk hj hT
    have hd := zz_dr_lt h1 k
    have hi : vp_in (nI (zz_dr n k)) 256 := vp_in_nI (by omega) (by decide)
    have ext : ¬ zz_hp n (zz_sol S V (fun i => ¬ nI i = -1) c 0) (zz_dr n k) nw → ∀ j, j < k + 1 → ¬ zz_hp n (zz_sol S V (fun i => ¬ nI i = -1) c 0) (zz_dr n j) nw := by
      intro q j hj'
      rcases Nat.lt_or_ge j k with z | z
      · exact hj j z
      · have : j = k := by omega
        subst this
        exact q
    refine br_f (nI_ge (b := 10000) (by omega) (by decide)) (zz_setOfY h1 hn (by omega) ⟨hi, ?_⟩)
    rw [nI_clamp (by omega)]
    by_cases e : tr (zz_dr n k) = 0
    · refine br_t e ⟨hi, nm_e (zz_helpsY F O hd hw hs (fun hh => ?_) (fun hh => ?_))⟩
      · exact br_f (by decide) (H _ _ (Or.inl ⟨k, by omega, rfl, hh, hj⟩))
      · refine br_t rfl (nm_r (nI_1 k) (ih (k + 1) _ (by omega) (ext hh) fun s hs hz => ?_))
        by_cases es : s = zz_dr n k
        · rw [es]
          exact hh
        · rw [pk_un es] at hz
          exact hT s hs hz
    · exact br_f e (nm_r (nI_1 k) (ih (k + 1) tr (by omega) (ext (hT _ (by omega) e)) hT))
theorem zz_useY {fs fa : Int32} {tr : Nat → Int32} (F : zz_F n c aS aV S V) (O : zz_od od) (H : ∀ r fs fa tr, zz_uf n (zz_sol S V (fun i => ¬ nI i = -1) c) r → post r (nI n, nI c, fs, fa, aS, aV, od, tr)) : wpY_useful post (nI n, nI c, fs, fa, aS, aV, od, tr) := by
  unfold wpY_useful
  dsimp only
  refine zz_consY F O (fun s l hc => ?_) (fun s l hc => ?_)
  · exact br_t rfl (H _ _ _ _ (Or.inl ⟨hc, rfl⟩))
  · refine br_f (by decide) ?_
    unfold wpY_known
    dsimp only
    refine zz_kwoY F O fun r s' l' hr => ?_
    have key : ∀ (d k : Nat) (tr : Nat → Int32), k + d = 256 → (∀ j, j < k → tr j = 0) → wY_useful_16 post (nI r) (nI n) (nI c) s' l' (d + 1) (nI k) aS aV od tr := by
      intro d
      induction d with
      | zero =>
        intro k tr hk h
        have : k = 256 := by omega
        subst this
        exact br_t (by decide) (Exists.intro 10001 (zz_useY38 F O hr hc (fun r' tr' h' => H _ _ _ _ (Or.inr ⟨hc, r, hr, h'⟩)) 10000 0 tr (by omega) (fun j hj => absurd hj (Nat.not_lt_zero j)) (fun s hs hz => absurd (h s hs) hz)))
      | succ d ih =>
        intro k tr hk h
        have hi : vp_in (nI k) 256 := vp_in_nI (by omega) (by decide)
        refine br_f (nI_ge (b := 256) (by omega) (by decide)) ⟨hi, ?_⟩
        rw [nI_clamp (by omega)]
        refine nm_e (nm_r (nI_1 k) (ih (k + 1) _ (by omega) fun j hj => ?_))
        rcases Nat.lt_or_ge j k with z | z
        · rw [pk_un (by omega)]
          exact h j z
        · have : j = k := by omega
          subst this
          rw [pk_us]
          rfl
    exact Exists.intro 257 (key 256 0 tr rfl (fun j hj => absurd hj (Nat.not_lt_zero j)))
end
end
section
/-! ===== spare ===== -/
noncomputable def zz_spq (n : Nat) (S V : Nat → Nat) (c nw i : Nat) : Bool := zz_b (∃ r, zz_kn n (zz_sol S V (fun j => ¬ nI j = nI i) c) r ∧ ∀ b, nw.testBit b = true → r.testBit b = true)
theorem zz_spq_i {n : Nat} {S V : Nat → Nat} {c nw i r : Nat} (hr : zz_kn n (zz_sol S V (fun j => ¬ nI j = nI i) c) r) : zz_spq n S V c nw i = true ↔ ∀ b, nw.testBit b = true → r.testBit b = true := by
  unfold zz_spq
  rw [zz_b_i]
  constructor
  · rintro ⟨r', h1, h2⟩
    have := zz_kn_u hr h1
    subst this
    exact h2
  · exact fun h => ⟨r, hr, h⟩
theorem zz_cnt_t {p : Nat → Bool} {k : Nat} (h : p k = true) : zz_cnt p (k + 1) = zz_cnt p k + 1 := congrArg (zz_cnt p k + ·) (if_pos h)
theorem zz_cnt_f {p : Nat → Bool} {k : Nat} (h : ¬ p k = true) : zz_cnt p (k + 1) = zz_cnt p k := congrArg (zz_cnt p k + ·) (if_neg h)
/-- the answer of spare -/
def zz_sp (n : Nat) (S V : Nat → Nat) (c : Nat) (r : Int32) : Prop := ∃ nw, zz_kn n (zz_sol S V (fun i => ¬ nI i = -1) c) nw ∧ r = nI (zz_cnt (zz_spq n S V c nw) c)
theorem zz_sp_u {n : Nat} {S V : Nat → Nat} {c : Nat} {r r' : Int32} (h : zz_sp n S V c r) (h' : zz_sp n S V c r') : r' = r := by
  obtain ⟨nw, h1, h2⟩ := h
  obtain ⟨nw', h1', h2'⟩ := h'
  have := zz_kn_u h1 h1'
  subst this
  rw [h2, h2']
section
variable {n c : Nat} {aS aV : Nat → Int32} {S V : Nat → Nat}
theorem zz_spX {m0 s0 le lw : Int32} {aR aW : Nat → Int32} {post : Int32 → SX → Prop} (F : zz_F n c aS aV S V) (H : ∀ (r m0 s0 le lw : Int32) (aR aW : Nat → Int32), zz_sp n S V c r → post r (nI n, nI c, m0, s0, le, lw, aS, aV, aR, aW)) : wpX_spare post (nI n, nI c, m0, s0, le, lw, aS, aV, aR, aW) := by
  have hn := F.2.1
  have hc := F.2.2.1
  have h256 := zz_p8 hn
  unfold wpX_spare
  dsimp only
  refine zz_reduceAll F fun u' J => ?_
  have J0 := J
  obtain ⟨m, rs, rv, σ, le', lv', aR', aW', rfl, G, hA⟩ := J0
  dsimp only
  refine zz_knownNow hn J fun nw hnw => ?_
  have key : ∀ (d k : Nat) (m0 s0 le lw : Int32) (aR aW : Nat → Int32), k + d = c → wX_spare_14 post (nI nw) (d + 1) (nI (zz_cnt (zz_spq n S V c nw) k)) (nI k) (nI n) (nI c) m0 s0 le lw aS aV aR aW := by
    intro d
    induction d with
    | zero =>
      intro k m0 s0 le lw aR aW hk
      have : k = c := by omega
      subst this
      exact br_t (nI_le (Nat.le_refl k) (by omega)) (H _ _ _ _ _ _ _ ⟨nw, hnw, rfl⟩)
    | succ d ih =>
      intro k m0 s0 le lw aR aW hk
      refine br_f (nI_ge (by omega) (by omega)) (zz_reduceAll F fun u' J => ?_)
      have J0 := J
      obtain ⟨m, rs, rv, σ, le', lv', aR', aW', rfl, G, hA⟩ := J0
      dsimp only
      refine zz_knownNow hn J fun r hr => ?_
      have hq := zz_spq_i (nw := nw) hr
      have hwl := hnw.1
      have hd := zz_diff (T := nw) (w := r) (by omega)
      by_cases e : zz_spq n S V c nw k = true
      · have h3 := ih (k + 1) (nI m) (zz_01 σ) le' lv' aR' aW' (by omega)
        rw [zz_cnt_t e] at h3
        refine br_t (hd.mpr ?_) (nm_r (nI_1 _) (nm_r (nI_1 k) h3))
        rintro ⟨b, b1, b2⟩
        rw [hq.mp e b b1] at b2
        cases b2
      · have h3 := ih (k + 1) (nI m) (zz_01 σ) le' lv' aR' aW' (by omega)
        rw [zz_cnt_f e] at h3
        refine br_f (fun z => e (hq.mpr fun b hb => ?_)) (nm_r (Int32.add_zero _) (nm_r (nI_1 k) h3))
        cases e2 : r.testBit b
        · exact (hd.mp z ⟨b, hb, e2⟩).elim
        · rfl
  exact Exists.intro (c + 1) (key c 0 _ _ _ _ _ _ (by omega))
theorem zz_spY {fs fa : Int32} {od tr : Nat → Int32} {post : Int32 → SY → Prop} (F : zz_F n c aS aV S V) (O : zz_od od) (H : ∀ (r fs fa : Int32), zz_sp n S V c r → post r (nI n, nI c, fs, fa, aS, aV, od, tr)) : wpY_spare post (nI n, nI c, fs, fa, aS, aV, od, tr) := by
  have hn := F.2.1
  have hc := F.2.2.1
  have h256 := zz_p8 hn
  unfold wpY_spare wpY_known
  dsimp only
  refine zz_kwoY F O fun nw s' l' hnw => ?_
  have key : ∀ (d k : Nat) (fs fa : Int32), k + d = c → wY_spare_9 post (nI nw) (d + 1) (nI (zz_cnt (zz_spq n S V c nw) k)) (nI k) (nI n) (nI c) fs fa aS aV od tr := by
    intro d
    induction d with
    | zero =>
      intro k fs fa hk
      have : k = c := by omega
      subst this
      exact br_t (nI_le (Nat.le_refl k) (by omega)) (H _ _ _ ⟨nw, hnw, rfl⟩)
    | succ d ih =>
      intro k fs fa hk
      refine br_f (nI_ge (by omega) (by omega)) (zz_kwoY F O fun r s2 l2 hr => ?_)
      have hq := zz_spq_i (nw := nw) hr
      have hwl := hnw.1
      have hal : (r &&& nw) ≤ nw := Nat.and_le_right
      have hd : (nI r &&& nI nw) = nI nw ↔ ∀ b, nw.testBit b = true → r.testBit b = true := by
        rw [nx_and, nI_eq (by omega) (by omega)]
        constructor
        · intro e b hb
          rw [← e, Nat.testBit_and, Bool.and_eq_true] at hb
          exact hb.1
        · intro h
          apply Nat.eq_of_testBit_eq
          intro b
          rw [Nat.testBit_and]
          cases e : nw.testBit b
          · rw [Bool.and_false]
          · rw [h b e]
            rfl
      have h3 := ih (k + 1) s2 l2 (by omega)
      by_cases e : zz_spq n S V c nw k = true
      · rw [zz_cnt_t e] at h3
        exact br_t (hd.mpr (hq.mp e)) (nm_r (nI_1 _) (nm_r (nI_1 k) h3))
      · rw [zz_cnt_f e] at h3
        exact br_f (fun z => e (hq.mpr (hd.mp z))) (nm_r (nI_1 k) h3)
  exact Exists.intro (c + 1) (key c 0 _ _ (by omega))
end
/-! ===== lose: both sides shift the same arrays ===== -/
theorem zz_lose {P R : Int32 → Prop} {c : Nat} {fn fr fs le lw sm al : Int32} {aR aW od tr : Nat → Int32} (hc : c ≤ 16) : ∀ (d i : Nat) (aS aV : Nat → Int32), i + d + 1 = c → (∀ j, j < c → P (aS j)) → (∀ j, j < c → R (aV j)) → ∃ aS' aV' : Nat → Int32, (∀ j, j < c - 1 → P (aS' j)) ∧ (∀ j, j < c - 1 → R (aV' j)) ∧ (∀ post : Int32 → SX → Prop, post (nI (c - 1)) (fn, nI (c - 1), fr, fs, le, lw, aS', aV', aR, aW) → wX_lose_18 post fn (nI c) fr fs le lw (d + 1) (nI (i + 1)) aS aV aR aW) ∧ (∀ post : Int32 → SY → Prop, post (nI (c - 1)) (fn, nI (c - 1), sm, al, aS', aV', od, tr) → wY_lose_16 post fn (nI c) sm al (d + 1) (nI i) aS aV od tr) := by
  intro d
  induction d with
  | zero =>
    intro i aS aV hi h1 h2
    obtain rfl : c = i + 1 := by omega
    refine ⟨aS, aV, fun j hj => h1 j (by omega), fun j hj => h2 j (by omega), fun post hp => ?_, fun post hp => ?_⟩
    · exact br_t (nI_le (Nat.le_refl _) (by omega)) (nm_r (nI_pred i) hp)
    · exact br_t (by rw [nI_1]; exact nI_le (Nat.le_refl _) (by omega)) (nm_r (nI_pred i) hp)
  | succ d ih =>
    intro i aS aV hi h1 h2
    have v0 : vp_in (nI i) 16 := vp_in_nI (by omega) (by decide)
    have v1 : vp_in (nI (i + 1)) 16 := vp_in_nI (by omega) (by decide)
    obtain ⟨aS', aV', k1, k2, kX, kY⟩ := ih (i + 1) (upd aS i (aS (i + 1))) (upd aV i (aV (i + 1))) (by omega) (fun j hj => by
      by_cases e : j = i
      · subst e
        rw [pk_us]
        exact h1 _ (by omega)
      · rw [pk_un e]
        exact h1 j hj) (fun j hj => by
      by_cases e : j = i
      · subst e
        rw [pk_us]
        exact h2 _ (by omega)
      · rw [pk_un e]
        exact h2 j hj)
    refine ⟨aS', aV', k1, k2, fun post hp => ?_, fun post hp => ?_⟩
    · refine br_f (nI_ge (by omega) (by omega)) ?_
      rw [nI_pred i, nI_clamp (n := i) (by omega), nI_clamp (n := i + 1) (by omega)]
      exact ⟨v1, v0, nm_e ⟨v1, v0, nm_e (nm_r (nI_1 (i + 1)) (kX post hp))⟩⟩
    · refine br_f (by rw [nI_1]; exact nI_ge (by omega) (by omega)) ?_
      rw [nI_1 i, nI_clamp (n := i) (by omega), nI_clamp (n := i + 1) (by omega)]
      exact ⟨v1, v0, nm_e ⟨v1, v0, nm_e (nm_e (kY post hp))⟩⟩
end
section
/-! ===== the relation and what is owed ===== -/
/-- the relation: the same blocks and symbols, sets below 2^n, numbers below 256; the reference's table of parities -/
def i_Rel (k : Nat) (u : SX) (v : SY) : Prop := ∃ (n c : Nat) (aS aV : Nat → Int32) (S V : Nat → Nat) (m so le lw : Int32) (aR aW : Nat → Int32) (sm al : Int32) (od tr : Nat → Int32), zz_F n c aS aV S V ∧ zz_od od ∧ u = (nI n, nI c, m, so, le, lw, aS, aV, aR, aW) ∧ v = (nI n, nI c, sm, al, aS, aV, od, tr)
theorem i_up {k : Nat} {u : SX} {v : SY} (h : i_Rel k u v) : i_Rel (k + 3) u v := h
theorem zz_mk {k n c : Nat} {aS aV : Nat → Int32} {S V : Nat → Nat} {m so le lw : Int32} {aR aW : Nat → Int32} {sm al : Int32} {od tr : Nat → Int32} (F : zz_F n c aS aV S V) (O : zz_od od) : i_Rel k (nI n, nI c, m, so, le, lw, aS, aV, aR, aW) (nI n, nI c, sm, al, aS, aV, od, tr) := ⟨n, c, aS, aV, S, V, m, so, le, lw, aR, aW, sm, al, od, tr, F, O, rfl, rfl⟩
theorem zz_mkJ {k n c i : Nat} {aS aV : Nat → Int32} {S V : Nat → Nat} {K : Nat → Prop} {u : SX} {sm al : Int32} {od tr : Nat → Int32} (F : zz_F n c aS aV S V) (O : zz_od od) (J : zz_JX n c aS aV S V K i u) : i_Rel k u (nI n, nI c, sm, al, aS, aV, od, tr) := by
  obtain ⟨m, rs, rv, σ, le, lv, aR, aW, rfl, G, hA⟩ := J
  exact zz_mk F O
theorem zz_F_of {n c : Nat} {aS aV : Nat → Int32} (h1 : 1 ≤ n) (hn : n ≤ 8) (hc : c ≤ 16) (hS : ∀ i, i < c → ∃ s, s < 2 ^ n ∧ aS i = nI s) (hV : ∀ i, i < c → ∃ s, s < 256 ∧ aV i = nI s) : zz_F n c aS aV (fun i => (aS i).toNatClampNeg) (fun i => (aV i).toNatClampNeg) := by
  have h256 := zz_p8 hn
  refine ⟨h1, hn, hc, fun i hi => ?_⟩
  obtain ⟨s, s1, s2⟩ := hS i hi
  obtain ⟨v, v1, v2⟩ := hV i hi
  dsimp only
  rw [s2, v2, nI_clamp (by omega), nI_clamp (by omega)]
  exact ⟨rfl, s1, rfl, v1⟩
theorem zz_vc0n {n : Nat} (h1 : 1 ≤ n) (hn : n ≤ 8) : ∃ k, wY_init_65 (fun v => i_Rel 1 (nI n, 0, 0, 0, 0, 0, (fun _ => 0), (fun _ => 0), (fun _ => 0), (fun _ => 0)) v) (nI n) 0 0 0 k 0 (fun _ => 0) (fun _ => 0) (fun _ => 0) (fun _ => 0) :=
  ⟨257, zz_init65 (fun od O => zz_mk (c := 0) (S := fun _ => 0) (V := fun _ => 0) ⟨h1, hn, by decide, fun i hi => absurd hi (Nat.not_lt_zero i)⟩ O) 256 0 _ rfl (fun j hj => absurd hj (Nat.not_lt_zero j))⟩
theorem i_vc0 (k0 : Int32) : wpX_init (fun u => wpY_init (fun v => i_Rel 1 u v) k0) k0 := by
  by_cases h1 : 1 ≤ k0
  · by_cases h8 : k0 ≤ 8
    · obtain ⟨n, hn, rfl⟩ := nI_of2 (x := k0) (M := 8) (n := 8) (by decide) (fun z => by
        have := Int32.lt_of_le_of_lt h1 z
        exact absurd this (by decide)) h8
      have hn1 : 1 ≤ n := (nI_leI (a := 1) (by decide) (by omega)).mp h1
      exact br_t h1 (br_t h8 (br_t h1 (br_t h8 (zz_vc0n hn1 hn))))
    · exact br_t h1 (br_f h8 (br_t h1 (br_f h8 (zz_vc0n (n := 8) (by decide) (by decide)))))
  · exact br_f h1 (br_t (by decide) (br_f h1 (zz_vc0n (n := 1) (by decide) (by decide))))
theorem i_vc_blocks {k : Nat} {u : SX} {v : SY} (I : i_Rel k u v) (hk : k + 3 ≤ 1537) : wpX_blocks (fun r => wpY_blocks (fun r' => r' = r ∧ i_Rel (k + 3) u v) v) u := by
  obtain ⟨n, c, aS, aV, S, V, m, so, le, lw, aR, aW, sm, al, od, tr, F, O, rfl, rfl⟩ := I
  exact And.intro rfl (zz_mk F O)
theorem i_vc_symbols {k : Nat} {u : SX} {v : SY} (I : i_Rel k u v) (hk : k + 3 ≤ 1537) : wpX_symbols (fun r => wpY_symbols (fun r' => r' = r ∧ i_Rel (k + 3) u v) v) u := by
  obtain ⟨n, c, aS, aV, S, V, m, so, le, lw, aR, aW, sm, al, od, tr, F, O, rfl, rfl⟩ := I
  exact And.intro rfl (zz_mk F O)
/-- a symbol more -/
theorem zz_F_put {n c : Nat} {aS aV : Nat → Int32} {S V : Nat → Nat} {x v : Nat} (F : zz_F n c aS aV S V) (hc : c < 16) (hx : x < 2 ^ n) (hv : v < 256) : zz_F n (c + 1) (upd aS c (nI x)) (upd aV c (nI v)) (fun i => if i = c then x else S i) (fun i => if i = c then v else V i) := by
  obtain ⟨h1, hn, hc', hF⟩ := F
  refine ⟨h1, hn, by omega, fun i hi => ?_⟩
  dsimp only
  by_cases e : i = c
  · subst e
    rw [pk_us, pk_us, if_pos rfl, if_pos rfl]
    exact ⟨rfl, hx, rfl, hv⟩
  · rw [pk_un e, pk_un e, if_neg e, if_neg e]
    exact hF i (by omega)
theorem zz_putX {n c x v : Nat} {m so le lw : Int32} {aS aV aR aW : Nat → Int32} {post : SX → Prop} (hc : c < 16) (hp : post (nI n, nI (c + 1), m, so, le, lw, upd aS c (nI x), upd aV c (nI v), aR, aW)) : wpX_put post (nI n, nI c, m, so, le, lw, aS, aV, aR, aW) (nI x) (nI v) := by
  have hi : vp_in (nI c) 16 := vp_in_nI hc (by decide)
  refine And.intro hi (nm_r (e' := upd aS c (nI x)) (by rw [nI_clamp (by omega)]) ⟨hi, nm_r (e' := upd aV c (nI v)) (by rw [nI_clamp (by omega)]) (nm_r (nI_1 c) hp)⟩)
theorem zz_placeY {n c x v : Nat} {sm al : Int32} {aS aV od tr : Nat → Int32} {post : Int32 → SY → Prop} (hc : c < 16) (hp : post (nI (c + 1) - 1) (nI n, nI (c + 1), sm, al, upd aS c (nI x), upd aV c (nI v), od, tr)) : wpY_place post (nI n, nI c, sm, al, aS, aV, od, tr) (nI x) (nI v) := by
  have hi : vp_in (nI c) 16 := vp_in_nI hc (by decide)
  refine And.intro hi (nm_r (e' := upd aS c (nI x)) (by rw [nI_clamp (by omega)]) ⟨hi, nm_r (e' := upd aV c (nI v)) (by rw [nI_clamp (by omega)]) (nm_r (nI_1 c) hp)⟩)
theorem i_vc_receive {k : Nat} {u : SX} {v : SY} (I : i_Rel k u v) (hk : k + 3 ≤ 1537) (v1 : Int32) (v2 : Int32) : wpX_receive (fun r u' => wpY_receive (fun r' v' => r' = r ∧ i_Rel (k + 3) u' v') v v1 v2) u v1 v2 := by
  obtain ⟨n, c, aS, aV, S, V, m, so, le, lw, aR, aW, sm, al, od, tr, F, O, rfl, rfl⟩ := I
  have hn := F.2.1
  have hc := F.2.2.1
  have h256 := zz_p8 hn
  have hsh := zz_sh n (by omega)
  have R0 : ∀ {j : Nat}, i_Rel j (nI n, nI c, m, so, le, lw, aS, aV, aR, aW) (nI n, nI c, sm, al, aS, aV, od, tr) := zz_mk F O
  unfold wpX_receive wpY_receive wpY_badSet
  dsimp only
  rw [hsh]
  rcases pk_ix v1 (n := 2 ^ n) (by omega) with h | h | ⟨x, hx, rfl⟩
  · have h1 : v1 < 1 := Int32.lt_trans h (by decide)
    exact br_t h1 (br_t h (br_f (by decide) ⟨rfl, R0⟩))
  · have h0 : ¬ v1 < 0 := fun z => by
      have := Int32.lt_of_le_of_lt h z
      exact nI_pos (by omega) this
    have hN : ¬ v1 < nI (2 ^ n) := Int32.not_lt.mpr h
    refine br_c (fun _ => br_f h0 (br_f hN (br_f (by decide) ⟨rfl, R0⟩))) (fun _ => br_f hN (br_f h0 (br_f hN (br_f (by decide) ⟨rfl, R0⟩))))
  · have h0 : ¬ nI x < 0 := nI_pos (by omega)
    have hN : nI x < nI (2 ^ n) := nI_lt hx (by omega)
    by_cases ex : x = 0
    · subst ex
      exact br_t (by decide) (br_f h0 (br_t hN (br_t rfl (br_t rfl ⟨rfl, R0⟩))))
    · have h1 : ¬ nI x < 1 := nI_nlt (b := 1) (by omega) (by omega)
      have hz : ¬ nI x = 0 := nI_ne0 (by omega) (by omega)
      refine br_f h1 (br_t hN ?_)
      rcases pk_ix v2 (n := 256) (by decide) with g | g | ⟨y, hy, rfl⟩
      · exact br_t g (br_f h0 (br_t hN (br_t rfl (br_f hz (br_t g ⟨rfl, R0⟩)))))
      · have g0 : ¬ v2 < 0 := fun z => by
          have := Int32.lt_of_le_of_lt g z
          exact absurd this (by decide)
        have g8 : ¬ v2 ≤ 255 := fun z => by
          have := Int32.le_trans g z
          exact absurd this (by decide)
        exact br_f g0 (br_f g8 (br_f h0 (br_t hN (br_t rfl (br_f hz (br_f g0 (br_f g8 ⟨rfl, R0⟩)))))))
      · have g0 : ¬ nI y < 0 := nI_pos (by omega)
        have g8 : nI y ≤ 255 := nI_le (b := 255) (by omega) (by decide)
        refine br_f g0 (br_t g8 ?_)
        by_cases ec : c = 16
        · subst ec
          exact br_t rfl (br_f h0 (br_t hN (br_t rfl (br_f hz (br_f g0 (br_t g8 (br_f (by decide) ⟨rfl, R0⟩)))))))
        · refine br_f (fun z => ec ((nI_eq (b := 16) (by omega) (by decide)).mp z)) (zz_putX (by omega) ?_)
          exact br_f h0 (br_t hN (br_t rfl (br_f hz (br_f g0 (br_t g8 (br_t (nI_lt (b := 16) (by omega) (by decide)) (zz_placeY (by omega) ⟨rfl, zz_mk (zz_F_put F (by omega) hx hy) O⟩)))))))
end
section
/-! ===== what is owed, the rest ===== -/
theorem i_vc_draw {k : Nat} {u : SX} {v : SY} (I : i_Rel k u v) (hk : k + 3 ≤ 1537) (v1 : Int32) (v2 : Int32) : wpX_draw (fun r u' => wpY_draw (fun r' v' => r' = r ∧ i_Rel (k + 3) u' v') v v1 v2) u v1 v2 := by
  obtain ⟨n, c, aS, aV, S, V, m, so, le, lw, aR, aW, sm, al, od, tr, F, O, rfl, rfl⟩ := I
  have h1 := F.1
  have hn := F.2.1
  have hc := F.2.2.1
  have h256 := zz_p8 hn
  have R0 : ∀ {j : Nat}, i_Rel j (nI n, nI c, m, so, le, lw, aS, aV, aR, aW) (nI n, nI c, sm, al, aS, aV, od, tr) := zz_mk F O
  unfold wpX_draw wpY_draw
  dsimp only
  rcases pk_ix v1 (n := 10000) (by decide) with h | h | ⟨x, hx, rfl⟩
  · exact br_t h (br_t h ⟨rfl, R0⟩)
  · have h0 : ¬ v1 < 0 := fun z => by
      have := Int32.lt_of_le_of_lt h z
      exact absurd this (by decide)
    have hN : ¬ v1 < 10000 := Int32.not_lt.mpr h
    have hN' : ¬ v1 ≤ 9999 := fun z => by
      have := Int32.le_trans h z
      exact absurd this (by decide)
    exact br_f h0 (br_f hN (br_f h0 (br_f hN' ⟨rfl, R0⟩)))
  · have h0 : ¬ nI x < 0 := nI_pos (by omega)
    have hN : nI x < 10000 := nI_lt (b := 10000) hx (by decide)
    have hN' : nI x ≤ 9999 := nI_le (b := 9999) (by omega) (by decide)
    refine br_f h0 (br_t hN ?_)
    rcases pk_ix v2 (n := 256) (by decide) with g | g | ⟨y, hy, rfl⟩
    · exact br_t g (br_f h0 (br_t hN' (br_t g ⟨rfl, R0⟩)))
    · have g0 : ¬ v2 < 0 := fun z => by
        have := Int32.lt_of_le_of_lt g z
        exact absurd this (by decide)
      have g8 : ¬ v2 ≤ 255 := fun z => by
        have := Int32.le_trans g z
        exact absurd this (by decide)
      exact br_f g0 (br_f g8 (br_f h0 (br_t hN' (br_f g0 (br_f g8 ⟨rfl, R0⟩)))))
    · have g0 : ¬ nI y < 0 := nI_pos (by omega)
      have g8 : nI y ≤ 255 := nI_le (b := 255) (by omega) (by decide)
      refine br_f g0 (br_t g8 ?_)
      by_cases ec : c = 16
      · subst ec
        exact br_t rfl (br_f h0 (br_t hN' (br_f g0 (br_t g8 (br_f (by decide) ⟨rfl, R0⟩)))))
      · refine br_f (fun z => ec ((nI_eq (b := 16) (by omega) (by decide)).mp z)) (zz_drawn h1 hn hx (zz_putX (by omega) ?_))
        refine br_f h0 (br_t hN' (br_f g0 (br_t g8 (br_t (nI_lt (b := 16) (by omega) (by decide)) (zz_setOfY h1 hn hx (zz_placeY (by omega) ?_))))))
        exact ⟨rfl, zz_mk (zz_F_put F (by omega) (zz_dr_lt h1 x) hy) O⟩
theorem i_vc_lose {k : Nat} {u : SX} {v : SY} (I : i_Rel k u v) (hk : k + 3 ≤ 1537) (v1 : Int32) : wpX_lose (fun r u' => wpY_lose (fun r' v' => r' = r ∧ i_Rel (k + 3) u' v') v v1) u v1 := by
  obtain ⟨n, c, aS, aV, S, V, m, so, le, lw, aR, aW, sm, al, od, tr, F, O, rfl, rfl⟩ := I
  have F' := F
  obtain ⟨h1, hn, hc, hF⟩ := F'
  have R0 : ∀ {j : Nat}, i_Rel j (nI n, nI c, m, so, le, lw, aS, aV, aR, aW) (nI n, nI c, sm, al, aS, aV, od, tr) := zz_mk F O
  unfold wpX_lose wpY_lose
  dsimp only
  rcases pk_ix v1 (n := c) (by omega) with h | h | ⟨i, hi, rfl⟩
  · exact br_t h (br_t h ⟨rfl, R0⟩)
  · have h0 : ¬ v1 < 0 := fun z => by
      have := Int32.lt_of_le_of_lt h z
      exact nI_pos (by omega) this
    have hN : ¬ v1 < nI c := Int32.not_lt.mpr h
    exact br_f h0 (br_f hN (br_f h0 (br_f hN ⟨rfl, R0⟩)))
  · have h0 : ¬ nI i < 0 := nI_pos (by omega)
    have hN : nI i < nI c := nI_lt hi (by omega)
    obtain ⟨aS', aV', k1, k2, kX, kY⟩ := zz_lose (P := fun x => ∃ s, s < 2 ^ n ∧ x = nI s) (R := fun x => ∃ s, s < 256 ∧ x = nI s) (fn := nI n) (fr := m) (fs := so) (le := le) (lw := lw) (sm := sm) (al := al) (aR := aR) (aW := aW) (od := od) (tr := tr) hc (c - 1 - i) i aS aV (by omega) (fun j hj => ⟨S j, (hF j hj).2.1, (hF j hj).1⟩) (fun j hj => ⟨V j, (hF j hj).2.2.2, (hF j hj).2.2.1⟩)
    refine br_f h0 (br_t hN (nm_r (nI_1 i) (Exists.intro (c - 1 - i + 1) (kX _ ?_))))
    refine br_f h0 (br_t hN (Exists.intro (c - 1 - i + 1) (kY _ ?_)))
    exact ⟨rfl, zz_mk (zz_F_of h1 hn (by omega) k1 k2) O⟩
theorem i_vc_setOf {k : Nat} {u : SX} {v : SY} (I : i_Rel k u v) (hk : k + 3 ≤ 1537) (v1 : Int32) : wpX_setOf (fun r => wpY_setOf (fun r' => r' = r ∧ i_Rel (k + 3) u v) v v1) u v1 := by
  obtain ⟨n, c, aS, aV, S, V, m, so, le, lw, aR, aW, sm, al, od, tr, F, O, rfl, rfl⟩ := I
  have h1 := F.1
  have hn := F.2.1
  have R0 : ∀ {j : Nat}, i_Rel j (nI n, nI c, m, so, le, lw, aS, aV, aR, aW) (nI n, nI c, sm, al, aS, aV, od, tr) := zz_mk F O
  unfold wpX_setOf
  dsimp only
  rcases pk_ix v1 (n := 10000) (by decide) with h | h | ⟨x, hx, rfl⟩
  · exact br_t h (br_t h ⟨rfl, R0⟩)
  · have h0 : ¬ v1 < 0 := fun z => by
      have := Int32.lt_of_le_of_lt h z
      exact absurd this (by decide)
    have hN' : ¬ v1 ≤ 9999 := fun z => by
      have := Int32.le_trans h z
      exact absurd this (by decide)
    exact br_f h0 (br_t h (br_f h0 (br_f hN' ⟨rfl, R0⟩)))
  · have h0 : ¬ nI x < 0 := nI_pos (by omega)
    exact br_f h0 (br_f (nI_ge (b := 10000) hx (by decide)) (zz_drawn h1 hn hx (zz_setOfY h1 hn hx ⟨rfl, R0⟩)))
theorem i_vc_consistent {k : Nat} {u : SX} {v : SY} (I : i_Rel k u v) (hk : k + 3 ≤ 1537) : wpX_consistent (fun r u' => wpY_consistent (fun r' v' => r' = r ∧ i_Rel (k + 3) u' v') v) u := by
  obtain ⟨n, c, aS, aV, S, V, m, so, le, lw, aR, aW, sm, al, od, tr, F, O, rfl, rfl⟩ := I
  have hn := F.2.1
  unfold wpX_consistent
  dsimp only
  refine zz_reduceAll F fun u' J => ?_
  obtain ⟨m', rs, rv, σ, le', lv', aR', aW', rfl, G, hA⟩ := J
  dsimp only
  cases σ
  · obtain ⟨β, hβ, q⟩ := G.2.2.2.2.2 rfl
    refine br_t rfl (zz_consY F O (fun s l _ => ⟨rfl, zz_mk F O⟩) (fun s l h => ?_))
    obtain ⟨a, _, ha⟩ := h β hβ
    exact absurd ha (q a)
  · refine br_f (by decide) (zz_consY F O (fun s l h => ?_) (fun s l _ => ⟨rfl, zz_mk F O⟩))
    obtain ⟨β, hβ, q⟩ := h
    obtain ⟨a, ha, h'⟩ := zz_ge_ex hn G β
    exact absurd h' (q a ha)
theorem i_vc_rank {k : Nat} {u : SX} {v : SY} (I : i_Rel k u v) (hk : k + 3 ≤ 1537) : wpX_rank (fun r u' => wpY_rank (fun r' v' => r' = r ∧ i_Rel (k + 3) u' v') v) u := by
  obtain ⟨n, c, aS, aV, S, V, m, so, le, lw, aR, aW, sm, al, od, tr, F, O, rfl, rfl⟩ := I
  unfold wpX_rank
  dsimp only
  refine zz_reduceAll F fun u' J => ?_
  obtain ⟨m', rs, rv, σ, le', lv', aR', aW', rfl, G, hA⟩ := J
  exact zz_rankY F (zz_ge_8 G) G.2.2.1 fun tr' => ⟨rfl, zz_mk F O⟩
theorem i_vc_known {k : Nat} {u : SX} {v : SY} (I : i_Rel k u v) (hk : k + 3 ≤ 1537) : wpX_known (fun r u' => wpY_known (fun r' v' => r' = r ∧ i_Rel (k + 3) u' v') v) u := by
  obtain ⟨n, c, aS, aV, S, V, m, so, le, lw, aR, aW, sm, al, od, tr, F, O, rfl, rfl⟩ := I
  have hn := F.2.1
  unfold wpX_known wpY_known
  dsimp only
  refine zz_reduceAll F fun u' J => ?_
  have J0 := J
  obtain ⟨m', rs, rv, σ, le', lv', aR', aW', rfl, G, hA⟩ := J0
  dsimp only
  refine zz_knownNow hn J fun r hr => zz_kwoY F O fun r' s l hr' => ?_
  exact ⟨by rw [zz_kn_u hr hr'], zz_mk F O⟩
theorem zz_ss_m {n : Nat} {Q : Nat → Nat → Prop} {x : Nat} {r : Int32} (h : zz_ss n Q x (-1) r) : (0 ≤ r ∧ zz_ss n Q x (-2) r) ∨ (¬ 0 ≤ r ∧ zz_ss n Q x (-2) (-2)) := by
  rcases h with ⟨h1, h2⟩ | ⟨s, s1, s2, s3⟩
  · exact Or.inr ⟨by rw [h1]; decide, Or.inl ⟨rfl, h2⟩⟩
  · exact Or.inl ⟨by rw [s2]; exact nI_pos' (by omega), Or.inr ⟨s, s1, s2, s3⟩⟩
theorem zz_ss_e {n : Nat} {Q : Nat → Nat → Prop} {x : Nat} {e r r' : Int32} (h : zz_ss n Q x e r) (h' : zz_ss n Q x e r') : r' = r := by
  rcases zz_ss_u h h' with ⟨h1, h2⟩ | ⟨s, _, h1, h2⟩
  · rw [h1, h2]
  · rw [h1, h2]
section
variable {n c : Nat} {aS aV : Nat → Int32} {S V : Nat → Nat}
/-- value and sumOf of the component behind their checks -/
theorem zz_sumX {x : Nat} {m0 s0 le lw : Int32} {aR aW : Nat → Int32} {post : Int32 → SX → Prop} (F : zz_F n c aS aV S V) (hx : x < 2 ^ n) (H : ∀ r u', zz_JX n c aS aV S V (fun i => ¬ nI i = -1) c u' → zz_ss n (zz_sol S V (fun i => ¬ nI i = -1) c) x (-2) r → post r u') : wpX_reduceAll (fun u => wpX_settle (fun r u => (0 ≤ r → post r u) ∧ (¬ 0 ≤ r → post (-2) u)) u (nI x)) (nI n, nI c, m0, s0, le, lw, aS, aV, aR, aW) (-1) := by
  have hn := F.2.1
  refine zz_reduceAll F fun u' J => zz_settle hn hx J fun r u'' J' h => ?_
  rcases zz_ss_m h with ⟨h0, h'⟩ | ⟨h0, h'⟩
  · exact br_t h0 (H _ _ J' h')
  · exact br_f h0 (H _ _ J' h')
theorem zz_sumOfY {x : Nat} {fs fa : Int32} {od tr : Nat → Int32} {post : Int32 → Prop} (F : zz_F n c aS aV S V) (O : zz_od od) (hx : x < 2 ^ n) (H : ∀ r, zz_ss n (zz_sol S V (fun i => ¬ nI i = -1) c) x (-2) r → post r) : wpY_sumOf post (nI n, nI c, fs, fa, aS, aV, od, tr) (nI x) := by
  unfold wpY_sumOf
  dsimp only
  exact zz_badN F.2.1 hx (br_t rfl (zz_sumY F O hx H))
end
theorem i_vc_value {k : Nat} {u : SX} {v : SY} (I : i_Rel k u v) (hk : k + 3 ≤ 1537) (v1 : Int32) : wpX_value (fun r u' => wpY_value (fun r' => r' = r ∧ i_Rel (k + 3) u' v) v v1) u v1 := by
  obtain ⟨n, c, aS, aV, S, V, m, so, le, lw, aR, aW, sm, al, od, tr, F, O, rfl, rfl⟩ := I
  have hn := F.2.1
  have R0 : ∀ {j : Nat}, i_Rel j (nI n, nI c, m, so, le, lw, aS, aV, aR, aW) (nI n, nI c, sm, al, aS, aV, od, tr) := zz_mk F O
  unfold wpX_value wpY_value
  dsimp only
  rcases pk_ix v1 (n := n) (by omega) with h | h | ⟨b, hb, rfl⟩
  · exact br_t h (br_t h ⟨rfl, R0⟩)
  · have h0 : ¬ v1 < 0 := fun z => by
      have := Int32.lt_of_le_of_lt h z
      exact nI_pos (by omega) this
    have hN : ¬ v1 < nI n := Int32.not_lt.mpr h
    exact br_f h0 (br_f hN (br_f h0 (br_f hN ⟨rfl, R0⟩)))
  · have h0 : ¬ nI b < 0 := nI_pos (by omega)
    have hN : nI b < nI n := nI_lt hb (by omega)
    have hx : 2 ^ b < 2 ^ n := Nat.pow_lt_pow_right (by decide) hb
    rw [zz_sh b (by omega)]
    refine br_f h0 (br_t hN (zz_sumX F hx fun r u' J hr => ?_))
    exact br_f h0 (br_t hN (zz_sumOfY F O hx fun r' hr' => ⟨zz_ss_e hr hr', zz_mkJ F O J⟩))
theorem i_vc_sumOf {k : Nat} {u : SX} {v : SY} (I : i_Rel k u v) (hk : k + 3 ≤ 1537) (v1 : Int32) : wpX_sumOf (fun r u' => wpY_sumOf (fun r' => r' = r ∧ i_Rel (k + 3) u' v) v v1) u v1 := by
  obtain ⟨n, c, aS, aV, S, V, m, so, le, lw, aR, aW, sm, al, od, tr, F, O, rfl, rfl⟩ := I
  have hn := F.2.1
  have h256 := zz_p8 hn
  have hsh := zz_sh n (by omega)
  have R0 : ∀ {j : Nat}, i_Rel j (nI n, nI c, m, so, le, lw, aS, aV, aR, aW) (nI n, nI c, sm, al, aS, aV, od, tr) := zz_mk F O
  unfold wpX_sumOf wpX_isSet
  dsimp only
  rw [hsh]
  rcases pk_ix v1 (n := 2 ^ n) (by omega) with h | h | ⟨x, hx, rfl⟩
  · refine br_t h (br_t rfl ?_)
    unfold wpY_sumOf wpY_badSet
    exact br_t h (br_f (by decide) ⟨rfl, R0⟩)
  · have h0 : ¬ v1 < 0 := fun z => by
      have := Int32.lt_of_le_of_lt h z
      exact nI_pos (by omega) this
    have hN : ¬ v1 < nI (2 ^ n) := Int32.not_lt.mpr h
    refine br_f h0 (br_t h (br_t rfl ?_))
    unfold wpY_sumOf wpY_badSet
    dsimp only
    rw [hsh]
    exact br_f h0 (br_f hN (br_f (by decide) ⟨rfl, R0⟩))
  · have h0 : ¬ nI x < 0 := nI_pos (by omega)
    refine br_f h0 (br_f (nI_ge hx (by omega)) (br_f (by decide) (zz_sumX F hx fun r u' J hr => ?_)))
    exact zz_sumOfY F O hx fun r' hr' => ⟨zz_ss_e hr hr', zz_mkJ F O J⟩
theorem i_vc_peeled {k : Nat} {u : SX} {v : SY} (I : i_Rel k u v) (hk : k + 3 ≤ 1537) : wpX_peeled (fun r => wpY_peeled (fun r' => r' = r ∧ i_Rel (k + 3) u v) v) u := by
  obtain ⟨n, c, aS, aV, S, V, m, so, le, lw, aR, aW, sm, al, od, tr, F, O, rfl, rfl⟩ := I
  unfold wpX_peeled wpY_peeled
  dsimp only
  exact zz_peelX (d := 0) F (Nat.two_pow_pos n) (zz_peelY (d := 0) F (Nat.two_pow_pos n) ⟨rfl, zz_mk F O⟩)
theorem i_vc_isSeed {k : Nat} {u : SX} {v : SY} (I : i_Rel k u v) (hk : k + 3 ≤ 1537) (v1 : Int32) : wpX_isSeed (fun r => wpY_isSeed (fun r' => r' = r ∧ i_Rel (k + 3) u v) v v1) u v1 := by
  obtain ⟨n, c, aS, aV, S, V, m, so, le, lw, aR, aW, sm, al, od, tr, F, O, rfl, rfl⟩ := I
  have hn := F.2.1
  have h256 := zz_p8 hn
  have hsh := zz_sh n (by omega)
  have R0 : ∀ {j : Nat}, i_Rel j (nI n, nI c, m, so, le, lw, aS, aV, aR, aW) (nI n, nI c, sm, al, aS, aV, od, tr) := zz_mk F O
  unfold wpX_isSeed wpX_isSet
  dsimp only
  rw [zz_all n (by omega), hsh]
  rcases pk_ix v1 (n := 2 ^ n) (by omega) with h | h | ⟨x, hx, rfl⟩
  · refine br_t h (br_t rfl ?_)
    unfold wpY_isSeed wpY_badSet
    exact br_t h (br_f (by decide) ⟨rfl, R0⟩)
  · have h0 : ¬ v1 < 0 := fun z => by
      have := Int32.lt_of_le_of_lt h z
      exact nI_pos (by omega) this
    have hN : ¬ v1 < nI (2 ^ n) := Int32.not_lt.mpr h
    refine br_f h0 (br_t h (br_t rfl ?_))
    unfold wpY_isSeed wpY_badSet
    dsimp only
    rw [hsh]
    exact br_f h0 (br_f hN (br_f (by decide) ⟨rfl, R0⟩))
  · have h0 : ¬ nI x < 0 := nI_pos (by omega)
    have hpe := zz_pe_lt (fun i hi => (F.2.2.2 i hi).2.1) hx
    refine br_f h0 (br_f (nI_ge hx (by omega)) (br_f (by decide) (zz_peelX F hx ?_)))
    refine br_c (fun z => zz_seedY1 F hx (fun _ => ⟨rfl, R0⟩) (fun q => ?_)) (fun z => zz_seedY1 F hx (fun q => ?_) (fun _ => ⟨rfl, R0⟩))
    · exact absurd ((nI_eq (by omega) (by omega)).mp z) q
    · exact absurd (congrArg nI q) z
theorem i_vc_seedSize {k : Nat} {u : SX} {v : SY} (I : i_Rel k u v) (hk : k + 3 ≤ 1537) : wpX_seedSize (fun r => wpY_seedSize (fun r' => r' = r ∧ i_Rel (k + 3) u v) v) u := by
  obtain ⟨n, c, aS, aV, S, V, m, so, le, lw, aR, aW, sm, al, od, tr, F, O, rfl, rfl⟩ := I
  have hn := F.2.1
  have h256 := zz_p8 hn
  have hl := zz_sd_lt (n := n) (S := S) (c := c) (2 ^ n) (Nat.le_refl _)
  unfold wpX_seedSize wpY_seedSize
  dsimp only
  exact zz_seedX F (zz_ones (by omega) (zz_seedY F (zz_members (by omega) ⟨rfl, zz_mk F O⟩)))
theorem i_vc_seed {k : Nat} {u : SX} {v : SY} (I : i_Rel k u v) (hk : k + 3 ≤ 1537) : wpX_seed (fun r => wpY_seed (fun r' => r' = r ∧ i_Rel (k + 3) u v) v) u := by
  obtain ⟨n, c, aS, aV, S, V, m, so, le, lw, aR, aW, sm, al, od, tr, F, O, rfl, rfl⟩ := I
  exact zz_seedX F (zz_seedY F ⟨rfl, zz_mk F O⟩)
theorem i_vc_spare {k : Nat} {u : SX} {v : SY} (I : i_Rel k u v) (hk : k + 3 ≤ 1537) : wpX_spare (fun r u' => wpY_spare (fun r' v' => r' = r ∧ i_Rel (k + 3) u' v') v) u := by
  obtain ⟨n, c, aS, aV, S, V, m, so, le, lw, aR, aW, sm, al, od, tr, F, O, rfl, rfl⟩ := I
  exact zz_spX F fun r m0 s0 le lw aR aW hr => zz_spY F O fun r' fs fa hr' => ⟨zz_sp_u hr hr', zz_mk F O⟩
theorem i_vc_useful {k : Nat} {u : SX} {v : SY} (I : i_Rel k u v) (hk : k + 3 ≤ 1537) : wpX_useful (fun r u' => wpY_useful (fun r' v' => r' = r ∧ i_Rel (k + 3) u' v') v) u := by
  obtain ⟨n, c, aS, aV, S, V, m, so, le, lw, aR, aW, sm, al, od, tr, F, O, rfl, rfl⟩ := I
  exact zz_useX F fun r u' J hr => zz_useY F O fun r' fs fa tr hr' => ⟨zz_uf_u hr hr', zz_mkJ F O J⟩
end
