section
/-! pure rows to paste: stores, nI and lN arithmetic, masks, shifts, narrowing, branches by naturals (pk_le, pk_lt, pk_eq), loops (lp1 .. lp16: the measure of the state; rp1 ..: recursion), negatives. Take what you need -/
theorem pk_us {f : Nat → Int32} {k : Nat} {x : Int32} : upd f k x k = x := if_pos rfl
theorem pk_un {f : Nat → Int32} {k j : Nat} {x : Int32} (h : j ≠ k) : upd f k x j = f j := if_neg h
theorem pk_uLs {f : Nat → Int64} {k : Nat} {x : Int64} : vp_updL f k x k = x := if_pos rfl
theorem pk_uLn {f : Nat → Int64} {k j : Nat} {x : Int64} (h : j ≠ k) : vp_updL f k x j = f j := if_neg h
theorem pk_sub {a b : Nat} (h : b ≤ a) : nI a - nI b = nI (a - b) := by
  obtain ⟨c, rfl⟩ : ∃ c, a = c + b := ⟨a - b, by omega⟩
  rw [← nI_add, Int32.add_sub_cancel, Nat.add_sub_cancel]
theorem pk_m1 (n : Nat) : nI (n + 1) + (-1) = nI n := by
  rw [← nI_1, Int32.add_assoc, show (1 : Int32) + (-1) = 0 from rfl, Int32.add_zero]
theorem pk_mul (a b : Nat) : nI a * nI b = nI (a * b) := (Int32.ofNat_mul a b).symm
theorem pk_div {a d : Nat} (ha : a < 2 ^ 31) (h0 : 0 < d) (hd : d < 2 ^ 31) : nI a / nI d = nI (a / d) := by
  apply Int32.toInt_inj.mp
  rw [lg_idiv_nonneg (by rw [nI_toInt ha]; omega) (by rw [nI_toInt hd]; omega), nI_toInt ha, nI_toInt hd, nI_toInt (Nat.lt_of_le_of_lt (Nat.div_le_self a d) ha)]
  first | rfl | exact (Int.natCast_ediv _ _).symm
theorem pk_rem {a d : Nat} (ha : a < 2 ^ 31) (h0 : 0 < d) (hd : d < 2 ^ 31) : nI a - nI a / nI d * nI d = nI (a % d) := by
  rw [pk_div ha h0 hd, pk_mul, pk_sub (Nat.div_mul_le_self a d)]
  exact congrArg nI (by have := Nat.div_add_mod' a d; omega)
theorem pk_sub_toInt {a b : Nat} (ha : a < 2 ^ 30) (hb : b < 2 ^ 30) : (nI a - nI b).toInt = (a : Int) - b := by
  rw [Int32.toInt_sub, nI_toInt (by omega), nI_toInt (by omega)]
  exact Int.bmod_eq_of_le (by omega) (by omega)
theorem pk_sneg {a b : Nat} (hb : b < 2 ^ 30) (h : a < b) : nI a - nI b < 0 := by
  rw [Int32.lt_iff_toInt_lt, pk_sub_toInt (by omega) hb, show (0 : Int32).toInt = 0 from by decide]
  omega
theorem pk_ix (x : Int32) {n : Nat} (hn : n < 2 ^ 31) : x < 0 ∨ nI n ≤ x ∨ ∃ j : Nat, j < n ∧ x = nI j := by
  by_cases h : x < 0
  · exact Or.inl h
  · obtain ⟨j, hj, rfl⟩ := nI_of h
    by_cases h2 : j < n
    · exact Or.inr (Or.inr ⟨j, h2, rfl⟩)
    · exact Or.inr (Or.inl (nI_le (by omega) hj))
theorem pk_le {x y : Int32} {A B : Prop} (a b : Nat) (f : a ≤ b → A) (g : b < a → B) (hx : x = nI a := by rfl) (hy : y = nI b := by rfl) (ha : a < 2 ^ 31 := by omega) (hb : b < 2 ^ 31 := by omega) : (x ≤ y → A) ∧ (¬ x ≤ y → B) := by
  subst hx hy
  rw [nI_leI ha hb]
  exact ⟨f, fun z => g (by omega)⟩
theorem pk_lt {x y : Int32} {A B : Prop} (a b : Nat) (f : a < b → A) (g : b ≤ a → B) (hx : x = nI a := by rfl) (hy : y = nI b := by rfl) (ha : a < 2 ^ 31 := by omega) (hb : b < 2 ^ 31 := by omega) : (x < y → A) ∧ (¬ x < y → B) := by
  subst hx hy
  rw [nI_ltI ha hb]
  exact ⟨f, fun z => g (by omega)⟩
theorem pk_eq {x y : Int32} {A B : Prop} (a b : Nat) (f : a = b → A) (g : a ≠ b → B) (hx : x = nI a := by rfl) (hy : y = nI b := by rfl) (ha : a < 2 ^ 31 := by omega) (hb : b < 2 ^ 31 := by omega) : (x = y → A) ∧ (¬ x = y → B) := by
  subst hx hy
  rw [nI_eq ha hb]
  exact ⟨f, g⟩
theorem pk_in {x : Int32} (n N : Nat) (h : n < N) (hx : x = nI n := by rfl) (hN : N < 2 ^ 31 := by omega) : vp_in x N := by
  subst hx
  exact vp_in_nI h hN
theorem pk_cl {x : Int32} (n : Nat) (hx : x = nI n := by rfl) (h : n < 2 ^ 31 := by omega) : x.toNatClampNeg = n := by
  subst hx
  exact nI_clamp h
theorem pk_tn {n : Nat} (h : n < 2 ^ 32) : (nI n).toBitVec.toNat = n := Nat.mod_eq_of_lt h
theorem pk_and (x : Int32) {m : Int32} (k : Nat) (hm : m.toBitVec.toNat = 2 ^ k - 1) : x &&& m = nI (x.toBitVec.toNat % 2 ^ k) := by
  apply Int32.toBitVec_inj.mp
  apply BitVec.eq_of_toNat_eq
  rw [Int32.toBitVec_and, BitVec.toNat_and, hm, Nat.and_two_pow_sub_one_eq_mod]
  show _ = (BitVec.ofNat 32 _).toNat
  rw [BitVec.toNat_ofNat]
  exact (Nat.mod_eq_of_lt (Nat.lt_of_le_of_lt (Nat.mod_le _ _) x.toBitVec.isLt)).symm
theorem pk_andN {n : Nat} (h : n < 2 ^ 32) {m : Int32} (k : Nat) (hm : m.toBitVec.toNat = 2 ^ k - 1) : nI n &&& m = nI (n % 2 ^ k) := by
  rw [pk_and _ k hm, pk_tn h]
theorem pk_andE (x : Int32) {m : Int32} (k : Nat) (hm : m.toBitVec.toNat = 2 ^ k - 1) : ∃ j : Nat, j < 2 ^ k ∧ x &&& m = nI j := ⟨_, Nat.mod_lt _ (Nat.two_pow_pos k), pk_and x k hm⟩
theorem pk_andIn (x : Int32) {m : Int32} (k : Nat) (hm : m.toBitVec.toNat = 2 ^ k - 1) (hk : k ≤ 30) : vp_in (x &&& m) (2 ^ k) := by
  obtain ⟨j, hj, e⟩ := pk_andE x k hm
  rw [e]
  exact vp_in_nI hj (Nat.lt_of_le_of_lt (Nat.pow_le_pow_right (by decide) hk) (by decide))
theorem pk_shl (a s : Int32) (k : Nat) (hs : (s.toBitVec.smod 32).toNat = k) : (a <<< s).toBitVec.toNat = a.toBitVec.toNat * 2 ^ k % 2 ^ 32 := by
  show (a.toBitVec <<< (s.toBitVec.smod 32).toNat).toNat = _
  rw [hs, BitVec.toNat_shiftLeft, Nat.shiftLeft_eq]
theorem pk_shlN {n : Nat} (s : Int32) (k : Nat) (hs : (s.toBitVec.smod 32).toNat = k) (h : n * 2 ^ k < 2 ^ 32) : nI n <<< s = nI (n * 2 ^ k) := by
  apply Int32.toBitVec_inj.mp
  apply BitVec.eq_of_toNat_eq
  have hn : n < 2 ^ 32 := Nat.lt_of_le_of_lt (Nat.le_mul_of_pos_right n (Nat.two_pow_pos k)) h
  rw [pk_shl _ _ k hs, pk_tn hn, pk_tn h, Nat.mod_eq_of_lt h]
theorem pk_shr (a s : Int32) (k : Nat) (hs : (s.toBitVec.smod 32).toNat = k) : (a >>> s).toInt = a.toInt >>> k := by
  show (a.toBitVec.sshiftRight (s.toBitVec.smod 32).toNat).toInt = _
  rw [hs, BitVec.toInt_sshiftRight]
  rfl
theorem pk_shrN {n : Nat} (h : n < 2 ^ 31) (s : Int32) (k : Nat) (hs : (s.toBitVec.smod 32).toNat = k) : nI n >>> s = nI (n / 2 ^ k) := by
  apply Int32.toInt_inj.mp
  have h2 : n / 2 ^ k ≤ n := Nat.div_le_self _ _
  rw [pk_shr _ _ k hs, nI_toInt h, nI_toInt (by omega), Int.shiftRight_eq_div_pow]
  rfl
end
section
/-! convergents, remainders, bilinear forms: no program in sight -/
def bh_cv (t : Nat → Int) (a b : Int) : Nat → Int × Int
  | 0 => (a, b)
  | n + 1 => ((bh_cv t a b n).2, t n * (bh_cv t a b n).2 + (bh_cv t a b n).1)
def bh_hi (t : Nat → Int) (a b : Int) (n : Nat) : Int := (bh_cv t a b n).2
def bh_lo (t : Nat → Int) (a b : Int) (n : Nat) : Int := (bh_cv t a b n).1
theorem bh_hi0 (t : Nat → Int) (a b : Int) : bh_hi t a b 0 = b := rfl
theorem bh_lo0 (t : Nat → Int) (a b : Int) : bh_lo t a b 0 = a := rfl
theorem bh_hiS (t : Nat → Int) (a b : Int) (n : Nat) : bh_hi t a b (n + 1) = t n * bh_hi t a b n + bh_lo t a b n := rfl
theorem bh_loS (t : Nat → Int) (a b : Int) (n : Nat) : bh_lo t a b (n + 1) = bh_hi t a b n := rfl
theorem bh_cvC {t t' : Nat → Int} {n : Nat} (h : ∀ i, i < n → t i = t' i) (a b : Int) : bh_hi t a b n = bh_hi t' a b n ∧ bh_lo t a b n = bh_lo t' a b n := by
  induction n with
  | zero => exact ⟨rfl, rfl⟩
  | succ n ih =>
    obtain ⟨h1, h2⟩ := ih (fun i hi => h i (by omega))
    refine ⟨?_, ?_⟩
    · rw [bh_hiS, bh_hiS, h1, h2, h n (by omega)]
    · rw [bh_loS, bh_loS, h1]
def bh_eu (t : Nat → Int) (T B : Int) : Nat → Int × Int
  | 0 => (T, B)
  | n + 1 => ((bh_eu t T B n).2, (bh_eu t T B n).1 - t n * (bh_eu t T B n).2)
def bh_eT (t : Nat → Int) (T B : Int) (n : Nat) : Int := (bh_eu t T B n).1
def bh_eB (t : Nat → Int) (T B : Int) (n : Nat) : Int := (bh_eu t T B n).2
theorem bh_eT0 (t : Nat → Int) (T B : Int) : bh_eT t T B 0 = T := rfl
theorem bh_eB0 (t : Nat → Int) (T B : Int) : bh_eB t T B 0 = B := rfl
theorem bh_eTS (t : Nat → Int) (T B : Int) (n : Nat) : bh_eT t T B (n + 1) = bh_eB t T B n := rfl
theorem bh_eBS (t : Nat → Int) (T B : Int) (n : Nat) : bh_eB t T B (n + 1) = bh_eT t T B n - t n * bh_eB t T B n := rfl
theorem bh_euC {t t' : Nat → Int} {n : Nat} (h : ∀ i, i < n → t i = t' i) (T B : Int) : bh_eT t T B n = bh_eT t' T B n ∧ bh_eB t T B n = bh_eB t' T B n := by
  induction n with
  | zero => exact ⟨rfl, rfl⟩
  | succ n ih =>
    obtain ⟨h1, h2⟩ := ih (fun i hi => h i (by omega))
    refine ⟨?_, ?_⟩
    · rw [bh_eTS, bh_eTS, h2]
    · rw [bh_eBS, bh_eBS, h1, h2, h n (by omega)]
theorem bh_euL (t : Nat → Int) (x y T B T' B' : Int) (n : Nat) : bh_eT t (x * T + y * T') (x * B + y * B') n = x * bh_eT t T B n + y * bh_eT t T' B' n ∧ bh_eB t (x * T + y * T') (x * B + y * B') n = x * bh_eB t T B n + y * bh_eB t T' B' n := by
  induction n with
  | zero => exact ⟨rfl, rfl⟩
  | succ n ih =>
    obtain ⟨h1, h2⟩ := ih
    refine ⟨?_, ?_⟩
    · rw [bh_eTS, bh_eTS, bh_eTS, h2]
    · rw [bh_eBS, bh_eBS, bh_eBS, h1, h2]
      grind
theorem bh_euM (t : Nat → Int) (g T B : Int) (n : Nat) : bh_eT t (g * T) (g * B) n = g * bh_eT t T B n ∧ bh_eB t (g * T) (g * B) n = g * bh_eB t T B n := by
  have h := bh_euL t g 0 T B 0 0 n
  simp only [Int.zero_mul, Int.add_zero] at h
  exact h
theorem bh_euA (t : Nat → Int) (T B T' B' : Int) (n : Nat) : bh_eT t (T + T') (B + B') n = bh_eT t T B n + bh_eT t T' B' n ∧ bh_eB t (T + T') (B + B') n = bh_eB t T B n + bh_eB t T' B' n := by
  have h := bh_euL t 1 1 T B T' B' n
  simp only [Int.one_mul] at h
  exact h
theorem bh_euZ (t : Nat → Int) (n : Nat) : bh_eT t 0 0 n = 0 ∧ bh_eB t 0 0 n = 0 := by
  have h := bh_euM t 0 0 0 n
  simp only [Int.zero_mul] at h
  exact h
/-- what is left over, put back -/
theorem bh_back (t : Nat → Int) (T B : Int) (n : Nat) : T = bh_hi t 0 1 n * bh_eT t T B n + bh_lo t 0 1 n * bh_eB t T B n ∧ B = bh_hi t 1 0 n * bh_eT t T B n + bh_lo t 1 0 n * bh_eB t T B n := by
  induction n with
  | zero =>
    rw [bh_hi0, bh_lo0, bh_hi0, bh_lo0, bh_eT0, bh_eB0]
    omega
  | succ n ih =>
    obtain ⟨h1, h2⟩ := ih
    rw [bh_hiS, bh_hiS, bh_loS, bh_loS, bh_eTS, bh_eBS]
    refine ⟨?_, ?_⟩
    · grind
    · grind
/-- z is the floor of T / B, B positive -/
def bh_fl (T B z : Int) : Prop := 0 < B ∧ 0 ≤ T - z * B ∧ T - z * B < B
theorem bh_flU {T B z z' : Int} (h : bh_fl T B z) (h' : bh_fl T B z') : z = z' := by
  obtain ⟨h0, h1, h2⟩ := h
  obtain ⟨_, h3, h4⟩ := h'
  by_cases c : z < z'
  · have := Int.mul_le_mul_of_nonneg_right (show z + 1 ≤ z' by omega) (Int.le_of_lt h0)
    rw [Int.add_mul, Int.one_mul] at this
    omega
  · by_cases d : z' < z
    · have := Int.mul_le_mul_of_nonneg_right (show z' + 1 ≤ z by omega) (Int.le_of_lt h0)
      rw [Int.add_mul, Int.one_mul] at this
      omega
    · omega
theorem bh_pos1 {k f : Int} (hk : 0 ≤ k) (hf : 0 < f) : k ≤ k * f := by
  have := Int.mul_le_mul_of_nonneg_left (show 1 ≤ f by omega) hk
  omega
theorem bh_flL {k0 k1 k2 k3 T0 T1 T2 T3 B0 B1 B2 B3 z : Int} (p0 : 0 ≤ k0) (p1 : 0 ≤ k1) (p2 : 0 ≤ k2) (p3 : 0 ≤ k3) (ps : 1 ≤ k0 + k1 + k2 + k3)
    (h0 : bh_fl T0 B0 z) (h1 : bh_fl T1 B1 z) (h2 : bh_fl T2 B2 z) (h3 : bh_fl T3 B3 z) : bh_fl (k0 * T0 + k1 * T1 + k2 * T2 + k3 * T3) (k0 * B0 + k1 * B1 + k2 * B2 + k3 * B3) z := by
  obtain ⟨a0, b0, c0⟩ := h0
  obtain ⟨a1, b1, c1⟩ := h1
  obtain ⟨a2, b2, c2⟩ := h2
  obtain ⟨a3, b3, c3⟩ := h3
  have e : k0 * T0 + k1 * T1 + k2 * T2 + k3 * T3 - z * (k0 * B0 + k1 * B1 + k2 * B2 + k3 * B3) = k0 * (T0 - z * B0) + k1 * (T1 - z * B1) + k2 * (T2 - z * B2) + k3 * (T3 - z * B3) := by grind
  have q0 := bh_pos1 p0 a0
  have q1 := bh_pos1 p1 a1
  have q2 := bh_pos1 p2 a2
  have q3 := bh_pos1 p3 a3
  have r0 := Int.mul_nonneg p0 b0
  have r1 := Int.mul_nonneg p1 b1
  have r2 := Int.mul_nonneg p2 b2
  have r3 := Int.mul_nonneg p3 b3
  have s0 := bh_pos1 p0 (show 0 < B0 - (T0 - z * B0) by omega)
  have s1 := bh_pos1 p1 (show 0 < B1 - (T1 - z * B1) by omega)
  have s2 := bh_pos1 p2 (show 0 < B2 - (T2 - z * B2) by omega)
  have s3 := bh_pos1 p3 (show 0 < B3 - (T3 - z * B3) by omega)
  rw [Int.mul_sub] at s0 s1 s2 s3
  refine ⟨by omega, ?_, ?_⟩
  · rw [e]; omega
  · rw [e]; omega
/-- the first n terms t are those of T / B -/
def bh_Ps (t : Nat → Int) (T B : Int) (n : Nat) : Prop := ∀ j, j < n → bh_fl (bh_eT t T B j) (bh_eB t T B j) (t j)
theorem bh_PsC {t t' : Nat → Int} {T B : Int} {n : Nat} (h : ∀ i, i < n → t i = t' i) (p : bh_Ps t T B n) : bh_Ps t' T B n := by
  intro j hj
  have e := bh_euC (n := j) (fun i hi => h i (by omega)) T B
  rw [← e.1, ← e.2, ← h j hj]
  exact p j hj
theorem bh_PsB {t : Nat → Int} {T B : Int} {n : Nat} (p : bh_Ps t T B n) (hB : 0 < B) : ∀ j, j ≤ n → 0 ≤ bh_eB t T B j ∧ bh_eB t T B j ≤ B := by
  intro j
  induction j with
  | zero => intro _; rw [bh_eB0]; omega
  | succ j ih =>
    intro hj
    have h := p j (by omega)
    have i := ih (by omega)
    obtain ⟨a, b, c⟩ := h
    rw [bh_eBS]
    omega
theorem bh_PsT {t : Nat → Int} {T B : Int} {n : Nat} (p : bh_Ps t T B n) (hB : 0 < B) : ∀ j, j < n → 0 < bh_eT t T B (j + 1) ∧ bh_eT t T B (j + 1) ≤ B ∧ bh_eB t T B (j + 1) < bh_eT t T B (j + 1) := by
  intro j hj
  obtain ⟨a, b, c⟩ := p j hj
  have i := bh_PsB p hB j (by omega)
  rw [bh_eTS, bh_eBS]
  omega
theorem bh_PsPos {t : Nat → Int} {T B : Int} {n : Nat} (p : bh_Ps t T B n) (hB : 0 < B) : ∀ j, 1 ≤ j → j < n → 1 ≤ t j := by
  intro j h1 hj
  obtain ⟨i, rfl⟩ : ∃ i, j = i + 1 := ⟨j - 1, by omega⟩
  obtain ⟨a, b, c⟩ := p (i + 1) hj
  obtain ⟨d, e, f⟩ := bh_PsT p hB i (by omega)
  by_cases g : 1 ≤ t (i + 1)
  · exact g
  · exfalso
    have := Int.mul_le_mul_of_nonneg_right (show t (i + 1) ≤ 0 by omega) (Int.le_of_lt a)
    rw [Int.zero_mul] at this
    omega
theorem bh_PsBd {t : Nat → Int} {T B : Int} {n b : Nat} (p : bh_Ps t T B n) (hB : 0 < B) (hT : T.natAbs ≤ b) (hb : B.natAbs ≤ b) : ∀ j, j < n → (t j).natAbs ≤ b := by
  intro j hj
  obtain ⟨a, d, c⟩ := p j hj
  have e : (bh_eT t T B j).natAbs ≤ b := by
    cases j with
    | zero => rw [bh_eT0]; exact hT
    | succ j =>
      have := bh_PsT p hB j (by omega)
      omega
  by_cases g : (b : Int) < t j
  · exfalso
    have := bh_pos1 (show 0 ≤ t j by omega) a
    omega
  · by_cases g' : t j < -(b : Int)
    · exfalso
      have := bh_pos1 (show 0 ≤ -(t j + 1) by omega) a
      rw [Int.neg_mul, Int.add_mul, Int.one_mul] at this
      omega
    · omega
theorem bh_qpos {t : Nat → Int} {n : Nat} (h : ∀ i, 1 ≤ i → i < n → 1 ≤ t i) : ∀ j, j ≤ n → 0 ≤ bh_lo t 1 0 j ∧ 0 ≤ bh_hi t 1 0 j ∧ (1 ≤ j → 1 ≤ bh_hi t 1 0 j) := by
  intro j
  induction j with
  | zero => intro _; rw [bh_lo0, bh_hi0]; omega
  | succ j ih =>
    intro hj
    obtain ⟨a, b, c⟩ := ih (by omega)
    rw [bh_loS, bh_hiS]
    by_cases z : j = 0
    · subst z
      rw [bh_hi0, bh_lo0]
      omega
    · have := Int.mul_le_mul_of_nonneg_right (h j (by omega) (by omega)) b
      have := c (by omega)
      omega
theorem bh_psgn {t : Nat → Int} {n : Nat} (h : ∀ i, 1 ≤ i → i < n → 1 ≤ t i) (h0 : 0 ≤ t 0) : ∀ j, j ≤ n → 0 ≤ bh_lo t 0 1 j ∧ 0 ≤ bh_hi t 0 1 j := by
  intro j
  induction j with
  | zero => intro _; rw [bh_lo0, bh_hi0]; omega
  | succ j ih =>
    intro hj
    obtain ⟨a, b⟩ := ih (by omega)
    rw [bh_loS, bh_hiS]
    have ht : 0 ≤ t j := by
      by_cases z : j = 0
      · subst z; exact h0
      · have := h j (by omega) (by omega)
        omega
    have := Int.mul_nonneg ht b
    omega
theorem bh_nsgn {t : Nat → Int} {n : Nat} (h : ∀ i, 1 ≤ i → i < n → 1 ≤ t i) (h0 : t 0 < 0) : ∀ j, 2 ≤ j → j ≤ n → bh_lo t 0 1 j ≤ 0 ∧ bh_hi t 0 1 j ≤ 0 := by
  intro j
  induction j with
  | zero => intro h2; omega
  | succ j ih =>
    intro h2 hj
    rw [bh_loS, bh_hiS]
    by_cases z : j = 1
    · subst z
      rw [show (1 : Nat) = 0 + 1 from rfl, bh_loS, bh_hiS, bh_hi0, bh_lo0]
      have := Int.mul_le_mul_of_nonneg_right (h 1 (by omega) (by omega)) (show 0 ≤ -t 0 by omega)
      rw [Int.one_mul, Int.mul_neg] at this
      rw [show (0 + 1 : Nat) = 1 from rfl]
      refine ⟨by omega, ?_⟩
      rw [Int.mul_one, Int.add_zero]
      omega
    · obtain ⟨a, b⟩ := ih (by omega) (by omega)
      have := Int.mul_nonneg (show 0 ≤ t j by have := h j (by omega) (by omega); omega) (show 0 ≤ -bh_hi t 0 1 j by omega)
      rw [Int.mul_neg] at this
      omega
/-- convergents are no larger than what they come near to -/
theorem bh_cvBd {t : Nat → Int} {T B : Int} {n b : Nat} (p : bh_Ps t T B n) (hB : 0 < B) (hT : T.natAbs ≤ b) (hb : B.natAbs ≤ b) : ∀ j, j ≤ n → (bh_hi t 0 1 j).natAbs ≤ b ∧ (bh_hi t 1 0 j).natAbs ≤ b := by
  intro j hj
  cases j with
  | zero => rw [bh_hi0, bh_hi0]; omega
  | succ j =>
    have pos := bh_PsPos p hB
    obtain ⟨a1, a2, a3⟩ := bh_PsT p hB j (by omega)
    have a4 := (bh_PsB p hB (j + 1) (by omega)).1
    obtain ⟨e1, e2⟩ := bh_back t T B (j + 1)
    obtain ⟨q1, q2, q3⟩ := bh_qpos pos (j + 1) hj
    constructor
    · by_cases h0 : 0 ≤ t 0
      · obtain ⟨s1, s2⟩ := bh_psgn pos h0 (j + 1) hj
        have u1 := bh_pos1 s2 a1
        have u2 := Int.mul_nonneg s1 a4
        omega
      · by_cases z : j = 0
        · subst z
          rw [bh_hiS, bh_loS, bh_hi0, bh_lo0, Int.mul_one, Int.add_zero, Int.one_mul] at e1
          rw [bh_hiS, bh_hi0, bh_lo0, Int.mul_one, Int.add_zero]
          have u := bh_pos1 (show 0 ≤ -(t 0 + 1) by omega) a1
          rw [Int.neg_mul, Int.add_mul, Int.one_mul] at u
          omega
        · obtain ⟨s1, s2⟩ := bh_nsgn pos (by omega) (j + 1) (by omega) hj
          have u1 := bh_pos1 (show 0 ≤ -bh_hi t 0 1 (j + 1) by omega) a1
          have u2 := Int.mul_nonneg (show 0 ≤ -bh_lo t 0 1 (j + 1) by omega) a4
          rw [Int.neg_mul] at u1 u2
          omega
    · have u1 := bh_pos1 q2 a1
      have u2 := Int.mul_nonneg q1 a4
      omega
end
section
/-! the four results of an operation, what they give, and that more terms give more -/
def bh_T (op : Nat) (p q r s : Int) : Int := if op = 0 then p * s + r * q else if op = 1 then p * s - r * q else if op = 2 then p * r else p * s
def bh_B (op : Nat) (p q r s : Int) : Int := if op = 3 then q * r else q * s
theorem bh_TL (op : Nat) (x y p q p' q' r s : Int) : bh_T op (x * p + y * p') (x * q + y * q') r s = x * bh_T op p q r s + y * bh_T op p' q' r s := by
  unfold bh_T
  by_cases h0 : op = 0
  · simp only [if_pos h0]; grind
  · by_cases h1 : op = 1
    · simp only [if_neg h0, if_pos h1]; grind
    · by_cases h2 : op = 2
      · simp only [if_neg h0, if_neg h1, if_pos h2]; grind
      · simp only [if_neg h0, if_neg h1, if_neg h2]; grind
theorem bh_TR (op : Nat) (x y p q r s r' s' : Int) : bh_T op p q (x * r + y * r') (x * s + y * s') = x * bh_T op p q r s + y * bh_T op p q r' s' := by
  unfold bh_T
  by_cases h0 : op = 0
  · simp only [if_pos h0]; grind
  · by_cases h1 : op = 1
    · simp only [if_neg h0, if_pos h1]; grind
    · by_cases h2 : op = 2
      · simp only [if_neg h0, if_neg h1, if_pos h2]; grind
      · simp only [if_neg h0, if_neg h1, if_neg h2]; grind
theorem bh_BL (op : Nat) (x y p q p' q' r s : Int) : bh_B op (x * p + y * p') (x * q + y * q') r s = x * bh_B op p q r s + y * bh_B op p' q' r s := by
  unfold bh_B
  by_cases h0 : op = 3
  · simp only [if_pos h0]; grind
  · simp only [if_neg h0]; grind
theorem bh_BR (op : Nat) (x y p q r s r' s' : Int) : bh_B op p q (x * r + y * r') (x * s + y * s') = x * bh_B op p q r s + y * bh_B op p q r' s' := by
  unfold bh_B
  by_cases h0 : op = 3
  · simp only [if_pos h0]; grind
  · simp only [if_neg h0]; grind
theorem bh_mulAbs {x y : Int} {a b : Nat} (hx : x.natAbs ≤ a) (hy : y.natAbs ≤ b) : (x * y).natAbs ≤ a * b := by
  rw [Int.natAbs_mul]
  exact Nat.mul_le_mul hx hy
theorem bh_TAbs {op : Nat} {p q r s : Int} {a b : Nat} (hp : p.natAbs ≤ a) (hq : q.natAbs ≤ a) (hr : r.natAbs ≤ b) (hs : s.natAbs ≤ b) : (bh_T op p q r s).natAbs ≤ 2 * (a * b) ∧ (bh_B op p q r s).natAbs ≤ 2 * (a * b) := by
  have h1 := bh_mulAbs hp hs
  have h2 : (r * q).natAbs ≤ a * b := by rw [Int.mul_comm]; exact bh_mulAbs hq hr
  have h3 := bh_mulAbs hp hr
  have h4 := bh_mulAbs hq hs
  have h5 := bh_mulAbs hq hr
  generalize a * b = c at *
  unfold bh_T bh_B
  constructor
  · by_cases h0 : op = 0
    · rw [if_pos h0]; omega
    · by_cases h1 : op = 1
      · rw [if_neg h0, if_pos h1]; omega
      · by_cases h2 : op = 2
        · rw [if_neg h0, if_neg h1, if_pos h2]; omega
        · rw [if_neg h0, if_neg h1, if_neg h2]; omega
  · by_cases h0 : op = 3
    · rw [if_pos h0]; omega
    · rw [if_neg h0]; omega
section
variable (t : Nat → Nat → Int) (n s : Nat → Nat)
/-- an end of node m: numerator with (0, 1), denominator with (1, 0) -/
def bh_en (m w : Nat) (a b : Int) : Int := bh_hi (t m) a b (n m) + (if w = 1 ∧ s m = 0 then bh_lo (t m) a b (n m) else 0)
def bh_CT (op l r c : Nat) : Int := bh_T op (bh_en t n s l (c / 2) 0 1) (bh_en t n s l (c / 2) 1 0) (bh_en t n s r (c % 2) 0 1) (bh_en t n s r (c % 2) 1 0)
def bh_CB (op l r c : Nat) : Int := bh_B op (bh_en t n s l (c / 2) 0 1) (bh_en t n s l (c / 2) 1 0) (bh_en t n s r (c % 2) 0 1) (bh_en t n s r (c % 2) 1 0)
def bh_sg (op r : Nat) : Int := if op = 3 ∧ bh_hi (t r) 0 1 (n r) < 0 then -1 else 1
def bh_NT (op l r c : Nat) : Int := bh_sg t n op r * bh_CT t n s op l r c
def bh_NB (op l r c : Nat) : Int := bh_sg t n op r * bh_CB t n s op l r c
def bh_Brk (op l r : Nat) : Prop := s l = 3 ∨ s r = 3 ∨ (op = 3 ∧ s r = 2 ∧ bh_hi (t r) 0 1 (n r) = 0)
def bh_Avo (r : Nat) : Prop := (0 < bh_en t n s r 0 0 1 ∧ 0 < bh_en t n s r 1 0 1) ∨ (bh_en t n s r 0 0 1 < 0 ∧ bh_en t n s r 1 0 1 < 0)
def bh_Rdy (op l r : Nat) : Prop := n l ≠ 0 ∧ n r ≠ 0 ∧ (op = 3 → bh_Avo t n s r)
def bh_Stop (tm : Nat → Int) (NT NB : Nat → Int) (k z : Nat) : Prop :=
  (z = 2 ∧ k < 64 ∧ ∀ c, c < 4 → bh_eB tm (NT c) (NB c) k = 0) ∨
  (z = 0 ∧ (k = 64 ∨ ((∃ c, c < 4 ∧ bh_eB tm (NT c) (NB c) k ≠ 0) ∧ ¬ ∃ y, ∀ c, c < 4 → bh_fl (bh_eT tm (NT c) (NB c) k) (bh_eB tm (NT c) (NB c) k) y)))
/-- node m holds what its operands l, r give -/
def bh_Res (op l r m : Nat) : Prop :=
  (bh_Brk t n s op l r ∧ s m = 3 ∧ n m = 0) ∨
  (¬ bh_Brk t n s op l r ∧ ¬ bh_Rdy t n s op l r ∧ s m = 0 ∧ n m = 0) ∨
  (¬ bh_Brk t n s op l r ∧ bh_Rdy t n s op l r ∧ n m ≤ 64 ∧ (∀ c, c < 4 → bh_Ps (t m) (bh_NT t n s op l r c) (bh_NB t n s op l r c) (n m)) ∧ bh_Stop (t m) (bh_NT t n s op l r) (bh_NB t n s op l r) (n m) (s m))
def bh_WF (m b : Nat) : Prop := n m ≤ 64 ∧ (s m = 0 ∨ s m = 2 ∨ s m = 3) ∧ (s m = 3 → n m = 0) ∧ (s m = 2 → 0 < n m) ∧ (∀ i, 1 ≤ i → i < n m → 1 ≤ t m i) ∧
  (∀ j, j ≤ n m → (bh_hi (t m) 0 1 j).natAbs ≤ b ∧ (bh_hi (t m) 1 0 j).natAbs ≤ b) ∧ (∀ i, i < n m → (t m i).natAbs ≤ 2147483647)
end
/-- (t', n', s') knows more of m than (t, n, s) -/
def bh_Ref (t t' : Nat → Nat → Int) (n s n' s' : Nat → Nat) (m : Nat) : Prop :=
  n m ≤ n' m ∧ (∀ i, i < n m → t' m i = t m i) ∧ (s m = 2 → s' m = 2 ∧ n' m = n m) ∧ (s m = 3 → s' m = 3) ∧ (0 < n m → s' m ≠ 3)
section
variable {t t' : Nat → Nat → Int} {n s n' s' : Nat → Nat}
theorem bh_en0 (m : Nat) (a b : Int) : bh_en t n s m 0 a b = bh_hi (t m) a b (n m) := by
  unfold bh_en
  rw [if_neg (by omega), Int.add_zero]
theorem bh_lobd {m b : Nat} (h : bh_WF t n s m b) (h1 : 1 ≤ b) : (bh_lo (t m) 0 1 (n m)).natAbs ≤ b ∧ (bh_lo (t m) 1 0 (n m)).natAbs ≤ b := by
  obtain ⟨_, _, _, _, _, h6, _⟩ := h
  cases e : n m with
  | zero => rw [bh_lo0, bh_lo0]; omega
  | succ k => rw [bh_loS, bh_loS]; exact h6 k (by omega)
theorem bh_enbd {m b w : Nat} (h : bh_WF t n s m b) (h1 : 1 ≤ b) : (bh_en t n s m w 0 1).natAbs ≤ 2 * b ∧ (bh_en t n s m w 1 0).natAbs ≤ 2 * b := by
  have l := bh_lobd h h1
  obtain ⟨_, _, _, _, _, h6, _⟩ := h
  have g := h6 (n m) (by omega)
  unfold bh_en
  by_cases c : w = 1 ∧ s m = 0
  · rw [if_pos c, if_pos c]; omega
  · rw [if_neg c, if_neg c]; omega
theorem bh_enq {m b w : Nat} (h : bh_WF t n s m b) (hn : n m ≠ 0) : 1 ≤ bh_en t n s m w 1 0 := by
  obtain ⟨_, _, _, _, h5, _, _⟩ := h
  obtain ⟨a, d, e⟩ := bh_qpos h5 (n m) (by omega)
  have := e (by omega)
  unfold bh_en
  by_cases c : w = 1 ∧ s m = 0
  · rw [if_pos c]; omega
  · rw [if_neg c]; omega
theorem bh_sg1 (op r : Nat) : bh_sg t n op r = 1 ∨ bh_sg t n op r = -1 := by
  unfold bh_sg
  by_cases c : op = 3 ∧ bh_hi (t r) 0 1 (n r) < 0
  · rw [if_pos c]; omega
  · rw [if_neg c]; omega
theorem bh_c2 {c : Nat} (h : c < 4) : c % 2 = 0 ∨ c % 2 = 1 := by omega
theorem bh_d2 {c : Nat} (h : c < 4) : c / 2 = 0 ∨ c / 2 = 1 := by omega
theorem bh_NBpos {op l r c bl br : Nat} (hl : bh_WF t n s l bl) (hr : bh_WF t n s r br) (hy : bh_Rdy t n s op l r) (hc : c < 4) : 0 < bh_NB t n s op l r c := by
  obtain ⟨y1, y2, y3⟩ := hy
  have ql := bh_enq (w := c / 2) hl y1
  have qr := bh_enq (w := c % 2) hr y2
  unfold bh_NB bh_CB bh_B
  by_cases h3 : op = 3
  · rw [if_pos h3]
    have av := y3 h3
    unfold bh_Avo at av
    have e0 := bh_en0 (t := t) (n := n) (s := s) r 0 1
    rcases av with ⟨a0, a1⟩ | ⟨a0, a1⟩
    · have e : bh_sg t n op r = 1 := by
        unfold bh_sg
        rw [if_neg]
        intro z
        omega
      rw [e, Int.one_mul]
      have : 0 < bh_en t n s r (c % 2) 0 1 := by
        rcases bh_c2 hc with z | z
        · rw [z]; exact a0
        · rw [z]; exact a1
      exact Int.mul_pos (by omega) this
    · have e : bh_sg t n op r = -1 := by
        unfold bh_sg
        rw [if_pos]
        exact ⟨h3, by omega⟩
      rw [e]
      have : bh_en t n s r (c % 2) 0 1 < 0 := by
        rcases bh_c2 hc with z | z
        · rw [z]; exact a0
        · rw [z]; exact a1
      have := Int.mul_pos (show 0 < bh_en t n s l (c / 2) 1 0 by omega) (show 0 < -bh_en t n s r (c % 2) 0 1 by omega)
      rw [Int.mul_neg] at this
      omega
  · rw [if_neg h3]
    have e : bh_sg t n op r = 1 := by
      unfold bh_sg
      rw [if_neg]
      intro z
      exact h3 z.1
    rw [e, Int.one_mul]
    exact Int.mul_pos (by omega) (by omega)
theorem bh_sgAbs (op r : Nat) (x : Int) : (bh_sg t n op r * x).natAbs = x.natAbs := by
  rcases bh_sg1 (t := t) (n := n) op r with e | e
  · rw [e, Int.one_mul]
  · rw [e, Int.neg_mul, Int.one_mul, Int.natAbs_neg]
theorem bh_NBd {op l r c bl br : Nat} (hl : bh_WF t n s l bl) (hr : bh_WF t n s r br) (h1 : 1 ≤ bl) (h2 : 1 ≤ br) : (bh_CT t n s op l r c).natAbs ≤ 8 * (bl * br) ∧ (bh_CB t n s op l r c).natAbs ≤ 8 * (bl * br) := by
  have el := bh_enbd (w := c / 2) hl h1
  have er := bh_enbd (w := c % 2) hr h2
  have k := bh_TAbs (op := op) el.1 el.2 er.1 er.2
  have e : 2 * (2 * bl * (2 * br)) = 8 * (bl * br) := by grind
  rw [e] at k
  exact k
theorem bh_NBd0 {op l r bl br : Nat} (hl : bh_WF t n s l bl) (hr : bh_WF t n s r br) : (bh_CT t n s op l r 0).natAbs ≤ 2 * (bl * br) ∧ (bh_CB t n s op l r 0).natAbs ≤ 2 * (bl * br) := by
  obtain ⟨_, _, _, _, _, h6, _⟩ := hl
  obtain ⟨_, _, _, _, _, g6, _⟩ := hr
  have a := h6 (n l) (by omega)
  have b := g6 (n r) (by omega)
  unfold bh_CT bh_CB
  rw [show 0 / 2 = 0 from rfl, show 0 % 2 = 0 from rfl, bh_en0, bh_en0, bh_en0, bh_en0]
  exact bh_TAbs a.1 a.2 b.1 b.2
/-- the result is well formed, with the bound of its weight -/
theorem bh_ResWF {op l r m bl br b : Nat} (hl : bh_WF t n s l bl) (hr : bh_WF t n s r br) (hb : 2 * (bl * br) ≤ b) (h1 : 1 ≤ b) (h2 : b ≤ 2147483647) (h : bh_Res t n s op l r m) : bh_WF t n s m b := by
  rcases h with ⟨_, hs, hn⟩ | ⟨_, _, hs, hn⟩ | ⟨_, hy, h64, hp, hst⟩
  · refine ⟨by omega, by omega, by omega, by omega, fun i _ hi => by omega, fun j hj => ?_, fun i hi => by omega⟩
    have : j = 0 := by omega
    subst this
    rw [bh_hi0, bh_hi0]; omega
  · refine ⟨by omega, by omega, by omega, by omega, fun i _ hi => by omega, fun j hj => ?_, fun i hi => by omega⟩
    have : j = 0 := by omega
    subst this
    rw [bh_hi0, bh_hi0]; omega
  · have hB := bh_NBpos hl hr hy (show 0 < 4 by omega)
    have p := hp 0 (by omega)
    have k := bh_NBd0 (op := op) hl hr
    have kT : (bh_NT t n s op l r 0).natAbs ≤ b := by unfold bh_NT; rw [bh_sgAbs]; omega
    have kB : (bh_NB t n s op l r 0).natAbs ≤ b := by unfold bh_NB; rw [bh_sgAbs]; omega
    refine ⟨h64, ?_, ?_, ?_, bh_PsPos p hB, bh_cvBd p hB kT kB, ?_⟩
    · rcases hst with ⟨z, _⟩ | ⟨z, _⟩ <;> omega
    · intro z
      rcases hst with ⟨z', _⟩ | ⟨z', _⟩ <;> omega
    · intro z
      rcases hst with ⟨_, _, f⟩ | ⟨z', _⟩
      · have f0 := f 0 (by omega)
        by_cases e : n m = 0
        · rw [e, bh_eB0] at f0
          omega
        · omega
      · omega
    · intro i hi
      have := bh_PsBd p hB kT kB i hi
      omega
theorem bh_ext (u u' : Nat → Int) (k : Nat) (hp : ∀ i, i < k → u' i = u i) : ∀ d : Nat, (∀ i, k ≤ i → i < k + d → 1 ≤ u' i) →
    ∃ x y x' y' : Int, 0 ≤ y ∧ y ≤ x ∧ 1 ≤ x ∧ ((d = 0 ∧ x = 1 ∧ y = 0 ∧ x' = 0 ∧ y' = 1) ∨ (0 ≤ y' ∧ y' ≤ x')) ∧
      ∀ a b, bh_hi u' a b (k + d) = x * bh_hi u a b k + y * bh_lo u a b k ∧ bh_lo u' a b (k + d) = x' * bh_hi u a b k + y' * bh_lo u a b k := by
  intro d
  induction d with
  | zero =>
    intro _
    refine ⟨1, 0, 0, 1, by omega, by omega, by omega, Or.inl ⟨rfl, rfl, rfl, rfl, rfl⟩, fun a b => ?_⟩
    have e := bh_cvC (n := k) hp a b
    rw [Nat.add_zero, e.1, e.2]
    omega
  | succ d ih =>
    intro h
    obtain ⟨x, y, x', y', h1, h2, h3, h4, h5⟩ := ih (fun i a b => h i a (by omega))
    have ht := h (k + d) (by omega) (by omega)
    generalize hz : u' (k + d) = z at ht
    refine ⟨z * x + x', z * y + y', x, y, ?_, ?_, ?_, Or.inr ⟨h1, h2⟩, fun a b => ⟨?_, ?_⟩⟩
    · have := Int.mul_nonneg (show 0 ≤ z by omega) h1
      omega
    · have := Int.mul_le_mul_of_nonneg_left h2 (show 0 ≤ z by omega)
      rcases h4 with ⟨_, c1, c2, c3, c4⟩ | h4
      · subst c1 c2 c3 c4
        omega
      · omega
    · have := Int.mul_le_mul_of_nonneg_right ht (show 0 ≤ x by omega)
      omega
    · rw [show k + (d + 1) = (k + d) + 1 from rfl, bh_hiS, hz, (h5 a b).1, (h5 a b).2]
      grind
    · rw [show k + (d + 1) = (k + d) + 1 from rfl, bh_loS, (h5 a b).1]
/-- new ends lie between the old ones -/
theorem bh_cone {m b : Nat} (hr : bh_Ref t t' n s n' s' m) (h : bh_WF t n s m b) (h' : bh_WF t' n' s' m b) (hn : n m ≠ 0) (w : Nat) :
    ∃ x y : Int, 0 ≤ x ∧ 0 ≤ y ∧ 1 ≤ x + y ∧ ∀ a b, bh_en t' n' s' m w a b = x * bh_en t n s m 0 a b + y * bh_en t n s m 1 a b := by
  obtain ⟨r1, r2, r3, r4, r5⟩ := hr
  obtain ⟨f1, f2, f3, f4, f5, f6, f7⟩ := h
  obtain ⟨g1, g2, g3, g4, g5, g6, g7⟩ := h'
  have s3 := r5 (by omega)
  rcases f2 with z | z | z
  · obtain ⟨d, hd⟩ : ∃ d, n' m = n m + d := ⟨n' m - n m, by omega⟩
    obtain ⟨x, y, x', y', h1, h2, h3, h4, h5⟩ := bh_ext (t m) (t' m) (n m) r2 d (fun i a b => g5 i (by omega) (by omega))
    by_cases c : w = 1 ∧ s' m = 0
    · by_cases d0 : d = 0
      · refine ⟨0, 1, by omega, by omega, by omega, fun a b => ?_⟩
        have e := bh_cvC (t := t' m) (t' := t m) (n := n m) r2 a b
        subst d0
        rw [bh_en0]
        unfold bh_en
        rw [if_pos c, if_pos ⟨rfl, z⟩, hd, Nat.add_zero, e.1, e.2]
        omega
      · refine ⟨(x + x') - (y + y'), y + y', by omega, by omega, by omega, fun a b => ?_⟩
        rw [bh_en0]
        unfold bh_en
        rw [if_pos c, if_pos ⟨rfl, z⟩, hd, (h5 a b).1, (h5 a b).2]
        grind
    · refine ⟨x - y, y, by omega, by omega, by omega, fun a b => ?_⟩
      rw [bh_en0]
      unfold bh_en
      rw [if_neg c, if_pos ⟨rfl, z⟩, hd, (h5 a b).1]
      grind
  · obtain ⟨k1, k2⟩ := r3 z
    refine ⟨1, 0, by omega, by omega, by omega, fun a b => ?_⟩
    have e := bh_cvC (t := t' m) (t' := t m) (n := n m) r2 a b
    rw [bh_en0]
    unfold bh_en
    rw [if_neg (by omega), k2, e.1]
    omega
  · omega
theorem bh_quad {op l r c bl br : Nat} (al : bh_Ref t t' n s n' s' l) (ar : bh_Ref t t' n s n' s' r) (hl : bh_WF t n s l bl) (hr : bh_WF t n s r br) (hl' : bh_WF t' n' s' l bl) (hr' : bh_WF t' n' s' r br) (nl : n l ≠ 0) (nr : n r ≠ 0) :
    ∃ k0 k1 k2 k3 : Int, 0 ≤ k0 ∧ 0 ≤ k1 ∧ 0 ≤ k2 ∧ 0 ≤ k3 ∧ 1 ≤ k0 + k1 + k2 + k3 ∧
      bh_CT t' n' s' op l r c = k0 * bh_CT t n s op l r 0 + k1 * bh_CT t n s op l r 1 + k2 * bh_CT t n s op l r 2 + k3 * bh_CT t n s op l r 3 ∧
      bh_CB t' n' s' op l r c = k0 * bh_CB t n s op l r 0 + k1 * bh_CB t n s op l r 1 + k2 * bh_CB t n s op l r 2 + k3 * bh_CB t n s op l r 3 := by
  obtain ⟨x, y, x1, x2, x3, x4⟩ := bh_cone al hl hl' nl (c / 2)
  obtain ⟨z, u, z1, z2, z3, z4⟩ := bh_cone ar hr hr' nr (c % 2)
  refine ⟨x * z, x * u, y * z, y * u, Int.mul_nonneg x1 z1, Int.mul_nonneg x1 z2, Int.mul_nonneg x2 z1, Int.mul_nonneg x2 z2, ?_, ?_, ?_⟩
  · have e : x * z + x * u + y * z + y * u = (x + y) * (z + u) := by grind
    rw [e]
    have := Int.mul_pos (show 0 < x + y by omega) (show 0 < z + u by omega)
    omega
  · unfold bh_CT
    rw [x4, x4, z4, z4, bh_TL, bh_TR, bh_TR]
    simp only [Nat.reduceDiv, Nat.reduceMod]
    grind
  · unfold bh_CB
    rw [x4, x4, z4, z4, bh_BL, bh_BR, bh_BR]
    simp only [Nat.reduceDiv, Nat.reduceMod]
    grind
theorem bh_eu4 (u : Nat → Int) (k0 k1 k2 k3 T0 T1 T2 T3 B0 B1 B2 B3 : Int) (j : Nat) :
    bh_eT u (k0 * T0 + k1 * T1 + k2 * T2 + k3 * T3) (k0 * B0 + k1 * B1 + k2 * B2 + k3 * B3) j = k0 * bh_eT u T0 B0 j + k1 * bh_eT u T1 B1 j + k2 * bh_eT u T2 B2 j + k3 * bh_eT u T3 B3 j ∧
    bh_eB u (k0 * T0 + k1 * T1 + k2 * T2 + k3 * T3) (k0 * B0 + k1 * B1 + k2 * B2 + k3 * B3) j = k0 * bh_eB u T0 B0 j + k1 * bh_eB u T1 B1 j + k2 * bh_eB u T2 B2 j + k3 * bh_eB u T3 B3 j := by
  have a := bh_euA u (k0 * T0 + k1 * T1 + k2 * T2) (k0 * B0 + k1 * B1 + k2 * B2) (k3 * T3) (k3 * B3) j
  have b := bh_euA u (k0 * T0 + k1 * T1) (k0 * B0 + k1 * B1) (k2 * T2) (k2 * B2) j
  have c := bh_euL u k0 k1 T0 B0 T1 B1 j
  have d := bh_euM u k2 T2 B2 j
  have e := bh_euM u k3 T3 B3 j
  rw [a.1, a.2, b.1, b.2, c.1, c.2, d.1, d.2, e.1, e.2]
  exact ⟨rfl, rfl⟩
/-- the sign and the readiness last -/
theorem bh_avoN {r br : Nat} (ar : bh_Ref t t' n s n' s' r) (hr : bh_WF t n s r br) (hr' : bh_WF t' n' s' r br) (nr : n r ≠ 0) (h : bh_Avo t n s r) :
    bh_Avo t' n' s' r ∧ (bh_hi (t' r) 0 1 (n' r) < 0 ↔ bh_hi (t r) 0 1 (n r) < 0) ∧ bh_hi (t' r) 0 1 (n' r) ≠ 0 := by
  obtain ⟨x, y, x1, x2, x3, x4⟩ := bh_cone ar hr hr' nr 0
  obtain ⟨z, u, z1, z2, z3, z4⟩ := bh_cone ar hr hr' nr 1
  have e0 := x4 0 1
  have e1 := z4 0 1
  have d0 := bh_en0 (t := t) (n := n) (s := s) r 0 1
  have d1 := bh_en0 (t := t') (n := n') (s := s') r 0 1
  unfold bh_Avo at *
  rcases h with ⟨a, b⟩ | ⟨a, b⟩
  · have p1 := bh_pos1 x1 a
    have p2 := bh_pos1 x2 b
    have p3 := bh_pos1 z1 a
    have p4 := bh_pos1 z2 b
    refine ⟨Or.inl ⟨by omega, by omega⟩, by omega, by omega⟩
  · have p1 := bh_pos1 x1 (show 0 < -bh_en t n s r 0 0 1 by omega)
    have p2 := bh_pos1 x2 (show 0 < -bh_en t n s r 1 0 1 by omega)
    have p3 := bh_pos1 z1 (show 0 < -bh_en t n s r 0 0 1 by omega)
    have p4 := bh_pos1 z2 (show 0 < -bh_en t n s r 1 0 1 by omega)
    rw [Int.mul_neg] at p1 p2 p3 p4
    refine ⟨Or.inr ⟨by omega, by omega⟩, by omega, by omega⟩
theorem bh_sgN {op r br : Nat} (ar : bh_Ref t t' n s n' s' r) (hr : bh_WF t n s r br) (hr' : bh_WF t' n' s' r br) (nr : n r ≠ 0) (h : op = 3 → bh_Avo t n s r) : bh_sg t' n' op r = bh_sg t n op r := by
  unfold bh_sg
  by_cases h3 : op = 3
  · have k := (bh_avoN ar hr hr' nr (h h3)).2.1
    by_cases c : bh_hi (t r) 0 1 (n r) < 0
    · rw [if_pos ⟨h3, k.mpr c⟩, if_pos ⟨h3, c⟩]
    · rw [if_neg (fun z => c (k.mp z.2)), if_neg (fun z => c z.2)]
  · rw [if_neg (fun z => h3 z.1), if_neg (fun z => h3 z.1)]
/-- the refinement lemma: operands that know more give a result that knows more -/
theorem bh_RefRes {op l r m bl br : Nat} (al : bh_Ref t t' n s n' s' l) (ar : bh_Ref t t' n s n' s' r) (hl : bh_WF t n s l bl) (hr : bh_WF t n s r br) (hl' : bh_WF t' n' s' l bl) (hr' : bh_WF t' n' s' r br)
    (h : bh_Res t n s op l r m) (h' : bh_Res t' n' s' op l r m) : bh_Ref t t' n s n' s' m := by
  rcases h with ⟨hb, hs, hn⟩ | ⟨_, _, hs, hn⟩ | ⟨hb, hy, h64, hp, hst⟩
  · have hb' : bh_Brk t' n' s' op l r := by
      unfold bh_Brk at *
      rcases hb with z | z | ⟨z1, z2, z3⟩
      · exact Or.inl (al.2.2.2.1 z)
      · exact Or.inr (Or.inl (ar.2.2.2.1 z))
      · obtain ⟨k1, k2⟩ := ar.2.2.1 z2
        refine Or.inr (Or.inr ⟨z1, k1, ?_⟩)
        rw [k2, (bh_cvC (t := t' r) (t' := t r) (n := n r) ar.2.1 0 1).1]
        exact z3
    rcases h' with ⟨_, hs', hn'⟩ | ⟨z, _⟩ | ⟨z, _⟩
    · exact ⟨by omega, fun i hi => by omega, fun z => by omega, fun _ => hs', fun z => by omega⟩
    · exact absurd hb' z
    · exact absurd hb' z
  · exact ⟨by omega, fun i hi => by omega, fun z => by omega, fun z => by omega, fun z => by omega⟩
  · obtain ⟨y1, y2, y3⟩ := hy
    have nb : ¬ bh_Brk t' n' s' op l r := by
      unfold bh_Brk
      rintro (z | z | ⟨z1, z2, z3⟩)
      · exact al.2.2.2.2 (by omega) z
      · exact ar.2.2.2.2 (by omega) z
      · exact (bh_avoN ar hr hr' y2 (y3 z1)).2.2 z3
    have rd : bh_Rdy t' n' s' op l r := ⟨by have := al.1; omega, by have := ar.1; omega, fun z => (bh_avoN ar hr hr' y2 (y3 z)).1⟩
    have sg := bh_sgN (op := op) ar hr hr' y2 y3
    have qd : ∀ c, c < 4 → ∃ k0 k1 k2 k3 : Int, 0 ≤ k0 ∧ 0 ≤ k1 ∧ 0 ≤ k2 ∧ 0 ≤ k3 ∧ 1 ≤ k0 + k1 + k2 + k3 ∧ ∀ u j,
        bh_eT u (bh_NT t' n' s' op l r c) (bh_NB t' n' s' op l r c) j = k0 * bh_eT u (bh_NT t n s op l r 0) (bh_NB t n s op l r 0) j + k1 * bh_eT u (bh_NT t n s op l r 1) (bh_NB t n s op l r 1) j + k2 * bh_eT u (bh_NT t n s op l r 2) (bh_NB t n s op l r 2) j + k3 * bh_eT u (bh_NT t n s op l r 3) (bh_NB t n s op l r 3) j ∧
        bh_eB u (bh_NT t' n' s' op l r c) (bh_NB t' n' s' op l r c) j = k0 * bh_eB u (bh_NT t n s op l r 0) (bh_NB t n s op l r 0) j + k1 * bh_eB u (bh_NT t n s op l r 1) (bh_NB t n s op l r 1) j + k2 * bh_eB u (bh_NT t n s op l r 2) (bh_NB t n s op l r 2) j + k3 * bh_eB u (bh_NT t n s op l r 3) (bh_NB t n s op l r 3) j := by
      intro c hc
      obtain ⟨k0, k1, k2, k3, p0, p1, p2, p3, ps, e1, e2⟩ := bh_quad (op := op) (c := c) al ar hl hr hl' hr' y1 y2
      refine ⟨k0, k1, k2, k3, p0, p1, p2, p3, ps, fun u j => ?_⟩
      have eT : bh_NT t' n' s' op l r c = k0 * bh_NT t n s op l r 0 + k1 * bh_NT t n s op l r 1 + k2 * bh_NT t n s op l r 2 + k3 * bh_NT t n s op l r 3 := by
        unfold bh_NT
        rw [sg, e1]
        generalize bh_sg t n op r = g
        grind
      have eB : bh_NB t' n' s' op l r c = k0 * bh_NB t n s op l r 0 + k1 * bh_NB t n s op l r 1 + k2 * bh_NB t n s op l r 2 + k3 * bh_NB t n s op l r 3 := by
        unfold bh_NB
        rw [sg, e2]
        generalize bh_sg t n op r = g
        grind
      rw [eT, eB]
      exact bh_eu4 u k0 k1 k2 k3 _ _ _ _ _ _ _ _ j
    have fl : ∀ j, j < n m → ∀ c, c < 4 → bh_fl (bh_eT (t m) (bh_NT t' n' s' op l r c) (bh_NB t' n' s' op l r c) j) (bh_eB (t m) (bh_NT t' n' s' op l r c) (bh_NB t' n' s' op l r c) j) (t m j) := by
      intro j hj c hc
      obtain ⟨k0, k1, k2, k3, p0, p1, p2, p3, ps, e⟩ := qd c hc
      rw [(e (t m) j).1, (e (t m) j).2]
      exact bh_flL p0 p1 p2 p3 ps (hp 0 (by omega) j hj) (hp 1 (by omega) j hj) (hp 2 (by omega) j hj) (hp 3 (by omega) j hj)
    rcases h' with ⟨z, _⟩ | ⟨_, z, _⟩ | ⟨_, _, h64', hp', hst'⟩
    · exact absurd z nb
    · exact absurd rd z
    · have pre : ∀ j, j ≤ n m → j ≤ n' m ∧ ∀ i, i < j → t' m i = t m i := by
        intro j
        induction j with
        | zero => intro _; exact ⟨by omega, fun i hi => by omega⟩
        | succ j ih =>
          intro hj
          obtain ⟨i1, i2⟩ := ih (by omega)
          have cg : ∀ c, bh_eT (t' m) (bh_NT t' n' s' op l r c) (bh_NB t' n' s' op l r c) j = bh_eT (t m) (bh_NT t' n' s' op l r c) (bh_NB t' n' s' op l r c) j ∧ bh_eB (t' m) (bh_NT t' n' s' op l r c) (bh_NB t' n' s' op l r c) j = bh_eB (t m) (bh_NT t' n' s' op l r c) (bh_NB t' n' s' op l r c) j := fun c => bh_euC i2 _ _
          have lt : j < n' m := by
            by_cases z : j < n' m
            · exact z
            · exfalso
              have e : n' m = j := by omega
              rw [e] at hst'
              rcases hst' with ⟨_, _, q⟩ | ⟨_, q | ⟨_, q⟩⟩
              · have q0 := q 0 (by omega)
                rw [(cg 0).2] at q0
                have := (fl j (by omega) 0 (by omega)).1
                omega
              · omega
              · refine q ⟨t m j, fun c hc => ?_⟩
                rw [(cg c).1, (cg c).2]
                exact fl j (by omega) c hc
          refine ⟨by omega, fun i hi => ?_⟩
          by_cases z : i = j
          · subst z
            have f1 := hp' 0 (by omega) i lt
            rw [(cg 0).1, (cg 0).2] at f1
            exact bh_flU f1 (fl i (by omega) 0 (by omega))
          · exact i2 i (by omega)
      obtain ⟨q1, q2⟩ := pre (n m) (by omega)
      refine ⟨q1, q2, fun z => ?_, fun z => ?_, fun _ => ?_⟩
      · have st : n m < 64 ∧ ∀ c, c < 4 → bh_eB (t m) (bh_NT t n s op l r c) (bh_NB t n s op l r c) (n m) = 0 := by
          rcases hst with ⟨_, a, b⟩ | ⟨a, _⟩
          · exact ⟨a, b⟩
          · omega
        have zr : ∀ c, c < 4 → bh_eB (t' m) (bh_NT t' n' s' op l r c) (bh_NB t' n' s' op l r c) (n m) = 0 := by
          intro c hc
          obtain ⟨k0, k1, k2, k3, p0, p1, p2, p3, ps, e⟩ := qd c hc
          rw [(bh_euC q2 _ _).2, (e (t m) (n m)).2, st.2 0 (by omega), st.2 1 (by omega), st.2 2 (by omega), st.2 3 (by omega)]
          omega
        have eq : n' m = n m := by
          by_cases y : n' m = n m
          · exact y
          · exfalso
            have := (hp' 0 (by omega) (n m) (by omega)).1
            have := zr 0 (by omega)
            omega
        refine ⟨?_, eq⟩
        rcases hst' with ⟨a, _⟩ | ⟨a, b | ⟨⟨c, hc, b⟩, _⟩⟩
        · exact a
        · omega
        · rw [eq] at b
          exact absurd (zr c hc) b
      · rcases hst with ⟨a, _⟩ | ⟨a, _⟩ <;> omega
      · rcases hst' with ⟨a, _⟩ | ⟨a, _⟩ <;> omega
theorem bh_RefRefl {m b : Nat} (h : bh_WF t n s m b) : bh_Ref t t n s n s m := by
  obtain ⟨_, h2, h3, _⟩ := h
  exact ⟨by omega, fun _ _ => rfl, fun z => ⟨z, rfl⟩, fun z => z, fun z y => by have := h3 y; omega⟩
/-- both ways: the same -/
theorem bh_RefAnti {m b : Nat} (h : bh_WF t n s m b) (h' : bh_WF t' n' s' m b) (a : bh_Ref t t' n s n' s' m) (a' : bh_Ref t' t n' s' n s m) : n' m = n m ∧ s' m = s m := by
  obtain ⟨_, h2, _⟩ := h
  obtain ⟨_, g2, _⟩ := h'
  obtain ⟨a1, a2, a3, a4, a5⟩ := a
  obtain ⟨b1, b2, b3, b4, b5⟩ := a'
  refine ⟨by omega, ?_⟩
  rcases h2 with z | z | z
  · rcases g2 with y | y | y
    · omega
    · have := (b3 y).1; omega
    · have := b4 y; omega
  · exact (a3 z).1.trans z.symm
  · exact (a4 z).trans z.symm
end
end
section
/-! longs as classes of Ints -/
def bh_l (z : Int) : Int64 := Int64.ofInt z
def bh_i (z : Int) : Int32 := Int32.ofInt z
theorem bh_lA (a b : Int) : bh_l (a + b) = bh_l a + bh_l b := Int64.ofInt_add a b
theorem bh_lS (a b : Int) : bh_l (a - b) = bh_l a - bh_l b := Int64.ofInt_sub a b
theorem bh_lM (a b : Int) : bh_l (a * b) = bh_l a * bh_l b := Int64.ofInt_mul a b
theorem bh_lN (a : Int) : bh_l (-a) = -bh_l a := Int64.ofInt_neg a
theorem bh_l0 : bh_l 0 = 0 := rfl
theorem bh_l1 : bh_l 1 = 1 := rfl
theorem bh_lm1 : bh_l (-1) = -1 := rfl
theorem bh_lT {z : Int} (h : z.natAbs < 9223372036854775808) : (bh_l z).toInt = z := Int64.toInt_ofInt_of_le (by omega) (by omega)
theorem bh_lof (x : Int64) : bh_l x.toInt = x := Int64.ofInt_toInt x
theorem bh_lE {a b : Int} (ha : a.natAbs < 9223372036854775808) (hb : b.natAbs < 9223372036854775808) : bh_l a = bh_l b ↔ a = b := by
  rw [← Int64.toInt_inj, bh_lT ha, bh_lT hb]
theorem bh_lLe {a b : Int} (ha : a.natAbs < 9223372036854775808) (hb : b.natAbs < 9223372036854775808) : bh_l a ≤ bh_l b ↔ a ≤ b := by
  rw [Int64.le_iff_toInt_le, bh_lT ha, bh_lT hb]
theorem bh_lLt {a b : Int} (ha : a.natAbs < 9223372036854775808) (hb : b.natAbs < 9223372036854775808) : bh_l a < bh_l b ↔ a < b := by
  rw [Int64.lt_iff_toInt_lt, bh_lT ha, bh_lT hb]
theorem bh_lE0 {a : Int} (ha : a.natAbs < 9223372036854775808) : bh_l a = 0 ↔ a = 0 := bh_lE (b := 0) ha (by omega)
theorem bh_lLe0 {a : Int} (ha : a.natAbs < 9223372036854775808) : bh_l a ≤ 0 ↔ a ≤ 0 := bh_lLe (b := 0) ha (by omega)
theorem bh_l0Le {a : Int} (ha : a.natAbs < 9223372036854775808) : 0 ≤ bh_l a ↔ 0 ≤ a := bh_lLe (a := 0) (by omega) ha
theorem bh_lLt0 {a : Int} (ha : a.natAbs < 9223372036854775808) : bh_l a < 0 ↔ a < 0 := bh_lLt (b := 0) ha (by omega)
theorem bh_l0Lt {a : Int} (ha : a.natAbs < 9223372036854775808) : 0 < bh_l a ↔ 0 < a := bh_lLt (a := 0) (by omega) ha
theorem bh_lD {a b : Int} (ha : a.natAbs < 9223372036854775808) (hb : b.natAbs < 9223372036854775808) : bh_l a / bh_l b = bh_l (a.tdiv b) := by
  have h1 : Int64.minValue.toInt = -9223372036854775808 := by decide
  have h2 : Int64.maxValue.toInt = 9223372036854775807 := by decide
  exact (Int64.ofInt_tdiv (by omega) (by omega) (by omega) (by omega)).symm
theorem bh_lI (z : Int) : (bh_l z).toInt32 = bh_i z := Int64.toInt32_ofInt
theorem bh_iL {z : Int} (h : z.natAbs ≤ 2147483647) : (bh_i z).toInt64 = bh_l z := by
  have h1 : Int32.minValue.toInt = -2147483648 := by decide
  have h2 : Int32.maxValue.toInt = 2147483647 := by decide
  exact Int32.toInt64_ofInt (by omega) (by omega)
theorem bh_iof (x : Int32) : bh_i x.toInt = x := Int32.ofInt_toInt x
theorem bh_xL (x : Int32) : x.toInt64 = bh_l x.toInt := rfl
theorem bh_nL (k : Nat) (h : k < 2147483648) : (nI k).toInt64 = bh_l k := by
  rw [bh_xL, nI_toInt h]
theorem bh_td (T B : Int) (hB : B ≠ 0) : ∃ q r : Int, T.tdiv B = q ∧ T = q * B + r ∧ (0 ≤ T → 0 ≤ r) ∧ (T < 0 → r ≤ 0) ∧ r.natAbs < B.natAbs := by
  refine ⟨T.tdiv B, T.tmod B, rfl, (Int.tdiv_mul_add_tmod T B).symm, fun h => Int.tmod_nonneg B h, fun h => ?_, ?_⟩
  · have := Int.tmod_nonneg B (show 0 ≤ -T by omega)
    rw [Int.neg_tmod] at this
    omega
  · rw [Int.natAbs_tmod]
    exact Nat.mod_lt _ (by omega)
/-- the floor of T / B, B of either sign -/
def bh_flr (T B z : Int) : Prop := bh_fl T B z ∨ bh_fl (-T) (-B) z
theorem bh_flr1 {T B q r : Int} (e : T = q * B + r) (h : (0 < B ∧ 0 ≤ r ∧ r < B) ∨ (B < 0 ∧ r ≤ 0 ∧ B < r)) : bh_flr T B q := by
  rcases h with ⟨h1, h2, h3⟩ | ⟨h1, h2, h3⟩
  · exact Or.inl ⟨h1, by omega, by omega⟩
  · refine Or.inr ⟨by omega, ?_, ?_⟩
    · rw [Int.mul_neg]; omega
    · rw [Int.mul_neg]; omega
theorem bh_flr2 {T B q r : Int} (e : T = q * B + r) (h : (0 < B ∧ r < 0 ∧ -B < r) ∨ (B < 0 ∧ 0 < r ∧ r < -B)) : bh_flr T B (q - 1) := by
  refine bh_flr1 (r := r + B) ?_ (by omega)
  rw [Int.sub_mul, Int.one_mul]
  omega
/-- a floor of a sign's multiple -/
theorem bh_flrS {T B g z : Int} (hg : g = 1 ∨ g = -1) (hB : 0 < B) (h : bh_flr (g * T) (g * B) z) : bh_fl T B z := by
  rcases hg with rfl | rfl
  · rw [Int.one_mul, Int.one_mul] at h
    rcases h with h | h
    · exact h
    · have := h.1
      omega
  · rw [Int.neg_mul, Int.one_mul, Int.neg_mul, Int.one_mul] at h
    rcases h with h | h
    · have := h.1
      omega
    · rw [Int.neg_neg, Int.neg_neg] at h
      exact h
theorem bh_flAbs {T B z : Int} {b : Nat} (h : bh_fl T B z) (hT : T.natAbs ≤ b) : z.natAbs ≤ b := by
  obtain ⟨a, d, c⟩ := h
  by_cases g : (b : Int) < z
  · exfalso
    have := bh_pos1 (show 0 ≤ z by omega) a
    omega
  · by_cases g' : z < -(b : Int)
    · exfalso
      have := bh_pos1 (show 0 ≤ -(z + 1) by omega) a
      rw [Int.neg_mul, Int.add_mul, Int.one_mul] at this
      omega
    · omega
theorem bh_flrAbs {T B z : Int} {b : Nat} (h : bh_flr T B z) (hT : T.natAbs ≤ b) : z.natAbs ≤ b := by
  rcases h with h | h
  · exact bh_flAbs h hT
  · exact bh_flAbs h (by rw [Int.natAbs_neg]; exact hT)
end
section
/-! the component's small methods -/
theorem bx_m64 (m i : Nat) : nI m * 64 + nI i = nI (m * 64 + i) := by
  rw [show (64 : Int32) = nI 64 from rfl, pk_mul, nI_add]
theorem bx_m8 (m : Nat) : nI m * 8 = nI (m * 8) := pk_mul m 8
theorem bx_m2 (m : Nat) : nI m * 2 = nI (m * 2) := pk_mul m 2
theorem bx_m84 (m : Nat) : nI m * 8 + 4 = nI (m * 8 + 4) := by
  rw [bx_m8]; exact nI_add (m * 8) 4
theorem bx_m21 (m : Nat) : nI m * 2 + 1 = nI (m * 2 + 1) := by
  rw [bx_m2, nI_1]
theorem bx_s1 {k : Nat} (h : k ≤ 64) : (nI k - 1).toInt = (k : Int) - 1 := pk_sub_toInt (b := 1) (by omega) (by omega)
theorem bx_s2 {k : Nat} (h : k ≤ 64) : (nI k - 2).toInt = (k : Int) - 2 := pk_sub_toInt (b := 2) (by omega) (by omega)
def bx_cs (st : Nat → Int64) (R c : Nat) : Int64 := if c = 0 then st R else if c = 1 then st R + st (R + 1) else if c = 2 then st R + st (R + 2) else st R + st (R + 1) + st (R + 2) + st (R + 3)
def bx_tf (st : Nat → Int64) (A : Nat) (T : Int64) : Nat → Int64 := vp_updL (vp_updL st A (st (A + 4))) (A + 4) (st A - T * st (A + 4))
def bx_off4 (st : Nat → Int64) (A : Nat) (T : Int64) : Nat → Int64 := bx_tf (bx_tf (bx_tf (bx_tf st A T) (A + 1) T) (A + 2) T) (A + 3) T
def bx_tk (st : Nat → Int64) (A w : Nat) (T : Int64) : Nat → Int64 := vp_updL (vp_updL st A (st A * T + st (A + w))) (A + w) (st A)
def bx_tk4 (st : Nat → Int64) (A w ac : Nat) (T : Int64) : Nat → Int64 := bx_tk (bx_tk (bx_tk (bx_tk st A w T) (A + ac) w T) (A + 4) w T) (A + 4 + ac) w T
def bx_cl (st : Nat → Int64) (A : Nat) : Nat → Int64 := vp_updL st A 0
def bx_cl4 (st : Nat → Int64) (A w ac : Nat) : Nat → Int64 := bx_cl (bx_cl (bx_cl (bx_cl st (A + w)) (A + ac + w)) (A + 4 + w)) (A + 4 + ac + w)
theorem bh_flrU {T B z z' : Int} (h : bh_flr T B z) (h' : bh_flr T B z') : z = z' := by
  rcases h with h | h
  · rcases h' with h' | h'
    · exact bh_flU h h'
    · have := h.1
      have := h'.1
      omega
  · rcases h' with h' | h'
    · have := h.1
      have := h'.1
      omega
    · exact bh_flU h h'
section
variable {f_inputs f_operations f_height f_nodes f_last f_clock : Int32} {a_kinds a_weights a_statuses a_known a_positions a_freshAt a_operands a_taken a_terms a_work : Nat → Int32} {a_numers a_denoms a_state : Nat → Int64}
theorem bx_numerAt {post : Int64 → Prop} {m k : Nat} {t : Nat → Int} (hm : m < 10) (hk : k ≤ 64) (hn : ∀ i, i < k → a_numers (m * 64 + i) = bh_l (bh_hi t 0 1 (i + 1))) {x : Int32} (hx : x.toInt = (k : Int) - 1) (h : post (bh_l (bh_hi t 0 1 k))) : wpX_numerAt post (f_inputs, f_operations, f_height, f_nodes, f_last, f_clock, a_kinds, a_weights, a_statuses, a_known, a_positions, a_freshAt, a_operands, a_taken, a_terms, a_numers, a_denoms, a_state, a_work) (nI m) x := by
  cases k with
  | zero =>
    have e : x = -1 := Int32.toInt_inj.mp (by rw [hx]; decide)
    subst e
    exact br_t (by decide) (br_t rfl h)
  | succ k =>
    have e : x = nI k := Int32.toInt_inj.mp (by rw [hx, nI_toInt (by omega)]; omega)
    subst e
    rw [← hn k (by omega)] at h
    refine br_f (nI_pos (by omega)) ⟨?_, ?_⟩
    · rw [bx_m64]; exact vp_in_nI (by omega) (by decide)
    · rw [bx_m64, nI_clamp (by omega)]; exact h
theorem bx_numerAt2 {post : Int64 → Prop} {m k : Nat} {t : Nat → Int} (hm : m < 10) (hk : k ≤ 64) (hn : ∀ i, i < k → a_numers (m * 64 + i) = bh_l (bh_hi t 0 1 (i + 1))) {x : Int32} (hx : x.toInt = (k : Int) - 2) (h : post (bh_l (bh_lo t 0 1 k))) : wpX_numerAt post (f_inputs, f_operations, f_height, f_nodes, f_last, f_clock, a_kinds, a_weights, a_statuses, a_known, a_positions, a_freshAt, a_operands, a_taken, a_terms, a_numers, a_denoms, a_state, a_work) (nI m) x := by
  cases k with
  | zero =>
    have e : x = -2 := Int32.toInt_inj.mp (by rw [hx]; decide)
    subst e
    exact br_t (by decide) (br_f (by decide) h)
  | succ k =>
    exact bx_numerAt (k := k) hm (by omega) (fun i hi => hn i (by omega)) (by rw [hx]; omega) h
theorem bx_denomAt {post : Int64 → Prop} {m k : Nat} {t : Nat → Int} (hm : m < 10) (hk : k ≤ 64) (hn : ∀ i, i < k → a_denoms (m * 64 + i) = bh_l (bh_hi t 1 0 (i + 1))) {x : Int32} (hx : x.toInt = (k : Int) - 1) (h : post (bh_l (bh_hi t 1 0 k))) : wpX_denomAt post (f_inputs, f_operations, f_height, f_nodes, f_last, f_clock, a_kinds, a_weights, a_statuses, a_known, a_positions, a_freshAt, a_operands, a_taken, a_terms, a_numers, a_denoms, a_state, a_work) (nI m) x := by
  cases k with
  | zero =>
    have e : x = -1 := Int32.toInt_inj.mp (by rw [hx]; decide)
    subst e
    exact br_t (by decide) (br_t rfl h)
  | succ k =>
    have e : x = nI k := Int32.toInt_inj.mp (by rw [hx, nI_toInt (by omega)]; omega)
    subst e
    rw [← hn k (by omega)] at h
    refine br_f (nI_pos (by omega)) ⟨?_, ?_⟩
    · rw [bx_m64]; exact vp_in_nI (by omega) (by decide)
    · rw [bx_m64, nI_clamp (by omega)]; exact h
theorem bx_denomAt2 {post : Int64 → Prop} {m k : Nat} {t : Nat → Int} (hm : m < 10) (hk : k ≤ 64) (hn : ∀ i, i < k → a_denoms (m * 64 + i) = bh_l (bh_hi t 1 0 (i + 1))) {x : Int32} (hx : x.toInt = (k : Int) - 2) (h : post (bh_l (bh_lo t 1 0 k))) : wpX_denomAt post (f_inputs, f_operations, f_height, f_nodes, f_last, f_clock, a_kinds, a_weights, a_statuses, a_known, a_positions, a_freshAt, a_operands, a_taken, a_terms, a_numers, a_denoms, a_state, a_work) (nI m) x := by
  cases k with
  | zero =>
    have e : x = -2 := Int32.toInt_inj.mp (by rw [hx]; decide)
    subst e
    exact br_t (by decide) (br_f (by decide) h)
  | succ k =>
    exact bx_denomAt (k := k) hm (by omega) (fun i hi => hn i (by omega)) (by rw [hx]; omega) h
theorem bx_nextN {post : Int64 → Prop} {m k : Nat} {t : Nat → Int} {x : Int32} (hm : m < 10) (hk : k ≤ 64) (hkn : a_known m = nI k) (hn : ∀ i, i < k → a_numers (m * 64 + i) = bh_l (bh_hi t 0 1 (i + 1)))
    (h : post (x.toInt64 * bh_l (bh_hi t 0 1 k) + bh_l (bh_lo t 0 1 k))) : wpX_nextNumerator post (f_inputs, f_operations, f_height, f_nodes, f_last, f_clock, a_kinds, a_weights, a_statuses, a_known, a_positions, a_freshAt, a_operands, a_taken, a_terms, a_numers, a_denoms, a_state, a_work) (nI m) x := by
  refine And.intro (vp_in_nI hm (by decide)) (nm_r (e' := nI k) (by rw [nI_clamp (by omega)]; exact hkn) ?_)
  refine bx_numerAt hm hk hn (bx_s1 hk) ?_
  exact bx_numerAt2 hm hk hn (bx_s2 hk) h
theorem bx_nextD {post : Int64 → Prop} {m k : Nat} {t : Nat → Int} {x : Int32} (hm : m < 10) (hk : k ≤ 64) (hkn : a_known m = nI k) (hn : ∀ i, i < k → a_denoms (m * 64 + i) = bh_l (bh_hi t 1 0 (i + 1)))
    (h : post (x.toInt64 * bh_l (bh_hi t 1 0 k) + bh_l (bh_lo t 1 0 k))) : wpX_nextDenominator post (f_inputs, f_operations, f_height, f_nodes, f_last, f_clock, a_kinds, a_weights, a_statuses, a_known, a_positions, a_freshAt, a_operands, a_taken, a_terms, a_numers, a_denoms, a_state, a_work) (nI m) x := by
  refine And.intro (vp_in_nI hm (by decide)) (nm_r (e' := nI k) (by rw [nI_clamp (by omega)]; exact hkn) ?_)
  refine bx_denomAt hm hk hn (bx_s1 hk) ?_
  exact bx_denomAt2 hm hk hn (bx_s2 hk) h
theorem bx_append {post : SX → Prop} {m k : Nat} {t : Nat → Int} {x : Int32} (hm : m < 10) (hk : k < 64) (hkn : a_known m = nI k)
    (hn : ∀ i, i < k → a_numers (m * 64 + i) = bh_l (bh_hi t 0 1 (i + 1))) (hd : ∀ i, i < k → a_denoms (m * 64 + i) = bh_l (bh_hi t 1 0 (i + 1)))
    (h : post (f_inputs, f_operations, f_height, f_nodes, f_last, f_clock, a_kinds, a_weights, a_statuses, upd a_known m (nI (k + 1)), a_positions, a_freshAt, a_operands, a_taken, upd a_terms (m * 64 + k) x, vp_updL a_numers (m * 64 + k) (x.toInt64 * bh_l (bh_hi t 0 1 k) + bh_l (bh_lo t 0 1 k)), vp_updL a_denoms (m * 64 + k) (x.toInt64 * bh_l (bh_hi t 1 0 k) + bh_l (bh_lo t 1 0 k)), a_state, a_work)) : wpX_append post (f_inputs, f_operations, f_height, f_nodes, f_last, f_clock, a_kinds, a_weights, a_statuses, a_known, a_positions, a_freshAt, a_operands, a_taken, a_terms, a_numers, a_denoms, a_state, a_work) (nI m) x := by
  have i6 : vp_in (nI (m * 64 + k)) 640 := vp_in_nI (by omega) (by decide)
  have c6 : (nI (m * 64 + k)).toNatClampNeg = m * 64 + k := nI_clamp (by omega)
  have cm : (nI m).toNatClampNeg = m := nI_clamp (by omega)
  refine And.intro (vp_in_nI hm (by decide)) (nm_r (e' := nI k) (by rw [cm]; exact hkn) (br_t (nI_lt (b := 64) hk (by decide)) (nm_r (bx_m64 m k) ⟨i6, ?_⟩)))
  refine nm_r (e' := upd a_terms (m * 64 + k) x) (by rw [c6]) ?_
  refine bx_nextN hm (by omega) hkn hn ⟨i6, ?_⟩
  refine nm_r (e' := vp_updL a_numers (m * 64 + k) (x.toInt64 * bh_l (bh_hi t 0 1 k) + bh_l (bh_lo t 0 1 k))) (by rw [c6]) ?_
  refine bx_nextD hm (by omega) hkn hd ⟨i6, ?_⟩
  refine nm_r (e' := vp_updL a_denoms (m * 64 + k) (x.toInt64 * bh_l (bh_hi t 1 0 k) + bh_l (bh_lo t 1 0 k))) (by rw [c6]) ⟨vp_in_nI hm (by decide), ?_⟩
  exact nm_r (e' := upd a_known m (nI (k + 1))) (by rw [cm, nI_1]) h
theorem bx_cs_t {post : Int64 → Prop} {R c i n : Nat} {x : Int64} (hR : R + 4 ≤ 80) (hi : i < 4) (e : nI i &&& nI c = nI i) (h : wX_corner_5 post (nI R) (nI c) f_inputs f_operations f_height f_nodes f_last f_clock a_kinds a_weights a_statuses a_known a_positions a_freshAt a_operands a_taken a_terms a_numers a_denoms a_state a_work n (x + a_state (R + i)) (nI (i + 1))) : wX_corner_5 post (nI R) (nI c) f_inputs f_operations f_height f_nodes f_last f_clock a_kinds a_weights a_statuses a_known a_positions a_freshAt a_operands a_taken a_terms a_numers a_denoms a_state a_work (n + 1) x (nI i) :=
  br_f (nI_ge (b := 4) hi (by decide)) (br_t e ⟨by rw [nI_add]; exact vp_in_nI (by omega) (by decide), nm_r (e' := x + a_state (R + i)) (by rw [nI_add, nI_clamp (by omega)]) (nm_r (nI_1 i) h)⟩)
theorem bx_cs_f {post : Int64 → Prop} {R c i n : Nat} {x : Int64} (hi : i < 4) (e : ¬ nI i &&& nI c = nI i) (h : wX_corner_5 post (nI R) (nI c) f_inputs f_operations f_height f_nodes f_last f_clock a_kinds a_weights a_statuses a_known a_positions a_freshAt a_operands a_taken a_terms a_numers a_denoms a_state a_work n x (nI (i + 1))) : wX_corner_5 post (nI R) (nI c) f_inputs f_operations f_height f_nodes f_last f_clock a_kinds a_weights a_statuses a_known a_positions a_freshAt a_operands a_taken a_terms a_numers a_denoms a_state a_work (n + 1) x (nI i) :=
  br_f (nI_ge (b := 4) hi (by decide)) (br_f e (nm_r (nI_1 i) h))
theorem bx_cs_e {post : Int64 → Prop} {R c n : Nat} {x : Int64} (h : post x) : wX_corner_5 post (nI R) (nI c) f_inputs f_operations f_height f_nodes f_last f_clock a_kinds a_weights a_statuses a_known a_positions a_freshAt a_operands a_taken a_terms a_numers a_denoms a_state a_work (n + 1) x (nI 4) :=
  br_t (by decide) h
theorem bx_corner {post : Int64 → Prop} {R c : Nat} {x y : Int32} (hx : x = nI R) (hy : y = nI c) (hR : R + 4 ≤ 80) (hc : c < 4) (h : post (bx_cs a_state R c)) : wpX_corner post (f_inputs, f_operations, f_height, f_nodes, f_last, f_clock, a_kinds, a_weights, a_statuses, a_known, a_positions, a_freshAt, a_operands, a_taken, a_terms, a_numers, a_denoms, a_state, a_work) x y := by
  subst hx hy
  rcases (by omega : c = 0 ∨ c = 1 ∨ c = 2 ∨ c = 3) with rfl | rfl | rfl | rfl
  · refine Exists.intro 5 ?_
    refine bx_cs_t (i := 0) hR (by omega) (by decide) (bx_cs_f (i := 1) (by omega) (by decide) (bx_cs_f (i := 2) (by omega) (by decide) (bx_cs_f (i := 3) (by omega) (by decide) (bx_cs_e ?_))))
    rw [Int64.zero_add]
    exact h
  · refine Exists.intro 5 ?_
    refine bx_cs_t (i := 0) hR (by omega) (by decide) (bx_cs_t (i := 1) hR (by omega) (by decide) (bx_cs_f (i := 2) (by omega) (by decide) (bx_cs_f (i := 3) (by omega) (by decide) (bx_cs_e ?_))))
    rw [Int64.zero_add]
    exact h
  · refine Exists.intro 5 ?_
    refine bx_cs_t (i := 0) hR (by omega) (by decide) (bx_cs_f (i := 1) (by omega) (by decide) (bx_cs_t (i := 2) hR (by omega) (by decide) (bx_cs_f (i := 3) (by omega) (by decide) (bx_cs_e ?_))))
    rw [Int64.zero_add]
    exact h
  · refine Exists.intro 5 ?_
    refine bx_cs_t (i := 0) hR (by omega) (by decide) (bx_cs_t (i := 1) hR (by omega) (by decide) (bx_cs_t (i := 2) hR (by omega) (by decide) (bx_cs_t (i := 3) hR (by omega) (by decide) (bx_cs_e ?_))))
    rw [Int64.zero_add]
    exact h
theorem bx_end_s {post : Int32 → Prop} {m c e n : Nat} (hm : m < 10) (hc : c < 4) (h : wX_endedCorners_4 post (nI m) f_inputs f_operations f_height f_nodes f_last f_clock a_kinds a_weights a_statuses a_known a_positions a_freshAt a_operands a_taken a_terms a_numers a_denoms a_state a_work n (nI (e + (if bx_cs a_state (m * 8 + 4) c = 0 then 1 else 0))) (nI (c + 1))) : wX_endedCorners_4 post (nI m) f_inputs f_operations f_height f_nodes f_last f_clock a_kinds a_weights a_statuses a_known a_positions a_freshAt a_operands a_taken a_terms a_numers a_denoms a_state a_work (n + 1) (nI e) (nI c) := by
  refine br_f (nI_ge (b := 4) hc (by decide)) ?_
  refine bx_corner (bx_m84 m) rfl (by omega) hc ?_
  by_cases z : bx_cs a_state (m * 8 + 4) c = 0
  · rw [if_pos z] at h
    exact br_t z (nm_r (nI_1 e) (nm_r (nI_1 c) h))
  · rw [if_neg z] at h
    exact br_f z (nm_r (nI_1 c) h)
theorem bx_ended {post : Int32 → Prop} {m : Nat} (hm : m < 10) (h : post (nI (0 + (if bx_cs a_state (m * 8 + 4) 0 = 0 then 1 else 0) + (if bx_cs a_state (m * 8 + 4) 1 = 0 then 1 else 0) + (if bx_cs a_state (m * 8 + 4) 2 = 0 then 1 else 0) + (if bx_cs a_state (m * 8 + 4) 3 = 0 then 1 else 0)))) : wpX_endedCorners post (f_inputs, f_operations, f_height, f_nodes, f_last, f_clock, a_kinds, a_weights, a_statuses, a_known, a_positions, a_freshAt, a_operands, a_taken, a_terms, a_numers, a_denoms, a_state, a_work) (nI m) :=
  Exists.intro 5 (bx_end_s (c := 0) (e := 0) hm (by omega) (bx_end_s (c := 1) hm (by omega) (bx_end_s (c := 2) hm (by omega) (bx_end_s (c := 3) hm (by omega) (br_t (by decide) h)))))
theorem bx_floor {post : Int64 → Prop} {m c : Nat} {y : Int32} {T B : Int} (hm : m < 10) (hc : c < 4) (hy : y = nI c) (hT : T.natAbs ≤ 4611686018427387904) (hB : B.natAbs ≤ 4611686018427387904) (h0 : B ≠ 0)
    (eT : bx_cs a_state (m * 8) c = bh_l T) (eB : bx_cs a_state (m * 8 + 4) c = bh_l B) (h : ∀ z, bh_flr T B z → post (bh_l z)) : wpX_cornerFloor post (f_inputs, f_operations, f_height, f_nodes, f_last, f_clock, a_kinds, a_weights, a_statuses, a_known, a_positions, a_freshAt, a_operands, a_taken, a_terms, a_numers, a_denoms, a_state, a_work) (nI m) y := by
  subst hy
  unfold wpX_cornerFloor
  dsimp only
  refine bx_corner (bx_m8 m) rfl (by omega) hc ?_
  rw [eT]
  refine bx_corner (bx_m84 m) rfl (by omega) hc ?_
  rw [eB]
  have nz : ¬ bh_l B = 0 := by rw [bh_lE0 (by omega)]; exact h0
  obtain ⟨q, r, e1, e2, e3, e4, e5⟩ := bh_td T B h0
  have sT := bh_l0Le (a := T) (by omega)
  have sB := bh_l0Le (a := B) (by omega)
  have eq : bh_l q * bh_l B = bh_l T ↔ q * B = T := by rw [← bh_lM]; exact bh_lE (by omega) (by omega)
  have em : bh_l q - 1 = bh_l (q - 1) := by rw [bh_lS]; rfl
  refine br_f nz ⟨nz, nm_r (e' := bh_l q) (by rw [bh_lD (by omega) (by omega), e1]) ?_⟩
  by_cases z : q * B = T
  · exact br_t (eq.mpr z) (br_t rfl (h q (bh_flr1 (r := r) e2 (by omega))))
  · refine br_f (fun y => z (eq.mp y)) (br_f (by decide) ?_)
    by_cases a : 0 ≤ T
    · refine br_t (sT.mpr a) ?_
      by_cases b : 0 ≤ B
      · exact br_t (sB.mpr b) (br_t rfl (h q (bh_flr1 (r := r) e2 (by omega))))
      · exact br_f (fun y => b (sB.mp y)) (br_f (by decide) (nm_r em (h (q - 1) (bh_flr2 (r := r) e2 (by omega)))))
    · refine br_f (fun y => a (sT.mp y)) ?_
      by_cases b : 0 ≤ B
      · exact br_t (sB.mpr b) (br_f (by decide) (nm_r em (h (q - 1) (bh_flr2 (r := r) e2 (by omega)))))
      · exact br_f (fun y => b (sB.mp y)) (br_t rfl (h q (bh_flr1 (r := r) e2 (by omega))))
theorem bx_ag {post : Int32 → Prop} {m : Nat} {T B : Nat → Int} {z0 : Int} (hm : m < 10) (hT : ∀ c, c < 4 → (T c).natAbs ≤ 4611686018427387904) (hB : ∀ c, c < 4 → (B c).natAbs ≤ 4611686018427387904) (h0 : ∀ c, c < 4 → B c ≠ 0)
    (eT : ∀ c, c < 4 → bx_cs a_state (m * 8) c = bh_l (T c)) (eB : ∀ c, c < 4 → bx_cs a_state (m * 8 + 4) c = bh_l (B c))
    (h1 : (∃ z, ∀ c, c < 4 → bh_flr (T c) (B c) z) → post 1) (h2 : ¬ (∃ z, ∀ c, c < 4 → bh_flr (T c) (B c) z) → post 0) :
    ∀ d c, c + d = 4 → 1 ≤ c → (∀ c', c' < c → bh_flr (T c') (B c') z0) → wX_floorsAgree_10 post (nI m) (bh_l z0) f_inputs f_operations f_height f_nodes f_last f_clock a_kinds a_weights a_statuses a_known a_positions a_freshAt a_operands a_taken a_terms a_numers a_denoms a_state a_work (d + 1) (nI c) := by
  intro d
  induction d with
  | zero =>
    intro c hc _ hz
    have e : c = 4 := by omega
    subst e
    exact br_t (by decide) (h1 ⟨z0, hz⟩)
  | succ d ih =>
    intro c hc h1c hz
    refine br_f (nI_ge (b := 4) (by omega) (by decide)) ?_
    refine bx_floor hm (by omega) rfl (hT c (by omega)) (hB c (by omega)) (h0 c (by omega)) (eT c (by omega)) (eB c (by omega)) (fun z hzc => ?_)
    have k1 := bh_flrAbs hzc (hT c (by omega))
    have k2 := bh_flrAbs (hz 0 (by omega)) (hT 0 (by omega))
    have eq : bh_l z = bh_l z0 ↔ z = z0 := bh_lE (by omega) (by omega)
    by_cases ez : z = z0
    · subst ez
      refine br_t rfl (nm_r (nI_1 c) (ih (c + 1) (by omega) (by omega) (fun c' hc' => ?_)))
      by_cases e : c' = c
      · subst e; exact hzc
      · exact hz c' (by omega)
    · refine br_f (fun y => ez (eq.mp y)) (h2 ?_)
      rintro ⟨y, hy⟩
      have a1 := bh_flrU hzc (hy c (by omega))
      have a2 := bh_flrU (hz 0 (by omega)) (hy 0 (by omega))
      omega
theorem bx_agree {post : Int32 → Prop} {m : Nat} {T B : Nat → Int} (hm : m < 10) (hT : ∀ c, c < 4 → (T c).natAbs ≤ 4611686018427387904) (hB : ∀ c, c < 4 → (B c).natAbs ≤ 4611686018427387904) (h0 : ∀ c, c < 4 → B c ≠ 0)
    (eT : ∀ c, c < 4 → bx_cs a_state (m * 8) c = bh_l (T c)) (eB : ∀ c, c < 4 → bx_cs a_state (m * 8 + 4) c = bh_l (B c))
    (h1 : (∃ z, ∀ c, c < 4 → bh_flr (T c) (B c) z) → post 1) (h2 : ¬ (∃ z, ∀ c, c < 4 → bh_flr (T c) (B c) z) → post 0) : wpX_floorsAgree post (f_inputs, f_operations, f_height, f_nodes, f_last, f_clock, a_kinds, a_weights, a_statuses, a_known, a_positions, a_freshAt, a_operands, a_taken, a_terms, a_numers, a_denoms, a_state, a_work) (nI m) := by
  unfold wpX_floorsAgree
  dsimp only
  refine bx_floor (c := 0) hm (by omega) rfl (hT 0 (by omega)) (hB 0 (by omega)) (h0 0 (by omega)) (eT 0 (by omega)) (eB 0 (by omega)) (fun z hz => Exists.intro 4 ?_)
  refine bx_ag hm hT hB h0 eT eB h1 h2 3 1 (by omega) (by omega) (fun c' hc' => ?_)
  have e : c' = 0 := by omega
  subst e
  exact hz
theorem bx_off_s {post : SX → Prop} {m i n : Nat} {T : Int64} (hm : m < 10) (hi : i < 4) (h : wX_takeOff_10 post T (nI (m * 8)) f_inputs f_operations f_height f_nodes f_last f_clock n (nI (m * 8 + i + 1)) a_kinds a_weights a_statuses a_known a_positions a_freshAt a_operands a_taken a_terms a_numers a_denoms (bx_tf a_state (m * 8 + i) T) a_work) : wX_takeOff_10 post T (nI (m * 8)) f_inputs f_operations f_height f_nodes f_last f_clock (n + 1) (nI (m * 8 + i)) a_kinds a_weights a_statuses a_known a_positions a_freshAt a_operands a_taken a_terms a_numers a_denoms a_state a_work := by
  have c1 : (nI (m * 8 + i)).toNatClampNeg = m * 8 + i := nI_clamp (by omega)
  have e4 : nI (m * 8 + i) + 4 = nI (m * 8 + i + 4) := nI_add _ 4
  have c2 : (nI (m * 8 + i) + 4).toNatClampNeg = m * 8 + i + 4 := by rw [e4]; exact nI_clamp (by omega)
  have i1 : vp_in (nI (m * 8 + i)) 80 := vp_in_nI (by omega) (by decide)
  have i2 : vp_in (nI (m * 8 + i) + 4) 80 := by rw [e4]; exact vp_in_nI (by omega) (by decide)
  refine br_f ?_ ⟨i1, nm_r (e' := a_state (m * 8 + i)) (by rw [c1]) ⟨i2, nm_r (e' := a_state (m * 8 + i + 4)) (by rw [c2]) ⟨i1, nm_r (e' := vp_updL a_state (m * 8 + i) (a_state (m * 8 + i + 4))) (by rw [c1]) ⟨i2, nm_r (e' := bx_tf a_state (m * 8 + i) T) (by rw [c2]; rfl) (nm_r (nI_1 _) h)⟩⟩⟩⟩
  rw [show nI (m * 8) + 4 = nI (m * 8 + 4) from nI_add _ 4]
  exact nI_ge (by omega) (by omega)
theorem bx_off {post : SX → Prop} {m : Nat} {T : Int64} (hm : m < 10) (h : post (f_inputs, f_operations, f_height, f_nodes, f_last, f_clock, a_kinds, a_weights, a_statuses, a_known, a_positions, a_freshAt, a_operands, a_taken, a_terms, a_numers, a_denoms, bx_off4 a_state (m * 8) T, a_work)) : wpX_takeOff post (f_inputs, f_operations, f_height, f_nodes, f_last, f_clock, a_kinds, a_weights, a_statuses, a_known, a_positions, a_freshAt, a_operands, a_taken, a_terms, a_numers, a_denoms, a_state, a_work) (nI m) T := by
  unfold wpX_takeOff
  dsimp only
  refine nm_r (bx_m8 m) (Exists.intro 5 ?_)
  refine bx_off_s (i := 0) hm (by omega) (bx_off_s (i := 1) hm (by omega) (bx_off_s (i := 2) hm (by omega) (bx_off_s (i := 3) hm (by omega) (br_t ?_ h))))
  rw [show nI (m * 8) + 4 = nI (m * 8 + 4) from nI_add _ 4]
  exact nI_le (by omega) (by omega)
theorem bx_at {m i ac a b : Nat} (h1 : (nI i >>> ((1 : Int32) &&& 31)) * 4 = nI a) (h2 : (nI i &&& 1) * nI ac = nI b) : nI m * 8 + (nI i >>> ((1 : Int32) &&& 31)) * 4 + (nI i &&& 1) * nI ac = nI (m * 8 + a + b) := by
  rw [h1, h2, bx_m8, nI_add, nI_add]
theorem bx_tk_s {post : SX → Prop} {m i n A w ac : Nat} {T : Int32} (hi : i < 4) (hA : nI m * 8 + (nI i >>> ((1 : Int32) &&& 31)) * 4 + (nI i &&& 1) * nI ac = nI A) (hw : A + w < 80)
    (h : wX_takeIn_13 post (nI m) T (nI w) (nI ac) f_inputs f_operations f_height f_nodes f_last f_clock n (nI (i + 1)) a_kinds a_weights a_statuses a_known a_positions a_freshAt a_operands a_taken a_terms a_numers a_denoms (bx_tk a_state A w T.toInt64) a_work) : wX_takeIn_13 post (nI m) T (nI w) (nI ac) f_inputs f_operations f_height f_nodes f_last f_clock (n + 1) (nI i) a_kinds a_weights a_statuses a_known a_positions a_freshAt a_operands a_taken a_terms a_numers a_denoms a_state a_work := by
  have c1 : (nI A).toNatClampNeg = A := nI_clamp (by omega)
  have e4 : nI A + nI w = nI (A + w) := nI_add _ _
  have c2 : (nI A + nI w).toNatClampNeg = A + w := by rw [e4]; exact nI_clamp (by omega)
  have i1 : vp_in (nI A) 80 := vp_in_nI (by omega) (by decide)
  have i2 : vp_in (nI A + nI w) 80 := by rw [e4]; exact vp_in_nI (by omega) (by decide)
  exact br_f (nI_ge (b := 4) hi (by decide)) (nm_r hA ⟨i1, nm_r (e' := a_state A) (by rw [c1]) ⟨i2, ⟨i1, nm_r (e' := vp_updL a_state A (a_state A * T.toInt64 + a_state (A + w))) (by rw [c1, c2]) ⟨i2, nm_r (e' := bx_tk a_state A w T.toInt64) (by rw [c2]; rfl) (nm_r (nI_1 _) h)⟩⟩⟩⟩)
theorem bx_take0 {post : SX → Prop} {m : Nat} {T : Int32} (hm : m < 10) (h : post (f_inputs, f_operations, f_height, f_nodes, f_last, f_clock, a_kinds, a_weights, a_statuses, a_known, a_positions, a_freshAt, a_operands, a_taken, a_terms, a_numers, a_denoms, bx_tk4 a_state (m * 8) 2 1 T.toInt64, a_work)) : wpX_takeIn post (f_inputs, f_operations, f_height, f_nodes, f_last, f_clock, a_kinds, a_weights, a_statuses, a_known, a_positions, a_freshAt, a_operands, a_taken, a_terms, a_numers, a_denoms, a_state, a_work) (nI m) 0 T := by
  unfold wpX_takeIn
  dsimp only
  refine nm_r (e' := nI 2) (by decide) (nm_r (e' := nI 1) (by decide) (Exists.intro 5 ?_))
  exact bx_tk_s (i := 0) (by omega) (bx_at (a := 0) (b := 0) (by decide) (by decide)) (by omega) (bx_tk_s (i := 1) (by omega) (bx_at (a := 0) (b := 1) (by decide) (by decide)) (by omega) (bx_tk_s (i := 2) (by omega) (bx_at (a := 4) (b := 0) (by decide) (by decide)) (by omega) (bx_tk_s (i := 3) (by omega) (bx_at (a := 4) (b := 1) (by decide) (by decide)) (by omega) (br_t (by decide) h))))
theorem bx_take1 {post : SX → Prop} {m : Nat} {T : Int32} (hm : m < 10) (h : post (f_inputs, f_operations, f_height, f_nodes, f_last, f_clock, a_kinds, a_weights, a_statuses, a_known, a_positions, a_freshAt, a_operands, a_taken, a_terms, a_numers, a_denoms, bx_tk4 a_state (m * 8) 1 2 T.toInt64, a_work)) : wpX_takeIn post (f_inputs, f_operations, f_height, f_nodes, f_last, f_clock, a_kinds, a_weights, a_statuses, a_known, a_positions, a_freshAt, a_operands, a_taken, a_terms, a_numers, a_denoms, a_state, a_work) (nI m) 1 T := by
  unfold wpX_takeIn
  dsimp only
  refine nm_r (e' := nI 1) (by decide) (nm_r (e' := nI 2) (by decide) (Exists.intro 5 ?_))
  exact bx_tk_s (i := 0) (by omega) (bx_at (a := 0) (b := 0) (by decide) (by decide)) (by omega) (bx_tk_s (i := 1) (by omega) (bx_at (a := 0) (b := 2) (by decide) (by decide)) (by omega) (bx_tk_s (i := 2) (by omega) (bx_at (a := 4) (b := 0) (by decide) (by decide)) (by omega) (bx_tk_s (i := 3) (by omega) (bx_at (a := 4) (b := 2) (by decide) (by decide)) (by omega) (br_t (by decide) h))))
theorem bx_cl_s {post : SX → Prop} {m i n A w ac : Nat} (hi : i < 4) (hA : nI m * 8 + (nI i >>> ((1 : Int32) &&& 31)) * 4 + (nI i &&& 1) * nI ac = nI A) (hw : A + w < 80)
    (h : wX_close_12 post (nI m) (nI w) (nI ac) f_inputs f_operations f_height f_nodes f_last f_clock n (nI (i + 1)) a_kinds a_weights a_statuses a_known a_positions a_freshAt a_operands a_taken a_terms a_numers a_denoms (bx_cl a_state (A + w)) a_work) : wX_close_12 post (nI m) (nI w) (nI ac) f_inputs f_operations f_height f_nodes f_last f_clock (n + 1) (nI i) a_kinds a_weights a_statuses a_known a_positions a_freshAt a_operands a_taken a_terms a_numers a_denoms a_state a_work := by
  have e4 : nI A + nI w = nI (A + w) := nI_add _ _
  have c2 : (nI A + nI w).toNatClampNeg = A + w := by rw [e4]; exact nI_clamp (by omega)
  have i2 : vp_in (nI A + nI w) 80 := by rw [e4]; exact vp_in_nI (by omega) (by decide)
  exact br_f (nI_ge (b := 4) hi (by decide)) (nm_r hA ⟨i2, nm_r (e' := bx_cl a_state (A + w)) (by rw [c2]; rfl) (nm_r (nI_1 _) h)⟩)
theorem bx_close0 {post : SX → Prop} {m : Nat} (hm : m < 10) (h : post (f_inputs, f_operations, f_height, f_nodes, f_last, f_clock, a_kinds, a_weights, a_statuses, a_known, a_positions, a_freshAt, a_operands, a_taken, a_terms, a_numers, a_denoms, bx_cl4 a_state (m * 8) 2 1, a_work)) : wpX_close post (f_inputs, f_operations, f_height, f_nodes, f_last, f_clock, a_kinds, a_weights, a_statuses, a_known, a_positions, a_freshAt, a_operands, a_taken, a_terms, a_numers, a_denoms, a_state, a_work) (nI m) 0 := by
  unfold wpX_close
  dsimp only
  refine nm_r (e' := nI 2) (by decide) (nm_r (e' := nI 1) (by decide) (Exists.intro 5 ?_))
  exact bx_cl_s (i := 0) (by omega) (bx_at (a := 0) (b := 0) (by decide) (by decide)) (by omega) (bx_cl_s (i := 1) (by omega) (bx_at (a := 0) (b := 1) (by decide) (by decide)) (by omega) (bx_cl_s (i := 2) (by omega) (bx_at (a := 4) (b := 0) (by decide) (by decide)) (by omega) (bx_cl_s (i := 3) (by omega) (bx_at (a := 4) (b := 1) (by decide) (by decide)) (by omega) (br_t (by decide) h))))
theorem bx_close1 {post : SX → Prop} {m : Nat} (hm : m < 10) (h : post (f_inputs, f_operations, f_height, f_nodes, f_last, f_clock, a_kinds, a_weights, a_statuses, a_known, a_positions, a_freshAt, a_operands, a_taken, a_terms, a_numers, a_denoms, bx_cl4 a_state (m * 8) 1 2, a_work)) : wpX_close post (f_inputs, f_operations, f_height, f_nodes, f_last, f_clock, a_kinds, a_weights, a_statuses, a_known, a_positions, a_freshAt, a_operands, a_taken, a_terms, a_numers, a_denoms, a_state, a_work) (nI m) 1 := by
  unfold wpX_close
  dsimp only
  refine nm_r (e' := nI 1) (by decide) (nm_r (e' := nI 2) (by decide) (Exists.intro 5 ?_))
  exact bx_cl_s (i := 0) (by omega) (bx_at (a := 0) (b := 0) (by decide) (by decide)) (by omega) (bx_cl_s (i := 1) (by omega) (bx_at (a := 0) (b := 2) (by decide) (by decide)) (by omega) (bx_cl_s (i := 2) (by omega) (bx_at (a := 4) (b := 0) (by decide) (by decide)) (by omega) (bx_cl_s (i := 3) (by omega) (bx_at (a := 4) (b := 2) (by decide) (by decide)) (by omega) (br_t (by decide) h))))
end
end
section
/-! the eight coefficients of a node in closed form -/
theorem bx_tf_a {st : Nat → Int64} {A j : Nat} {T : Int64} (h : j = A) : bx_tf st A T j = st (A + 4) := by
  subst h
  unfold bx_tf
  rw [pk_uLn (by omega), pk_uLs]
theorem bx_tf_b {st : Nat → Int64} {A j : Nat} {T : Int64} (h : j = A + 4) : bx_tf st A T j = st A - T * st (A + 4) := by
  subst h
  unfold bx_tf
  rw [pk_uLs]
theorem bx_tf_o {st : Nat → Int64} {A j : Nat} {T : Int64} (h : j ≠ A) (h' : j ≠ A + 4) : bx_tf st A T j = st j := by
  unfold bx_tf
  rw [pk_uLn h', pk_uLn h]
theorem bx_off4_a (st : Nat → Int64) (A : Nat) (T : Int64) (i : Nat) (hi : i < 4) : bx_off4 st A T (A + i) = st (A + 4 + i) := by
  unfold bx_off4
  rcases (by omega : i = 0 ∨ i = 1 ∨ i = 2 ∨ i = 3) with rfl | rfl | rfl | rfl
  · rw [bx_tf_o (by omega) (by omega), bx_tf_o (by omega) (by omega), bx_tf_o (by omega) (by omega), bx_tf_a (by omega)]
  · rw [bx_tf_o (by omega) (by omega), bx_tf_o (by omega) (by omega), bx_tf_a (by omega), bx_tf_o (by omega) (by omega)]
  · rw [bx_tf_o (by omega) (by omega), bx_tf_a (by omega), bx_tf_o (by omega) (by omega), bx_tf_o (by omega) (by omega)]
  · rw [bx_tf_a (by omega), bx_tf_o (by omega) (by omega), bx_tf_o (by omega) (by omega), bx_tf_o (by omega) (by omega)]
theorem bx_off4_b (st : Nat → Int64) (A : Nat) (T : Int64) (i : Nat) (hi : i < 4) : bx_off4 st A T (A + 4 + i) = st (A + i) - T * st (A + 4 + i) := by
  have e : ∀ (f : Nat → Int64) (x y x' y' : Nat), x = x' → y = y' → f x - T * f y = f x' - T * f y' := by
    intro f x y x' y' h1 h2
    rw [h1, h2]
  unfold bx_off4
  rcases (by omega : i = 0 ∨ i = 1 ∨ i = 2 ∨ i = 3) with rfl | rfl | rfl | rfl
  · rw [bx_tf_o (by omega) (by omega), bx_tf_o (by omega) (by omega), bx_tf_o (by omega) (by omega), bx_tf_b (by omega)]
    exact e st _ _ _ _ (by omega) (by omega)
  · rw [bx_tf_o (by omega) (by omega), bx_tf_o (by omega) (by omega), bx_tf_b (by omega)]
    repeat rw [bx_tf_o (by omega) (by omega)]
  · rw [bx_tf_o (by omega) (by omega), bx_tf_b (by omega)]
    repeat rw [bx_tf_o (by omega) (by omega)]
  · rw [bx_tf_b (by omega)]
    repeat rw [bx_tf_o (by omega) (by omega)]
theorem bx_off4_o (st : Nat → Int64) (A : Nat) (T : Int64) (j : Nat) (hj : j < A ∨ A + 8 ≤ j) : bx_off4 st A T j = st j := by
  unfold bx_off4
  rw [bx_tf_o (by omega) (by omega), bx_tf_o (by omega) (by omega), bx_tf_o (by omega) (by omega), bx_tf_o (by omega) (by omega)]
theorem bx_tk_a {st : Nat → Int64} {A j w : Nat} {T : Int64} (h : j = A) (hw : w ≠ 0) : bx_tk st A w T j = st A * T + st (A + w) := by
  subst h
  unfold bx_tk
  rw [pk_uLn (by omega), pk_uLs]
theorem bx_tk_b {st : Nat → Int64} {A j w : Nat} {T : Int64} (h : j = A + w) : bx_tk st A w T j = st A := by
  subst h
  unfold bx_tk
  rw [pk_uLs]
theorem bx_tk_o {st : Nat → Int64} {A j w : Nat} {T : Int64} (h : j ≠ A) (h' : j ≠ A + w) : bx_tk st A w T j = st j := by
  unfold bx_tk
  rw [pk_uLn h', pk_uLn h]
section
variable (st : Nat → Int64) (A w ac : Nat) (T : Int64)
theorem bx_tk4_1 (h : (w = 2 ∧ ac = 1) ∨ (w = 1 ∧ ac = 2)) : bx_tk4 st A w ac T A = st A * T + st (A + w) := by
  unfold bx_tk4
  rw [bx_tk_o (by omega) (by omega), bx_tk_o (by omega) (by omega), bx_tk_o (by omega) (by omega), bx_tk_a (by omega) (by omega)]
theorem bx_tk4_2 (h : (w = 2 ∧ ac = 1) ∨ (w = 1 ∧ ac = 2)) : bx_tk4 st A w ac T (A + w) = st A := by
  unfold bx_tk4
  rw [bx_tk_o (by omega) (by omega), bx_tk_o (by omega) (by omega), bx_tk_o (by omega) (by omega), bx_tk_b (by omega)]
theorem bx_tk4_3 (h : (w = 2 ∧ ac = 1) ∨ (w = 1 ∧ ac = 2)) : bx_tk4 st A w ac T (A + ac) = st (A + ac) * T + st (A + ac + w) := by
  unfold bx_tk4
  rw [bx_tk_o (by omega) (by omega), bx_tk_o (by omega) (by omega), bx_tk_a (by omega) (by omega)]
  repeat rw [bx_tk_o (by omega) (by omega)]
theorem bx_tk4_4 (h : (w = 2 ∧ ac = 1) ∨ (w = 1 ∧ ac = 2)) : bx_tk4 st A w ac T (A + ac + w) = st (A + ac) := by
  unfold bx_tk4
  rw [bx_tk_o (by omega) (by omega), bx_tk_o (by omega) (by omega), bx_tk_b (by omega)]
  repeat rw [bx_tk_o (by omega) (by omega)]
theorem bx_tk4_5 (h : (w = 2 ∧ ac = 1) ∨ (w = 1 ∧ ac = 2)) : bx_tk4 st A w ac T (A + 4) = st (A + 4) * T + st (A + 4 + w) := by
  unfold bx_tk4
  rw [bx_tk_o (by omega) (by omega), bx_tk_a (by omega) (by omega)]
  repeat rw [bx_tk_o (by omega) (by omega)]
theorem bx_tk4_6 (h : (w = 2 ∧ ac = 1) ∨ (w = 1 ∧ ac = 2)) : bx_tk4 st A w ac T (A + 4 + w) = st (A + 4) := by
  unfold bx_tk4
  rw [bx_tk_o (by omega) (by omega), bx_tk_b (by omega)]
  repeat rw [bx_tk_o (by omega) (by omega)]
theorem bx_tk4_7 (h : (w = 2 ∧ ac = 1) ∨ (w = 1 ∧ ac = 2)) : bx_tk4 st A w ac T (A + 4 + ac) = st (A + 4 + ac) * T + st (A + 4 + ac + w) := by
  unfold bx_tk4
  rw [bx_tk_a (by omega) (by omega)]
  repeat rw [bx_tk_o (by omega) (by omega)]
theorem bx_tk4_8 (h : (w = 2 ∧ ac = 1) ∨ (w = 1 ∧ ac = 2)) : bx_tk4 st A w ac T (A + 4 + ac + w) = st (A + 4 + ac) := by
  unfold bx_tk4
  rw [bx_tk_b (by omega)]
  repeat rw [bx_tk_o (by omega) (by omega)]
theorem bx_tk4_o (h : (w = 2 ∧ ac = 1) ∨ (w = 1 ∧ ac = 2)) (j : Nat) (hj : j < A ∨ A + 8 ≤ j) : bx_tk4 st A w ac T j = st j := by
  unfold bx_tk4
  rw [bx_tk_o (by omega) (by omega), bx_tk_o (by omega) (by omega), bx_tk_o (by omega) (by omega), bx_tk_o (by omega) (by omega)]
end
theorem bx_cl_a {st : Nat → Int64} {A j : Nat} (h : j = A) : bx_cl st A j = 0 := by
  subst h
  exact pk_uLs
theorem bx_cl_o {st : Nat → Int64} {A j : Nat} (h : j ≠ A) : bx_cl st A j = st j := pk_uLn h
theorem bx_cl4_z (st : Nat → Int64) (A w ac j : Nat) (h : (w = 2 ∧ ac = 1) ∨ (w = 1 ∧ ac = 2)) (hj : j = A + w ∨ j = A + ac + w ∨ j = A + 4 + w ∨ j = A + 4 + ac + w) : bx_cl4 st A w ac j = 0 := by
  unfold bx_cl4
  rcases hj with e | e | e | e
  · rw [bx_cl_o (by omega), bx_cl_o (by omega), bx_cl_o (by omega), bx_cl_a (by omega)]
  · rw [bx_cl_o (by omega), bx_cl_o (by omega), bx_cl_a (by omega)]
  · rw [bx_cl_o (by omega), bx_cl_a (by omega)]
  · rw [bx_cl_a (by omega)]
theorem bx_cl4_o (st : Nat → Int64) (A w ac j : Nat) (h1 : j ≠ A + w) (h2 : j ≠ A + ac + w) (h3 : j ≠ A + 4 + w) (h4 : j ≠ A + 4 + ac + w) : bx_cl4 st A w ac j = st j := by
  unfold bx_cl4
  rw [bx_cl_o h4, bx_cl_o h3, bx_cl_o h2, bx_cl_o h1]
/-! linear rows, with one factor 1 -/
theorem bh_TL1 (op : Nat) (x p q p' q' r s : Int) : bh_T op (x * p + p') (x * q + q') r s = x * bh_T op p q r s + bh_T op p' q' r s := by
  have h := bh_TL op x 1 p q p' q' r s
  simp only [Int.one_mul] at h
  exact h
theorem bh_TR1 (op : Nat) (x p q r s r' s' : Int) : bh_T op p q (x * r + r') (x * s + s') = x * bh_T op p q r s + bh_T op p q r' s' := by
  have h := bh_TR op x 1 p q r s r' s'
  simp only [Int.one_mul] at h
  exact h
theorem bh_BL1 (op : Nat) (x p q p' q' r s : Int) : bh_B op (x * p + p') (x * q + q') r s = x * bh_B op p q r s + bh_B op p' q' r s := by
  have h := bh_BL op x 1 p q p' q' r s
  simp only [Int.one_mul] at h
  exact h
theorem bh_BR1 (op : Nat) (x p q r s r' s' : Int) : bh_B op p q (x * r + r') (x * s + s') = x * bh_B op p q r s + bh_B op p q r' s' := by
  have h := bh_BR op x 1 p q r s r' s'
  simp only [Int.one_mul] at h
  exact h
theorem bh_TLs (op : Nat) (p q p' q' r s : Int) : bh_T op (p + p') (q + q') r s = bh_T op p q r s + bh_T op p' q' r s := by
  have h := bh_TL op 1 1 p q p' q' r s
  simp only [Int.one_mul] at h
  exact h
theorem bh_TRs (op : Nat) (p q r s r' s' : Int) : bh_T op p q (r + r') (s + s') = bh_T op p q r s + bh_T op p q r' s' := by
  have h := bh_TR op 1 1 p q r s r' s'
  simp only [Int.one_mul] at h
  exact h
theorem bh_BLs (op : Nat) (p q p' q' r s : Int) : bh_B op (p + p') (q + q') r s = bh_B op p q r s + bh_B op p' q' r s := by
  have h := bh_BL op 1 1 p q p' q' r s
  simp only [Int.one_mul] at h
  exact h
theorem bh_BRs (op : Nat) (p q r s r' s' : Int) : bh_B op p q (r + r') (s + s') = bh_B op p q r s + bh_B op p q r' s' := by
  have h := bh_BR op 1 1 p q r s r' s'
  simp only [Int.one_mul] at h
  exact h
theorem bh_T0L (op : Nat) (r s : Int) : bh_T op 0 0 r s = 0 ∧ bh_B op 0 0 r s = 0 := by
  have h := bh_TL op 0 0 0 0 0 0 r s
  have g := bh_BL op 0 0 0 0 0 0 r s
  simp only [Int.zero_mul, Int.add_zero] at h g
  exact ⟨h, g⟩
theorem bh_T0R (op : Nat) (p q : Int) : bh_T op p q 0 0 = 0 ∧ bh_B op p q 0 0 = 0 := by
  have h := bh_TR op 0 0 p q 0 0 0 0
  have g := bh_BR op 0 0 p q 0 0 0 0
  simp only [Int.zero_mul, Int.add_zero] at h g
  exact ⟨h, g⟩
theorem bh_euL1 (t : Nat → Int) (x T B T' B' : Int) (n : Nat) : bh_eT t (x * T + T') (x * B + B') n = x * bh_eT t T B n + bh_eT t T' B' n ∧ bh_eB t (x * T + T') (x * B + B') n = x * bh_eB t T B n + bh_eB t T' B' n := by
  have h := bh_euL t x 1 T B T' B' n
  simp only [Int.one_mul] at h
  exact h
/-! the closed form -/
def bx_pt (u : Nat → Int) (k : Nat) (c : Bool) (w : Nat) (a b : Int) : Int := if w = 0 then bh_hi u a b k else if c = true then 0 else bh_lo u a b k
def bx_sT (op : Nat) (ul : Nat → Int) (kl : Nat) (cl : Bool) (ur : Nat → Int) (kr : Nat) (cr : Bool) (i : Nat) : Int :=
  bh_T op (bx_pt ul kl cl (i / 2) 0 1) (bx_pt ul kl cl (i / 2) 1 0) (bx_pt ur kr cr (i % 2) 0 1) (bx_pt ur kr cr (i % 2) 1 0)
def bx_sB (op : Nat) (ul : Nat → Int) (kl : Nat) (cl : Bool) (ur : Nat → Int) (kr : Nat) (cr : Bool) (i : Nat) : Int :=
  bh_B op (bx_pt ul kl cl (i / 2) 0 1) (bx_pt ul kl cl (i / 2) 1 0) (bx_pt ur kr cr (i % 2) 0 1) (bx_pt ur kr cr (i % 2) 1 0)
def bx_St (st : Nat → Int64) (m op : Nat) (ul : Nat → Int) (kl : Nat) (cl : Bool) (ur : Nat → Int) (kr : Nat) (cr : Bool) (tm : Nat → Int) (k : Nat) : Prop :=
  ∀ i, i < 4 → st (m * 8 + i) = bh_l (bh_eT tm (bx_sT op ul kl cl ur kr cr i) (bx_sB op ul kl cl ur kr cr i) k) ∧ st (m * 8 + 4 + i) = bh_l (bh_eB tm (bx_sT op ul kl cl ur kr cr i) (bx_sB op ul kl cl ur kr cr i) k)
section
variable {st : Nat → Int64} {m op kl kr k : Nat} {ul ur tm : Nat → Int} {cl cr : Bool}
theorem bx_StO {st' : Nat → Int64} (h : bx_St st m op ul kl cl ur kr cr tm k) (e : ∀ j, m * 8 ≤ j → j < m * 8 + 8 → st' j = st j) : bx_St st' m op ul kl cl ur kr cr tm k := by
  intro i hi
  rw [e (m * 8 + i) (by omega) (by omega), e (m * 8 + 4 + i) (by omega) (by omega)]
  exact h i hi
theorem bx_ptC {u u' : Nat → Int} {j : Nat} {c : Bool} (h : ∀ i, i < j → u i = u' i) (w : Nat) (a b : Int) : bx_pt u j c w a b = bx_pt u' j c w a b := by
  have e := bh_cvC h a b
  unfold bx_pt
  rw [e.1, e.2]
theorem bx_StC {ul' ur' tm' : Nat → Int} (h : bx_St st m op ul kl cl ur kr cr tm k) (el : ∀ i, i < kl → ul i = ul' i) (er : ∀ i, i < kr → ur i = ur' i) (et : ∀ i, i < k → tm i = tm' i) : bx_St st m op ul' kl cl ur' kr cr tm' k := by
  intro i hi
  have a : bx_sT op ul' kl cl ur' kr cr i = bx_sT op ul kl cl ur kr cr i := by
    unfold bx_sT
    rw [bx_ptC el, bx_ptC el, bx_ptC er, bx_ptC er]
  have b : bx_sB op ul' kl cl ur' kr cr i = bx_sB op ul kl cl ur kr cr i := by
    unfold bx_sB
    rw [bx_ptC el, bx_ptC el, bx_ptC er, bx_ptC er]
  rw [a, b, ← (bh_euC et _ _).1, ← (bh_euC et _ _).2]
  exact h i hi
theorem bx_St_off (h : bx_St st m op ul kl cl ur kr cr tm k) : bx_St (bx_off4 st (m * 8) (bh_l (tm k))) m op ul kl cl ur kr cr tm (k + 1) := by
  intro i hi
  obtain ⟨h1, h2⟩ := h i hi
  rw [bx_off4_a _ _ _ i hi, bx_off4_b _ _ _ i hi, h1, h2, bh_eTS, bh_eBS, bh_lS, bh_lM]
  exact ⟨rfl, rfl⟩
theorem bx_sT0S (i : Nat) (hi : i < 2) : bx_sT op ul (kl + 1) false ur kr cr i = ul kl * bx_sT op ul kl false ur kr cr i + bx_sT op ul kl false ur kr cr (i + 2) ∧ bx_sB op ul (kl + 1) false ur kr cr i = ul kl * bx_sB op ul kl false ur kr cr i + bx_sB op ul kl false ur kr cr (i + 2) := by
  rcases (by omega : i = 0 ∨ i = 1) with rfl | rfl
  · exact ⟨bh_TL1 op (ul kl) _ _ _ _ _ _, bh_BL1 op (ul kl) _ _ _ _ _ _⟩
  · exact ⟨bh_TL1 op (ul kl) _ _ _ _ _ _, bh_BL1 op (ul kl) _ _ _ _ _ _⟩
theorem bx_sT0L (i : Nat) (hi : i < 2) : bx_sT op ul (kl + 1) false ur kr cr (i + 2) = bx_sT op ul kl false ur kr cr i ∧ bx_sB op ul (kl + 1) false ur kr cr (i + 2) = bx_sB op ul kl false ur kr cr i := by
  rcases (by omega : i = 0 ∨ i = 1) with rfl | rfl
  · exact ⟨rfl, rfl⟩
  · exact ⟨rfl, rfl⟩
theorem bx_sT1S (i : Nat) (hi : i = 0 ∨ i = 2) : bx_sT op ul kl cl ur (kr + 1) false i = ur kr * bx_sT op ul kl cl ur kr false i + bx_sT op ul kl cl ur kr false (i + 1) ∧ bx_sB op ul kl cl ur (kr + 1) false i = ur kr * bx_sB op ul kl cl ur kr false i + bx_sB op ul kl cl ur kr false (i + 1) := by
  rcases hi with rfl | rfl
  · exact ⟨bh_TR1 op (ur kr) _ _ _ _ _ _, bh_BR1 op (ur kr) _ _ _ _ _ _⟩
  · exact ⟨bh_TR1 op (ur kr) _ _ _ _ _ _, bh_BR1 op (ur kr) _ _ _ _ _ _⟩
theorem bx_sT1L (i : Nat) (hi : i = 0 ∨ i = 2) : bx_sT op ul kl cl ur (kr + 1) false (i + 1) = bx_sT op ul kl cl ur kr false i ∧ bx_sB op ul kl cl ur (kr + 1) false (i + 1) = bx_sB op ul kl cl ur kr false i := by
  rcases hi with rfl | rfl
  · exact ⟨rfl, rfl⟩
  · exact ⟨rfl, rfl⟩
theorem bx_row (u : Nat → Int) (x T B T' B' : Int) (j : Nat) : bh_l (bh_eT u T B j) * bh_l x + bh_l (bh_eT u T' B' j) = bh_l (bh_eT u (x * T + T') (x * B + B') j) ∧ bh_l (bh_eB u T B j) * bh_l x + bh_l (bh_eB u T' B' j) = bh_l (bh_eB u (x * T + T') (x * B + B') j) := by
  have e := bh_euL1 u x T B T' B' j
  rw [e.1, e.2, bh_lA, bh_lA, bh_lM, bh_lM, Int64.mul_comm (bh_l x), Int64.mul_comm (bh_l x)]
  exact ⟨rfl, rfl⟩
theorem bx_St_tk0 (h : bx_St st m op ul kl false ur kr cr tm k) : bx_St (bx_tk4 st (m * 8) 2 1 (bh_l (ul kl))) m op ul (kl + 1) false ur kr cr tm k := by
  have hh : ((2 : Nat) = 2 ∧ (1 : Nat) = 1) ∨ ((2 : Nat) = 1 ∧ (1 : Nat) = 2) := Or.inl ⟨rfl, rfl⟩
  obtain ⟨a0, b0⟩ := h 0 (by omega)
  obtain ⟨a1, b1⟩ := h 1 (by omega)
  obtain ⟨a2, b2⟩ := h 2 (by omega)
  obtain ⟨a3, b3⟩ := h 3 (by omega)
  intro i hi
  rcases (by omega : i = 0 ∨ i = 1 ∨ i = 2 ∨ i = 3) with rfl | rfl | rfl | rfl
  · rw [(bx_sT0S 0 (by omega)).1, (bx_sT0S 0 (by omega)).2, ← (bx_row _ _ _ _ _ _ _).1, ← (bx_row _ _ _ _ _ _ _).2, ← a0, ← a2, ← b0, ← b2]
    exact ⟨bx_tk4_1 st _ 2 1 _ hh, bx_tk4_5 st _ 2 1 _ hh⟩
  · rw [(bx_sT0S 1 (by omega)).1, (bx_sT0S 1 (by omega)).2, ← (bx_row _ _ _ _ _ _ _).1, ← (bx_row _ _ _ _ _ _ _).2, ← a1, ← a3, ← b1, ← b3]
    exact ⟨bx_tk4_3 st _ 2 1 _ hh, bx_tk4_7 st _ 2 1 _ hh⟩
  · rw [(bx_sT0L 0 (by omega)).1, (bx_sT0L 0 (by omega)).2, ← a0, ← b0]
    exact ⟨bx_tk4_2 st _ 2 1 _ hh, bx_tk4_6 st _ 2 1 _ hh⟩
  · rw [(bx_sT0L 1 (by omega)).1, (bx_sT0L 1 (by omega)).2, ← a1, ← b1]
    exact ⟨bx_tk4_4 st _ 2 1 _ hh, bx_tk4_8 st _ 2 1 _ hh⟩
theorem bx_St_tk1 (h : bx_St st m op ul kl cl ur kr false tm k) : bx_St (bx_tk4 st (m * 8) 1 2 (bh_l (ur kr))) m op ul kl cl ur (kr + 1) false tm k := by
  have hh : ((1 : Nat) = 2 ∧ (2 : Nat) = 1) ∨ ((1 : Nat) = 1 ∧ (2 : Nat) = 2) := Or.inr ⟨rfl, rfl⟩
  obtain ⟨a0, b0⟩ := h 0 (by omega)
  obtain ⟨a1, b1⟩ := h 1 (by omega)
  obtain ⟨a2, b2⟩ := h 2 (by omega)
  obtain ⟨a3, b3⟩ := h 3 (by omega)
  intro i hi
  rcases (by omega : i = 0 ∨ i = 1 ∨ i = 2 ∨ i = 3) with rfl | rfl | rfl | rfl
  · rw [(bx_sT1S 0 (by omega)).1, (bx_sT1S 0 (by omega)).2, ← (bx_row _ _ _ _ _ _ _).1, ← (bx_row _ _ _ _ _ _ _).2, ← a0, ← a1, ← b0, ← b1]
    exact ⟨bx_tk4_1 st _ 1 2 _ hh, bx_tk4_5 st _ 1 2 _ hh⟩
  · rw [(bx_sT1L 0 (by omega)).1, (bx_sT1L 0 (by omega)).2, ← a0, ← b0]
    exact ⟨bx_tk4_2 st _ 1 2 _ hh, bx_tk4_6 st _ 1 2 _ hh⟩
  · rw [(bx_sT1S 2 (by omega)).1, (bx_sT1S 2 (by omega)).2, ← (bx_row _ _ _ _ _ _ _).1, ← (bx_row _ _ _ _ _ _ _).2, ← a2, ← a3, ← b2, ← b3]
    exact ⟨bx_tk4_3 st _ 1 2 _ hh, bx_tk4_7 st _ 1 2 _ hh⟩
  · rw [(bx_sT1L 2 (by omega)).1, (bx_sT1L 2 (by omega)).2, ← a2, ← b2]
    exact ⟨bx_tk4_4 st _ 1 2 _ hh, bx_tk4_8 st _ 1 2 _ hh⟩
theorem bx_zero (u : Nat → Int) (j : Nat) : bh_l (bh_eT u 0 0 j) = 0 ∧ bh_l (bh_eB u 0 0 j) = 0 := by
  rw [(bh_euZ u j).1, (bh_euZ u j).2]
  exact ⟨rfl, rfl⟩
theorem bx_St_cl0 (h : bx_St st m op ul kl cl ur kr cr tm k) : bx_St (bx_cl4 st (m * 8) 2 1) m op ul kl true ur kr cr tm k := by
  have hh : ((2 : Nat) = 2 ∧ (1 : Nat) = 1) ∨ ((2 : Nat) = 1 ∧ (1 : Nat) = 2) := Or.inl ⟨rfl, rfl⟩
  intro i hi
  rcases (by omega : i = 0 ∨ i = 1 ∨ i = 2 ∨ i = 3) with rfl | rfl | rfl | rfl
  · rw [bx_cl4_o _ _ _ _ _ (by omega) (by omega) (by omega) (by omega), bx_cl4_o _ _ _ _ _ (by omega) (by omega) (by omega) (by omega)]
    exact h 0 (by omega)
  · rw [bx_cl4_o _ _ _ _ _ (by omega) (by omega) (by omega) (by omega), bx_cl4_o _ _ _ _ _ (by omega) (by omega) (by omega) (by omega)]
    exact h 1 (by omega)
  · have e1 : bx_sT op ul kl true ur kr cr 2 = 0 := (bh_T0L op _ _).1
    have e2 : bx_sB op ul kl true ur kr cr 2 = 0 := (bh_T0L op _ _).2
    rw [e1, e2, (bx_zero tm k).1, (bx_zero tm k).2]
    exact ⟨bx_cl4_z _ _ _ _ _ hh (by omega), bx_cl4_z _ _ _ _ _ hh (by omega)⟩
  · have e1 : bx_sT op ul kl true ur kr cr 3 = 0 := (bh_T0L op _ _).1
    have e2 : bx_sB op ul kl true ur kr cr 3 = 0 := (bh_T0L op _ _).2
    rw [e1, e2, (bx_zero tm k).1, (bx_zero tm k).2]
    exact ⟨bx_cl4_z _ _ _ _ _ hh (by omega), bx_cl4_z _ _ _ _ _ hh (by omega)⟩
theorem bx_St_cl1 (h : bx_St st m op ul kl cl ur kr cr tm k) : bx_St (bx_cl4 st (m * 8) 1 2) m op ul kl cl ur kr true tm k := by
  have hh : ((1 : Nat) = 2 ∧ (2 : Nat) = 1) ∨ ((1 : Nat) = 1 ∧ (2 : Nat) = 2) := Or.inr ⟨rfl, rfl⟩
  intro i hi
  rcases (by omega : i = 0 ∨ i = 1 ∨ i = 2 ∨ i = 3) with rfl | rfl | rfl | rfl
  · rw [bx_cl4_o _ _ _ _ _ (by omega) (by omega) (by omega) (by omega), bx_cl4_o _ _ _ _ _ (by omega) (by omega) (by omega) (by omega)]
    exact h 0 (by omega)
  · have e1 : bx_sT op ul kl cl ur kr true 1 = 0 := (bh_T0R op _ _).1
    have e2 : bx_sB op ul kl cl ur kr true 1 = 0 := (bh_T0R op _ _).2
    rw [e1, e2, (bx_zero tm k).1, (bx_zero tm k).2]
    exact ⟨bx_cl4_z _ _ _ _ _ hh (by omega), bx_cl4_z _ _ _ _ _ hh (by omega)⟩
  · rw [bx_cl4_o _ _ _ _ _ (by omega) (by omega) (by omega) (by omega), bx_cl4_o _ _ _ _ _ (by omega) (by omega) (by omega) (by omega)]
    exact h 2 (by omega)
  · have e1 : bx_sT op ul kl cl ur kr true 3 = 0 := (bh_T0R op _ _).1
    have e2 : bx_sB op ul kl cl ur kr true 3 = 0 := (bh_T0R op _ _).2
    rw [e1, e2, (bx_zero tm k).1, (bx_zero tm k).2]
    exact ⟨bx_cl4_z _ _ _ _ _ hh (by omega), bx_cl4_z _ _ _ _ _ hh (by omega)⟩
end
/-- the corners of the closed form are the reference's results -/
theorem bx_StCs {st : Nat → Int64} {m op k l r : Nat} {cl cr : Bool} {tm : Nat → Int} {t : Nat → Nat → Int} {n s : Nat → Nat}
    (h : bx_St st m op (t l) (n l) cl (t r) (n r) cr tm k) (hl : cl = true ↔ s l ≠ 0) (hr : cr = true ↔ s r ≠ 0) :
    ∀ c, c < 4 → bx_cs st (m * 8) c = bh_l (bh_eT tm (bh_CT t n s op l r c) (bh_CB t n s op l r c) k) ∧ bx_cs st (m * 8 + 4) c = bh_l (bh_eB tm (bh_CT t n s op l r c) (bh_CB t n s op l r c) k) := by
  have p0 : ∀ (x : Nat) (d : Bool) (a b : Int), bh_en t n s x 0 a b = bx_pt (t x) (n x) d 0 a b := fun x d a b => bh_en0 x a b
  have p1 : ∀ (x : Nat) (d : Bool) (a b : Int), (d = true ↔ s x ≠ 0) → bh_en t n s x 1 a b = bx_pt (t x) (n x) d 0 a b + bx_pt (t x) (n x) d 1 a b := by
    intro x d a b hd
    unfold bh_en bx_pt
    by_cases z : s x = 0
    · have : ¬ d = true := fun y => (hd.mp y) z
      rw [if_pos ⟨rfl, z⟩, if_pos rfl, if_neg (by omega), if_neg this]
    · rw [if_neg (fun y => z y.2), if_pos rfl, if_neg (by omega), if_pos (hd.mpr z)]
  obtain ⟨a0, b0⟩ := h 0 (by omega)
  obtain ⟨a1, b1⟩ := h 1 (by omega)
  obtain ⟨a2, b2⟩ := h 2 (by omega)
  obtain ⟨a3, b3⟩ := h 3 (by omega)
  have T0 : bh_CT t n s op l r 0 = bx_sT op (t l) (n l) cl (t r) (n r) cr 0 ∧ bh_CB t n s op l r 0 = bx_sB op (t l) (n l) cl (t r) (n r) cr 0 := by
    unfold bh_CT bh_CB
    rw [show 0 / 2 = 0 from rfl, show 0 % 2 = 0 from rfl, p0 l cl, p0 l cl, p0 r cr, p0 r cr]
    exact ⟨rfl, rfl⟩
  have T1 : bh_CT t n s op l r 1 = bx_sT op (t l) (n l) cl (t r) (n r) cr 0 + bx_sT op (t l) (n l) cl (t r) (n r) cr 1 ∧ bh_CB t n s op l r 1 = bx_sB op (t l) (n l) cl (t r) (n r) cr 0 + bx_sB op (t l) (n l) cl (t r) (n r) cr 1 := by
    unfold bh_CT bh_CB
    rw [show 1 / 2 = 0 from rfl, show 1 % 2 = 1 from rfl, p0 l cl, p0 l cl, p1 r cr _ _ hr, p1 r cr _ _ hr, bh_TRs, bh_BRs]
    exact ⟨rfl, rfl⟩
  have T2 : bh_CT t n s op l r 2 = bx_sT op (t l) (n l) cl (t r) (n r) cr 0 + bx_sT op (t l) (n l) cl (t r) (n r) cr 2 ∧ bh_CB t n s op l r 2 = bx_sB op (t l) (n l) cl (t r) (n r) cr 0 + bx_sB op (t l) (n l) cl (t r) (n r) cr 2 := by
    unfold bh_CT bh_CB
    rw [show 2 / 2 = 1 from rfl, show 2 % 2 = 0 from rfl, p1 l cl _ _ hl, p1 l cl _ _ hl, p0 r cr, p0 r cr, bh_TLs, bh_BLs]
    exact ⟨rfl, rfl⟩
  have T3 : bh_CT t n s op l r 3 = bx_sT op (t l) (n l) cl (t r) (n r) cr 0 + bx_sT op (t l) (n l) cl (t r) (n r) cr 1 + (bx_sT op (t l) (n l) cl (t r) (n r) cr 2 + bx_sT op (t l) (n l) cl (t r) (n r) cr 3) ∧ bh_CB t n s op l r 3 = bx_sB op (t l) (n l) cl (t r) (n r) cr 0 + bx_sB op (t l) (n l) cl (t r) (n r) cr 1 + (bx_sB op (t l) (n l) cl (t r) (n r) cr 2 + bx_sB op (t l) (n l) cl (t r) (n r) cr 3) := by
    unfold bh_CT bh_CB
    rw [show 3 / 2 = 1 from rfl, show 3 % 2 = 1 from rfl, p1 l cl _ _ hl, p1 l cl _ _ hl, p1 r cr _ _ hr, p1 r cr _ _ hr, bh_TLs, bh_BLs, bh_TRs, bh_TRs, bh_BRs, bh_BRs]
    exact ⟨rfl, rfl⟩
  intro c hc
  rcases (by omega : c = 0 ∨ c = 1 ∨ c = 2 ∨ c = 3) with rfl | rfl | rfl | rfl
  · rw [T0.1, T0.2]
    exact ⟨a0, b0⟩
  · rw [T1.1, T1.2, (bh_euA _ _ _ _ _ _).1, (bh_euA _ _ _ _ _ _).2, bh_lA, bh_lA, ← a0, ← a1, ← b0, ← b1]
    exact ⟨rfl, rfl⟩
  · rw [T2.1, T2.2, (bh_euA _ _ _ _ _ _).1, (bh_euA _ _ _ _ _ _).2, bh_lA, bh_lA, ← a0, ← a2, ← b0, ← b2]
    exact ⟨rfl, rfl⟩
  · rw [T3.1, T3.2, (bh_euA _ (_ + _) (_ + _) _ _ _).1, (bh_euA _ (_ + _) (_ + _) _ _ _).2, bh_lA, bh_lA, (bh_euA _ _ _ _ _ _).1, (bh_euA _ _ _ _ _ _).2, (bh_euA _ _ _ _ _ _).1, (bh_euA _ _ _ _ _ _).2, bh_lA, bh_lA, bh_lA, bh_lA, ← a0, ← a1, ← a2, ← a3, ← b0, ← b1, ← b2, ← b3, ← Int64.add_assoc, ← Int64.add_assoc]
    exact ⟨rfl, rfl⟩
end
section
/-! the reference's work on one node -/
theorem bh_flEx {T B : Int} (h : 0 < B) : ∃ z, bh_fl T B z := by
  refine ⟨T / B, h, ?_, ?_⟩
  · have := Int.emod_nonneg T (show B ≠ 0 by omega)
    rw [Int.emod_def, Int.mul_comm] at this
    exact this
  · have := Int.emod_lt_of_pos T h
    rw [Int.emod_def, Int.mul_comm] at this
    exact this
theorem bh_PsAbs {t : Nat → Int} {T B : Int} {n b : Nat} (p : bh_Ps t T B n) (hB : 0 < B) (hT : T.natAbs ≤ b) (hb : B.natAbs ≤ b) (j : Nat) (hj : j ≤ n) : (bh_eT t T B j).natAbs ≤ b ∧ (bh_eB t T B j).natAbs ≤ b := by
  have h := bh_PsB p hB j hj
  refine ⟨?_, by omega⟩
  cases j with
  | zero => rw [bh_eT0]; exact hT
  | succ j =>
    have := bh_PsT p hB j (by omega)
    omega
def bh_up {α : Type} (f : Nat → α) (m : Nat) (v : α) : Nat → α := fun j => if j = m then v else f j
theorem bh_ups {α : Type} {f : Nat → α} {m : Nat} {v : α} : bh_up f m v m = v := if_pos rfl
theorem bh_upn {α : Type} {f : Nat → α} {m j : Nat} {v : α} (h : j ≠ m) : bh_up f m v j = f j := if_neg h
theorem bh_enU {t : Nat → Nat → Int} {n s : Nat → Nat} {m x : Nat} (h : x ≠ m) (tm : Nat → Int) (k z w : Nat) (a b : Int) : bh_en (bh_up t m tm) (bh_up n m k) (bh_up s m z) x w a b = bh_en t n s x w a b := by
  unfold bh_en
  rw [bh_upn h, bh_upn h, bh_upn h]
theorem bh_BrkU {t : Nat → Nat → Int} {n s : Nat → Nat} {op l r m : Nat} (hl : l ≠ m) (hr : r ≠ m) (tm : Nat → Int) (k z : Nat) : bh_Brk (bh_up t m tm) (bh_up n m k) (bh_up s m z) op l r ↔ bh_Brk t n s op l r := by
  unfold bh_Brk
  rw [bh_upn hl, bh_upn hr, bh_upn hr, bh_upn hr]
theorem bh_RdyU {t : Nat → Nat → Int} {n s : Nat → Nat} {op l r m : Nat} (hl : l ≠ m) (hr : r ≠ m) (tm : Nat → Int) (k z : Nat) : bh_Rdy (bh_up t m tm) (bh_up n m k) (bh_up s m z) op l r ↔ bh_Rdy t n s op l r := by
  unfold bh_Rdy bh_Avo
  rw [bh_upn hl, bh_upn hr, bh_enU hr, bh_enU hr]
theorem bh_NU {t : Nat → Nat → Int} {n s : Nat → Nat} {op l r m : Nat} (hl : l ≠ m) (hr : r ≠ m) (tm : Nat → Int) (k z : Nat) : bh_NT (bh_up t m tm) (bh_up n m k) (bh_up s m z) op l r = bh_NT t n s op l r ∧ bh_NB (bh_up t m tm) (bh_up n m k) (bh_up s m z) op l r = bh_NB t n s op l r := by
  constructor
  · funext c
    unfold bh_NT bh_sg bh_CT
    rw [bh_upn hr, bh_upn hr, bh_enU hl, bh_enU hl, bh_enU hr, bh_enU hr]
  · funext c
    unfold bh_NB bh_sg bh_CB
    rw [bh_upn hr, bh_upn hr, bh_enU hl, bh_enU hl, bh_enU hr, bh_enU hr]
theorem bh_ResU1 {t : Nat → Nat → Int} {n s : Nat → Nat} {op l r m : Nat} (hl : l ≠ m) (hr : r ≠ m) (tm : Nat → Int) (h : bh_Brk t n s op l r) : bh_Res (bh_up t m tm) (bh_up n m 0) (bh_up s m 3) op l r m :=
  Or.inl ⟨(bh_BrkU hl hr tm 0 3).mpr h, bh_ups, bh_ups⟩
theorem bh_ResU2 {t : Nat → Nat → Int} {n s : Nat → Nat} {op l r m : Nat} (hl : l ≠ m) (hr : r ≠ m) (tm : Nat → Int) (h : ¬ bh_Brk t n s op l r) (h' : ¬ bh_Rdy t n s op l r) : bh_Res (bh_up t m tm) (bh_up n m 0) (bh_up s m 0) op l r m :=
  Or.inr (Or.inl ⟨fun z => h ((bh_BrkU hl hr tm 0 0).mp z), fun z => h' ((bh_RdyU hl hr tm 0 0).mp z), bh_ups, bh_ups⟩)
theorem bh_ResU3 {t : Nat → Nat → Int} {n s : Nat → Nat} {op l r m : Nat} (hl : l ≠ m) (hr : r ≠ m) (tm : Nat → Int) (k z : Nat) (h : ¬ bh_Brk t n s op l r) (h' : bh_Rdy t n s op l r) (hk : k ≤ 64)
    (hp : ∀ c, c < 4 → bh_Ps tm (bh_NT t n s op l r c) (bh_NB t n s op l r c) k) (hs : bh_Stop tm (bh_NT t n s op l r) (bh_NB t n s op l r) k z) : bh_Res (bh_up t m tm) (bh_up n m k) (bh_up s m z) op l r m := by
  refine Or.inr (Or.inr ⟨fun y => h ((bh_BrkU hl hr tm k z).mp y), (bh_RdyU hl hr tm k z).mpr h', ?_, ?_, ?_⟩)
  · rw [bh_ups]; exact hk
  · rw [(bh_NU hl hr tm k z).1, (bh_NU hl hr tm k z).2, bh_ups, bh_ups]; exact hp
  · rw [(bh_NU hl hr tm k z).1, (bh_NU hl hr tm k z).2, bh_ups, bh_ups, bh_ups]; exact hs
section
variable {f_inputCount f_operationLimit f_heightLimit f_joined f_last : Int32} {a_counts a_states a_kinds a_operands a_weights a_positions : Nat → Int32} {a_known a_tops a_bottoms : Nat → Int64}
theorem by_cv_s {post : Int64 → Prop} {m N : Nat} {x2 : Int32} {t : Nat → Int} {a b : Int} (hm : m < 10) (hN : N ≤ 64) (hx : x2.toInt = (N : Int) - 1) (hk : ∀ i, i < N → a_known (m * 64 + i) = bh_l (t i)) (h : post (bh_l (bh_hi t a b N))) :
    ∀ d j, j + d = N → wY_convergent_3 post (nI m) x2 f_inputCount f_operationLimit f_heightLimit f_joined f_last a_known a_counts a_states a_kinds a_operands a_weights a_positions a_tops a_bottoms (d + 1) (bh_l (bh_lo t a b j)) (bh_l (bh_hi t a b j)) (nI j) := by
  intro d
  induction d with
  | zero =>
    intro j hj
    have e : j = N := by omega
    subst e
    refine br_t ?_ h
    rw [Int32.lt_iff_toInt_lt, hx, nI_toInt (by omega)]
    omega
  | succ d ih =>
    intro j hj
    refine br_f ?_ (br_f (nI_ge (b := 64) (by omega) (by decide)) ⟨?_, nm_r (e' := bh_l (bh_hi t a b (j + 1))) ?_ (nm_r (nI_1 j) (ih (j + 1) (by omega)))⟩)
    · rw [Int32.lt_iff_toInt_lt, hx, nI_toInt (by omega)]
      omega
    · rw [bx_m64]; exact vp_in_nI (by omega) (by decide)
    · rw [bx_m64, nI_clamp (by omega), hk j (by omega), bh_hiS, bh_lA, bh_lM]
theorem by_conv {post : Int64 → Prop} {m N : Nat} {x2 : Int32} {t : Nat → Int} {a b : Int} {pa pb : Int64} (hm : m < 10) (hN : N ≤ 64) (hx : x2.toInt = (N : Int) - 1) (hk : ∀ i, i < N → a_known (m * 64 + i) = bh_l (t i)) (ha : pa = bh_l a) (hb : pb = bh_l b) (h : post (bh_l (bh_hi t a b N))) :
    wpY_convergent post (f_inputCount, f_operationLimit, f_heightLimit, f_joined, f_last, a_known, a_counts, a_states, a_kinds, a_operands, a_weights, a_positions, a_tops, a_bottoms) (nI m) x2 pa pb := by
  subst ha hb
  exact Exists.intro (N + 1) (by_cv_s hm hN hx hk h N 0 (by omega))
theorem by_end {post : Int64 → Prop} {m w : Nat} {t : Nat → Nat → Int} {n s : Nat → Nat} {a b : Int} {x : Int32} {pa pb : Int64} (hm : m < 10) (hN : n m ≤ 64) (h1 : n m ≠ 0) (hc : a_counts m = nI (n m)) (hs : a_states m = nI (s m)) (hS : s m < 4)
    (hk : ∀ i, i < n m → a_known (m * 64 + i) = bh_l (t m i)) (hw : x = nI w) (hw4 : w < 4) (ha : pa = bh_l a) (hb : pb = bh_l b) (h : post (bh_l (bh_en t n s m w a b))) : wpY_endPart post (f_inputCount, f_operationLimit, f_heightLimit, f_joined, f_last, a_known, a_counts, a_states, a_kinds, a_operands, a_weights, a_positions, a_tops, a_bottoms) (nI m) x pa pb := by
  subst hw
  have cm : (nI m).toNatClampNeg = m := nI_clamp (by omega)
  have i1 : vp_in (nI m) 10 := vp_in_nI hm (by decide)
  obtain ⟨k, hk1⟩ : ∃ k, n m = k + 1 := ⟨n m - 1, by omega⟩
  refine And.intro i1 ?_
  refine by_conv (t := t m) hm hN (by rw [cm, hc]; exact bx_s1 hN) hk ha hb ⟨i1, ?_⟩
  refine by_conv (t := t m) (N := k) hm (by omega) (by rw [cm, hc, bx_s2 hN, hk1]; omega) (fun i hi => hk i (by omega)) ha hb ?_
  have e : bh_lo (t m) a b (n m) = bh_hi (t m) a b k := by rw [hk1, bh_loS]
  unfold bh_en at h
  by_cases c1 : w = 1
  · refine br_t (congrArg nI c1) ⟨i1, ?_⟩
    by_cases c2 : s m = 0
    · refine br_t (by rw [cm, hs, c2]; rfl) ?_
      rw [if_pos ⟨c1, c2⟩, e, bh_lA] at h
      exact h
    · refine br_f (by rw [cm, hs]; exact nI_ne0 (by omega) (by omega)) ?_
      rw [if_neg (fun z => c2 z.2), Int.add_zero] at h
      exact h
  · refine br_f (fun z => c1 ((nI_eq (b := 1) (by omega) (by omega)).mp z)) ?_
    rw [if_neg (fun z => c1 z.1), Int.add_zero] at h
    exact h
theorem by_rt_1 {post : Int64 → Prop} {n i N : Nat} {T B : Int} {x7 : Int64} (hn : n < 64) (hi : i ≤ n) (hB : 0 < B) (bT : T.natAbs ≤ 2305843009213693952) (bB : B.natAbs ≤ 2305843009213693952)
    (h : ∀ z, bh_fl T B z → wY_resultTerm_65 post (nI n) f_inputCount f_operationLimit f_heightLimit f_joined f_last a_known a_counts a_states a_kinds a_operands a_weights a_positions a_tops a_bottoms N (bh_l B) (bh_l (T - z * B)) (bh_l z) (nI (i + 1))) : wY_resultTerm_65 post (nI n) f_inputCount f_operationLimit f_heightLimit f_joined f_last a_known a_counts a_states a_kinds a_operands a_weights a_positions a_tops a_bottoms (N + 1) (bh_l T) (bh_l B) x7 (nI i) := by
  have nz : ¬ bh_l B = 0 := by rw [bh_lE0 (by omega)]; omega
  obtain ⟨q, r, e1, e2, e3, e4, e5⟩ := bh_td T B (by omega)
  have eq : bh_l T / bh_l B = bh_l q := by rw [bh_lD (by omega) (by omega), e1]
  have er : bh_l T - bh_l T / bh_l B * bh_l B = bh_l r := by
    rw [eq, ← bh_lM, ← bh_lS]
    exact congrArg bh_l (by omega)
  have em : bh_l q - 1 = bh_l (q - 1) := by rw [bh_lS]; rfl
  refine br_f (nI_nlt hi (by omega)) (br_f (nI_ge (b := 64) (by omega) (by decide)) (br_t ((bh_l0Lt (by omega)).mpr hB) ⟨nz, nm_r eq ⟨nz, ?_⟩⟩))
  rw [er]
  by_cases c : 0 ≤ r
  · refine br_t ((bh_l0Le (by omega)).mpr c) ?_
    have f : bh_fl T B q := ⟨hB, by omega, by omega⟩
    exact nm_r (e' := bh_l (T - q * B)) (by rw [bh_lS, bh_lM]) (nm_r (nI_1 i) (h q f))
  · refine br_f (fun z => c ((bh_l0Le (by omega)).mp z)) (nm_r em ?_)
    have f : bh_fl T B (q - 1) := by
      have e : (q - 1) * B = q * B - B := by rw [Int.sub_mul, Int.one_mul]
      exact ⟨hB, by omega, by omega⟩
    exact nm_r (e' := bh_l (T - (q - 1) * B)) (by rw [bh_lS T, bh_lM]) (nm_r (nI_1 i) (h (q - 1) f))
theorem by_rt_s {post : Int64 → Prop} {n : Nat} {T B : Int} {tm : Nat → Int} (hn : n < 64) (p : bh_Ps tm T B n) (hB : 0 < B) (bT : T.natAbs ≤ 2305843009213693952) (bB : B.natAbs ≤ 2305843009213693952)
    (hE : bh_eB tm T B n = 0 → post (-4611686018427387904)) (hF : ∀ z, bh_fl (bh_eT tm T B n) (bh_eB tm T B n) z → post (bh_l z)) :
    ∀ d i (x7 : Int64), i + d = n → wY_resultTerm_65 post (nI n) f_inputCount f_operationLimit f_heightLimit f_joined f_last a_known a_counts a_states a_kinds a_operands a_weights a_positions a_tops a_bottoms (d + 2) (bh_l (bh_eT tm T B i)) (bh_l (bh_eB tm T B i)) x7 (nI i) := by
  intro d
  induction d with
  | zero =>
    intro i x7 hi
    have e : i = n := by omega
    subst e
    obtain ⟨k1, k2⟩ := bh_PsAbs p hB bT bB i (by omega)
    have k3 := (bh_PsB p hB i (by omega)).1
    by_cases c : bh_eB tm T B i = 0
    · refine br_f (nI_nlt (by omega) (by omega)) (br_f (nI_ge (b := 64) (by omega) (by decide)) (br_f ?_ (hE c)))
      rw [bh_l0Lt (by omega)]
      omega
    · refine by_rt_1 hn (by omega) (by omega) k1 k2 (fun z hz => ?_)
      exact br_t (nI_lt (by omega) (by omega)) (hF z hz)
  | succ d ih =>
    intro i x7 hi
    obtain ⟨k1, k2⟩ := bh_PsAbs p hB bT bB i (by omega)
    have f := p i (by omega)
    refine by_rt_1 hn (by omega) f.1 k1 k2 (fun z hz => ?_)
    have e := bh_flU hz f
    subst e
    exact ih (i + 1) (bh_l (tm i)) (by omega)
theorem by_rt {post : Int64 → Prop} {c n : Nat} {g CT CB : Int} {tm : Nat → Int} (hc : c < 4) (hn : n < 64) (hg : g = 1 ∨ g = -1) (eT : a_tops c = bh_l CT) (eB : a_bottoms c = bh_l CB) (p : bh_Ps tm (g * CT) (g * CB) n) (hB : 0 < g * CB)
    (bT : CT.natAbs ≤ 2305843009213693952) (bB : CB.natAbs ≤ 2305843009213693952)
    (hE : bh_eB tm (g * CT) (g * CB) n = 0 → post (-4611686018427387904)) (hF : ∀ z, bh_fl (bh_eT tm (g * CT) (g * CB) n) (bh_eB tm (g * CT) (g * CB) n) z → post (bh_l z)) : wpY_resultTerm post (f_inputCount, f_operationLimit, f_heightLimit, f_joined, f_last, a_known, a_counts, a_states, a_kinds, a_operands, a_weights, a_positions, a_tops, a_bottoms) (nI c) (nI n) := by
  have i1 : vp_in (nI c) 4 := vp_in_nI hc (by decide)
  have cc : (nI c).toNatClampNeg = c := nI_clamp (by omega)
  have e0 : (0 : Int32) = nI 0 := rfl
  rcases hg with rfl | rfl
  · rw [Int.one_mul, Int.one_mul] at *
    have pos : 0 ≤ a_bottoms (nI c).toNatClampNeg := by rw [cc, eB, bh_l0Le (by omega)]; omega
    refine And.intro i1 (br_t pos ⟨i1, And.intro i1 (br_t pos ⟨i1, nm_r (e' := bh_l CB) (by rw [cc, eB]) (Exists.intro (n + 2) ?_)⟩)⟩)
    rw [cc, eT]
    exact by_rt_s hn p hB bT bB hE hF n 0 _ (by omega)
  · have m1 : ∀ x : Int, (-1) * x = -x := by intro x; omega
    rw [m1, m1] at p hE hF
    rw [m1] at hB
    have neg : ¬ 0 ≤ a_bottoms (nI c).toNatClampNeg := by rw [cc, eB, bh_l0Le (by omega)]; omega
    refine And.intro i1 (br_f neg ⟨i1, And.intro i1 (br_f neg ⟨i1, nm_r (e' := bh_l (-CB)) (by rw [cc, eB, bh_lN]) (Exists.intro (n + 2) ?_)⟩)⟩)
    rw [cc, eT, ← bh_lN]
    exact by_rt_s hn p hB (by omega) (by omega) hE hF n 0 _ (by omega)
theorem by_rtR {c n : Nat} {g CT CB : Int} {tm : Nat → Int} (hc : c < 4) (hn : n < 64) (hg : g = 1 ∨ g = -1) (eT : a_tops c = bh_l CT) (eB : a_bottoms c = bh_l CB) (p : bh_Ps tm (g * CT) (g * CB) n) (hB : 0 < g * CB)
    (bT : CT.natAbs ≤ 2305843009213693952) (bB : CB.natAbs ≤ 2305843009213693952) :
    ∃ R : Int64, ((bh_eB tm (g * CT) (g * CB) n = 0 ∧ R = -4611686018427387904) ∨ (∃ z, bh_fl (bh_eT tm (g * CT) (g * CB) n) (bh_eB tm (g * CT) (g * CB) n) z ∧ R = bh_l z)) ∧ ∀ post : Int64 → Prop, post R → wpY_resultTerm post (f_inputCount, f_operationLimit, f_heightLimit, f_joined, f_last, a_known, a_counts, a_states, a_kinds, a_operands, a_weights, a_positions, a_tops, a_bottoms) (nI c) (nI n) := by
  have k3 := (bh_PsB p hB n (by omega)).1
  by_cases z : bh_eB tm (g * CT) (g * CB) n = 0
  · refine ⟨_, Or.inl ⟨z, rfl⟩, fun post hp => by_rt hc hn hg eT eB p hB bT bB (fun _ => hp) (fun y hy => ?_)⟩
    have := hy.1
    omega
  · obtain ⟨y, hy⟩ := bh_flEx (T := bh_eT tm (g * CT) (g * CB) n) (show 0 < bh_eB tm (g * CT) (g * CB) n by omega)
    refine ⟨_, Or.inr ⟨y, hy, rfl⟩, fun post hp => by_rt hc hn hg eT eB p hB bT bB (fun y => absurd y z) (fun y' hy' => ?_)⟩
    rw [bh_flU hy' hy]
    exact hp
theorem by_row {post : SY → Prop} {J : Int32 → (Nat → Int64) → (Nat → Int32) → (Nat → Int32) → (Nat → Int32) → (Nat → Int32) → (Nat → Int32) → (Nat → Int32) → (Nat → Int64) → (Nat → Int64) → Prop} {m k : Nat} {R : Nat → Int64} (hm : m < 10) (hk : k < 64)
    (hR : ∀ c, c < 4 → ∀ P : Int64 → Prop, P (R c) → wpY_resultTerm P (f_inputCount, f_operationLimit, f_heightLimit, f_joined, f_last, a_known, a_counts, a_states, a_kinds, a_operands, a_weights, a_positions, a_tops, a_bottoms) (nI c) (nI k)) (hne : (∃ c, c < 4 ∧ R c ≠ R 0) → post (f_inputCount, f_operationLimit, f_heightLimit, f_joined, f_last, a_known, a_counts, a_states, a_kinds, a_operands, a_weights, a_positions, a_tops, a_bottoms))
    (hE : (∀ c, c < 4 → R c = R 0) → R 0 = -4611686018427387904 → post (f_inputCount, f_operationLimit, f_heightLimit, f_joined, f_last, a_known, a_counts, upd a_states m 2, a_kinds, a_operands, a_weights, a_positions, a_tops, a_bottoms))
    (hF : (∀ c, c < 4 → R c = R 0) → R 0 ≠ -4611686018427387904 → J (nI (k + 1)) (vp_updL a_known (m * 64 + k) (R 0)) (upd a_counts m (nI (k + 1))) a_states a_kinds a_operands a_weights a_positions a_tops a_bottoms) :
    ∀ d c, c + d = 4 → 1 ≤ c → (∀ c', c' < c → R c' = R 0) → wY_work_397 post J (nI m) (nI k) (R 0) f_inputCount f_operationLimit f_heightLimit f_joined f_last a_known a_counts a_states a_kinds a_operands a_weights a_positions a_tops a_bottoms (d + 1) (nI c) := by
  have cm : (nI m).toNatClampNeg = m := nI_clamp (by omega)
  have i1 : vp_in (nI m) 10 := vp_in_nI hm (by decide)
  intro d
  induction d with
  | zero =>
    intro c hc _ ha
    have e : c = 4 := by omega
    subst e
    refine br_t (by decide) ?_
    by_cases z : R 0 = -4611686018427387904
    · exact br_t z ⟨i1, nm_r (e' := upd a_states m 2) (by rw [cm]) (hE ha z)⟩
    · refine br_f z ⟨?_, nm_r (e' := vp_updL a_known (m * 64 + k) (R 0)) ?_ ⟨i1, nm_r (e' := upd a_counts m (nI (k + 1))) (by rw [cm, nI_1]) (nm_r (nI_1 k) (hF ha z))⟩⟩
      · rw [bx_m64]; exact vp_in_nI (by omega) (by decide)
      · rw [bx_m64, nI_clamp (by omega)]
  | succ d ih =>
    intro c hc h1 ha
    refine br_f (nI_ge (b := 4) (by omega) (by decide)) ?_
    refine hR c (by omega) _ ?_
    by_cases z : R c = R 0
    · refine br_t z (nm_r (nI_1 c) (ih (c + 1) (by omega) (by omega) (fun c' hc' => ?_)))
      by_cases e : c' = c
      · subst e; exact z
      · exact ha c' (by omega)
    · exact br_f z (hne ⟨c, by omega, z⟩)
end
end
section
/-! the reference's loop over the terms, and its work as a whole -/
theorem bh_m62 : (-4611686018427387904 : Int64) = bh_l (-4611686018427387904) := rfl
theorem bh_sk {α : Type} {P : Nat → α → Prop} (d : α) (h : ∀ c, c < 4 → ∃ r, P c r) : ∃ R : Nat → α, ∀ c, c < 4 → P c (R c) := by
  refine ⟨fun c => if h' : c < 4 then Classical.choose (h c h') else d, fun c hc => ?_⟩
  dsimp only
  rw [dif_pos hc]
  exact Classical.choose_spec (h c hc)
section
variable {f_inputCount f_operationLimit f_heightLimit f_joined f_last : Int32} {a_counts a_states a_kinds a_operands a_weights a_positions : Nat → Int32} {a_known a_tops a_bottoms : Nat → Int64}
theorem by_loop {post : SY → Prop} {m : Nat} {g : Int} {CT CB : Nat → Int} {K0 : Nat → Int64} {C0 : Nat → Int32} (hm : m < 10) (hg : g = 1 ∨ g = -1)
    (eT : ∀ c, c < 4 → a_tops c = bh_l (CT c)) (eB : ∀ c, c < 4 → a_bottoms c = bh_l (CB c)) (hB : ∀ c, c < 4 → 0 < g * CB c)
    (bT : ∀ c, c < 4 → (CT c).natAbs ≤ 2305843009213693952) (bB : ∀ c, c < 4 → (CB c).natAbs ≤ 2305843009213693952) (hst : a_states m = nI 0)
    (H : ∀ (kn : Nat → Int64) (ct st : Nat → Int32) (tm : Nat → Int) (k z : Nat), (∀ j, (j < m * 64 ∨ m * 64 + 64 ≤ j) → kn j = K0 j) → (∀ j, j ≠ m → ct j = C0 j) → ct m = nI k → (∀ j, j ≠ m → st j = a_states j) → st m = nI z →
      (∀ i, i < k → kn (m * 64 + i) = bh_l (tm i)) → k ≤ 64 → (∀ c, c < 4 → bh_Ps tm (g * CT c) (g * CB c) k) → bh_Stop tm (fun c => g * CT c) (fun c => g * CB c) k z → post (f_inputCount, f_operationLimit, f_heightLimit, f_joined, f_last, kn, ct, st, a_kinds, a_operands, a_weights, a_positions, a_tops, a_bottoms)) :
    ∀ (d k : Nat) (a_known : Nat → Int64) (a_counts : Nat → Int32) (tm : Nat → Int), k + d = 64 → (∀ j, (j < m * 64 ∨ m * 64 + 64 ≤ j) → a_known j = K0 j) → (∀ j, j ≠ m → a_counts j = C0 j) → a_counts m = nI k →
      (∀ i, i < k → a_known (m * 64 + i) = bh_l (tm i)) → (∀ c, c < 4 → bh_Ps tm (g * CT c) (g * CB c) k) → wY_work_378 post (nI m) f_inputCount f_operationLimit f_heightLimit f_joined f_last (d + 1) (nI k) a_known a_counts a_states a_kinds a_operands a_weights a_positions a_tops a_bottoms := by
  have gA : ∀ x : Int, (g * x).natAbs = x.natAbs := by
    intro x
    rcases hg with e | e
    · rw [e, Int.one_mul]
    · rw [e, Int.neg_mul, Int.one_mul, Int.natAbs_neg]
  intro d
  induction d with
  | zero =>
    intro k a_known a_counts tm hk f1 f2 f3 f4 f5
    have e : k = 64 := by omega
    subst e
    exact br_t (by decide) (H a_known a_counts a_states tm 64 0 f1 f2 f3 (fun j _ => rfl) hst f4 (by omega) f5 (Or.inr ⟨rfl, Or.inl rfl⟩))
  | succ d ih =>
    intro k a_known a_counts tm hk f1 f2 f3 f4 f5
    have hk64 : k < 64 := by omega
    obtain ⟨R, hR⟩ : ∃ R : Nat → Int64, ∀ c, c < 4 → ((bh_eB tm (g * CT c) (g * CB c) k = 0 ∧ R c = -4611686018427387904) ∨ (∃ z, bh_fl (bh_eT tm (g * CT c) (g * CB c) k) (bh_eB tm (g * CT c) (g * CB c) k) z ∧ R c = bh_l z)) ∧ ∀ post : Int64 → Prop, post (R c) → wpY_resultTerm post (f_inputCount, f_operationLimit, f_heightLimit, f_joined, f_last, a_known, a_counts, a_states, a_kinds, a_operands, a_weights, a_positions, a_tops, a_bottoms) (nI c) (nI k) := by
      refine bh_sk (P := fun c r => ((bh_eB tm (g * CT c) (g * CB c) k = 0 ∧ r = -4611686018427387904) ∨ (∃ z, bh_fl (bh_eT tm (g * CT c) (g * CB c) k) (bh_eB tm (g * CT c) (g * CB c) k) z ∧ r = bh_l z)) ∧ ∀ post : Int64 → Prop, post r → wpY_resultTerm post (f_inputCount, f_operationLimit, f_heightLimit, f_joined, f_last, a_known, a_counts, a_states, a_kinds, a_operands, a_weights, a_positions, a_tops, a_bottoms) (nI c) (nI k)) 0 (fun c hc => ?_)
      exact by_rtR hc hk64 hg (eT c hc) (eB c hc) (f5 c hc) (hB c hc) (bT c hc) (bB c hc)
    have zb : ∀ c, c < 4 → ∀ z, bh_fl (bh_eT tm (g * CT c) (g * CB c) k) (bh_eB tm (g * CT c) (g * CB c) k) z → z.natAbs ≤ 2305843009213693952 := by
      intro c hc z hz
      refine bh_flAbs hz (bh_PsAbs (f5 c hc) (hB c hc) ?_ ?_ k (by omega)).1
      · rw [gA]; exact bT c hc
      · rw [gA]; exact bB c hc
    have nE : ∀ z : Int, z.natAbs ≤ 2305843009213693952 → ¬ bh_l z = -4611686018427387904 := by
      intro z hz
      rw [bh_m62, bh_lE (by omega) (by omega)]
      omega
    have flE : ∀ c, c < 4 → R c = -4611686018427387904 → bh_eB tm (g * CT c) (g * CB c) k = 0 := by
      intro c hc e
      rcases (hR c hc).1 with ⟨a, _⟩ | ⟨z, hz, e2⟩
      · exact a
      · exact absurd (e2.symm.trans e) (nE z (zb c hc z hz))
    refine br_f (nI_ge (b := 64) hk64 (by decide)) ?_
    refine (hR 0 (by omega)).2 _ (Exists.intro 4 ?_)
    refine by_row hm hk64 (fun c hc => (hR c hc).2) ?_ ?_ ?_ 3 1 (by omega) (by omega) (fun c' hc' => by have e : c' = 0 := (by omega); rw [e])
    · rintro ⟨c, hc, hne⟩
      refine H a_known a_counts a_states tm k 0 f1 f2 f3 (fun j _ => rfl) hst f4 (by omega) f5 (Or.inr ⟨rfl, Or.inr ⟨?_, ?_⟩⟩)
      · by_cases y : ∃ c, c < 4 ∧ bh_eB tm (g * CT c) (g * CB c) k ≠ 0
        · exact y
        · exfalso
          have al : ∀ c, c < 4 → R c = -4611686018427387904 := by
            intro c hc
            rcases (hR c hc).1 with ⟨_, a⟩ | ⟨z, hz, _⟩
            · exact a
            · exact absurd ⟨c, hc, by have := hz.1; omega⟩ y
          exact hne ((al c hc).trans (al 0 (by omega)).symm)
      · rintro ⟨y, hy⟩
        have al : ∀ c, c < 4 → R c = bh_l y := by
          intro c hc
          have q := hy c hc
          rcases (hR c hc).1 with ⟨a, _⟩ | ⟨z, hz, e⟩
          · exact absurd q.1 (by dsimp only; omega)
          · rw [e, bh_flU hz q]
        exact hne ((al c hc).trans (al 0 (by omega)).symm)
    · intro ha h0
      refine H a_known a_counts _ tm k 2 f1 f2 f3 (fun j hj => pk_un hj) pk_us f4 (by omega) f5 (Or.inl ⟨rfl, hk64, fun c hc => ?_⟩)
      exact flE c hc ((ha c hc).trans h0)
    · intro ha h0
      obtain ⟨y, hy0, e0⟩ : ∃ y, bh_fl (bh_eT tm (g * CT 0) (g * CB 0) k) (bh_eB tm (g * CT 0) (g * CB 0) k) y ∧ R 0 = bh_l y := by
        rcases (hR 0 (by omega)).1 with ⟨_, a⟩ | a
        · exact absurd a h0
        · exact a
      have by0 := zb 0 (by omega) y hy0
      have fy : ∀ c, c < 4 → bh_fl (bh_eT tm (g * CT c) (g * CB c) k) (bh_eB tm (g * CT c) (g * CB c) k) y := by
        intro c hc
        rcases (hR c hc).1 with ⟨_, a⟩ | ⟨z, hz, e⟩
        · exact absurd ((ha c hc).symm.trans a) h0
        · have bz := zb c hc z hz
          have e3 : bh_l z = bh_l y := e.symm.trans ((ha c hc).trans e0)
          have e4 := (bh_lE (by omega) (by omega)).mp e3
          rw [← e4]
          exact hz
      have ag : ∀ i, i < k → tm i = bh_up tm k y i := fun i hi => (bh_upn (by omega)).symm
      refine ih (k + 1) _ _ (bh_up tm k y) (by omega) (fun j hj => ?_) (fun j hj => ?_) pk_us (fun i hi => ?_) (fun c hc j hj => ?_)
      · rw [pk_uLn (by omega)]; exact f1 j hj
      · rw [pk_un hj]; exact f2 j hj
      · by_cases e : i = k
        · subst e
          rw [pk_uLs, bh_ups, e0]
        · rw [pk_uLn (by omega), bh_upn e]
          exact f4 i (by omega)
      · by_cases e : j = k
        · subst e
          rw [bh_ups, ← (bh_euC ag _ _).1, ← (bh_euC ag _ _).2]
          exact fy c hc
        · exact bh_PsC ag (f5 c hc) j (by omega)
theorem by_342 {post : SY → Prop} {J : Int32 → (Nat → Int64) → (Nat → Int32) → (Nat → Int32) → (Nat → Int32) → (Nat → Int32) → (Nat → Int32) → (Nat → Int32) → (Nat → Int64) → (Nat → Int64) → Prop} {x1 x2 x3 : Int32} {op c : Nat} {x16 x18 x20 z0 : Int64} {T B : Int} (hc : c < 4) (hop : op ≤ 3)
    (hz : z0 = bh_l T) (h3 : op = 3 → x16 * x18 = bh_l B) (h4 : op ≠ 3 → x16 * x20 = bh_l B) (h : J (nI (c + 1)) a_known a_counts a_states a_kinds a_operands a_weights a_positions (vp_updL a_tops c (bh_l T)) (vp_updL a_bottoms c (bh_l B))) : wY_work_342 post J x1 x2 x3 (nI op) (nI c) x16 x18 x20 z0 (nI c) f_inputCount f_operationLimit f_heightLimit f_joined f_last a_known a_counts a_states a_kinds a_operands a_weights a_positions a_tops a_bottoms := by
  have i1 : vp_in (nI c) 4 := vp_in_nI hc (by decide)
  have cc : (nI c).toNatClampNeg = c := nI_clamp (by omega)
  refine And.intro i1 (nm_r (e' := vp_updL a_tops c (bh_l T)) (by rw [cc, hz]) ?_)
  by_cases e : op = 3
  · exact br_t (congrArg nI e) ⟨i1, nm_r (e' := vp_updL a_bottoms c (bh_l B)) (by rw [cc, h3 e]) (nm_r (nI_1 c) h)⟩
  · exact br_f (fun z => e ((nI_eq (b := 3) (by omega) (by omega)).mp z)) ⟨i1, nm_r (e' := vp_updL a_bottoms c (bh_l B)) (by rw [cc, h4 e]) (nm_r (nI_1 c) h)⟩
theorem by_220 {post : SY → Prop} {m op l r : Nat} {t : Nat → Nat → Int} {n s : Nat → Nat} (hl : l < 10) (hr : r < 10) (hop : op ≤ 3) (nl : n l ≤ 64) (nr : n r ≤ 64) (nl0 : n l ≠ 0) (nr0 : n r ≠ 0) (sl : s l < 4) (sr : s r < 4)
    (cl : a_counts l = nI (n l)) (cr : a_counts r = nI (n r)) (tl : a_states l = nI (s l)) (tr : a_states r = nI (s r)) (kl : ∀ i, i < n l → a_known (l * 64 + i) = bh_l (t l i)) (kr : ∀ i, i < n r → a_known (r * 64 + i) = bh_l (t r i))
    (H : ∀ tp bt : Nat → Int64, (∀ c, c < 4 → tp c = bh_l (bh_CT t n s op l r c)) → (∀ c, c < 4 → bt c = bh_l (bh_CB t n s op l r c)) → ∃ N, wY_work_378 post (nI m) f_inputCount f_operationLimit f_heightLimit f_joined f_last N 0 a_known a_counts a_states a_kinds a_operands a_weights a_positions tp bt) :
    ∀ (d c : Nat) (a_tops a_bottoms : Nat → Int64), c + d = 4 → (∀ c', c' < c → a_tops c' = bh_l (bh_CT t n s op l r c')) → (∀ c', c' < c → a_bottoms c' = bh_l (bh_CB t n s op l r c')) → wY_work_220 post (nI m) (nI l) (nI r) (nI op) f_inputCount f_operationLimit f_heightLimit f_joined f_last (d + 1) (nI c) a_known a_counts a_states a_kinds a_operands a_weights a_positions a_tops a_bottoms := by
  intro d
  induction d with
  | zero =>
    intro c a_tops a_bottoms hc f1 f2
    have e : c = 4 := by omega
    subst e
    exact br_t (by decide) (H a_tops a_bottoms f1 f2)
  | succ d ih =>
    intro c a_tops a_bottoms hc f1 f2
    have hc4 : c < 4 := by omega
    have n2 : ¬ (2 : Int32) = 0 := by decide
    have d2 : nI c / 2 = nI (c / 2) := pk_div (d := 2) (by omega) (by omega) (by omega)
    have r2 : nI c - nI c / 2 * 2 = nI (c % 2) := pk_rem (d := 2) (by omega) (by omega) (by omega)
    refine br_f (nI_ge (b := 4) hc4 (by decide)) ⟨n2, ?_⟩
    refine by_end (t := t) (n := n) (s := s) (a := 0) (b := 1) hl nl nl0 cl tl sl kl d2 (by omega) rfl rfl ⟨n2, ?_⟩
    refine by_end (t := t) (n := n) (s := s) (a := 1) (b := 0) hl nl nl0 cl tl sl kl d2 (by omega) rfl rfl ⟨n2, ?_⟩
    refine by_end (t := t) (n := n) (s := s) (a := 0) (b := 1) hr nr nr0 cr tr sr kr r2 (by omega) rfl rfl ⟨n2, ?_⟩
    refine by_end (t := t) (n := n) (s := s) (a := 1) (b := 0) hr nr nr0 cr tr sr kr r2 (by omega) rfl rfl ?_
    have eB3 : op = 3 → bh_l (bh_en t n s l (c / 2) 1 0) * bh_l (bh_en t n s r (c % 2) 0 1) = bh_l (bh_CB t n s op l r c) := by
      intro e
      unfold bh_CB bh_B
      rw [if_pos e, bh_lM]
    have eB4 : op ≠ 3 → bh_l (bh_en t n s l (c / 2) 1 0) * bh_l (bh_en t n s r (c % 2) 1 0) = bh_l (bh_CB t n s op l r c) := by
      intro e
      unfold bh_CB bh_B
      rw [if_neg e, bh_lM]
    have nx : wY_work_220 post (nI m) (nI l) (nI r) (nI op) f_inputCount f_operationLimit f_heightLimit f_joined f_last (d + 1) (nI (c + 1)) a_known a_counts a_states a_kinds a_operands a_weights a_positions (vp_updL a_tops c (bh_l (bh_CT t n s op l r c))) (vp_updL a_bottoms c (bh_l (bh_CB t n s op l r c))) := by
      refine ih (c + 1) _ _ (by omega) (fun c' hc' => ?_) (fun c' hc' => ?_)
      · by_cases e : c' = c
        · subst e; exact pk_uLs
        · rw [pk_uLn e]; exact f1 c' (by omega)
      · by_cases e : c' = c
        · subst e; exact pk_uLs
        · rw [pk_uLn e]; exact f2 c' (by omega)
    have ne : ∀ b : Nat, b < 4 → op ≠ b → ¬ nI op = nI b := fun b hb y z => y ((nI_eq (by omega) (by omega)).mp z)
    by_cases o0 : op = 0
    · refine br_t (congrArg nI o0) (by_342 hc4 hop ?_ eB3 eB4 nx)
      unfold bh_CT bh_T
      rw [if_pos o0, bh_lA, bh_lM, bh_lM]
    · refine br_f (ne 0 (by omega) o0) ?_
      by_cases o1 : op = 1
      · refine br_t (congrArg nI o1) (by_342 hc4 hop ?_ eB3 eB4 nx)
        unfold bh_CT bh_T
        rw [if_neg o0, if_pos o1, bh_lS, bh_lM, bh_lM]
      · refine br_f (ne 1 (by omega) o1) ?_
        by_cases o2 : op = 2
        · refine br_t (congrArg nI o2) (by_342 hc4 hop ?_ eB3 eB4 nx)
          unfold bh_CT bh_T
          rw [if_neg o0, if_neg o1, if_pos o2, bh_lM]
        · refine br_f (ne 2 (by omega) o2) (by_342 hc4 hop ?_ eB3 eB4 nx)
          unfold bh_CT bh_T
          rw [if_neg o0, if_neg o1, if_neg o2, bh_lM]
end
end
section
/-! the reference's work as a whole -/
section
variable {f_inputCount f_operationLimit f_heightLimit f_joined f_last : Int32} {a_counts a_states a_kinds a_operands a_weights a_positions : Nat → Int32} {a_known a_tops a_bottoms : Nat → Int64}
theorem by_202 {post : SY → Prop} {x1 x2 x3 : Int32} {op : Nat} (hop : op ≤ 3) (h : ∃ N, wY_work_220 post x1 x2 x3 (nI op) f_inputCount f_operationLimit f_heightLimit f_joined f_last N 0 a_known a_counts a_states a_kinds a_operands a_weights a_positions a_tops a_bottoms) : wY_work_202 post x1 x2 x3 (nI op) f_inputCount f_operationLimit f_heightLimit f_joined f_last a_known a_counts a_states a_kinds a_operands a_weights a_positions a_tops a_bottoms := by
  unfold wY_work_202 wY_work_203
  by_cases e : op = 3
  · exact br_t (congrArg nI e) (br_t rfl h)
  · exact br_f (fun z => e ((nI_eq (b := 3) (by omega) (by omega)).mp z)) h
theorem by_198 {post : SY → Prop} {x1 x2 x3 : Int32} {op : Nat} (hop : op ≤ 3) (h : op ≠ 3 → ∃ N, wY_work_220 post x1 x2 x3 (nI op) f_inputCount f_operationLimit f_heightLimit f_joined f_last N 0 a_known a_counts a_states a_kinds a_operands a_weights a_positions a_tops a_bottoms) (h' : op = 3 → post (f_inputCount, f_operationLimit, f_heightLimit, f_joined, f_last, a_known, a_counts, a_states, a_kinds, a_operands, a_weights, a_positions, a_tops, a_bottoms)) : wY_work_198 post x1 x2 x3 (nI op) f_inputCount f_operationLimit f_heightLimit f_joined f_last a_known a_counts a_states a_kinds a_operands a_weights a_positions a_tops a_bottoms := by
  unfold wY_work_198 wY_work_203
  by_cases e : op = 3
  · exact br_t (congrArg nI e) (br_f (by decide) (h' e))
  · exact br_f (fun z => e ((nI_eq (b := 3) (by omega) (by omega)).mp z)) (h e)
theorem by_121 {post : SY → Prop} {m op l r bl br : Nat} {t : Nat → Nat → Int} {n s : Nat → Nat} (hm : m < 10) (hlm : l < m) (hrm : r < m) (hop : op ≤ 3)
    (cl : a_counts l = nI (n l)) (cr : a_counts r = nI (n r)) (tl : a_states l = nI (s l)) (tr : a_states r = nI (s r)) (kl : ∀ i, i < n l → a_known (l * 64 + i) = bh_l (t l i)) (kr : ∀ i, i < n r → a_known (r * 64 + i) = bh_l (t r i))
    (wl : bh_WF t n s l bl) (wr : bh_WF t n s r br) (b1 : 1 ≤ bl) (b2 : 1 ≤ br) (bb : 8 * (bl * br) ≤ 2305843009213693952) (b3 : br ≤ 2147483648) (cm : a_counts m = nI 0) (tm : a_states m = nI 0) (nb : ¬ bh_Brk t n s op l r)
    (H : ∀ (kn : Nat → Int64) (ct st : Nat → Int32) (tp bt : Nat → Int64) (u : Nat → Int) (k z : Nat), (∀ j, (j < m * 64 ∨ m * 64 + 64 ≤ j) → kn j = a_known j) → (∀ j, j ≠ m → ct j = a_counts j) → (∀ j, j ≠ m → st j = a_states j) → ct m = nI k → st m = nI z →
      (∀ i, i < k → kn (m * 64 + i) = bh_l (u i)) → bh_Res (bh_up t m u) (bh_up n m k) (bh_up s m z) op l r m → post (f_inputCount, f_operationLimit, f_heightLimit, f_joined, f_last, kn, ct, st, a_kinds, a_operands, a_weights, a_positions, tp, bt)) : wY_work_121 post (nI m) (nI l) (nI r) (nI op) f_inputCount f_operationLimit f_heightLimit f_joined f_last a_known a_counts a_states a_kinds a_operands a_weights a_positions a_tops a_bottoms := by
  have i1 : vp_in (nI m) 10 := vp_in_nI hm (by decide)
  have il : vp_in (nI l) 10 := vp_in_nI (by omega) (by decide)
  have ir : vp_in (nI r) 10 := vp_in_nI (by omega) (by decide)
  have em : (nI m).toNatClampNeg = m := nI_clamp (by omega)
  have el : (nI l).toNatClampNeg = l := nI_clamp (by omega)
  have er : (nI r).toNatClampNeg = r := nI_clamp (by omega)
  have hN : ¬ bh_Rdy t n s op l r → post (f_inputCount, f_operationLimit, f_heightLimit, f_joined, f_last, a_known, a_counts, a_states, a_kinds, a_operands, a_weights, a_positions, a_tops, a_bottoms) := fun y => H a_known a_counts a_states a_tops a_bottoms (fun _ => 0) 0 0 (fun _ _ => rfl) (fun _ _ => rfl) (fun _ _ => rfl) cm tm (fun i hi => by omega) (bh_ResU2 (by omega) (by omega) _ nb y)
  have wl' := wl
  have wr' := wr
  obtain ⟨l1, l2, _⟩ := wl'
  obtain ⟨r1, r2, _⟩ := wr'
  refine And.intro i1 (br_f (by rw [em, tm]; decide) ⟨il, ?_⟩)
  by_cases nl : n l = 0
  · exact br_t (by rw [el, cl, nl]; rfl) (hN (fun y => y.1 nl))
  refine br_f (by rw [el, cl]; exact nI_ne0 (by omega) (by omega)) ⟨ir, ?_⟩
  by_cases nr : n r = 0
  · exact br_t (by rw [er, cr, nr]; rfl) (hN (fun y => y.2.1 nr))
  refine br_f (by rw [er, cr]; exact nI_ne0 (by omega) (by omega)) ?_
  have hY : bh_Rdy t n s op l r → ∃ N, wY_work_220 post (nI m) (nI l) (nI r) (nI op) f_inputCount f_operationLimit f_heightLimit f_joined f_last N 0 a_known a_counts a_states a_kinds a_operands a_weights a_positions a_tops a_bottoms := by
    intro rd
    refine ⟨5, by_220 (by omega) (by omega) hop l1 r1 nl nr (by omega) (by omega) cl cr tl tr kl kr (fun tp bt e1 e2 => ⟨65, ?_⟩) 4 0 a_tops a_bottoms (by omega) (fun c' hc' => by omega) (fun c' hc' => by omega)⟩
    have k8 := fun c => bh_NBd (op := op) (c := c) wl wr b1 b2
    refine by_loop (g := bh_sg t n op r) (K0 := a_known) (C0 := a_counts) hm (bh_sg1 op r) e1 e2 (fun c hc => bh_NBpos wl wr rd hc) (fun c hc => by have := (k8 c).1; omega) (fun c hc => by have := (k8 c).2; omega) tm (fun kn ct st u k z f1 f2 f3 f4 f5 f6 f7 f8 f9 => ?_) 64 0 a_known a_counts (fun _ => 0) (by omega) (fun _ _ => rfl) (fun _ _ => rfl) cm (fun i hi => by omega) (fun c hc j hj => by omega)
    exact H kn ct st tp bt u k z f1 f2 f4 f3 f5 f6 (bh_ResU3 (by omega) (by omega) u k z nb rd f7 f8 f9)
  refine by_end (t := t) (n := n) (s := s) (w := 0) (a := 0) (b := 1) (by omega) r1 nr cr tr (by omega) kr rfl (by omega) rfl rfl ?_
  refine by_end (t := t) (n := n) (s := s) (w := 1) (a := 0) (b := 1) (by omega) r1 nr cr tr (by omega) kr rfl (by omega) rfl rfl ?_
  have v0 := (bh_enbd (w := 0) wr b2).1
  have v1 := (bh_enbd (w := 1) wr b2).1
  have no : ¬ bh_Avo t n s r → wY_work_198 post (nI m) (nI l) (nI r) (nI op) f_inputCount f_operationLimit f_heightLimit f_joined f_last a_known a_counts a_states a_kinds a_operands a_weights a_positions a_tops a_bottoms := fun y => by_198 hop (fun e => hY ⟨nl, nr, fun z => absurd z e⟩) (fun e => hN (fun z => y (z.2.2 e)))
  have ye : bh_Avo t n s r → wY_work_202 post (nI m) (nI l) (nI r) (nI op) f_inputCount f_operationLimit f_heightLimit f_joined f_last a_known a_counts a_states a_kinds a_operands a_weights a_positions a_tops a_bottoms := fun y => by_202 hop (hY ⟨nl, nr, fun _ => y⟩)
  unfold bh_Avo at no ye
  generalize bh_en t n s r 0 0 1 = a at *
  generalize bh_en t n s r 1 0 1 = b at *
  have a1 := bh_lLe0 (a := a) (by omega)
  have a2 := bh_l0Le (a := a) (by omega)
  have c1 := bh_l0Lt (a := b) (by omega)
  have c2 := bh_lLt0 (a := b) (by omega)
  by_cases p : a ≤ 0
  · refine br_t (a1.mpr p) ?_
    by_cases q : 0 ≤ a
    · exact br_t (a2.mpr q) (no (by omega))
    · refine br_f (fun z => q (a2.mp z)) ?_
      by_cases o : b < 0
      · exact br_t (c2.mpr o) (ye (by omega))
      · exact br_f (fun z => o (c2.mp z)) (no (by omega))
  · refine br_f (fun z => p (a1.mp z)) ?_
    by_cases o : 0 < b
    · exact br_t (c1.mpr o) (ye (by omega))
    · exact br_f (fun z => o (c1.mp z)) (br_t (a2.mpr (by omega)) (no (by omega)))
theorem by_114 {post : SY → Prop} {m op l r : Nat} {t : Nat → Nat → Int} {n s : Nat → Nat} (hm : m < 10) (hlm : l < m) (hrm : r < m) (cm : a_counts m = nI 0) (hb : bh_Brk t n s op l r)
    (H : ∀ (kn : Nat → Int64) (ct st : Nat → Int32) (tp bt : Nat → Int64) (u : Nat → Int) (k z : Nat), (∀ j, (j < m * 64 ∨ m * 64 + 64 ≤ j) → kn j = a_known j) → (∀ j, j ≠ m → ct j = a_counts j) → (∀ j, j ≠ m → st j = a_states j) → ct m = nI k → st m = nI z →
      (∀ i, i < k → kn (m * 64 + i) = bh_l (u i)) → bh_Res (bh_up t m u) (bh_up n m k) (bh_up s m z) op l r m → post (f_inputCount, f_operationLimit, f_heightLimit, f_joined, f_last, kn, ct, st, a_kinds, a_operands, a_weights, a_positions, tp, bt)) : wY_work_114 post (nI m) (nI l) (nI r) (nI op) f_inputCount f_operationLimit f_heightLimit f_joined f_last a_known a_counts a_states a_kinds a_operands a_weights a_positions a_tops a_bottoms := by
  have i1 : vp_in (nI m) 10 := vp_in_nI hm (by decide)
  have em : (nI m).toNatClampNeg = m := nI_clamp (by omega)
  refine And.intro i1 (nm_r (e' := upd a_states m 3) (by rw [em]) (And.intro i1 (br_t (by rw [em]; exact pk_us) ?_)))
  exact H a_known a_counts _ a_tops a_bottoms (fun _ => 0) 0 3 (fun _ _ => rfl) (fun _ _ => rfl) (fun j hj => pk_un hj) cm pk_us (fun i hi => by omega) (bh_ResU1 (by omega) (by omega) _ hb)
theorem by_work {post : SY → Prop} {m op l r bl br : Nat} {t : Nat → Nat → Int} {n s : Nat → Nat} (hm : m < 10) (hlm : l < m) (hrm : r < m) (hop : op ≤ 3) (o1 : a_operands (m * 2) = nI l) (o2 : a_operands (m * 2 + 1) = nI r) (hk : a_kinds m = nI op)
    (cl : a_counts l = nI (n l)) (cr : a_counts r = nI (n r)) (tl : a_states l = nI (s l)) (tr : a_states r = nI (s r)) (kl : ∀ i, i < n l → a_known (l * 64 + i) = bh_l (t l i)) (kr : ∀ i, i < n r → a_known (r * 64 + i) = bh_l (t r i))
    (wl : bh_WF t n s l bl) (wr : bh_WF t n s r br) (b1 : 1 ≤ bl) (b2 : 1 ≤ br) (bb : 8 * (bl * br) ≤ 2305843009213693952) (b3 : br ≤ 2147483648)
    (H : ∀ (kn : Nat → Int64) (ct st : Nat → Int32) (tp bt : Nat → Int64) (u : Nat → Int) (k z : Nat), (∀ j, (j < m * 64 ∨ m * 64 + 64 ≤ j) → kn j = a_known j) → (∀ j, j ≠ m → ct j = a_counts j) → (∀ j, j ≠ m → st j = a_states j) → ct m = nI k → st m = nI z →
      (∀ i, i < k → kn (m * 64 + i) = bh_l (u i)) → bh_Res (bh_up t m u) (bh_up n m k) (bh_up s m z) op l r m → post (f_inputCount, f_operationLimit, f_heightLimit, f_joined, f_last, kn, ct, st, a_kinds, a_operands, a_weights, a_positions, tp, bt)) : wpY_work post (f_inputCount, f_operationLimit, f_heightLimit, f_joined, f_last, a_known, a_counts, a_states, a_kinds, a_operands, a_weights, a_positions, a_tops, a_bottoms) (nI m) := by
  have i1 : vp_in (nI m) 10 := vp_in_nI hm (by decide)
  have il : vp_in (nI l) 10 := vp_in_nI (by omega) (by decide)
  have ir : vp_in (nI r) 10 := vp_in_nI (by omega) (by decide)
  have em : (nI m).toNatClampNeg = m := nI_clamp (by omega)
  have el : (nI l).toNatClampNeg = l := nI_clamp (by omega)
  have er : (nI r).toNatClampNeg = r := nI_clamp (by omega)
  have j1 : vp_in (nI m * 2) 20 := by rw [bx_m2]; exact vp_in_nI (by omega) (by decide)
  have j2 : vp_in (nI m * 2 + 1) 20 := by rw [bx_m21]; exact vp_in_nI (by omega) (by decide)
  have wl' := wl
  have wr' := wr
  obtain ⟨l1, l2, _⟩ := wl'
  obtain ⟨r1, r2, _, _, _, r6, _⟩ := wr'
  have pb := (r6 (n r) (by omega)).1
  have c1 : upd a_counts m 0 m = nI 0 := pk_us
  have s1 : upd a_states m 0 m = nI 0 := pk_us
  have cl1 : upd a_counts m 0 l = nI (n l) := by rw [pk_un (by omega)]; exact cl
  have cr1 : upd a_counts m 0 r = nI (n r) := by rw [pk_un (by omega)]; exact cr
  have tl1 : upd a_states m 0 l = nI (s l) := by rw [pk_un (by omega)]; exact tl
  have tr1 : upd a_states m 0 r = nI (s r) := by rw [pk_un (by omega)]; exact tr
  have H' : ∀ (kn : Nat → Int64) (ct st : Nat → Int32) (tp bt : Nat → Int64) (u : Nat → Int) (k z : Nat), (∀ j, (j < m * 64 ∨ m * 64 + 64 ≤ j) → kn j = a_known j) → (∀ j, j ≠ m → ct j = upd a_counts m 0 j) → (∀ j, j ≠ m → st j = upd a_states m 0 j) → ct m = nI k → st m = nI z →
      (∀ i, i < k → kn (m * 64 + i) = bh_l (u i)) → bh_Res (bh_up t m u) (bh_up n m k) (bh_up s m z) op l r m → post (f_inputCount, f_operationLimit, f_heightLimit, f_joined, f_last, kn, ct, st, a_kinds, a_operands, a_weights, a_positions, tp, bt) := fun kn ct st tp bt u k z f1 f2 f3 => H kn ct st tp bt u k z f1 (fun j hj => (f2 j hj).trans (pk_un hj)) (fun j hj => (f3 j hj).trans (pk_un hj))
  have go : ¬ bh_Brk t n s op l r → wY_work_121 post (nI m) (nI l) (nI r) (nI op) f_inputCount f_operationLimit f_heightLimit f_joined f_last a_known (upd a_counts m 0) (upd a_states m 0) a_kinds a_operands a_weights a_positions a_tops a_bottoms := fun nb => by_121 hm hlm hrm hop cl1 cr1 tl1 tr1 kl kr wl wr b1 b2 bb b3 c1 s1 nb H'
  have br : bh_Brk t n s op l r → wY_work_114 post (nI m) (nI l) (nI r) (nI op) f_inputCount f_operationLimit f_heightLimit f_joined f_last a_known (upd a_counts m 0) (upd a_states m 0) a_kinds a_operands a_weights a_positions a_tops a_bottoms := fun hb => by_114 hm hlm hrm c1 hb H'
  have eq3 : ∀ x, x < 4 → x ≠ 3 → ¬ nI x = 3 := fun x hx h z => h ((nI_eq (b := 3) (by omega) (by omega)).mp z)
  have eq2 : ∀ x, x < 4 → x ≠ 2 → ¬ nI x = 2 := fun x hx h z => h ((nI_eq (b := 2) (by omega) (by omega)).mp z)
  -- the join at 87
  have at87 : ∀ z0 : Int32, (z0 = 0 → ¬ (op = 3 ∧ s r = 2 ∧ bh_hi (t r) 0 1 (n r) = 0)) → (¬ z0 = 0 → op = 3 ∧ s r = 2 ∧ bh_hi (t r) 0 1 (n r) = 0) → wY_work_87 post (nI m) (nI l) (nI r) (nI op) z0 f_inputCount f_operationLimit f_heightLimit f_joined f_last a_known (upd a_counts m 0) (upd a_states m 0) a_kinds a_operands a_weights a_positions a_tops a_bottoms := by
    intro z0 h0 h1
    refine And.intro il ?_
    by_cases a : s l = 3
    · exact br_t (by rw [el, tl1, a]; rfl) (br (Or.inl a))
    · refine br_f (by rw [el, tl1]; exact eq3 _ (by omega) a) ⟨ir, ?_⟩
      by_cases b : s r = 3
      · exact br_t (by rw [er, tr1, b]; rfl) (br (Or.inr (Or.inl b)))
      · refine br_f (by rw [er, tr1]; exact eq3 _ (by omega) b) ?_
        by_cases c : z0 = 0
        · refine br_t c (go ?_)
          rintro (y | y | y)
          · exact a y
          · exact b y
          · exact h0 c y
        · exact br_f c (br (Or.inr (Or.inr (h1 c))))
  refine And.intro j1 (nm_r (e' := nI l) (by rw [bx_m2, nI_clamp (by omega)]; exact o1) ⟨j2, nm_r (e' := nI r) (by rw [bx_m21, nI_clamp (by omega)]; exact o2) ⟨i1, nm_r (e' := nI op) (by rw [em]; exact hk) ⟨i1, nm_r (e' := upd a_counts m 0) (by rw [em]) ⟨i1, nm_r (e' := upd a_states m 0) (by rw [em]) ⟨ir, ?_⟩⟩⟩⟩⟩)
  refine by_conv (t := t r) (a := 0) (b := 1) (by omega) r1 (by rw [er, cr1]; exact bx_s1 r1) kr rfl rfl ?_
  by_cases a : op = 3
  · refine br_t (congrArg nI a) ⟨ir, ?_⟩
    by_cases b : s r = 2
    · refine br_t (by rw [er, tr1, b]; rfl) ?_
      by_cases c : bh_hi (t r) 0 1 (n r) = 0
      · exact br_t ((bh_lE0 (by omega)).mpr c) (at87 1 (fun y => absurd y (by decide)) (fun _ => ⟨a, b, c⟩))
      · exact br_f (fun y => c ((bh_lE0 (by omega)).mp y)) (at87 0 (fun _ y => c y.2.2) (fun y => absurd rfl y))
    · exact br_f (by rw [er, tr1]; exact eq2 _ (by omega) b) (at87 0 (fun _ y => b y.2.1) (fun y => absurd rfl y))
  · exact br_f (eq3 _ (by omega) a) (at87 0 (fun _ y => a y.1) (fun y => absurd rfl y))
end
end
section
/-! the shape of the nodes, and the reference's refresh -/
def bh_bd (w : Nat) : Nat := if w = 1 then 100 else if w = 2 then 20000 else if w = 3 then 4000000 else 800000000
theorem bh_bdB (w : Nat) : 1 ≤ bh_bd w ∧ bh_bd w ≤ 800000000 := by
  unfold bh_bd
  split
  · omega
  · split
    · omega
    · split <;> omega
theorem bh_bdM {a b : Nat} (ha : 1 ≤ a) (hb : 1 ≤ b) (h : a + b ≤ 4) : 2 * (bh_bd a * bh_bd b) ≤ bh_bd (a + b) ∧ 8 * (bh_bd a * bh_bd b) ≤ 2305843009213693952 := by
  rcases (by omega : a = 1 ∨ a = 2 ∨ a = 3) with rfl | rfl | rfl
  · rcases (by omega : b = 1 ∨ b = 2 ∨ b = 3) with rfl | rfl | rfl <;> decide
  · rcases (by omega : b = 1 ∨ b = 2) with rfl | rfl <;> decide
  · have e : b = 1 := by omega
    subst e
    decide
def bh_Sh (I J O : Nat) (op l r w : Nat → Nat) : Prop :=
  1 ≤ I ∧ I ≤ 4 ∧ 1 ≤ O ∧ O ≤ 6 ∧ I ≤ J ∧ J ≤ I + O ∧ (∀ m, m < J → 1 ≤ w m ∧ w m ≤ 4) ∧ (∀ m, m < I → op m = 4 ∧ w m = 1) ∧ (∀ m, I ≤ m → m < J → op m ≤ 3 ∧ l m < m ∧ r m < m ∧ w m = w (l m) + w (r m))
def bh_Dy (I J : Nat) (op l r w : Nat → Nat) (t : Nat → Nat → Int) (n s : Nat → Nat) : Prop :=
  (∀ m, m < J → bh_WF t n s m (bh_bd (w m))) ∧ (∀ m, m < I → s m ≠ 3) ∧ (∀ m, I ≤ m → m < J → bh_Res t n s (op m) (l m) (r m) m)
def bh_YR (J : Nat) (t : Nat → Nat → Int) (n s : Nat → Nat) (kn : Nat → Int64) (ct st : Nat → Int32) : Prop :=
  ∀ m, m < J → ct m = nI (n m) ∧ st m = nI (s m) ∧ ∀ i, i < n m → kn (m * 64 + i) = bh_l (t m i)
def bh_Tb (I J : Nat) (op l r w : Nat → Nat) (ki or we : Nat → Int32) : Prop :=
  ∀ m, m < J → ki m = nI (op m) ∧ we m = nI (w m) ∧ (I ≤ m → or (m * 2) = nI (l m) ∧ or (m * 2 + 1) = nI (r m))
section
variable {t t' t0 : Nat → Nat → Int} {n s n' s' n0 s0 : Nat → Nat}
theorem bh_WFC {m b : Nat} (e1 : t' m = t m) (e2 : n' m = n m) (e3 : s' m = s m) (h : bh_WF t n s m b) : bh_WF t' n' s' m b := by
  unfold bh_WF at *
  rw [e1, e2, e3]
  exact h
theorem bh_RefC {m : Nat} (e1 : t' m = t m) (e2 : n' m = n m) (e3 : s' m = s m) (h : bh_Ref t0 t n0 s0 n s m) : bh_Ref t0 t' n0 s0 n' s' m := by
  unfold bh_Ref at *
  rw [e1, e2, e3]
  exact h
theorem bh_enC {x : Nat} (e1 : t' x = t x) (e2 : n' x = n x) (e3 : s' x = s x) (w : Nat) (a b : Int) : bh_en t' n' s' x w a b = bh_en t n s x w a b := by
  unfold bh_en
  rw [e1, e2, e3]
theorem bh_ResC {op l r m : Nat} (l1 : t' l = t l) (l2 : n' l = n l) (l3 : s' l = s l) (r1 : t' r = t r) (r2 : n' r = n r) (r3 : s' r = s r) (m1 : t' m = t m) (m2 : n' m = n m) (m3 : s' m = s m) (h : bh_Res t n s op l r m) : bh_Res t' n' s' op l r m := by
  have a1 : bh_Brk t' n' s' op l r = bh_Brk t n s op l r := by
    unfold bh_Brk
    rw [l3, r1, r2, r3]
  have a2 : bh_Rdy t' n' s' op l r = bh_Rdy t n s op l r := by
    unfold bh_Rdy bh_Avo
    rw [l2, r2, bh_enC r1 r2 r3, bh_enC r1 r2 r3]
  have a3 : bh_NT t' n' s' op l r = bh_NT t n s op l r := by
    funext c
    unfold bh_NT bh_sg bh_CT
    rw [r1, r2, bh_enC l1 l2 l3, bh_enC l1 l2 l3, bh_enC r1 r2 r3, bh_enC r1 r2 r3]
  have a4 : bh_NB t' n' s' op l r = bh_NB t n s op l r := by
    funext c
    unfold bh_NB bh_sg bh_CB
    rw [r1, r2, bh_enC l1 l2 l3, bh_enC l1 l2 l3, bh_enC r1 r2 r3, bh_enC r1 r2 r3]
  unfold bh_Res at *
  rw [a1, a2, a3, a4, m1, m2, m3]
  exact h
theorem bh_RefSym {m b : Nat} (h : bh_WF t n s m b) (e2 : n' m = n m) (e3 : s' m = s m) (e1 : ∀ i, i < n m → t' m i = t m i) : bh_Ref t' t n' s' n s m := by
  obtain ⟨_, h2, h3, _⟩ := h
  unfold bh_Ref
  rw [e2, e3]
  exact ⟨by omega, fun i hi => (e1 i hi).symm, fun z => ⟨z, rfl⟩, fun z => z, fun z y => by have := h3 y; omega⟩
/-- with the same inputs, the same results -/
theorem bh_same {I J O : Nat} {op l r w : Nat → Nat} (hS : bh_Sh I J O op l r w) (h : ∀ m, m < J → bh_WF t n s m (bh_bd (w m))) (h' : ∀ m, m < J → bh_WF t' n' s' m (bh_bd (w m)))
    (hr : ∀ m, I ≤ m → m < J → bh_Res t n s (op m) (l m) (r m) m) (hr' : ∀ m, I ≤ m → m < J → bh_Res t' n' s' (op m) (l m) (r m) m) (hi : ∀ m, m < I → n' m = n m ∧ s' m = s m) (hf : ∀ m, m < J → bh_Ref t t' n s n' s' m) :
    ∀ m, m < J → n' m = n m ∧ s' m = s m := by
  obtain ⟨_, _, _, _, _, _, _, _, sh⟩ := hS
  intro m
  induction m using Nat.strongRecOn with
  | _ m ih =>
    intro hm
    by_cases c : m < I
    · exact hi m c
    · obtain ⟨_, h1, h2, _⟩ := sh m (by omega) hm
      have sl := ih (l m) h1 (by omega)
      have sr := ih (r m) h2 (by omega)
      have fl := bh_RefSym (h (l m) (by omega)) sl.1 sl.2 (hf (l m) (by omega)).2.1
      have fr := bh_RefSym (h (r m) (by omega)) sr.1 sr.2 (hf (r m) (by omega)).2.1
      have fm := bh_RefRes fl fr (h' _ (by omega)) (h' _ (by omega)) (h _ (by omega)) (h _ (by omega)) (hr' m (by omega) hm) (hr m (by omega) hm)
      exact bh_RefAnti (h m hm) (h' m hm) (hf m hm) fm
end
section
variable {f_inputCount f_operationLimit f_heightLimit f_joined f_last : Int32} {a_counts a_states a_kinds a_operands a_weights a_positions : Nat → Int32} {a_known a_tops a_bottoms : Nat → Int64}
theorem by_refresh {post : SY → Prop} {I J O : Nat} {op l r w : Nat → Nat} {t0 tI : Nat → Nat → Int} {n0 s0 nI' sI : Nat → Nat} (hS : bh_Sh I J O op l r w) (hT : bh_Tb I J op l r w a_kinds a_operands a_weights) (e1 : f_inputCount = nI I) (e2 : f_joined = nI (J - I))
    (w0 : ∀ m, m < J → bh_WF t0 n0 s0 m (bh_bd (w m))) (r0 : ∀ m, I ≤ m → m < J → bh_Res t0 n0 s0 (op m) (l m) (r m) m ∨ (n0 m = 0 ∧ s0 m = 0))
    (H : ∀ (kn : Nat → Int64) (ct st : Nat → Int32) (tp bt : Nat → Int64) (t : Nat → Nat → Int) (n s : Nat → Nat), (∀ m, m < I → t m = tI m ∧ n m = nI' m ∧ s m = sI m) → (∀ m, m < J → bh_WF t n s m (bh_bd (w m))) → (∀ m, m < J → bh_Ref t0 t n0 s0 n s m) →
      (∀ m, I ≤ m → m < J → bh_Res t n s (op m) (l m) (r m) m) → bh_YR J t n s kn ct st → post (f_inputCount, f_operationLimit, f_heightLimit, f_joined, f_last, kn, ct, st, a_kinds, a_operands, a_weights, a_positions, tp, bt)) :
    ∀ (d x : Nat) (a_known : Nat → Int64) (a_counts a_states : Nat → Int32) (a_tops a_bottoms : Nat → Int64) (t : Nat → Nat → Int) (n s : Nat → Nat), x + d = J → I ≤ x → (∀ m, m < I → t m = tI m ∧ n m = nI' m ∧ s m = sI m) → (∀ m, m < x → bh_WF t n s m (bh_bd (w m))) → (∀ m, m < x → bh_Ref t0 t n0 s0 n s m) →
      (∀ m, I ≤ m → m < x → bh_Res t n s (op m) (l m) (r m) m) → bh_YR x t n s a_known a_counts a_states → wY_refresh_5 post (d + 1) (nI x) f_inputCount f_operationLimit f_heightLimit f_joined f_last a_known a_counts a_states a_kinds a_operands a_weights a_positions a_tops a_bottoms := by
  have hS' := hS
  obtain ⟨s1, s2, s3, s4, s5, s6, s7, s8, s9⟩ := hS'
  have eJ : f_inputCount + f_joined = nI J := by
    rw [e1, e2, nI_add]
    exact congrArg nI (by omega)
  intro d
  induction d with
  | zero =>
    intro x a_known a_counts a_states a_tops a_bottoms t n s hx hI f1 f2 f3 f4 f5
    have e : x = J := by omega
    subst e
    refine br_t ?_ (H a_known a_counts a_states a_tops a_bottoms t n s f1 f2 f3 f4 f5)
    rw [eJ]
    exact nI_le (by omega) (by omega)
  | succ d ih =>
    intro x a_known a_counts a_states a_tops a_bottoms t n s hx hI f1 f2 f3 f4 f5
    refine br_f (by rw [eJ]; exact nI_ge (by omega) (by omega)) ?_
    obtain ⟨k1, k2, k3, k4⟩ := s9 x hI (by omega)
    obtain ⟨q1, q2, q3⟩ := hT x (by omega)
    obtain ⟨q4, q5⟩ := q3 hI
    obtain ⟨yl1, yl2, yl3⟩ := f5 (l x) k2
    obtain ⟨yr1, yr2, yr3⟩ := f5 (r x) k3
    have wl := s7 (l x) (by omega)
    have wr := s7 (r x) (by omega)
    have wx := s7 x (by omega)
    have bM := bh_bdM wl.1 wr.1 (by omega)
    rw [← k4] at bM
    refine by_work (t := t) (n := n) (s := s) (by omega) k2 k3 k1 q4 q5 q1 yl1 yr1 yl2 yr2 yl3 yr3 (f2 _ k2) (f2 _ k3) (bh_bdB _).1 (bh_bdB _).1 bM.2 (by have := (bh_bdB (w (r x))).2; omega) (fun kn ct st tp bt u k z g1 g2 g3 g4 g5 g6 g7 => ?_)
    have U : ∀ m, m ≠ x → bh_up t x u m = t m ∧ bh_up n x k m = n m ∧ bh_up s x z m = s m := fun m hm => ⟨bh_upn hm, bh_upn hm, bh_upn hm⟩
    have wf : ∀ m, m < x → bh_WF (bh_up t x u) (bh_up n x k) (bh_up s x z) m (bh_bd (w m)) := fun m hm => bh_WFC (U m (by omega)).1 (U m (by omega)).2.1 (U m (by omega)).2.2 (f2 m hm)
    have rf : ∀ m, m < x → bh_Ref t0 (bh_up t x u) n0 s0 (bh_up n x k) (bh_up s x z) m := fun m hm => bh_RefC (U m (by omega)).1 (U m (by omega)).2.1 (U m (by omega)).2.2 (f3 m hm)
    refine nm_r (nI_1 x) (ih (x + 1) kn ct st tp bt (bh_up t x u) (bh_up n x k) (bh_up s x z) (by omega) (by omega) (fun m hm => ?_) (fun m hm => ?_) (fun m hm => ?_) (fun m hm1 hm => ?_) (fun m hm => ?_))
    · rw [(U m (by omega)).1, (U m (by omega)).2.1, (U m (by omega)).2.2]
      exact f1 m hm
    · by_cases e : m = x
      · subst e
        exact bh_ResWF (wf _ k2) (wf _ k3) bM.1 (bh_bdB _).1 (by have := (bh_bdB (w m)).2; omega) g7
      · exact wf m (by omega)
    · by_cases e : m = x
      · subst e
        rcases r0 m hI (by omega) with a | ⟨a, b⟩
        · exact bh_RefRes (rf _ k2) (rf _ k3) (w0 _ (by omega)) (w0 _ (by omega)) (wf _ k2) (wf _ k3) a g7
        · unfold bh_Ref
          exact ⟨by omega, fun i hi => by omega, fun y => by omega, fun y => by omega, fun y => by omega⟩
      · exact rf m (by omega)
    · by_cases e : m = x
      · subst e
        exact g7
      · obtain ⟨_, h2, h3, _⟩ := s9 m hm1 (by omega)
        have ul := U (l m) (by omega)
        have ur := U (r m) (by omega)
        have um := U m e
        exact bh_ResC ul.1 ul.2.1 ul.2.2 ur.1 ur.2.1 ur.2.2 um.1 um.2.1 um.2.2 (f4 m hm1 (by omega))
    · by_cases e : m = x
      · subst e
        rw [bh_ups, bh_ups, bh_ups]
        exact ⟨g4, g5, g6⟩
      · obtain ⟨a, b, c⟩ := f5 m (by omega)
        rw [(U m e).1, (U m e).2.1, (U m e).2.2, g2 m e, g3 m e]
        refine ⟨a, b, fun i hi => ?_⟩
        have n64 := (f2 m (by omega)).1
        rw [g1 _ (by omega)]
        exact c i hi
end
end
section
/-! the component gives out what the reference knows -/
def bx_Da (te : Nat → Int32) (nu de : Nat → Int64) (m k : Nat) (u : Nat → Int) : Prop :=
  ∀ i, i < k → te (m * 64 + i) = bh_i (u i) ∧ nu (m * 64 + i) = bh_l (bh_hi u 0 1 (i + 1)) ∧ de (m * 64 + i) = bh_l (bh_hi u 1 0 (i + 1))
theorem bh_flrN {g T B z : Int} (hg : g = 1 ∨ g = -1) (h : bh_fl (g * T) (g * B) z) : bh_flr T B z := by
  rcases hg with rfl | rfl
  · rw [Int.one_mul, Int.one_mul] at h
    exact Or.inl h
  · rw [Int.neg_mul, Int.one_mul, Int.neg_mul, Int.one_mul] at h
    exact Or.inr h
theorem bh_flrM {g T B z : Int} (hg : g = 1 ∨ g = -1) (hB : 0 < g * B) (h : bh_flr T B z) : bh_fl (g * T) (g * B) z := by
  rcases hg with rfl | rfl
  · rw [Int.one_mul] at hB
    rw [Int.one_mul, Int.one_mul]
    rcases h with h | h
    · exact h
    · have := h.1
      omega
  · rw [Int.neg_mul, Int.one_mul] at hB
    rw [Int.neg_mul, Int.one_mul, Int.neg_mul, Int.one_mul]
    rcases h with h | h
    · have := h.1
      omega
    · exact h
theorem bh_gz {g x : Int} (hg : g = 1 ∨ g = -1) : g * x = 0 ↔ x = 0 := by
  rcases hg with rfl | rfl
  · rw [Int.one_mul]
  · rw [Int.neg_mul, Int.one_mul]; omega
theorem bh_gA {g : Int} (hg : g = 1 ∨ g = -1) (x : Int) : (g * x).natAbs = x.natAbs := by
  rcases hg with e | e
  · rw [e, Int.one_mul]
  · rw [e, Int.neg_mul, Int.one_mul, Int.natAbs_neg]
section
variable {f_inputs f_operations f_height f_nodes f_last f_clock : Int32} {a_kinds a_weights a_statuses a_known a_positions a_freshAt a_operands a_taken a_terms a_work : Nat → Int32} {a_numers a_denoms a_state : Nat → Int64}
theorem bx_give {post : SX → Prop} {m op l r : Nat} {cl cr : Bool} {t : Nat → Nat → Int} {n s : Nat → Nat} {g : Int} {S0 K0 : Nat → Int32} {T0 : Nat → Int32} {N0 D0 A0 : Nat → Int64} (hm : m < 10) (hg : g = 1 ∨ g = -1)
    (hl : cl = true ↔ s l ≠ 0) (hr : cr = true ↔ s r ≠ 0) (n64 : n m ≤ 64) (tb : ∀ i, i < n m → (t m i).natAbs ≤ 2147483647)
    (hB : ∀ c, c < 4 → 0 < g * bh_CB t n s op l r c) (bT : ∀ c, c < 4 → (bh_CT t n s op l r c).natAbs ≤ 2305843009213693952) (bB : ∀ c, c < 4 → (bh_CB t n s op l r c).natAbs ≤ 2305843009213693952)
    (hp : ∀ c, c < 4 → bh_Ps (t m) (g * bh_CT t n s op l r c) (g * bh_CB t n s op l r c) (n m)) (hst : bh_Stop (t m) (fun c => g * bh_CT t n s op l r c) (fun c => g * bh_CB t n s op l r c) (n m) (s m))
    (H : ∀ (su kn te : Nat → Int32) (nu de st : Nat → Int64), (∀ j, j ≠ m → su j = S0 j) → (∀ j, j ≠ m → kn j = K0 j) → (∀ j, (j < m * 64 ∨ m * 64 + 64 ≤ j) → te j = T0 j ∧ nu j = N0 j ∧ de j = D0 j) → (∀ j, (j < m * 8 ∨ m * 8 + 8 ≤ j) → st j = A0 j) →
      su m = nI (s m) → kn m = nI (n m) → bx_Da te nu de m (n m) (t m) → bx_St st m op (t l) (n l) cl (t r) (n r) cr (t m) (n m) → post (f_inputs, f_operations, f_height, f_nodes, f_last, f_clock, a_kinds, a_weights, su, kn, a_positions, a_freshAt, a_operands, a_taken, te, nu, de, st, a_work)) :
    ∀ (d k : Nat) (a_statuses a_known a_terms : Nat → Int32) (a_numers a_denoms a_state : Nat → Int64), k + d = 64 → k ≤ n m → (∀ j, j ≠ m → a_statuses j = S0 j) → (∀ j, j ≠ m → a_known j = K0 j) → (∀ j, (j < m * 64 ∨ m * 64 + 64 ≤ j) → a_terms j = T0 j ∧ a_numers j = N0 j ∧ a_denoms j = D0 j) → (∀ j, (j < m * 8 ∨ m * 8 + 8 ≤ j) → a_state j = A0 j) →
      a_statuses m = nI 0 → a_known m = nI k → bx_Da a_terms a_numers a_denoms m k (t m) → bx_St a_state m op (t l) (n l) cl (t r) (n r) cr (t m) k → wX_giveOut_7 post (nI m) (d + 1) (nI k) f_inputs f_operations f_height f_nodes f_last f_clock a_kinds a_weights a_statuses a_known a_positions a_freshAt a_operands a_taken a_terms a_numers a_denoms a_state a_work := by
  intro d
  induction d with
  | zero =>
    intro k a_statuses a_known a_terms a_numers a_denoms a_state hk hkn f1 f2 f3 f4 f5 f6 f7 f8
    have e : k = 64 := by omega
    have en : n m = 64 := by omega
    subst e
    have s0 : s m = 0 := by
      rcases hst with ⟨_, a, _⟩ | ⟨a, _⟩
      · omega
      · exact a
    rw [← en] at f6 f7 f8
    exact br_t (by decide) (H a_statuses a_known a_terms a_numers a_denoms a_state f1 f2 f3 f4 (by rw [s0]; exact f5) f6 f7 f8)
  | succ d ih =>
    intro k a_statuses a_known a_terms a_numers a_denoms a_state hk hkn f1 f2 f3 f4 f5 f6 f7 f8
    have k64 : k < 64 := by omega
    have hC := bx_StCs f8 hl hr
    have eM := fun c => bh_euM (t m) g (bh_CT t n s op l r c) (bh_CB t n s op l r c) k
    have bd : ∀ c, c < 4 → (bh_eT (t m) (bh_CT t n s op l r c) (bh_CB t n s op l r c) k).natAbs ≤ 2305843009213693952 ∧ (bh_eB (t m) (bh_CT t n s op l r c) (bh_CB t n s op l r c) k).natAbs ≤ 2305843009213693952 := by
      intro c hc
      have := bh_PsAbs (hp c hc) (hB c hc) (by rw [bh_gA hg]; exact bT c hc) (by rw [bh_gA hg]; exact bB c hc) k hkn
      rw [(eM c).1, (eM c).2, bh_gA hg, bh_gA hg] at this
      exact this
    have nn : ∀ c, c < 4 → 0 ≤ g * bh_eB (t m) (bh_CT t n s op l r c) (bh_CB t n s op l r c) k := by
      intro c hc
      have := (bh_PsB (hp c hc) (hB c hc) k hkn).1
      rw [(eM c).2] at this
      exact this
    have zc : ∀ c, c < 4 → ((if bx_cs a_state (m * 8 + 4) c = 0 then 1 else 0) = 1 ∧ bh_eB (t m) (bh_CT t n s op l r c) (bh_CB t n s op l r c) k = 0) ∨ ((if bx_cs a_state (m * 8 + 4) c = 0 then 1 else 0) = 0 ∧ bh_eB (t m) (bh_CT t n s op l r c) (bh_CB t n s op l r c) k ≠ 0) := by
      intro c hc
      rw [(hC c hc).2]
      have b := (bd c hc).2
      by_cases z : bh_eB (t m) (bh_CT t n s op l r c) (bh_CB t n s op l r c) k = 0
      · exact Or.inl ⟨if_pos ((bh_lE0 (by omega)).mpr z), z⟩
      · exact Or.inr ⟨if_neg (fun y => z ((bh_lE0 (by omega)).mp y)), z⟩
    refine br_f (nI_ge (b := 64) k64 (by decide)) ?_
    refine bx_ended hm ?_
    have z0 := zc 0 (by omega)
    have z1 := zc 1 (by omega)
    have z2 := zc 2 (by omega)
    have z3 := zc 3 (by omega)
    generalize (if bx_cs a_state (m * 8 + 4) 0 = 0 then 1 else 0 : Nat) = y0 at *
    generalize (if bx_cs a_state (m * 8 + 4) 1 = 0 then 1 else 0 : Nat) = y1 at *
    generalize (if bx_cs a_state (m * 8 + 4) 2 = 0 then 1 else 0 : Nat) = y2 at *
    generalize (if bx_cs a_state (m * 8 + 4) 3 = 0 then 1 else 0 : Nat) = y3 at *
    by_cases lt : k < n m
    · have fl : ∀ c, c < 4 → bh_fl (g * bh_eT (t m) (bh_CT t n s op l r c) (bh_CB t n s op l r c) k) (g * bh_eB (t m) (bh_CT t n s op l r c) (bh_CB t n s op l r c) k) (t m k) := by
        intro c hc
        have := hp c hc k lt
        rw [(eM c).1, (eM c).2] at this
        exact this
      have nz : ∀ c, c < 4 → bh_eB (t m) (bh_CT t n s op l r c) (bh_CB t n s op l r c) k ≠ 0 := by
        intro c hc z
        have := (fl c hc).1
        rw [z, Int.mul_zero] at this
        omega
      have e0 : 0 + y0 + y1 + y2 + y3 = 0 := by
        have := nz 0 (by omega)
        have := nz 1 (by omega)
        have := nz 2 (by omega)
        have := nz 3 (by omega)
        omega
      rw [e0]
      refine br_f (by decide) (br_f (by decide) ?_)
      refine bx_agree (T := fun c => bh_eT (t m) (bh_CT t n s op l r c) (bh_CB t n s op l r c) k) (B := fun c => bh_eB (t m) (bh_CT t n s op l r c) (bh_CB t n s op l r c) k) hm (fun c hc => by have := (bd c hc).1; omega) (fun c hc => by have := (bd c hc).2; omega) nz (fun c hc => (hC c hc).1) (fun c hc => (hC c hc).2) (fun _ => ?_) (fun y => absurd ⟨t m k, fun c hc => bh_flrN hg (fl c hc)⟩ y)
      refine br_f (by decide) ?_
      refine bx_floor (c := 0) (T := bh_eT (t m) (bh_CT t n s op l r 0) (bh_CB t n s op l r 0) k) (B := bh_eB (t m) (bh_CT t n s op l r 0) (bh_CB t n s op l r 0) k) hm (by omega) rfl (by have := (bd 0 (by omega)).1; omega) (by have := (bd 0 (by omega)).2; omega) (nz 0 (by omega)) (hC 0 (by omega)).1 (hC 0 (by omega)).2 (fun z hz => ?_)
      have ez : z = t m k := bh_flU (bh_flrM hg (fl 0 (by omega)).1 hz) (fl 0 (by omega))
      subst ez
      refine bx_append (t := t m) hm k64 f6 (fun i hi => (f7 i hi).2.1) (fun i hi => (f7 i hi).2.2) ?_
      refine bx_off hm ?_
      rw [bh_lI, bh_iL (tb k lt)]
      have eN : bh_l (t m k) * bh_l (bh_hi (t m) 0 1 k) + bh_l (bh_lo (t m) 0 1 k) = bh_l (bh_hi (t m) 0 1 (k + 1)) := by rw [bh_hiS, bh_lA, bh_lM]
      have eD : bh_l (t m k) * bh_l (bh_hi (t m) 1 0 k) + bh_l (bh_lo (t m) 1 0 k) = bh_l (bh_hi (t m) 1 0 (k + 1)) := by rw [bh_hiS, bh_lA, bh_lM]
      rw [eN, eD]
      refine nm_r (nI_1 k) (ih (k + 1) a_statuses _ _ _ _ _ (by omega) (by omega) f1 (fun j hj => ?_) (fun j hj => ?_) (fun j hj => ?_) f5 pk_us (fun i hi => ?_) (bx_St_off f8))
      · rw [pk_un hj]; exact f2 j hj
      · rw [pk_un (by omega), pk_uLn (by omega), pk_uLn (by omega)]; exact f3 j hj
      · rw [bx_off4_o _ _ _ _ hj]; exact f4 j hj
      · by_cases e : i = k
        · subst e
          rw [pk_us, pk_uLs, pk_uLs]
          exact ⟨rfl, rfl, rfl⟩
        · rw [pk_un (by omega), pk_uLn (by omega), pk_uLn (by omega)]
          exact f7 i (by omega)
    · have ek : k = n m := by omega
      subst ek
      rcases hst with ⟨s2, _, za⟩ | ⟨s0, a | ⟨⟨c0, hc0, za⟩, nf⟩⟩
      · have zz : ∀ c, c < 4 → bh_eB (t m) (bh_CT t n s op l r c) (bh_CB t n s op l r c) (n m) = 0 := by
          intro c hc
          have := za c hc
          dsimp only at this
          rw [(eM c).2] at this
          exact (bh_gz hg).mp this
        have e4 : 0 + y0 + y1 + y2 + y3 = 4 := by
          have := zz 0 (by omega)
          have := zz 1 (by omega)
          have := zz 2 (by omega)
          have := zz 3 (by omega)
          omega
        rw [e4]
        refine br_t (by decide) ⟨vp_in_nI hm (by decide), nm_r (e' := upd a_statuses m 2) (by rw [nI_clamp (by omega)]) (br_t (by decide) ?_)⟩
        exact H _ a_known a_terms a_numers a_denoms a_state (fun j hj => (pk_un hj).trans (f1 j hj)) f2 f3 f4 (by rw [s2]; exact pk_us) f6 f7 f8
      · omega
      · have z4 : ¬ 0 + y0 + y1 + y2 + y3 = 4 := by
          intro y
          refine za ?_
          dsimp only
          rw [(eM c0).2, bh_gz hg]
          rcases (by omega : c0 = 0 ∨ c0 = 1 ∨ c0 = 2 ∨ c0 = 3) with rfl | rfl | rfl | rfl <;> omega
        refine br_f (fun y => z4 ((nI_eq (b := 4) (by omega) (by omega)).mp y)) ?_
        have done := H a_statuses a_known a_terms a_numers a_denoms a_state f1 f2 f3 f4 (by rw [s0]; exact f5) f6 f7 f8
        by_cases ps : 0 < 0 + y0 + y1 + y2 + y3
        · exact br_t (nI_lt (a := 0) ps (by omega)) done
        · refine br_f (nI_nlt (a := 0) (by omega) (by omega)) ?_
          have nz : ∀ c, c < 4 → bh_eB (t m) (bh_CT t n s op l r c) (bh_CB t n s op l r c) (n m) ≠ 0 := by
            intro c hc
            rcases (by omega : c = 0 ∨ c = 1 ∨ c = 2 ∨ c = 3) with rfl | rfl | rfl | rfl <;> omega
          refine bx_agree (T := fun c => bh_eT (t m) (bh_CT t n s op l r c) (bh_CB t n s op l r c) (n m)) (B := fun c => bh_eB (t m) (bh_CT t n s op l r c) (bh_CB t n s op l r c) (n m)) hm (fun c hc => by have := (bd c hc).1; omega) (fun c hc => by have := (bd c hc).2; omega) nz (fun c hc => (hC c hc).1) (fun c hc => (hC c hc).2) (fun y => absurd ?_ nf) (fun _ => br_t rfl done)
          obtain ⟨z, hz⟩ := y
          refine ⟨z, fun c hc => ?_⟩
          dsimp only
          rw [(eM c).1, (eM c).2]
          refine bh_flrM hg ?_ (hz c hc)
          have := nn c hc
          have : g * bh_eB (t m) (bh_CT t n s op l r c) (bh_CB t n s op l r c) (n m) ≠ 0 := fun y => nz c hc ((bh_gz hg).mp y)
          omega
end
end
section
/-! the component brings one node up to date -/
section
variable {f_inputs f_operations f_height f_nodes f_last f_clock : Int32} {a_kinds a_weights a_statuses a_known a_positions a_freshAt a_operands a_taken a_terms a_work : Nat → Int32} {a_numers a_denoms a_state : Nat → Int64}
theorem bx_ab0_s {post : SX → Prop} {m op l nl sl kr k : Nat} {cr : Bool} {ul ur tm : Nat → Int} {A0 : Nat → Int64} (hm : m < 10) (hl : l < 10) (hn : nl ≤ 64) (ht : ∀ i, i < nl → a_terms (l * 64 + i) = bh_i (ul i)) (tb : ∀ i, i < nl → (ul i).natAbs ≤ 2147483647) (hs : a_statuses l = nI sl) (hs4 : sl < 4)
    (H : ∀ (st : Nat → Int64) (c : Bool), (c = true ↔ sl = 2) → (∀ j, (j < m * 8 ∨ m * 8 + 8 ≤ j) → st j = A0 j) → bx_St st m op ul nl c ur kr cr tm k → post (f_inputs, f_operations, f_height, f_nodes, f_last, f_clock, a_kinds, a_weights, a_statuses, a_known, a_positions, a_freshAt, a_operands, upd a_taken (m * 2) (nI nl), a_terms, a_numers, a_denoms, st, a_work)) :
    ∀ (d x : Nat) (a_state : Nat → Int64) (cl : Bool), x + d = nl → (cl = true → sl = 2 ∧ x = nl) → (∀ j, (j < m * 8 ∨ m * 8 + 8 ≤ j) → a_state j = A0 j) → bx_St a_state m op ul x cl ur kr cr tm k → wX_absorb_31 post (nI m) 0 (nI (m * 2)) (nI l) (nI nl) (d + 1) (nI x) f_inputs f_operations f_height f_nodes f_last f_clock a_kinds a_weights a_statuses a_known a_positions a_freshAt a_operands a_taken a_terms a_numers a_denoms a_state a_work := by
  intro d
  induction d with
  | zero =>
    intro x a_state cl hx hc hf hst
    have e : x = nl := by omega
    subst e
    refine br_t (nI_le (by omega) (by omega)) ⟨vp_in_nI (by omega) (by decide), nm_r (e' := upd a_taken (m * 2) (nI x)) (by rw [nI_clamp (by omega)]) ⟨vp_in_nI hl (by decide), ?_⟩⟩
    by_cases z : sl = 2
    · refine br_t (by rw [nI_clamp (by omega), hs, z]; rfl) ?_
      refine bx_close0 hm ?_
      refine H _ true ⟨fun _ => z, fun _ => rfl⟩ (fun j hj => ?_) (bx_St_cl0 hst)
      rw [bx_cl4_o _ _ _ _ _ (by omega) (by omega) (by omega) (by omega)]
      exact hf j hj
    · refine br_f ?_ ?_
      · rw [nI_clamp (by omega), hs]
        exact fun y => z ((nI_eq (b := 2) (by omega) (by omega)).mp y)
      · have ec : cl = false := by
          cases cl with
          | false => rfl
          | true => exact absurd (hc rfl).1 z
        subst ec
        exact H a_state false ⟨(fun y => nomatch y), fun y => absurd y z⟩ hf hst
  | succ d ih =>
    intro x a_state cl hx hc hf hst
    have ec : cl = false := by
      cases cl with
      | false => rfl
      | true =>
        have := (hc rfl).2
        omega
    subst ec
    have eT : (a_terms (nI l * 64 + nI x).toNatClampNeg).toInt64 = bh_l (ul x) := by
      rw [bx_m64, nI_clamp (by omega), ht x (by omega), bh_iL (tb x (by omega))]
    refine br_f (nI_ge (by omega) (by omega)) ⟨by rw [bx_m64]; exact vp_in_nI (by omega) (by decide), ?_⟩
    refine bx_take0 hm ?_
    rw [eT]
    refine nm_r (nI_1 x) (ih (x + 1) _ false (by omega) (fun y => nomatch y) (fun j hj => ?_) (bx_St_tk0 hst))
    rw [bx_tk4_o _ _ _ _ _ (Or.inl ⟨rfl, rfl⟩) j hj]
    exact hf j hj
theorem bx_ab1_s {post : SX → Prop} {m op r nr sr kl k : Nat} {cl : Bool} {ul ur tm : Nat → Int} {A0 : Nat → Int64} (hm : m < 10) (hr : r < 10) (hn : nr ≤ 64) (ht : ∀ i, i < nr → a_terms (r * 64 + i) = bh_i (ur i)) (tb : ∀ i, i < nr → (ur i).natAbs ≤ 2147483647) (hs : a_statuses r = nI sr) (hs4 : sr < 4)
    (H : ∀ (st : Nat → Int64) (c : Bool), (c = true ↔ sr = 2) → (∀ j, (j < m * 8 ∨ m * 8 + 8 ≤ j) → st j = A0 j) → bx_St st m op ul kl cl ur nr c tm k → post (f_inputs, f_operations, f_height, f_nodes, f_last, f_clock, a_kinds, a_weights, a_statuses, a_known, a_positions, a_freshAt, a_operands, upd a_taken (m * 2 + 1) (nI nr), a_terms, a_numers, a_denoms, st, a_work)) :
    ∀ (d x : Nat) (a_state : Nat → Int64) (cr : Bool), x + d = nr → (cr = true → sr = 2 ∧ x = nr) → (∀ j, (j < m * 8 ∨ m * 8 + 8 ≤ j) → a_state j = A0 j) → bx_St a_state m op ul kl cl ur x cr tm k → wX_absorb_31 post (nI m) 1 (nI (m * 2 + 1)) (nI r) (nI nr) (d + 1) (nI x) f_inputs f_operations f_height f_nodes f_last f_clock a_kinds a_weights a_statuses a_known a_positions a_freshAt a_operands a_taken a_terms a_numers a_denoms a_state a_work := by
  intro d
  induction d with
  | zero =>
    intro x a_state cr hx hc hf hst
    have e : x = nr := by omega
    subst e
    refine br_t (nI_le (by omega) (by omega)) ⟨vp_in_nI (by omega) (by decide), nm_r (e' := upd a_taken (m * 2 + 1) (nI x)) (by rw [nI_clamp (by omega)]) ⟨vp_in_nI hr (by decide), ?_⟩⟩
    by_cases z : sr = 2
    · refine br_t (by rw [nI_clamp (by omega), hs, z]; rfl) ?_
      refine bx_close1 hm ?_
      refine H _ true ⟨fun _ => z, fun _ => rfl⟩ (fun j hj => ?_) (bx_St_cl1 hst)
      rw [bx_cl4_o _ _ _ _ _ (by omega) (by omega) (by omega) (by omega)]
      exact hf j hj
    · refine br_f ?_ ?_
      · rw [nI_clamp (by omega), hs]
        exact fun y => z ((nI_eq (b := 2) (by omega) (by omega)).mp y)
      · have ec : cr = false := by
          cases cr with
          | false => rfl
          | true => exact absurd (hc rfl).1 z
        subst ec
        exact H a_state false ⟨(fun y => nomatch y), fun y => absurd y z⟩ hf hst
  | succ d ih =>
    intro x a_state cr hx hc hf hst
    have ec : cr = false := by
      cases cr with
      | false => rfl
      | true =>
        have := (hc rfl).2
        omega
    subst ec
    have eT : (a_terms (nI r * 64 + nI x).toNatClampNeg).toInt64 = bh_l (ur x) := by
      rw [bx_m64, nI_clamp (by omega), ht x (by omega), bh_iL (tb x (by omega))]
    refine br_f (nI_ge (by omega) (by omega)) ⟨by rw [bx_m64]; exact vp_in_nI (by omega) (by decide), ?_⟩
    refine bx_take1 hm ?_
    rw [eT]
    refine nm_r (nI_1 x) (ih (x + 1) _ false (by omega) (fun y => nomatch y) (fun j hj => ?_) (bx_St_tk1 hst))
    rw [bx_tk4_o _ _ _ _ _ (Or.inr ⟨rfl, rfl⟩) j hj]
    exact hf j hj
theorem bx_absorb0 {post : SX → Prop} {m op l nl sl kl kr k : Nat} {cl cr : Bool} {ul ur tm : Nat → Int} (hm : m < 10) (hl : l < 10) (hn : nl ≤ 64) (ho : a_operands (m * 2) = nI l) (hkn : a_known l = nI nl) (htk : a_taken (m * 2) = nI kl) (hkl : kl ≤ nl)
    (ht : ∀ i, i < nl → a_terms (l * 64 + i) = bh_i (ul i)) (tb : ∀ i, i < nl → (ul i).natAbs ≤ 2147483647) (hs : a_statuses l = nI sl) (hs4 : sl < 4) (hc : cl = true → sl = 2 ∧ kl = nl) (hst : bx_St a_state m op ul kl cl ur kr cr tm k)
    (H : ∀ (st : Nat → Int64) (c : Bool), (c = true ↔ sl = 2) → (∀ j, (j < m * 8 ∨ m * 8 + 8 ≤ j) → st j = a_state j) → bx_St st m op ul nl c ur kr cr tm k → post (f_inputs, f_operations, f_height, f_nodes, f_last, f_clock, a_kinds, a_weights, a_statuses, a_known, a_positions, a_freshAt, a_operands, upd a_taken (m * 2) (nI nl), a_terms, a_numers, a_denoms, st, a_work)) : wpX_absorb post (f_inputs, f_operations, f_height, f_nodes, f_last, f_clock, a_kinds, a_weights, a_statuses, a_known, a_positions, a_freshAt, a_operands, a_taken, a_terms, a_numers, a_denoms, a_state, a_work) (nI m) 0 := by
  have c2 : (nI (m * 2)).toNatClampNeg = m * 2 := nI_clamp (by omega)
  have i2 : vp_in (nI (m * 2)) 20 := vp_in_nI (by omega) (by decide)
  unfold wpX_absorb
  dsimp only
  refine nm_r (e' := nI (m * 2)) (by rw [Int32.add_zero, bx_m2]) ⟨i2, nm_r (e' := nI l) (by rw [c2]; exact ho) ⟨vp_in_nI hl (by decide), nm_r (e' := nI nl) (by rw [nI_clamp (by omega)]; exact hkn) ⟨i2, nm_r (e' := nI kl) (by rw [c2]; exact htk) ?_⟩⟩⟩
  exact Exists.intro (nl - kl + 1) (bx_ab0_s (A0 := a_state) hm hl hn ht tb hs hs4 H (nl - kl) kl a_state cl (by omega) hc (fun _ _ => rfl) hst)
theorem bx_absorb1 {post : SX → Prop} {m op r nr sr kl kr k : Nat} {cl cr : Bool} {ul ur tm : Nat → Int} (hm : m < 10) (hr : r < 10) (hn : nr ≤ 64) (ho : a_operands (m * 2 + 1) = nI r) (hkn : a_known r = nI nr) (htk : a_taken (m * 2 + 1) = nI kr) (hkr : kr ≤ nr)
    (ht : ∀ i, i < nr → a_terms (r * 64 + i) = bh_i (ur i)) (tb : ∀ i, i < nr → (ur i).natAbs ≤ 2147483647) (hs : a_statuses r = nI sr) (hs4 : sr < 4) (hc : cr = true → sr = 2 ∧ kr = nr) (hst : bx_St a_state m op ul kl cl ur kr cr tm k)
    (H : ∀ (st : Nat → Int64) (c : Bool), (c = true ↔ sr = 2) → (∀ j, (j < m * 8 ∨ m * 8 + 8 ≤ j) → st j = a_state j) → bx_St st m op ul kl cl ur nr c tm k → post (f_inputs, f_operations, f_height, f_nodes, f_last, f_clock, a_kinds, a_weights, a_statuses, a_known, a_positions, a_freshAt, a_operands, upd a_taken (m * 2 + 1) (nI nr), a_terms, a_numers, a_denoms, st, a_work)) : wpX_absorb post (f_inputs, f_operations, f_height, f_nodes, f_last, f_clock, a_kinds, a_weights, a_statuses, a_known, a_positions, a_freshAt, a_operands, a_taken, a_terms, a_numers, a_denoms, a_state, a_work) (nI m) 1 := by
  have c2 : (nI (m * 2 + 1)).toNatClampNeg = m * 2 + 1 := nI_clamp (by omega)
  have i2 : vp_in (nI (m * 2 + 1)) 20 := vp_in_nI (by omega) (by decide)
  unfold wpX_absorb
  dsimp only
  refine nm_r (e' := nI (m * 2 + 1)) (bx_m21 m) ⟨i2, nm_r (e' := nI r) (by rw [c2]; exact ho) ⟨vp_in_nI hr (by decide), nm_r (e' := nI nr) (by rw [nI_clamp (by omega)]; exact hkn) ⟨i2, nm_r (e' := nI kr) (by rw [c2]; exact htk) ?_⟩⟩⟩
  exact Exists.intro (nr - kr + 1) (bx_ab1_s (A0 := a_state) hm hr hn ht tb hs hs4 H (nr - kr) kr a_state cr (by omega) hc (fun _ _ => rfl) hst)
theorem bx_breaks {post : Int32 → Prop} {m op l r b : Nat} {t : Nat → Nat → Int} {n s : Nat → Nat} (hm : m < 10) (hl : l < 10) (hr : r < 10) (hop : op ≤ 3) (o1 : a_operands (m * 2) = nI l) (o2 : a_operands (m * 2 + 1) = nI r) (ki : a_kinds m = nI op)
    (wl : bh_WF t n s l b) (wr : bh_WF t n s r b) (hb : b ≤ 2147483648) (sl : a_statuses l = nI (s l)) (sr : a_statuses r = nI (s r)) (kr : a_known r = nI (n r)) (nr : ∀ i, i < n r → a_numers (r * 64 + i) = bh_l (bh_hi (t r) 0 1 (i + 1)))
    (h1 : bh_Brk t n s op l r → post 1) (h0 : ¬ bh_Brk t n s op l r → post 0) : wpX_breaks post (f_inputs, f_operations, f_height, f_nodes, f_last, f_clock, a_kinds, a_weights, a_statuses, a_known, a_positions, a_freshAt, a_operands, a_taken, a_terms, a_numers, a_denoms, a_state, a_work) (nI m) := by
  have il : vp_in (nI l) 10 := vp_in_nI hl (by decide)
  have ir : vp_in (nI r) 10 := vp_in_nI hr (by decide)
  have em : (nI m).toNatClampNeg = m := nI_clamp (by omega)
  have el : (nI l).toNatClampNeg = l := nI_clamp (by omega)
  have er : (nI r).toNatClampNeg = r := nI_clamp (by omega)
  obtain ⟨_, l2, _⟩ := wl
  obtain ⟨r1, r2, _, _, _, r6, _⟩ := wr
  have pb := (r6 (n r) (by omega)).1
  have eq3 : ∀ x, x < 4 → x ≠ 3 → ¬ nI x = 3 := fun x hx h z => h ((nI_eq (b := 3) (by omega) (by omega)).mp z)
  have eq2 : ∀ x, x < 4 → x ≠ 2 → ¬ nI x = 2 := fun x hx h z => h ((nI_eq (b := 2) (by omega) (by omega)).mp z)
  refine And.intro (by rw [bx_m2]; exact vp_in_nI (by omega) (by decide)) (nm_r (e' := nI l) (by rw [bx_m2, nI_clamp (by omega)]; exact o1) ⟨by rw [bx_m21]; exact vp_in_nI (by omega) (by decide), nm_r (e' := nI r) (by rw [bx_m21, nI_clamp (by omega)]; exact o2) ⟨il, ?_⟩⟩)
  by_cases a : s l = 3
  · exact br_t (by rw [el, sl, a]; rfl) (h1 (Or.inl a))
  refine br_f (by rw [el, sl]; exact eq3 _ (by omega) a) ⟨ir, ?_⟩
  by_cases b : s r = 3
  · exact br_t (by rw [er, sr, b]; rfl) (h1 (Or.inr (Or.inl b)))
  refine br_f (by rw [er, sr]; exact eq3 _ (by omega) b) ⟨vp_in_nI hm (by decide), ?_⟩
  by_cases c : op = 3
  · refine br_t (by rw [em, ki, c]; rfl) ⟨ir, ?_⟩
    by_cases d : s r = 2
    · refine br_t (by rw [er, sr, d]; rfl) ⟨ir, ?_⟩
      refine bx_numerAt (t := t r) hr r1 nr (by rw [er, kr]; exact bx_s1 r1) ?_
      by_cases e : bh_hi (t r) 0 1 (n r) = 0
      · exact br_t ((bh_lE0 (by omega)).mpr e) (h1 (Or.inr (Or.inr ⟨c, d, e⟩)))
      · refine br_f (fun y => e ((bh_lE0 (by omega)).mp y)) (h0 ?_)
        rintro (y | y | y)
        · exact a y
        · exact b y
        · exact e y.2.2
    · refine br_f (by rw [er, sr]; exact eq2 _ (by omega) d) (h0 ?_)
      rintro (y | y | y)
      · exact a y
      · exact b y
      · exact d y.2.1
  · refine br_f (by rw [em, ki]; exact eq3 _ (by omega) c) (h0 ?_)
    rintro (y | y | y)
    · exact a y
    · exact b y
    · exact c y.1
theorem bx_avo {post : Int32 → Prop} {r b : Nat} {t : Nat → Nat → Int} {n s : Nat → Nat} (hr : r < 10) (wr : bh_WF t n s r b) (h1b : 1 ≤ b) (hb : b ≤ 2147483648) (nz : n r ≠ 0) (sr : a_statuses r = nI (s r)) (kr : a_known r = nI (n r)) (nr : ∀ i, i < n r → a_numers (r * 64 + i) = bh_l (bh_hi (t r) 0 1 (i + 1)))
    (h1 : bh_Avo t n s r → post 1) (h0 : ¬ bh_Avo t n s r → post 0) : wpX_avoidsZero post (f_inputs, f_operations, f_height, f_nodes, f_last, f_clock, a_kinds, a_weights, a_statuses, a_known, a_positions, a_freshAt, a_operands, a_taken, a_terms, a_numers, a_denoms, a_state, a_work) (nI r) := by
  have ir : vp_in (nI r) 10 := vp_in_nI hr (by decide)
  have er : (nI r).toNatClampNeg = r := nI_clamp (by omega)
  have v0 := (bh_enbd (w := 0) wr h1b).1
  have v1 := (bh_enbd (w := 1) wr h1b).1
  have e0 := bh_en0 (t := t) (n := n) (s := s) r 0 1
  have e1 : s r = 0 → bh_en t n s r 1 0 1 = bh_hi (t r) 0 1 (n r) + bh_lo (t r) 0 1 (n r) := fun z => by unfold bh_en; rw [if_pos ⟨rfl, z⟩]
  have e2 : s r ≠ 0 → bh_en t n s r 1 0 1 = bh_hi (t r) 0 1 (n r) := fun z => by unfold bh_en; rw [if_neg (fun y => z y.2), Int.add_zero]
  obtain ⟨r1, r2, _⟩ := wr
  obtain ⟨k, hk⟩ : ∃ k, n r = k + 1 := ⟨n r - 1, by omega⟩
  have at41 : ∀ x y : Int, x = bh_en t n s r 0 0 1 → y = bh_en t n s r 1 0 1 → wX_avoidsZero_41 post (bh_l x) (bh_l y) f_inputs f_operations f_height f_nodes f_last f_clock a_kinds a_weights a_statuses a_known a_positions a_freshAt a_operands a_taken a_terms a_numers a_denoms a_state a_work := by
    intro x y hx hy
    subst hx hy
    unfold bh_Avo at h1 h0
    generalize bh_en t n s r 0 0 1 = x at *
    generalize bh_en t n s r 1 0 1 = y at *
    have a1 := bh_lLe0 (a := x) (by omega)
    have a2 := bh_l0Le (a := x) (by omega)
    have c1 := bh_l0Lt (a := y) (by omega)
    have c2 := bh_l0Le (a := y) (by omega)
    unfold wX_avoidsZero_41 wX_avoidsZero_54
    by_cases p : x ≤ 0
    · refine br_t (a1.mpr p) ?_
      by_cases q : 0 ≤ x
      · exact br_t (a2.mpr q) (h0 (by omega))
      · refine br_f (fun z => q (a2.mp z)) ?_
        by_cases o : 0 ≤ y
        · exact br_t (c2.mpr o) (h0 (by omega))
        · exact br_f (fun z => o (c2.mp z)) (h1 (by omega))
    · refine br_f (fun z => p (a1.mp z)) ?_
      by_cases o : 0 < y
      · exact br_t (c1.mpr o) (h1 (by omega))
      · exact br_f (fun z => o (c1.mp z)) (br_t (a2.mpr (by omega)) (h0 (by omega)))
  refine And.intro ir (nm_r (e' := nI k) (by rw [er, kr, hk]; exact nI_pred k) ?_)
  refine bx_numerAt (t := t r) hr r1 nr (by rw [nI_toInt (by omega), hk]; omega) ⟨ir, ?_⟩
  by_cases z : s r = 0
  · refine br_t (by rw [er, sr, z]; rfl) ?_
    refine bx_numerAt2 (t := t r) hr r1 nr (by rw [bx_s1 (by omega), hk]; omega) ?_
    exact nm_r (e' := bh_l (bh_hi (t r) 0 1 (n r) + bh_lo (t r) 0 1 (n r))) (by rw [bh_lA]) (at41 _ _ e0.symm (e1 z).symm)
  · exact br_f (by rw [er, sr]; exact nI_ne0 (by omega) (by omega)) (at41 _ _ e0.symm (e2 z).symm)
theorem bx_ready {post : Int32 → Prop} {m op l r b : Nat} {t : Nat → Nat → Int} {n s : Nat → Nat} (hm : m < 10) (hr : r < 10) (hop : op ≤ 3) (o2 : a_operands (m * 2 + 1) = nI r) (ki : a_kinds m = nI op) (t1 : a_taken (m * 2) = nI (n l)) (t2 : a_taken (m * 2 + 1) = nI (n r)) (nl64 : n l ≤ 64)
    (wr : bh_WF t n s r b) (h1b : 1 ≤ b) (hb : b ≤ 2147483648) (sr : a_statuses r = nI (s r)) (kr : a_known r = nI (n r)) (nr : ∀ i, i < n r → a_numers (r * 64 + i) = bh_l (bh_hi (t r) 0 1 (i + 1)))
    (h1 : bh_Rdy t n s op l r → post 1) (h0 : ¬ bh_Rdy t n s op l r → post 0) : wpX_isReady post (f_inputs, f_operations, f_height, f_nodes, f_last, f_clock, a_kinds, a_weights, a_statuses, a_known, a_positions, a_freshAt, a_operands, a_taken, a_terms, a_numers, a_denoms, a_state, a_work) (nI m) := by
  have em : (nI m).toNatClampNeg = m := nI_clamp (by omega)
  have d1 : (nI m * 2).toNatClampNeg = m * 2 := by rw [bx_m2]; exact nI_clamp (by omega)
  have d2 : (nI m * 2 + 1).toNatClampNeg = m * 2 + 1 := by rw [bx_m21]; exact nI_clamp (by omega)
  have j1 : vp_in (nI m * 2) 20 := by rw [bx_m2]; exact vp_in_nI (by omega) (by decide)
  have j2 : vp_in (nI m * 2 + 1) 20 := by rw [bx_m21]; exact vp_in_nI (by omega) (by decide)
  have r1 := wr.1
  refine And.intro j1 ?_
  by_cases a : n l = 0
  · exact br_t (by rw [d1, t1, a]; rfl) (h0 (fun y => y.1 a))
  refine br_f (by rw [d1, t1]; exact nI_ne0 (by omega) (by omega)) ⟨j2, ?_⟩
  by_cases b : n r = 0
  · exact br_t (by rw [d2, t2, b]; rfl) (h0 (fun y => y.2.1 b))
  refine br_f (by rw [d2, t2]; exact nI_ne0 (by omega) (by omega)) ⟨vp_in_nI hm (by decide), ?_⟩
  by_cases c : op = 3
  · refine br_t (by rw [em, ki, c]; rfl) ⟨j2, ?_⟩
    rw [d2, o2]
    exact bx_avo hr wr h1b hb b sr kr nr (fun y => br_f (by decide) (h1 ⟨a, b, fun _ => y⟩)) (fun y => br_t rfl (h0 (fun z => y (z.2.2 c))))
  · exact br_f (by rw [em, ki]; exact fun z => c ((nI_eq (b := 3) (by omega) (by omega)).mp z)) (h1 ⟨a, b, fun z => absurd z c⟩)
end
end
section
/-! one node of the component against the reference's node -/
theorem bh_WFle {t : Nat → Nat → Int} {n s : Nat → Nat} {m b b' : Nat} (h : bh_WF t n s m b) (hb : b ≤ b') : bh_WF t n s m b' := by
  obtain ⟨h1, h2, h3, h4, h5, h6, h7⟩ := h
  exact ⟨h1, h2, h3, h4, h5, fun j hj => ⟨Nat.le_trans (h6 j hj).1 hb, Nat.le_trans (h6 j hj).2 hb⟩, h7⟩
section
variable {f_inputs f_operations f_height f_nodes f_last f_clock : Int32} {a_kinds a_weights a_statuses a_known a_positions a_freshAt a_operands a_taken a_terms a_work : Nat → Int32} {a_numers a_denoms a_state : Nat → Int64}
theorem bx_refresh {post : SX → Prop} {m op l r bl br bm xk kl kr : Nat} {cl cr : Bool} {t : Nat → Nat → Int} {n s : Nat → Nat} (hm : m < 10) (hlm : l < m) (hrm : r < m) (hop : op ≤ 3) (o1 : a_operands (m * 2) = nI l) (o2 : a_operands (m * 2 + 1) = nI r) (ki : a_kinds m = nI op)
    (wl : bh_WF t n s l bl) (wr : bh_WF t n s r br) (wm : bh_WF t n s m bm) (b1 : 1 ≤ bl) (b2 : 1 ≤ br) (d1 : bl ≤ 2147483648) (d2 : br ≤ 2147483648) (bb : 8 * (bl * br) ≤ 2305843009213693952) (res : bh_Res t n s op l r m)
    (knl : a_known l = nI (n l)) (knr : a_known r = nI (n r)) (stl : a_statuses l = nI (s l)) (str : a_statuses r = nI (s r)) (dl : bx_Da a_terms a_numers a_denoms l (n l) (t l)) (dr : bx_Da a_terms a_numers a_denoms r (n r) (t r))
    (hxk : xk ≤ n m) (knm : a_known m = nI xk) (stm : a_statuses m = nI 0) (dm : bx_Da a_terms a_numers a_denoms m xk (t m)) (tk1 : a_taken (m * 2) = nI kl) (tk2 : a_taken (m * 2 + 1) = nI kr) (hkl : kl ≤ n l) (hkr : kr ≤ n r)
    (hcl : cl = true → s l = 2 ∧ kl = n l) (hcr : cr = true → s r = 2 ∧ kr = n r) (hst : bx_St a_state m op (t l) kl cl (t r) kr cr (t m) xk)
    (H : ∀ (su kn ta te : Nat → Int32) (nu de st : Nat → Int64), (∀ j, j ≠ m → su j = a_statuses j) → (∀ j, j ≠ m → kn j = a_known j) → (∀ j, j ≠ m * 2 → j ≠ m * 2 + 1 → ta j = a_taken j) → (∀ j, (j < m * 64 ∨ m * 64 + 64 ≤ j) → te j = a_terms j ∧ nu j = a_numers j ∧ de j = a_denoms j) → (∀ j, (j < m * 8 ∨ m * 8 + 8 ≤ j) → st j = a_state j) →
      su m = nI (s m) → kn m = nI (n m) → bx_Da te nu de m (n m) (t m) → (s m = 0 → ∃ c c' : Bool, (c = true → s l = 2) ∧ (c' = true → s r = 2) ∧ ta (m * 2) = nI (n l) ∧ ta (m * 2 + 1) = nI (n r) ∧ bx_St st m op (t l) (n l) c (t r) (n r) c' (t m) (n m)) →
      post (f_inputs, f_operations, f_height, f_nodes, f_last, f_clock, a_kinds, a_weights, su, kn, a_positions, upd a_freshAt m f_clock, a_operands, ta, te, nu, de, st, a_work)) : wpX_refresh post (f_inputs, f_operations, f_height, f_nodes, f_last, f_clock, a_kinds, a_weights, a_statuses, a_known, a_positions, a_freshAt, a_operands, a_taken, a_terms, a_numers, a_denoms, a_state, a_work) (nI m) := by
  have i1 : vp_in (nI m) 10 := vp_in_nI hm (by decide)
  have em : (nI m).toNatClampNeg = m := nI_clamp (by omega)
  have wl' := wl
  have wr' := wr
  obtain ⟨l1, l2, _, _, _, _, l7⟩ := wl'
  obtain ⟨r1, r2, _, _, _, _, r7⟩ := wr'
  obtain ⟨m1, m2, _, _, _, _, m7⟩ := wm
  refine And.intro i1 (nm_r (e' := upd a_freshAt m f_clock) (by rw [em]) ?_)
  refine bx_breaks (t := t) (n := n) (s := s) (b := 2147483648) hm (by omega) (by omega) hop o1 o2 ki (bh_WFle wl d1) (bh_WFle wr d2) (by omega) stl str knr (fun i hi => (dr i hi).2.1) (fun hb => ?_) (fun nb => ?_)
  · have rs : s m = 3 ∧ n m = 0 := by
      rcases res with ⟨_, a, b⟩ | ⟨a, _⟩ | ⟨a, _⟩
      · exact ⟨a, b⟩
      · exact absurd hb a
      · exact absurd hb a
    have ex : xk = n m := by omega
    subst ex
    refine br_f (by decide) ⟨i1, nm_r (e' := upd a_statuses m 3) (by rw [em]) ?_⟩
    exact H _ a_known a_taken a_terms a_numers a_denoms a_state (fun j hj => pk_un hj) (fun _ _ => rfl) (fun _ _ _ => rfl) (fun _ _ => ⟨rfl, rfl, rfl⟩) (fun _ _ => rfl) (by rw [rs.1]; exact pk_us) knm dm (fun z => by omega)
  · have nb' : s l ≠ 3 ∧ s r ≠ 3 := ⟨fun z => nb (Or.inl z), fun z => nb (Or.inr (Or.inl z))⟩
    refine br_t rfl ?_
    refine bx_absorb0 (nl := n l) (sl := s l) hm (by omega) l1 o1 knl tk1 hkl (fun i hi => (dl i hi).1) l7 stl (by omega) hcl hst (fun st1 c1 hc1 f1 hst1 => ?_)
    refine bx_absorb1 (nr := n r) (sr := s r) hm (by omega) r1 o2 knr ((pk_un (by omega)).trans tk2) hkr (fun i hi => (dr i hi).1) r7 str (by omega) hcr hst1 (fun st2 c2 hc2 f2 hst2 => ?_)
    have t1 : upd (upd a_taken (m * 2) (nI (n l))) (m * 2 + 1) (nI (n r)) (m * 2) = nI (n l) := by rw [pk_un (by omega), pk_us]
    have t2 : upd (upd a_taken (m * 2) (nI (n l))) (m * 2 + 1) (nI (n r)) (m * 2 + 1) = nI (n r) := pk_us
    have t3 : ∀ j, j ≠ m * 2 → j ≠ m * 2 + 1 → upd (upd a_taken (m * 2) (nI (n l))) (m * 2 + 1) (nI (n r)) j = a_taken j := fun j a b => by rw [pk_un b, pk_un a]
    have f3 : ∀ j, (j < m * 8 ∨ m * 8 + 8 ≤ j) → st2 j = a_state j := fun j hj => (f2 j hj).trans (f1 j hj)
    refine bx_ready (t := t) (n := n) (s := s) (l := l) hm (by omega) hop o2 ki t1 t2 l1 wr b2 d2 str knr (fun i hi => (dr i hi).2.1) (fun rd => ?_) (fun nr => ?_)
    · have rs : n m ≤ 64 ∧ (∀ c, c < 4 → bh_Ps (t m) (bh_NT t n s op l r c) (bh_NB t n s op l r c) (n m)) ∧ bh_Stop (t m) (bh_NT t n s op l r) (bh_NB t n s op l r) (n m) (s m) := by
        rcases res with ⟨a, _⟩ | ⟨_, a, _⟩ | ⟨_, _, a, b, c⟩
        · exact absurd a nb
        · exact absurd rd a
        · exact ⟨a, b, c⟩
      have k8 := fun c => bh_NBd (op := op) (c := c) wl wr b1 b2
      refine br_f (by decide) (And.intro i1 (nm_r (e' := nI xk) (by rw [em]; exact knm) (Exists.intro (64 - xk + 1) ?_)))
      refine bx_give (g := bh_sg t n op r) (S0 := a_statuses) (K0 := a_known) (T0 := a_terms) (N0 := a_numers) (D0 := a_denoms) (A0 := st2) (op := op) (l := l) (r := r) (cl := c1) (cr := c2) (t := t) (n := n) (s := s) hm (bh_sg1 op r) (by rw [hc1]; omega) (by rw [hc2]; omega) rs.1 m7 (fun c hc => bh_NBpos wl wr rd hc) (fun c hc => by have := (k8 c).1; omega) (fun c hc => by have := (k8 c).2; omega) rs.2.1 rs.2.2 ?_ (64 - xk) xk a_statuses a_known a_terms a_numers a_denoms st2 (by omega) hxk (fun _ _ => rfl) (fun _ _ => rfl) (fun _ _ => ⟨rfl, rfl, rfl⟩) (fun _ _ => rfl) stm knm dm hst2
      intro su kn te nu de st g1 g2 g3 g4 g5 g6 g7 g8
      exact H su kn _ te nu de st g1 g2 t3 g3 (fun j hj => (g4 j hj).trans (f3 j hj)) g5 g6 g7 (fun _ => ⟨c1, c2, hc1.mp, hc2.mp, t1, t2, g8⟩)
    · have rs : s m = 0 ∧ n m = 0 := by
        rcases res with ⟨a, _⟩ | ⟨_, _, a, b⟩ | ⟨_, a, _⟩
        · exact absurd a nb
        · exact ⟨a, b⟩
        · exact absurd a nr
      have ex : xk = n m := by omega
      subst ex
      refine br_t rfl ?_
      exact H a_statuses a_known _ a_terms a_numers a_denoms st2 (fun _ _ => rfl) (fun _ _ => rfl) t3 (fun _ _ => ⟨rfl, rfl, rfl⟩) f3 (by rw [rs.1]; exact stm) knm dm (fun _ => ⟨c1, c2, hc1.mp, hc2.mp, t1, t2, hst2⟩)
end
/-! all nodes -/
def bx_Cf (op l r m : Nat) (t : Nat → Nat → Int) (xn xs : Nat → Nat) (ta : Nat → Int32) (st : Nat → Int64) : Prop :=
  ∃ (kl kr : Nat) (cl cr : Bool), ta (m * 2) = nI kl ∧ ta (m * 2 + 1) = nI kr ∧ kl ≤ xn l ∧ kr ≤ xn r ∧ (cl = true → xs l = 2 ∧ kl = xn l) ∧ (cr = true → xs r = 2 ∧ kr = xn r) ∧ bx_St st m op (t l) kl cl (t r) kr cr (t m) (xn m)
def bx_XR (I J : Nat) (op l r : Nat → Nat) (t : Nat → Nat → Int) (n s xn xs : Nat → Nat) (C : Nat) (su kn fr ta te : Nat → Int32) (nu de st : Nat → Int64) : Prop :=
  (∀ m, m < J → kn m = nI (xn m) ∧ su m = nI (xs m) ∧ xn m ≤ n m ∧ (xs m = 0 ∨ (xs m = s m ∧ xn m = n m)) ∧ bx_Da te nu de m (xn m) (t m)) ∧
  (∀ m, m < I → xs m = s m ∧ xn m = n m) ∧
  (∀ m, I ≤ m → m < J → (fr m).toInt ≤ (C : Int) ∧ (fr m = nI C → xs m = s m ∧ xn m = n m) ∧ (xs m = 0 → bx_Cf (op m) (l m) (r m) m t xn xs ta st)) ∧
  (∀ m, J ≤ m → m < 10 → kn m = nI 0 ∧ ta (m * 2) = nI 0 ∧ ta (m * 2 + 1) = nI 0 ∧ ∀ i, i < 8 → st (m * 8 + i) = 0)
def bx_stl (I : Nat) (xs : Nat → Nat) (fr : Nat → Int32) (C m : Nat) : Prop := I ≤ m ∧ xs m = 0 ∧ fr m ≠ nI C
theorem bx_upd {I J : Nat} {op l r : Nat → Nat} {t : Nat → Nat → Int} {n s xn xs : Nat → Nat} {C : Nat} {su kn fr ta te : Nat → Int32} {nu de st : Nat → Int64} (h : bx_XR I J op l r t n s xn xs C su kn fr ta te nu de st) {m : Nat} (hm : m < J) (hs : ¬ bx_stl I xs fr C m) : xs m = s m ∧ xn m = n m := by
  obtain ⟨h1, h2, h3, _⟩ := h
  by_cases a : m < I
  · exact h2 m a
  · by_cases b : xs m = 0
    · by_cases c : fr m = nI C
      · exact (h3 m (by omega) hm).2.1 c
      · exact absurd ⟨by omega, b, c⟩ hs
    · rcases (h1 m hm).2.2.2.1 with z | z
      · exact absurd z b
      · exact z
section
variable {f_inputs f_operations f_height f_nodes f_last f_clock : Int32} {a_kinds a_weights a_statuses a_known a_positions a_freshAt a_operands a_taken a_terms a_work : Nat → Int32} {a_numers a_denoms a_state : Nat → Int64}
theorem bx_ref {post : SX → Prop} {I J O C : Nat} {op l r w : Nat → Nat} {t : Nat → Nat → Int} {n s xn xs : Nat → Nat} {m : Nat} (hS : bh_Sh I J O op l r w) (hT : bh_Tb I J op l r w a_kinds a_operands a_weights) (hD : bh_Dy I J op l r w t n s) (hC : f_clock = nI C)
    (hX : bx_XR I J op l r t n s xn xs C a_statuses a_known a_freshAt a_taken a_terms a_numers a_denoms a_state) (hI : I ≤ m) (hJ : m < J) (h0 : xs m = 0) (ul : xs (l m) = s (l m) ∧ xn (l m) = n (l m)) (ur : xs (r m) = s (r m) ∧ xn (r m) = n (r m)) (cb : C < 2147483648)
    (H : ∀ (su kn ta te : Nat → Int32) (nu de st : Nat → Int64), bx_XR I J op l r t n s (bh_up xn m (n m)) (bh_up xs m (s m)) C su kn (upd a_freshAt m (nI C)) ta te nu de st → post (f_inputs, f_operations, f_height, f_nodes, f_last, f_clock, a_kinds, a_weights, su, kn, a_positions, upd a_freshAt m (nI C), a_operands, ta, te, nu, de, st, a_work)) : wpX_refresh post (f_inputs, f_operations, f_height, f_nodes, f_last, f_clock, a_kinds, a_weights, a_statuses, a_known, a_positions, a_freshAt, a_operands, a_taken, a_terms, a_numers, a_denoms, a_state, a_work) (nI m) := by
  subst hC
  obtain ⟨s1, s2, s3, s4, s5, s6, s7, s8, s9⟩ := hS
  obtain ⟨D1, D2, D3⟩ := hD
  obtain ⟨X1, X2, X3, X4⟩ := hX
  obtain ⟨q1, q2, q3, q4⟩ := s9 m hI hJ
  obtain ⟨y1, y2, y3⟩ := hT m hJ
  obtain ⟨y4, y5⟩ := y3 hI
  obtain ⟨kl, kr, cl, cr, c1, c2, c3, c4, c5, c6, c7⟩ := (X3 m hI hJ).2.2 h0
  have xl := X1 (l m) (by omega)
  have xr := X1 (r m) (by omega)
  have xm := X1 m hJ
  have wl := s7 (l m) (by omega)
  have wr := s7 (r m) (by omega)
  have wm := s7 m hJ
  have bM := bh_bdM wl.1 wr.1 (by omega)
  rw [ul.1, ul.2] at xl
  rw [ur.1, ur.2] at xr
  rw [ul.1, ul.2] at c5
  rw [ur.1, ur.2] at c6
  rw [ul.2] at c3
  rw [ur.2] at c4
  have xs0 := xm.2.1
  rw [h0] at xs0
  have sm := (D1 m hJ).2.1
  refine bx_refresh (t := t) (n := n) (s := s) (by omega) q2 q3 q1 y4 y5 y1 (D1 _ (by omega)) (D1 _ (by omega)) (D1 m hJ) (bh_bdB _).1 (bh_bdB _).1 (by have := (bh_bdB (w (l m))).2; omega) (by have := (bh_bdB (w (r m))).2; omega) bM.2 (D3 m hI hJ) xl.1 xr.1 xl.2.1 xr.2.1 xl.2.2.2.2 xr.2.2.2.2 xm.2.2.1 xm.1 xs0 xm.2.2.2.2 c1 c2 c3 c4 c5 c6 c7 ?_
  intro su kn ta te nu de st f1 f2 f3 f4 f5 f6 f7 f8 f9
  refine H su kn ta te nu de st ⟨fun x hx => ?_, fun x hx => ?_, fun x hx1 hx => ?_, fun x hx1 hx => ?_⟩
  · by_cases e : x = m
    · subst e
      rw [bh_ups, bh_ups]
      exact ⟨f7, f6, Nat.le_refl _, Or.inr ⟨rfl, rfl⟩, f8⟩
    · rw [bh_upn e, bh_upn e, f1 x e, f2 x e]
      obtain ⟨a, b, c, d, g⟩ := X1 x hx
      refine ⟨a, b, c, d, fun i hi => ?_⟩
      have n64 := (D1 x hx).1
      have z := f4 (x * 64 + i) (by omega)
      rw [z.1, z.2.1, z.2.2]
      exact g i hi
  · have e : x ≠ m := by omega
    rw [bh_upn e, bh_upn e]
    exact X2 x hx
  · by_cases e : x = m
    · subst e
      rw [bh_ups, bh_ups, pk_us]
      refine ⟨by rw [nI_toInt cb]; omega, fun _ => ⟨rfl, rfl⟩, fun z => ?_⟩
      obtain ⟨c, c', g1, g2, g3, g4, g5⟩ := f9 z
      have el : l x ≠ x := by omega
      have er : r x ≠ x := by omega
      refine ⟨n (l x), n (r x), c, c', g3, g4, ?_, ?_, ?_, ?_, ?_⟩
      · rw [bh_upn el]; omega
      · rw [bh_upn er]; omega
      · rw [bh_upn el, bh_upn el]
        exact fun y => ⟨ul.1.trans (g1 y), ul.2.symm⟩
      · rw [bh_upn er, bh_upn er]
        exact fun y => ⟨ur.1.trans (g2 y), ur.2.symm⟩
      · rw [bh_ups]
        exact g5
    · rw [bh_upn e, bh_upn e, pk_un e]
      obtain ⟨a, b, c⟩ := X3 x hx1 hx
      refine ⟨a, b, fun z => ?_⟩
      obtain ⟨kl', kr', cl', cr', g1, g2, g3, g4, g5, g6, g7⟩ := c z
      have up : ∀ y k (d : Bool), k ≤ xn y → (d = true → xs y = 2 ∧ k = xn y) → k ≤ bh_up xn m (n m) y ∧ (d = true → bh_up xs m (s m) y = 2 ∧ k = bh_up xn m (n m) y) := by
        intro y k d hk hd
        by_cases ey : y = m
        · subst ey
          rw [bh_ups, bh_ups]
          refine ⟨by omega, fun v => ?_⟩
          have := (hd v).1
          omega
        · rw [bh_upn ey, bh_upn ey]
          exact ⟨hk, hd⟩
      have u1 := up (l x) kl' cl' g3 g5
      have u2 := up (r x) kr' cr' g4 g6
      refine ⟨kl', kr', cl', cr', (f3 _ (by omega) (by omega)).trans g1, (f3 _ (by omega) (by omega)).trans g2, u1.1, u2.1, u1.2, u2.2, ?_⟩
      rw [bh_upn e]
      exact bx_StO g7 (fun j a b => f5 j (by omega))
  · have e : x ≠ m := by omega
    obtain ⟨a, b, c, d⟩ := X4 x hx1 hx
    refine ⟨(f2 x e).trans a, (f3 _ (by omega) (by omega)).trans b, (f3 _ (by omega) (by omega)).trans c, fun i hi => ?_⟩
    rw [f5 _ (by omega)]
    exact d i hi
theorem bx_isStale {post : Int32 → Prop} {I C m : Nat} {xs : Nat → Nat} (hm : m < 10) (hI4 : I ≤ 4) (hI : f_inputs = nI I) (hC : f_clock = nI C) (hs : I ≤ m → a_statuses m = nI (xs m)) (hs4 : I ≤ m → xs m < 4) (h1 : bx_stl I xs a_freshAt C m → post 1) (h0 : ¬ bx_stl I xs a_freshAt C m → post 0) : wpX_isStale post (f_inputs, f_operations, f_height, f_nodes, f_last, f_clock, a_kinds, a_weights, a_statuses, a_known, a_positions, a_freshAt, a_operands, a_taken, a_terms, a_numers, a_denoms, a_state, a_work) (nI m) := by
  subst hI hC
  have em : (nI m).toNatClampNeg = m := nI_clamp (by omega)
  have i1 : vp_in (nI m) 10 := vp_in_nI hm (by decide)
  by_cases a : m < I
  · exact br_t (nI_lt a (by omega)) (h0 (fun y => by have := y.1; omega))
  · refine br_f (nI_nlt (by omega) (by omega)) ⟨i1, ?_⟩
    by_cases b : xs m = 0
    · refine br_t (by rw [em, hs (by omega), b]; rfl) ⟨i1, ?_⟩
      by_cases c : a_freshAt m = nI C
      · exact br_t (by rw [em]; exact c) (h0 (fun y => y.2.2 c))
      · exact br_f (by rw [em]; exact c) (h1 ⟨by omega, b, c⟩)
    · exact br_f (by rw [em, hs (by omega)]; exact nI_ne0 (by omega) (by have := hs4 (by omega); omega)) (h0 (fun y => b y.2.1))
end
end
section
/-! the component settles a node: a stack of stale operations -/
def bx_cnt (f : Nat → Bool) : Nat → Nat
  | 0 => 0
  | k + 1 => bx_cnt f k + (if f k = true then 1 else 0)
theorem bx_cnt_le (f : Nat → Bool) : ∀ k, bx_cnt f k ≤ k := by
  intro k
  induction k with
  | zero => exact Nat.le_refl 0
  | succ k ih =>
    show bx_cnt f k + (if f k = true then 1 else 0) ≤ k + 1
    split <;> omega
theorem bx_cnt_eq {f f' : Nat → Bool} : ∀ k, (∀ j, j < k → f' j = f j) → bx_cnt f' k = bx_cnt f k := by
  intro k
  induction k with
  | zero => intro _; rfl
  | succ k ih =>
    intro h
    show bx_cnt f' k + (if f' k = true then 1 else 0) = bx_cnt f k + (if f k = true then 1 else 0)
    rw [ih (fun j hj => h j (by omega)), h k (by omega)]
theorem bx_cnt_dec {f f' : Nat → Bool} {m : Nat} (h1 : f m = true) (h0 : f' m = false) (h : ∀ j, j ≠ m → f' j = f j) : ∀ k, m < k → bx_cnt f' k + 1 = bx_cnt f k := by
  intro k
  induction k with
  | zero => intro hk; omega
  | succ k ih =>
    intro hk
    show bx_cnt f' k + (if f' k = true then 1 else 0) + 1 = bx_cnt f k + (if f k = true then 1 else 0)
    by_cases e : m = k
    · subst e
      rw [bx_cnt_eq m (fun j hj => h j (by omega)), h1, h0]
      rfl
    · have := ih (by omega)
      rw [h k (by omega)]
      omega
def bx_stB (I : Nat) (xs : Nat → Nat) (fr : Nat → Int32) (C m : Nat) : Bool := decide (I ≤ m ∧ xs m = 0 ∧ fr m ≠ nI C)
theorem bx_stB_t {I : Nat} {xs : Nat → Nat} {fr : Nat → Int32} {C m : Nat} (h : bx_stl I xs fr C m) : bx_stB I xs fr C m = true := decide_eq_true h
theorem bx_stB_f {I : Nat} {xs : Nat → Nat} {fr : Nat → Int32} {C m : Nat} (h : ¬ bx_stl I xs fr C m) : bx_stB I xs fr C m = false := decide_eq_false h
section
variable {f_inputs f_operations f_height f_nodes f_last f_clock : Int32} {a_kinds a_weights a_statuses a_known a_positions a_freshAt a_operands a_taken a_terms a_work : Nat → Int32} {a_numers a_denoms a_state : Nat → Int64}
theorem bx_staleOp {post : Int32 → Prop} {I J O C : Nat} {op l r w : Nat → Nat} {t : Nat → Nat → Int} {n s xn xs : Nat → Nat} {m : Nat} (hS : bh_Sh I J O op l r w) (hT : bh_Tb I J op l r w a_kinds a_operands a_weights) (hD : bh_Dy I J op l r w t n s) (hI : f_inputs = nI I) (hC : f_clock = nI C)
    (hX : bx_XR I J op l r t n s xn xs C a_statuses a_known a_freshAt a_taken a_terms a_numers a_denoms a_state) (hIm : I ≤ m) (hJ : m < J)
    (h1 : bx_stl I xs a_freshAt C (l m) → post (nI (l m))) (h2 : bx_stl I xs a_freshAt C (r m) → post (nI (r m))) (h3 : ¬ bx_stl I xs a_freshAt C (l m) → ¬ bx_stl I xs a_freshAt C (r m) → post (-1)) : wpX_staleOperand post (f_inputs, f_operations, f_height, f_nodes, f_last, f_clock, a_kinds, a_weights, a_statuses, a_known, a_positions, a_freshAt, a_operands, a_taken, a_terms, a_numers, a_denoms, a_state, a_work) (nI m) := by
  obtain ⟨s1, s2, s3, s4, s5, s6, s7, s8, s9⟩ := hS
  obtain ⟨q1, q2, q3, q4⟩ := s9 m hIm hJ
  obtain ⟨y1, y2, y3⟩ := hT m hJ
  obtain ⟨y4, y5⟩ := y3 hIm
  have x4 : ∀ x, x < J → xs x < 4 := by
    intro x hx
    have a := (hX.1 x hx).2.2.2.1
    have b := (hD.1 x hx).2.1
    omega
  refine And.intro (by rw [bx_m2]; exact vp_in_nI (by omega) (by decide)) (nm_r (e' := nI (l m)) (by rw [bx_m2, nI_clamp (by omega)]; exact y4) ?_)
  refine bx_isStale (xs := xs) (by omega) s2 hI hC (fun _ => (hX.1 _ (by omega)).2.1) (fun _ => x4 _ (by omega)) (fun a => br_f (by decide) (h1 a)) (fun a => br_t rfl ⟨by rw [bx_m21]; exact vp_in_nI (by omega) (by decide), nm_r (e' := nI (r m)) (by rw [bx_m21, nI_clamp (by omega)]; exact y5) ?_⟩)
  exact bx_isStale (xs := xs) (by omega) s2 hI hC (fun _ => (hX.1 _ (by omega)).2.1) (fun _ => x4 _ (by omega)) (fun b => br_f (by decide) (h2 b)) (fun b => br_t rfl (h3 a b))
theorem bx_set_s {post : SX → Prop} {I J O C node : Nat} {op l r w : Nat → Nat} {t : Nat → Nat → Int} {n s : Nat → Nat} (hS : bh_Sh I J O op l r w) (hT : bh_Tb I J op l r w a_kinds a_operands a_weights) (hD : bh_Dy I J op l r w t n s) (hI : f_inputs = nI I) (hC : f_clock = nI C) (cb : C < 2147483648)
    (H : ∀ (xn xs : Nat → Nat) (su kn fr ta te : Nat → Int32) (nu de st : Nat → Int64) (wo : Nat → Int32), bx_XR I J op l r t n s xn xs C su kn fr ta te nu de st → ¬ bx_stl I xs fr C node → post (f_inputs, f_operations, f_height, f_nodes, f_last, f_clock, a_kinds, a_weights, su, kn, a_positions, fr, a_operands, ta, te, nu, de, st, wo)) :
    ∀ (N p d : Nat) (xn xs ws : Nat → Nat) (a_statuses a_known a_freshAt a_taken a_terms : Nat → Int32) (a_numers a_denoms a_state : Nat → Int64) (a_work : Nat → Int32), p + N = 41 → p + 2 * bx_cnt (bx_stB I xs a_freshAt C) J + 10 ≤ 29 + d → d ≤ 9 →
      bx_XR I J op l r t n s xn xs C a_statuses a_known a_freshAt a_taken a_terms a_numers a_denoms a_state → (∀ j, j < d → a_work j = nI (ws j) ∧ ws j + j < J ∧ bx_stl I xs a_freshAt C (ws j)) → (∀ i j, i < j → j < d → ws j < ws i) → (d = 0 → ¬ bx_stl I xs a_freshAt C node) → (0 < d → ws 0 = node) →
      wX_settle_20 post N (nI d) (nI p) f_inputs f_operations f_height f_nodes f_last f_clock a_kinds a_weights a_statuses a_known a_positions a_freshAt a_operands a_taken a_terms a_numers a_denoms a_state a_work := by
  have hS' := hS
  obtain ⟨s1, s2, s3, s4, s5, s6, s7, s8, s9⟩ := hS'
  intro N
  induction N with
  | zero =>
    intro p d xn xs ws a_statuses a_known a_freshAt a_taken a_terms a_numers a_denoms a_state a_work hp hc
    omega
  | succ N ih =>
    intro p d xn xs ws a_statuses a_known a_freshAt a_taken a_terms a_numers a_denoms a_state a_work hp hc hd hX hw ho hz hn
    refine br_f (nI_ge (b := 40) (by omega) (by decide)) ?_
    by_cases d0 : d = 0
    · exact br_t (nI_le (b := 0) (by omega) (by decide)) (H xn xs a_statuses a_known a_freshAt a_taken a_terms a_numers a_denoms a_state a_work hX (hz d0))
    · obtain ⟨e, rfl⟩ : ∃ e, d = e + 1 := ⟨d - 1, by omega⟩
      refine br_f (nI_nle (by omega) (by omega)) ?_
      obtain ⟨w1, w2, w3⟩ := hw e (by omega)
      have w4 := w3.1
      generalize hm : ws e = m at *
      refine ⟨by rw [nI_pred]; exact vp_in_nI (by omega) (by decide), nm_r (e' := nI m) (by rw [nI_pred, nI_clamp (by omega)]; exact w1) ?_⟩
      obtain ⟨q1, q2, q3, q4⟩ := s9 m w4 (by omega)
      have push : ∀ o, o < m → bx_stl I xs a_freshAt C o → wX_settle_20 post N (nI (e + 1 + 1)) (nI (p + 1)) f_inputs f_operations f_height f_nodes f_last f_clock a_kinds a_weights a_statuses a_known a_positions a_freshAt a_operands a_taken a_terms a_numers a_denoms a_state (upd a_work (e + 1) (nI o)) := by
        intro o ho1 ho2
        have o1 := ho2.1
        refine ih (p + 1) (e + 1 + 1) xn xs (bh_up ws (e + 1) o) a_statuses a_known a_freshAt a_taken a_terms a_numers a_denoms a_state _ (by omega) (by omega) (by omega) hX (fun j hj => ?_) (fun i j hi hj => ?_) (fun y => by omega) (fun _ => ?_)
        · by_cases y : j = e + 1
          · subst y
            rw [pk_us, bh_ups]
            exact ⟨rfl, by omega, ho2⟩
          · rw [pk_un y, bh_upn y]
            exact hw j (by omega)
        · rw [bh_upn (show i ≠ e + 1 by omega)]
          by_cases y : j = e + 1
          · subst y
            rw [bh_ups]
            by_cases v : i = e
            · subst v
              omega
            · have := ho i e (by omega) (by omega)
              omega
          · rw [bh_upn y]
            exact ho i j hi (by omega)
        · rw [bh_upn (by omega)]
          exact hn (by omega)
      have pushed : ∀ o, o < m → bx_stl I xs a_freshAt C o → _ := fun o a b => nm_r (e' := upd a_work (e + 1) (nI o)) (P := fun x => ∀ y : Int32, y = nI (e + 1) + 1 → ∀ z : Int32, z = nI p + 1 → wX_settle_20 post N y z f_inputs f_operations f_height f_nodes f_last f_clock a_kinds a_weights a_statuses a_known a_positions a_freshAt a_operands a_taken a_terms a_numers a_denoms a_state x) rfl (nm_r (nI_1 (e + 1)) (nm_r (nI_1 p) (push o a b)))
      have i9 : vp_in (nI (e + 1)) 10 := vp_in_nI (by omega) (by decide)
      have c9 : (nI (e + 1)).toNatClampNeg = e + 1 := nI_clamp (by omega)
      have g9 : ¬ (10 : Int32) ≤ nI (e + 1) := nI_ge (b := 10) (by omega) (by decide)
      refine bx_staleOp hS hT hD hI hC hX w4 (by omega) (fun a => ?_) (fun a => ?_) (fun a b => ?_)
      · refine br_f (nI_pos (by omega)) (br_f g9 ⟨i9, ?_⟩)
        rw [c9]
        exact pushed _ q2 a
      · refine br_f (nI_pos (by omega)) (br_f g9 ⟨i9, ?_⟩)
        rw [c9]
        exact pushed _ q3 a
      · refine br_t (by decide) ?_
        unfold wX_settle_73
        refine bx_ref hS hT hD hC hX w4 (by omega) w3.2.1 (bx_upd hX (by omega) a) (bx_upd hX (by omega) b) cb (fun su kn ta te nu de st hX' => ?_)
        have nst : ¬ bx_stl I (bh_up xs m (s m)) (upd a_freshAt m (nI C)) C m := fun y => y.2.2 pk_us
        have oth : ∀ j, j ≠ m → (bx_stl I (bh_up xs m (s m)) (upd a_freshAt m (nI C)) C j ↔ bx_stl I xs a_freshAt C j) := by
          intro j hj
          unfold bx_stl
          rw [bh_upn hj, pk_un hj]
        have ct : bx_cnt (bx_stB I (bh_up xs m (s m)) (upd a_freshAt m (nI C)) C) J + 1 = bx_cnt (bx_stB I xs a_freshAt C) J := by
          refine bx_cnt_dec (m := m) (bx_stB_t w3) (bx_stB_f nst) (fun j hj => ?_) J (by omega)
          by_cases y : bx_stl I xs a_freshAt C j
          · rw [bx_stB_t y, bx_stB_t ((oth j hj).mpr y)]
          · rw [bx_stB_f y, bx_stB_f (fun v => y ((oth j hj).mp v))]
        refine nm_r (pk_m1 e) (nm_r (nI_1 p) (ih (p + 1) e (bh_up xn m (n m)) (bh_up xs m (s m)) ws su kn _ ta te nu de st a_work (by omega) (by omega) (by omega) hX' (fun j hj => ?_) (fun i j hi hj => ho i j hi (by omega)) (fun y => ?_) (fun y => hn (by omega))))
        · obtain ⟨v1, v2, v3⟩ := hw j (by omega)
          have v4 := ho j e (by omega) (by omega)
          exact ⟨v1, v2, (oth (ws j) (by omega)).mpr v3⟩
        · subst y
          rw [← hn (by omega), hm]
          exact nst
theorem bx_settle {post : SX → Prop} {I J O C m : Nat} {op l r w : Nat → Nat} {t : Nat → Nat → Int} {n s xn xs : Nat → Nat} (hS : bh_Sh I J O op l r w) (hT : bh_Tb I J op l r w a_kinds a_operands a_weights) (hD : bh_Dy I J op l r w t n s) (hI : f_inputs = nI I) (hC : f_clock = nI C) (cb : C < 2147483648)
    (hX : bx_XR I J op l r t n s xn xs C a_statuses a_known a_freshAt a_taken a_terms a_numers a_denoms a_state) (hm : m < J)
    (H : ∀ (xn xs : Nat → Nat) (su kn fr ta te : Nat → Int32) (nu de st : Nat → Int64) (wo : Nat → Int32), bx_XR I J op l r t n s xn xs C su kn fr ta te nu de st → xs m = s m → xn m = n m → post (f_inputs, f_operations, f_height, f_nodes, f_last, f_clock, a_kinds, a_weights, su, kn, a_positions, fr, a_operands, ta, te, nu, de, st, wo)) : wpX_settle post (f_inputs, f_operations, f_height, f_nodes, f_last, f_clock, a_kinds, a_weights, a_statuses, a_known, a_positions, a_freshAt, a_operands, a_taken, a_terms, a_numers, a_denoms, a_state, a_work) (nI m) := by
  have hS' := hS
  obtain ⟨s1, s2, s3, s4, s5, s6, s7, s8, s9⟩ := hS'
  have x4 : xs m < 4 := by
    have a := (hX.1 m hm).2.2.2.1
    have b := (hD.1 m hm).2.1
    omega
  unfold wpX_settle
  dsimp only
  refine bx_isStale (xs := xs) (by omega) s2 hI hC (fun _ => (hX.1 m hm).2.1) (fun _ => x4) (fun a => br_f (by decide) (nm_e (Exists.intro 41 ?_))) (fun a => ?_)
  · refine bx_set_s (node := m) hS hT hD hI hC cb (fun xn xs su kn fr ta te nu de st wo hX' hs' => ?_) 41 0 1 xn xs (fun _ => m) a_statuses a_known a_freshAt a_taken a_terms a_numers a_denoms a_state _ (by omega) ?_ (by omega) hX (fun j hj => ?_) (fun i j hi hj => by omega) (fun y => by omega) (fun _ => rfl)
    · have u := bx_upd hX' hm hs'
      exact H xn xs su kn fr ta te nu de st wo hX' u.1 u.2
    · have := bx_cnt_le (bx_stB I xs a_freshAt C) J
      omega
    · have e : j = 0 := by omega
      subst e
      exact ⟨pk_us, by omega, a⟩
  · have u := bx_upd hX hm a
    exact br_t rfl (H xn xs a_statuses a_known a_freshAt a_taken a_terms a_numers a_denoms a_state a_work hX u.1 u.2)
end
end
section
/-! the relation -/
def bx_F (k I J O Hh C : Nat) (op l r w : Nat → Nat) (t : Nat → Nat → Int) (n s xn xs ps : Nat → Nat) (a_kinds a_weights a_statuses a_known a_positions a_freshAt a_operands a_taken a_terms : Nat → Int32) (a_numers a_denoms a_state : Nat → Int64)
    (b_known : Nat → Int64) (b_counts b_states b_kinds b_operands b_weights : Nat → Int32) : Prop :=
  C ≤ k ∧ 2 ≤ Hh ∧ Hh ≤ 100 ∧ bh_Sh I J O op l r w ∧ bh_Tb I J op l r w a_kinds a_operands a_weights ∧ bh_Tb I J op l r w b_kinds b_operands b_weights ∧ bh_Dy I J op l r w t n s ∧ bh_YR J t n s b_known b_counts b_states ∧
  bx_XR I J op l r t n s xn xs C a_statuses a_known a_freshAt a_taken a_terms a_numers a_denoms a_state ∧ (∀ m, m < 10 → a_positions m = nI (ps m) ∧ ps m ≤ 64)
/-- the relation at the head of a turn whose first cell is k -/
def i_Rel (k : Nat) (u : SX) (v : SY) : Prop := match u with
  | (f_inputs, f_operations, f_height, f_nodes, f_last, f_clock, a_kinds, a_weights, a_statuses, a_known, a_positions, a_freshAt, a_operands, a_taken, a_terms, a_numers, a_denoms, a_state, a_work) => match v with
    | (g_inputCount, g_operationLimit, g_heightLimit, g_joined, g_last, b_known, b_counts, b_states, b_kinds, b_operands, b_weights, b_positions, b_tops, b_bottoms) =>
      ∃ (I J O Hh C : Nat) (op l r w : Nat → Nat) (t : Nat → Nat → Int) (n s xn xs ps : Nat → Nat), f_inputs = nI I ∧ f_operations = nI O ∧ f_height = nI Hh ∧ f_nodes = nI J ∧ f_clock = nI C ∧ g_inputCount = nI I ∧ g_operationLimit = nI O ∧ g_heightLimit = nI Hh ∧ g_joined = nI (J - I) ∧ g_last = f_last ∧ b_positions = a_positions ∧
        bx_F k I J O Hh C op l r w t n s xn xs ps a_kinds a_weights a_statuses a_known a_positions a_freshAt a_operands a_taken a_terms a_numers a_denoms a_state b_known b_counts b_states b_kinds b_operands b_weights
section
variable {k I J O Hh C : Nat} {op l r w : Nat → Nat} {t : Nat → Nat → Int} {n s xn xs ps : Nat → Nat} {f_last : Int32} {a_kinds a_weights a_statuses a_known a_positions a_freshAt a_operands a_taken a_terms a_work : Nat → Int32} {a_numers a_denoms a_state : Nat → Int64} {b_known b_tops b_bottoms : Nat → Int64} {b_counts b_states b_kinds b_operands b_weights : Nat → Int32}
theorem zz_mk (h : bx_F k I J O Hh C op l r w t n s xn xs ps a_kinds a_weights a_statuses a_known a_positions a_freshAt a_operands a_taken a_terms a_numers a_denoms a_state b_known b_counts b_states b_kinds b_operands b_weights) :
    i_Rel k (nI I, nI O, nI Hh, nI J, f_last, nI C, a_kinds, a_weights, a_statuses, a_known, a_positions, a_freshAt, a_operands, a_taken, a_terms, a_numers, a_denoms, a_state, a_work) (nI I, nI O, nI Hh, nI (J - I), f_last, b_known, b_counts, b_states, b_kinds, b_operands, b_weights, a_positions, b_tops, b_bottoms) :=
  ⟨I, J, O, Hh, C, op, l, r, w, t, n, s, xn, xs, ps, rfl, rfl, rfl, rfl, rfl, rfl, rfl, rfl, rfl, rfl, rfl, h⟩
end
theorem zz_el {P : SX → SY → Prop} {k : Nat} {u : SX} {v : SY} (h : ∀ (I J O Hh C : Nat) (op l r w : Nat → Nat) (t : Nat → Nat → Int) (n s xn xs ps : Nat → Nat) (f_last : Int32) (a_kinds a_weights a_statuses a_known a_positions a_freshAt a_operands a_taken a_terms : Nat → Int32) (a_numers a_denoms a_state : Nat → Int64) (a_work : Nat → Int32) (b_known : Nat → Int64) (b_counts b_states b_kinds b_operands b_weights : Nat → Int32) (b_tops b_bottoms : Nat → Int64),
      bx_F k I J O Hh C op l r w t n s xn xs ps a_kinds a_weights a_statuses a_known a_positions a_freshAt a_operands a_taken a_terms a_numers a_denoms a_state b_known b_counts b_states b_kinds b_operands b_weights →
      P (nI I, nI O, nI Hh, nI J, f_last, nI C, a_kinds, a_weights, a_statuses, a_known, a_positions, a_freshAt, a_operands, a_taken, a_terms, a_numers, a_denoms, a_state, a_work) (nI I, nI O, nI Hh, nI (J - I), f_last, b_known, b_counts, b_states, b_kinds, b_operands, b_weights, a_positions, b_tops, b_bottoms)) (H : i_Rel k u v) : P u v := by
  obtain ⟨f_inputs, f_operations, f_height, f_nodes, f_last, f_clock, a_kinds, a_weights, a_statuses, a_known, a_positions, a_freshAt, a_operands, a_taken, a_terms, a_numers, a_denoms, a_state, a_work⟩ := u
  obtain ⟨g_inputCount, g_operationLimit, g_heightLimit, g_joined, g_last, b_known, b_counts, b_states, b_kinds, b_operands, b_weights, b_positions, b_tops, b_bottoms⟩ := v
  obtain ⟨I, J, O, Hh, C, op, l, r, w, t, n, s, xn, xs, ps, e1, e2, e3, e4, e5, e6, e7, e8, e9, e10, e11, F⟩ := H
  subst e1 e2 e3 e4 e5 e6 e7 e8 e9 e10 e11
  exact h I J O Hh C op l r w t n s xn xs ps _ _ _ _ _ _ _ _ _ _ _ _ _ a_work _ _ _ _ _ _ b_tops b_bottoms F
theorem i_up {k : Nat} {u : SX} {v : SY} (h : i_Rel k u v) : i_Rel (k + 4) u v := by
  refine zz_el (P := fun u v => i_Rel (k + 4) u v) ?_ h
  intro I J O Hh C op l r w t n s xn xs ps f_last a_kinds a_weights a_statuses a_known a_positions a_freshAt a_operands a_taken a_terms a_numers a_denoms a_state a_work b_known b_counts b_states b_kinds b_operands b_weights b_tops b_bottoms F
  exact zz_mk ⟨Nat.le_trans F.1 (Nat.le_add_right k 4), F.2⟩
section
variable {f_inputs f_operations f_height f_nodes f_last f_clock : Int32} {a_kinds a_weights a_statuses a_known a_positions a_freshAt a_operands a_taken a_terms a_work : Nat → Int32} {a_numers a_denoms a_state : Nat → Int64}
theorem bx_ex0 {post : Int32 → Prop} {J : Nat} {x : Int32} (h : x < 0 ∨ nI J ≤ x) (hp : post 0) : wpX_exists post (f_inputs, f_operations, f_height, nI J, f_last, f_clock, a_kinds, a_weights, a_statuses, a_known, a_positions, a_freshAt, a_operands, a_taken, a_terms, a_numers, a_denoms, a_state, a_work) x := by
  by_cases c : x < 0
  · exact br_t c hp
  · exact br_f c (br_t (h.resolve_left c) hp)
theorem bx_ex1 {post : Int32 → Prop} {J j : Nat} (hj : j < J) (hJ : J ≤ 10) (hp : post 1) : wpX_exists post (f_inputs, f_operations, f_height, nI J, f_last, f_clock, a_kinds, a_weights, a_statuses, a_known, a_positions, a_freshAt, a_operands, a_taken, a_terms, a_numers, a_denoms, a_state, a_work) (nI j) :=
  br_f (nI_pos (by omega)) (br_f (nI_ge hj (by omega)) hp)
theorem bx_in0 {post : Int32 → Prop} {I : Nat} {x : Int32} (h : x < 0 ∨ nI I ≤ x) (hp : post 0) : wpX_isInput post (nI I, f_operations, f_height, f_nodes, f_last, f_clock, a_kinds, a_weights, a_statuses, a_known, a_positions, a_freshAt, a_operands, a_taken, a_terms, a_numers, a_denoms, a_state, a_work) x := by
  by_cases c : x < 0
  · exact br_t c hp
  · exact br_f c (br_t (h.resolve_left c) hp)
theorem bx_in1 {post : Int32 → Prop} {I j : Nat} (hj : j < I) (hI : I ≤ 10) (hp : post 1) : wpX_isInput post (nI I, f_operations, f_height, f_nodes, f_last, f_clock, a_kinds, a_weights, a_statuses, a_known, a_positions, a_freshAt, a_operands, a_taken, a_terms, a_numers, a_denoms, a_state, a_work) (nI j) :=
  br_f (nI_pos (by omega)) (br_f (nI_ge hj (by omega)) hp)
end
section
variable {f_inputCount f_operationLimit f_heightLimit f_joined f_last : Int32} {a_counts a_states a_kinds a_operands a_weights a_positions : Nat → Int32} {a_known a_tops a_bottoms : Nat → Int64}
theorem by_ex0 {post : Int32 → Prop} {I J : Nat} {x : Int32} (hI : I ≤ J) (h : x < 0 ∨ nI J ≤ x) (hp : post 0) : wpY_exists post (nI I, f_operationLimit, f_heightLimit, nI (J - I), f_last, a_known, a_counts, a_states, a_kinds, a_operands, a_weights, a_positions, a_tops, a_bottoms) x := by
  have e : nI I + nI (J - I) = nI J := by rw [nI_add]; exact congrArg nI (by omega)
  by_cases c : x < 0
  · exact br_t c hp
  · exact br_f c (br_t (by rw [e]; exact h.resolve_left c) hp)
theorem by_ex1 {post : Int32 → Prop} {I J j : Nat} (hI : I ≤ J) (hj : j < J) (hJ : J ≤ 10) (hp : post 1) : wpY_exists post (nI I, f_operationLimit, f_heightLimit, nI (J - I), f_last, a_known, a_counts, a_states, a_kinds, a_operands, a_weights, a_positions, a_tops, a_bottoms) (nI j) := by
  have e : nI I + nI (J - I) = nI J := by rw [nI_add]; exact congrArg nI (by omega)
  exact br_f (nI_pos (by omega)) (br_f (by rw [e]; exact nI_ge hj (by omega)) hp)
end
end
section
/-! the methods that only read, or settle and read -/
theorem zz_ix (x : Int32) {J : Nat} (hJ : J ≤ 10) : (x < 0 ∨ nI J ≤ x) ∨ ∃ j : Nat, j < J ∧ x = nI j := by
  rcases pk_ix x (n := J) (by omega) with h | h | h
  · exact Or.inl (Or.inl h)
  · exact Or.inl (Or.inr h)
  · exact Or.inr h
theorem i_vc_lastTerm {k : Nat} {u : SX} {v : SY} (I : i_Rel k u v) (hk : k + 4 ≤ 2051) : wpX_lastTerm (fun r => wpY_lastTerm (fun r' => r' = r ∧ i_Rel (k + 4) u v) v) u := by
  refine zz_el (P := fun u v => wpX_lastTerm (fun r => wpY_lastTerm (fun r' => r' = r ∧ i_Rel (k + 4) u v) v) u) ?_ I
  intro I J O Hh C op l r w t n s xn xs ps f_last a_kinds a_weights a_statuses a_known a_positions a_freshAt a_operands a_taken a_terms a_numers a_denoms a_state a_work b_known b_counts b_states b_kinds b_operands b_weights b_tops b_bottoms F
  exact ⟨rfl, i_up (zz_mk F)⟩
theorem i_vc_size {k : Nat} {u : SX} {v : SY} (I : i_Rel k u v) (hk : k + 4 ≤ 2051) (v1 : Int32) : wpX_size (fun r => wpY_size (fun r' => r' = r ∧ i_Rel (k + 4) u v) v v1) u v1 := by
  refine zz_el (P := fun u v => wpX_size (fun r => wpY_size (fun r' => r' = r ∧ i_Rel (k + 4) u v) v v1) u v1) ?_ I
  intro I J O Hh C op l r w t n s xn xs ps f_last a_kinds a_weights a_statuses a_known a_positions a_freshAt a_operands a_taken a_terms a_numers a_denoms a_state a_work b_known b_counts b_states b_kinds b_operands b_weights b_tops b_bottoms F
  have R := i_up (zz_mk (f_last := f_last) (a_work := a_work) (b_tops := b_tops) (b_bottoms := b_bottoms) F)
  obtain ⟨_, _, _, ⟨s1, s2, s3, s4, s5, s6, s7, s8, s9⟩, _⟩ := F
  have e : nI I + nI (J - I) = nI J := by rw [nI_add]; exact congrArg nI (by omega)
  by_cases h0 : v1 = 0
  · subst h0
    exact br_t rfl (br_f (by decide) (br_t rfl ⟨rfl, R⟩))
  refine br_f h0 ?_
  by_cases h1 : v1 = 1
  · subst h1
    exact br_t rfl (br_f (by decide) (br_f (by decide) (br_t rfl ⟨rfl, R⟩)))
  refine br_f h1 ?_
  by_cases h2 : v1 = 2
  · subst h2
    exact br_t rfl (br_f (by decide) (br_f (by decide) (br_f (by decide) (br_t rfl ⟨rfl, R⟩))))
  refine br_f h2 ?_
  by_cases h3 : v1 = 3
  · subst h3
    exact br_t rfl (br_t rfl ⟨e, R⟩)
  exact br_f h3 (br_f h3 (br_f h0 (br_f h1 (br_f h2 ⟨rfl, R⟩))))
theorem i_vc_position {k : Nat} {u : SX} {v : SY} (I : i_Rel k u v) (hk : k + 4 ≤ 2051) (v1 : Int32) : wpX_position (fun r => wpY_position (fun r' => r' = r ∧ i_Rel (k + 4) u v) v v1) u v1 := by
  refine zz_el (P := fun u v => wpX_position (fun r => wpY_position (fun r' => r' = r ∧ i_Rel (k + 4) u v) v v1) u v1) ?_ I
  intro I J O Hh C op l r w t n s xn xs ps f_last a_kinds a_weights a_statuses a_known a_positions a_freshAt a_operands a_taken a_terms a_numers a_denoms a_state a_work b_known b_counts b_states b_kinds b_operands b_weights b_tops b_bottoms F
  have R := i_up (zz_mk (f_last := f_last) (a_work := a_work) (b_tops := b_tops) (b_bottoms := b_bottoms) F)
  obtain ⟨_, _, _, ⟨s1, s2, s3, s4, s5, s6, s7, s8, s9⟩, _⟩ := F
  unfold wpX_position wpY_position
  dsimp only
  rcases zz_ix v1 (J := J) (by omega) with h | ⟨j, hj, rfl⟩
  · exact bx_ex0 h (br_t rfl (by_ex0 s5 h (br_t rfl ⟨rfl, R⟩)))
  · have ij : vp_in (nI j) 10 := vp_in_nI (by omega) (by decide)
    exact bx_ex1 hj (by omega) (br_f (by decide) ⟨ij, by_ex1 s5 hj (by omega) (br_f (by decide) ⟨ij, rfl, R⟩)⟩)
theorem i_vc_kind {k : Nat} {u : SX} {v : SY} (I : i_Rel k u v) (hk : k + 4 ≤ 2051) (v1 : Int32) : wpX_kind (fun r => wpY_kind (fun r' => r' = r ∧ i_Rel (k + 4) u v) v v1) u v1 := by
  refine zz_el (P := fun u v => wpX_kind (fun r => wpY_kind (fun r' => r' = r ∧ i_Rel (k + 4) u v) v v1) u v1) ?_ I
  intro I J O Hh C op l r w t n s xn xs ps f_last a_kinds a_weights a_statuses a_known a_positions a_freshAt a_operands a_taken a_terms a_numers a_denoms a_state a_work b_known b_counts b_states b_kinds b_operands b_weights b_tops b_bottoms F
  have R := i_up (zz_mk (f_last := f_last) (a_work := a_work) (b_tops := b_tops) (b_bottoms := b_bottoms) F)
  obtain ⟨_, _, _, ⟨s1, s2, s3, s4, s5, s6, s7, s8, s9⟩, T1, T2, _⟩ := F
  unfold wpX_kind wpY_kind
  dsimp only
  rcases zz_ix v1 (J := J) (by omega) with h | ⟨j, hj, rfl⟩
  · exact bx_ex0 h (br_t rfl (by_ex0 s5 h (br_t rfl ⟨rfl, R⟩)))
  · have ij : vp_in (nI j) 10 := vp_in_nI (by omega) (by decide)
    refine bx_ex1 hj (by omega) (br_f (by decide) ⟨ij, by_ex1 s5 hj (by omega) (br_f (by decide) ⟨ij, ?_, R⟩)⟩)
    rw [nI_clamp (by omega), (T1 j hj).1, (T2 j hj).1]
theorem i_vc_operand {k : Nat} {u : SX} {v : SY} (I : i_Rel k u v) (hk : k + 4 ≤ 2051) (v1 : Int32) (v2 : Int32) : wpX_operand (fun r => wpY_operand (fun r' => r' = r ∧ i_Rel (k + 4) u v) v v1 v2) u v1 v2 := by
  refine zz_el (P := fun u v => wpX_operand (fun r => wpY_operand (fun r' => r' = r ∧ i_Rel (k + 4) u v) v v1 v2) u v1 v2) ?_ I
  intro I J O Hh C op l r w t n s xn xs ps f_last a_kinds a_weights a_statuses a_known a_positions a_freshAt a_operands a_taken a_terms a_numers a_denoms a_state a_work b_known b_counts b_states b_kinds b_operands b_weights b_tops b_bottoms F
  have R := i_up (zz_mk (f_last := f_last) (a_work := a_work) (b_tops := b_tops) (b_bottoms := b_bottoms) F)
  obtain ⟨_, _, _, ⟨s1, s2, s3, s4, s5, s6, s7, s8, s9⟩, T1, T2, _⟩ := F
  unfold wpX_operand wpY_operand
  dsimp only
  rcases zz_ix v1 (J := J) (by omega) with h | ⟨j, hj, rfl⟩
  · exact bx_ex0 h (br_t rfl (by_ex0 s5 h (br_t rfl ⟨rfl, R⟩)))
  · refine bx_ex1 hj (by omega) (br_f (by decide) ?_)
    by_cases a : j < I
    · exact br_t (nI_lt a (by omega)) (by_ex1 s5 hj (by omega) (br_f (by decide) (br_t (nI_lt a (by omega)) ⟨rfl, R⟩)))
    · have a' : ¬ nI j < nI I := nI_nlt (by omega) (by omega)
      refine br_f a' ?_
      by_cases b : v2 < 0
      · exact br_t b (by_ex1 s5 hj (by omega) (br_f (by decide) (br_f a' (br_t b ⟨rfl, R⟩))))
      · refine br_f b ?_
        by_cases c : v2 ≤ 1
        · obtain ⟨i, hi, rfl⟩ := nI_of2 (n := 1) (M := 1) (by decide) b c
          obtain ⟨_, _, t1⟩ := T1 j hj
          obtain ⟨_, _, t2⟩ := T2 j hj
          have e : nI j * 2 + nI i = nI (j * 2 + i) := by rw [bx_m2, nI_add]
          have ij : vp_in (nI j * 2 + nI i) 20 := by rw [e]; exact vp_in_nI (by omega) (by decide)
          refine br_t c ⟨ij, by_ex1 s5 hj (by omega) (br_f (by decide) (br_f a' (br_f b (br_t c ⟨ij, ?_, R⟩))))⟩
          rw [e, nI_clamp (by omega)]
          obtain ⟨t1a, t1b⟩ := t1 (by omega)
          obtain ⟨t2a, t2b⟩ := t2 (by omega)
          rcases (by omega : i = 0 ∨ i = 1) with rfl | rfl
          · rw [Nat.add_zero, t1a, t2a]
          · rw [t1b, t2b]
        · exact br_f c (by_ex1 s5 hj (by omega) (br_f (by decide) (br_f a' (br_f b (br_f c ⟨rfl, R⟩)))))
theorem i_vc_rewind {k : Nat} {u : SX} {v : SY} (I : i_Rel k u v) (hk : k + 4 ≤ 2051) (v1 : Int32) : wpX_rewind (fun r u' => wpY_rewind (fun r' v' => r' = r ∧ i_Rel (k + 4) u' v') v v1) u v1 := by
  refine zz_el (P := fun u v => wpX_rewind (fun r u' => wpY_rewind (fun r' v' => r' = r ∧ i_Rel (k + 4) u' v') v v1) u v1) ?_ I
  intro I J O Hh C op l r w t n s xn xs ps f_last a_kinds a_weights a_statuses a_known a_positions a_freshAt a_operands a_taken a_terms a_numers a_denoms a_state a_work b_known b_counts b_states b_kinds b_operands b_weights b_tops b_bottoms F
  have R := i_up (zz_mk (f_last := f_last) (a_work := a_work) (b_tops := b_tops) (b_bottoms := b_bottoms) F)
  obtain ⟨F1, F2, F3, F4, F5, F6, F7, F8, F9, F10⟩ := F
  have F4' := F4
  obtain ⟨s1, s2, s3, s4, s5, s6, s7, s8, s9⟩ := F4'
  unfold wpX_rewind wpY_rewind
  dsimp only
  rcases zz_ix v1 (J := J) (by omega) with h | ⟨j, hj, rfl⟩
  · exact bx_ex0 h (br_t rfl (by_ex0 s5 h (br_t rfl ⟨rfl, R⟩)))
  · have ij : vp_in (nI j) 10 := vp_in_nI (by omega) (by decide)
    have cj : (nI j).toNatClampNeg = j := nI_clamp (by omega)
    refine bx_ex1 hj (by omega) (br_f (by decide) ⟨ij, nm_e ⟨ij, nm_r (e' := upd a_positions j 0) (by rw [cj]) ?_⟩⟩)
    refine by_ex1 s5 hj (by omega) (br_f (by decide) ⟨ij, nm_e ⟨ij, nm_r (e' := upd a_positions j 0) (by rw [cj]) ⟨rfl, ?_⟩⟩⟩)
    refine zz_mk (ps := bh_up ps j 0) ⟨by omega, F2, F3, F4, F5, F6, F7, F8, F9, fun m hm => ?_⟩
    by_cases e : m = j
    · subst e
      rw [pk_us, bh_ups]
      exact ⟨rfl, by omega⟩
    · rw [pk_un e, bh_upn e]
      exact F10 m hm
end
section
/-! the methods that settle a node first -/
theorem i_vc_status {k : Nat} {u : SX} {v : SY} (I : i_Rel k u v) (hk : k + 4 ≤ 2051) (v1 : Int32) : wpX_status (fun r u' => wpY_status (fun r' => r' = r ∧ i_Rel (k + 4) u' v) v v1) u v1 := by
  refine zz_el (P := fun u v => wpX_status (fun r u' => wpY_status (fun r' => r' = r ∧ i_Rel (k + 4) u' v) v v1) u v1) ?_ I
  intro I J O Hh C op l r w t n s xn xs ps f_last a_kinds a_weights a_statuses a_known a_positions a_freshAt a_operands a_taken a_terms a_numers a_denoms a_state a_work b_known b_counts b_states b_kinds b_operands b_weights b_tops b_bottoms F
  have R := i_up (zz_mk (f_last := f_last) (a_work := a_work) (b_tops := b_tops) (b_bottoms := b_bottoms) F)
  obtain ⟨F1, F2, F3, F4, F5, F6, F7, F8, F9, F10⟩ := F
  have F4' := F4
  obtain ⟨s1, s2, s3, s4, s5, s6, s7, s8, s9⟩ := F4'
  unfold wpX_status wpY_status
  dsimp only
  rcases zz_ix v1 (J := J) (by omega) with h | ⟨j, hj, rfl⟩
  · exact bx_ex0 h (br_t rfl (by_ex0 s5 h (br_t rfl ⟨rfl, R⟩)))
  · have ij : vp_in (nI j) 10 := vp_in_nI (by omega) (by decide)
    have cj : (nI j).toNatClampNeg = j := nI_clamp (by omega)
    refine bx_ex1 hj (by omega) (br_f (by decide) ?_)
    refine bx_settle F4 F5 F7 rfl rfl (by omega) F9 hj (fun xn xs su kn fr ta te nu de st wo hX e1 e2 => ?_)
    dsimp only
    refine ⟨ij, ?_⟩
    refine by_ex1 s5 hj (by omega) (br_f (by decide) ⟨ij, ?_, zz_mk ⟨by omega, F2, F3, F4, F5, F6, F7, F8, hX, F10⟩⟩)
    rw [cj, (F8 j hj).2.1, (hX.1 j hj).2.1, e1]
theorem i_vc_count {k : Nat} {u : SX} {v : SY} (I : i_Rel k u v) (hk : k + 4 ≤ 2051) (v1 : Int32) : wpX_count (fun r u' => wpY_count (fun r' => r' = r ∧ i_Rel (k + 4) u' v) v v1) u v1 := by
  refine zz_el (P := fun u v => wpX_count (fun r u' => wpY_count (fun r' => r' = r ∧ i_Rel (k + 4) u' v) v v1) u v1) ?_ I
  intro I J O Hh C op l r w t n s xn xs ps f_last a_kinds a_weights a_statuses a_known a_positions a_freshAt a_operands a_taken a_terms a_numers a_denoms a_state a_work b_known b_counts b_states b_kinds b_operands b_weights b_tops b_bottoms F
  have R := i_up (zz_mk (f_last := f_last) (a_work := a_work) (b_tops := b_tops) (b_bottoms := b_bottoms) F)
  obtain ⟨F1, F2, F3, F4, F5, F6, F7, F8, F9, F10⟩ := F
  have F4' := F4
  obtain ⟨s1, s2, s3, s4, s5, s6, s7, s8, s9⟩ := F4'
  unfold wpX_count wpY_count
  dsimp only
  rcases zz_ix v1 (J := J) (by omega) with h | ⟨j, hj, rfl⟩
  · exact bx_ex0 h (br_t rfl (by_ex0 s5 h (br_t rfl ⟨rfl, R⟩)))
  · have ij : vp_in (nI j) 10 := vp_in_nI (by omega) (by decide)
    have cj : (nI j).toNatClampNeg = j := nI_clamp (by omega)
    refine bx_ex1 hj (by omega) (br_f (by decide) ?_)
    refine bx_settle F4 F5 F7 rfl rfl (by omega) F9 hj (fun xn xs su kn fr ta te nu de st wo hX e1 e2 => ?_)
    dsimp only
    refine ⟨ij, ?_⟩
    refine by_ex1 s5 hj (by omega) (br_f (by decide) ⟨ij, ?_, zz_mk ⟨by omega, F2, F3, F4, F5, F6, F7, F8, hX, F10⟩⟩)
    rw [cj, (F8 j hj).1, (hX.1 j hj).1, e2]
theorem i_vc_pull {k : Nat} {u : SX} {v : SY} (I : i_Rel k u v) (hk : k + 4 ≤ 2051) (v1 : Int32) : wpX_pull (fun r u' => wpY_pull (fun r' v' => r' = r ∧ i_Rel (k + 4) u' v') v v1) u v1 := by
  refine zz_el (P := fun u v => wpX_pull (fun r u' => wpY_pull (fun r' v' => r' = r ∧ i_Rel (k + 4) u' v') v v1) u v1) ?_ I
  intro I J O Hh C op l r w t n s xn xs ps f_last a_kinds a_weights a_statuses a_known a_positions a_freshAt a_operands a_taken a_terms a_numers a_denoms a_state a_work b_known b_counts b_states b_kinds b_operands b_weights b_tops b_bottoms F
  have R := i_up (zz_mk (f_last := f_last) (a_work := a_work) (b_tops := b_tops) (b_bottoms := b_bottoms) F)
  obtain ⟨F1, F2, F3, F4, F5, F6, F7, F8, F9, F10⟩ := F
  have F4' := F4
  obtain ⟨s1, s2, s3, s4, s5, s6, s7, s8, s9⟩ := F4'
  unfold wpX_pull wpY_pull
  dsimp only
  rcases zz_ix v1 (J := J) (by omega) with h | ⟨j, hj, rfl⟩
  · exact bx_ex0 h (br_t rfl (by_ex0 s5 h (br_t rfl ⟨rfl, R⟩)))
  · have ij : vp_in (nI j) 10 := vp_in_nI (by omega) (by decide)
    have cj : (nI j).toNatClampNeg = j := nI_clamp (by omega)
    obtain ⟨p1, p2⟩ := F10 j (by omega)
    have n64 := (F7.1 j hj).1
    obtain ⟨y1, y2, y3⟩ := F8 j hj
    refine bx_ex1 hj (by omega) (br_f (by decide) ?_)
    refine bx_settle F4 F5 F7 rfl rfl (by omega) F9 hj (fun xn xs su kn fr ta te nu de st wo hX e1 e2 => ?_)
    dsimp only
    refine ⟨ij, ?_⟩
    obtain ⟨x1, x2, x3, x4, x5⟩ := hX.1 j hj
    refine nm_r (e' := nI (ps j)) (by rw [cj, p1]) ⟨ij, ?_⟩
    have ep : a_positions (nI j).toNatClampNeg = nI (ps j) := by rw [cj, p1]
    by_cases c : ps j < n j
    · have c' : nI (ps j) < nI (n j) := nI_lt c (by omega)
      have i6 : vp_in (nI j * 64 + nI (ps j)) 640 := by rw [bx_m64]; exact vp_in_nI (by omega) (by decide)
      have c6 : (nI j * 64 + nI (ps j)).toNatClampNeg = j * 64 + ps j := by rw [bx_m64]; exact nI_clamp (by omega)
      refine br_t (by rw [cj, x1, e2]; exact c') ⟨i6, nm_r (e' := bh_i (t j (ps j))) (by rw [c6]; exact (x5 _ (by omega)).1) ⟨ij, nm_r (e' := upd a_positions j (nI (ps j + 1))) (by rw [cj, nI_1]) ?_⟩⟩
      refine by_ex1 s5 hj (by omega) (br_f (by decide) ⟨ij, ij, ?_⟩)
      rw [ep, cj, y1]
      refine br_t c' ⟨ij, i6, nm_r (e' := bh_i (t j (ps j))) (by rw [c6, y3 _ c, bh_lI]) ⟨ij, ij, nm_r (e' := upd a_positions j (nI (ps j + 1))) (by rw [nI_1]) ⟨rfl, ?_⟩⟩⟩
      refine zz_mk (ps := bh_up ps j (ps j + 1)) ⟨by omega, F2, F3, F4, F5, F6, F7, F8, hX, fun m hm => ?_⟩
      by_cases e : m = j
      · subst e
        rw [pk_us, bh_ups]
        exact ⟨rfl, by omega⟩
      · rw [pk_un e, bh_upn e]
        exact F10 m hm
    · have c' : ¬ nI (ps j) < nI (n j) := nI_nlt (by omega) (by omega)
      refine br_f (by rw [cj, x1, e2]; exact c') ⟨ij, ?_⟩
      refine by_ex1 s5 hj (by omega) (br_f (by decide) ⟨ij, ij, ?_⟩)
      rw [ep, cj, y1]
      refine br_f c' ⟨ij, ?_, zz_mk ⟨by omega, F2, F3, F4, F5, F6, F7, F8, hX, F10⟩⟩
      rw [y2, x2, e1]
theorem i_vc_term {k : Nat} {u : SX} {v : SY} (I : i_Rel k u v) (hk : k + 4 ≤ 2051) (v1 : Int32) (v2 : Int32) : wpX_term (fun r u' => wpY_term (fun r' => r' = r ∧ i_Rel (k + 4) u' v) v v1 v2) u v1 v2 := by
  refine zz_el (P := fun u v => wpX_term (fun r u' => wpY_term (fun r' => r' = r ∧ i_Rel (k + 4) u' v) v v1 v2) u v1 v2) ?_ I
  intro I J O Hh C op l r w t n s xn xs ps f_last a_kinds a_weights a_statuses a_known a_positions a_freshAt a_operands a_taken a_terms a_numers a_denoms a_state a_work b_known b_counts b_states b_kinds b_operands b_weights b_tops b_bottoms F
  have R := i_up (zz_mk (f_last := f_last) (a_work := a_work) (b_tops := b_tops) (b_bottoms := b_bottoms) F)
  obtain ⟨F1, F2, F3, F4, F5, F6, F7, F8, F9, F10⟩ := F
  have F4' := F4
  obtain ⟨s1, s2, s3, s4, s5, s6, s7, s8, s9⟩ := F4'
  unfold wpX_term wpY_term
  dsimp only
  unfold wpX_hasTerm wpY_has
  dsimp only
  rcases zz_ix v1 (J := J) (by omega) with h | ⟨j, hj, rfl⟩
  · exact bx_ex0 h (br_t rfl (br_t rfl (by_ex0 s5 h (br_t rfl (br_t rfl ⟨rfl, R⟩)))))
  · have ij : vp_in (nI j) 10 := vp_in_nI (by omega) (by decide)
    have cj : (nI j).toNatClampNeg = j := nI_clamp (by omega)
    have n64 := (F7.1 j hj).1
    obtain ⟨y1, y2, y3⟩ := F8 j hj
    refine bx_ex1 hj (by omega) (br_f (by decide) ?_)
    by_cases a : v2 < 0
    · have a' : ¬ (0 : Int32) ≤ v2 := Int32.not_le.mpr a
      exact br_f a' (br_t rfl (by_ex1 s5 hj (by omega) (br_f (by decide) (br_t a (br_t rfl ⟨rfl, R⟩)))))
    · refine br_t (Int32.not_lt.mp a) ?_
      obtain ⟨i, hi, rfl⟩ := nI_of a
      refine bx_settle F4 F5 F7 rfl rfl (by omega) F9 hj (fun xn xs su kn fr ta te nu de st wo hX e1 e2 => ?_)
      dsimp only
      refine ⟨ij, ?_⟩
      obtain ⟨x1, x2, x3, x4, x5⟩ := hX.1 j hj
      have R' := zz_mk (k := k + 4) (f_last := f_last) (a_work := wo) (b_tops := b_tops) (b_bottoms := b_bottoms) ⟨by omega, F2, F3, F4, F5, F6, F7, F8, hX, F10⟩
      by_cases c : n j ≤ i
      · have c' : nI (n j) ≤ nI i := nI_le c hi
        exact br_t (by rw [cj, x1, e2]; exact c') (br_t rfl (by_ex1 s5 hj (by omega) (br_f (by decide) (br_f a ⟨ij, br_t (by rw [cj, y1]; exact c') (br_t rfl ⟨rfl, R'⟩)⟩))))
      · have c' : ¬ nI (n j) ≤ nI i := nI_ge (by omega) (by omega)
        have i6 : vp_in (nI j * 64 + nI i) 640 := by rw [bx_m64]; exact vp_in_nI (by omega) (by decide)
        have c6 : (nI j * 64 + nI i).toNatClampNeg = j * 64 + i := by rw [bx_m64]; exact nI_clamp (by omega)
        obtain ⟨d1, d2, d3⟩ := x5 i (by omega)
        refine br_f (by rw [cj, x1, e2]; exact c') (br_f (by decide) ⟨i6, by_ex1 s5 hj (by omega) (br_f (by decide) (br_f a ⟨ij, br_f (by rw [cj, y1]; exact c') (br_f (by decide) ⟨i6, ?_, R'⟩)⟩))⟩)
        rw [c6, d1, y3 i (by omega), bh_lI]
theorem i_vc_numerator {k : Nat} {u : SX} {v : SY} (I : i_Rel k u v) (hk : k + 4 ≤ 2051) (v1 : Int32) (v2 : Int32) : wpX_numerator (fun r u' => wpY_numerator (fun r' => r' = r ∧ i_Rel (k + 4) u' v) v v1 v2) u v1 v2 := by
  refine zz_el (P := fun u v => wpX_numerator (fun r u' => wpY_numerator (fun r' => r' = r ∧ i_Rel (k + 4) u' v) v v1 v2) u v1 v2) ?_ I
  intro I J O Hh C op l r w t n s xn xs ps f_last a_kinds a_weights a_statuses a_known a_positions a_freshAt a_operands a_taken a_terms a_numers a_denoms a_state a_work b_known b_counts b_states b_kinds b_operands b_weights b_tops b_bottoms F
  have R := i_up (zz_mk (f_last := f_last) (a_work := a_work) (b_tops := b_tops) (b_bottoms := b_bottoms) F)
  obtain ⟨F1, F2, F3, F4, F5, F6, F7, F8, F9, F10⟩ := F
  have F4' := F4
  obtain ⟨s1, s2, s3, s4, s5, s6, s7, s8, s9⟩ := F4'
  unfold wpX_numerator wpY_numerator
  dsimp only
  unfold wpX_hasTerm wpY_has
  dsimp only
  rcases zz_ix v1 (J := J) (by omega) with h | ⟨j, hj, rfl⟩
  · exact bx_ex0 h (br_t rfl (br_t rfl (by_ex0 s5 h (br_t rfl (br_t rfl ⟨rfl, R⟩)))))
  · have ij : vp_in (nI j) 10 := vp_in_nI (by omega) (by decide)
    have cj : (nI j).toNatClampNeg = j := nI_clamp (by omega)
    have n64 := (F7.1 j hj).1
    obtain ⟨y1, y2, y3⟩ := F8 j hj
    refine bx_ex1 hj (by omega) (br_f (by decide) ?_)
    by_cases a : v2 < 0
    · have a' : ¬ (0 : Int32) ≤ v2 := Int32.not_le.mpr a
      exact br_f a' (br_t rfl (by_ex1 s5 hj (by omega) (br_f (by decide) (br_t a (br_t rfl ⟨rfl, R⟩)))))
    · refine br_t (Int32.not_lt.mp a) ?_
      obtain ⟨i, hi, rfl⟩ := nI_of a
      refine bx_settle F4 F5 F7 rfl rfl (by omega) F9 hj (fun xn xs su kn fr ta te nu de st wo hX e1 e2 => ?_)
      dsimp only
      refine ⟨ij, ?_⟩
      obtain ⟨x1, x2, x3, x4, x5⟩ := hX.1 j hj
      have R' := zz_mk (k := k + 4) (f_last := f_last) (a_work := wo) (b_tops := b_tops) (b_bottoms := b_bottoms) ⟨by omega, F2, F3, F4, F5, F6, F7, F8, hX, F10⟩
      by_cases c : n j ≤ i
      · have c' : nI (n j) ≤ nI i := nI_le c hi
        exact br_t (by rw [cj, x1, e2]; exact c') (br_t rfl (by_ex1 s5 hj (by omega) (br_f (by decide) (br_f a ⟨ij, br_t (by rw [cj, y1]; exact c') (br_t rfl ⟨rfl, R'⟩)⟩))))
      · have c' : ¬ nI (n j) ≤ nI i := nI_ge (by omega) (by omega)
        have i6 : vp_in (nI j * 64 + nI i) 640 := by rw [bx_m64]; exact vp_in_nI (by omega) (by decide)
        have c6 : (nI j * 64 + nI i).toNatClampNeg = j * 64 + i := by rw [bx_m64]; exact nI_clamp (by omega)
        obtain ⟨d1, d2, d3⟩ := x5 i (by omega)
        refine br_f (by rw [cj, x1, e2]; exact c') (br_f (by decide) ⟨i6, by_ex1 s5 hj (by omega) (br_f (by decide) (br_f a ⟨ij, br_f (by rw [cj, y1]; exact c') (br_f (by decide) ?_)⟩))⟩)
        refine by_conv (t := t j) (N := i + 1) (a := 0) (b := 1) (by omega) (by omega) (by rw [nI_toInt (by omega)]; omega) (fun z hz => y3 z (by omega)) rfl rfl ⟨?_, R'⟩
        rw [c6, d2]
theorem i_vc_denominator {k : Nat} {u : SX} {v : SY} (I : i_Rel k u v) (hk : k + 4 ≤ 2051) (v1 : Int32) (v2 : Int32) : wpX_denominator (fun r u' => wpY_denominator (fun r' => r' = r ∧ i_Rel (k + 4) u' v) v v1 v2) u v1 v2 := by
  refine zz_el (P := fun u v => wpX_denominator (fun r u' => wpY_denominator (fun r' => r' = r ∧ i_Rel (k + 4) u' v) v v1 v2) u v1 v2) ?_ I
  intro I J O Hh C op l r w t n s xn xs ps f_last a_kinds a_weights a_statuses a_known a_positions a_freshAt a_operands a_taken a_terms a_numers a_denoms a_state a_work b_known b_counts b_states b_kinds b_operands b_weights b_tops b_bottoms F
  have R := i_up (zz_mk (f_last := f_last) (a_work := a_work) (b_tops := b_tops) (b_bottoms := b_bottoms) F)
  obtain ⟨F1, F2, F3, F4, F5, F6, F7, F8, F9, F10⟩ := F
  have F4' := F4
  obtain ⟨s1, s2, s3, s4, s5, s6, s7, s8, s9⟩ := F4'
  unfold wpX_denominator wpY_denominator
  dsimp only
  unfold wpX_hasTerm wpY_has
  dsimp only
  rcases zz_ix v1 (J := J) (by omega) with h | ⟨j, hj, rfl⟩
  · exact bx_ex0 h (br_t rfl (br_t rfl (by_ex0 s5 h (br_t rfl (br_t rfl ⟨rfl, R⟩)))))
  · have ij : vp_in (nI j) 10 := vp_in_nI (by omega) (by decide)
    have cj : (nI j).toNatClampNeg = j := nI_clamp (by omega)
    have n64 := (F7.1 j hj).1
    obtain ⟨y1, y2, y3⟩ := F8 j hj
    refine bx_ex1 hj (by omega) (br_f (by decide) ?_)
    by_cases a : v2 < 0
    · have a' : ¬ (0 : Int32) ≤ v2 := Int32.not_le.mpr a
      exact br_f a' (br_t rfl (by_ex1 s5 hj (by omega) (br_f (by decide) (br_t a (br_t rfl ⟨rfl, R⟩)))))
    · refine br_t (Int32.not_lt.mp a) ?_
      obtain ⟨i, hi, rfl⟩ := nI_of a
      refine bx_settle F4 F5 F7 rfl rfl (by omega) F9 hj (fun xn xs su kn fr ta te nu de st wo hX e1 e2 => ?_)
      dsimp only
      refine ⟨ij, ?_⟩
      obtain ⟨x1, x2, x3, x4, x5⟩ := hX.1 j hj
      have R' := zz_mk (k := k + 4) (f_last := f_last) (a_work := wo) (b_tops := b_tops) (b_bottoms := b_bottoms) ⟨by omega, F2, F3, F4, F5, F6, F7, F8, hX, F10⟩
      by_cases c : n j ≤ i
      · have c' : nI (n j) ≤ nI i := nI_le c hi
        exact br_t (by rw [cj, x1, e2]; exact c') (br_t rfl (by_ex1 s5 hj (by omega) (br_f (by decide) (br_f a ⟨ij, br_t (by rw [cj, y1]; exact c') (br_t rfl ⟨rfl, R'⟩)⟩))))
      · have c' : ¬ nI (n j) ≤ nI i := nI_ge (by omega) (by omega)
        have i6 : vp_in (nI j * 64 + nI i) 640 := by rw [bx_m64]; exact vp_in_nI (by omega) (by decide)
        have c6 : (nI j * 64 + nI i).toNatClampNeg = j * 64 + i := by rw [bx_m64]; exact nI_clamp (by omega)
        obtain ⟨d1, d2, d3⟩ := x5 i (by omega)
        refine br_f (by rw [cj, x1, e2]; exact c') (br_f (by decide) ⟨i6, by_ex1 s5 hj (by omega) (br_f (by decide) (br_f a ⟨ij, br_f (by rw [cj, y1]; exact c') (br_f (by decide) ?_)⟩))⟩)
        refine by_conv (t := t j) (N := i + 1) (a := 1) (b := 0) (by omega) (by omega) (by rw [nI_toInt (by omega)]; omega) (fun z hz => y3 z (by omega)) rfl rfl ⟨?_, R'⟩
        rw [c6, d3]
end
section
/-! an input changes: the reference works all out anew, the component only counts -/
theorem bh_q2 {t : Nat → Int} {n : Nat} (h : ∀ i, 1 ≤ i → i < n → 1 ≤ t i) : ∀ j : Nat, 2 * j + 1 ≤ n → (2 : Int) ^ j ≤ bh_hi t 1 0 (2 * j + 1) := by
  intro j
  induction j with
  | zero =>
    intro _
    show (2 : Int) ^ 0 ≤ t 0 * 0 + 1
    omega
  | succ j ih =>
    intro hj
    have i1 := ih (by omega)
    have p1 := (bh_qpos h (2 * j + 1) (by omega)).2.1
    have p2 := (bh_qpos h (2 * j + 1) (by omega)).1
    have p3 := (bh_qpos h (2 * j + 2) (by omega)).2.1
    have m1 := Int.mul_le_mul_of_nonneg_right (h (2 * j + 1) (by omega) (by omega)) p1
    have m2 := Int.mul_le_mul_of_nonneg_right (h (2 * j + 2) (by omega) (by omega)) p3
    rw [show 2 * (j + 1) + 1 = (2 * j + 2) + 1 from by omega, bh_hiS, show bh_lo t 1 0 (2 * j + 2) = bh_hi t 1 0 (2 * j + 1) from rfl, Int.pow_succ]
    have e2 : bh_hi t 1 0 (2 * j + 2) = t (2 * j + 1) * bh_hi t 1 0 (2 * j + 1) + bh_lo t 1 0 (2 * j + 1) := rfl
    omega
theorem bh_n14 {t : Nat → Nat → Int} {n s : Nat → Nat} {m : Nat} (h : bh_WF t n s m 100) : n m ≤ 14 := by
  obtain ⟨_, _, _, _, h5, h6, _⟩ := h
  by_cases c : n m ≤ 14
  · exact c
  · exfalso
    have a := bh_q2 h5 7 (by omega)
    have b := (h6 15 (by omega)).2
    rw [show 2 * 7 + 1 = 15 from rfl, show (2 : Int) ^ 7 = 128 from rfl] at a
    omega
theorem bx_DaC {te te' : Nat → Int32} {nu de nu' de' : Nat → Int64} {m k : Nat} {u u' : Nat → Int} (h : bx_Da te nu de m k u) (hu : ∀ i, i < k → u' i = u i) (ha : ∀ i, i < k → te' (m * 64 + i) = te (m * 64 + i) ∧ nu' (m * 64 + i) = nu (m * 64 + i) ∧ de' (m * 64 + i) = de (m * 64 + i)) : bx_Da te' nu' de' m k u' := by
  intro i hi
  obtain ⟨a, b, c⟩ := ha i hi
  have e : ∀ x, x < i + 1 → u' x = u x := fun x hx => hu x (by omega)
  rw [a, b, c, hu i hi, (bh_cvC e 0 1).1, (bh_cvC e 1 0).1]
  exact h i hi
theorem bx_XRup {I J O C j : Nat} {op l r w : Nat → Nat} {t t' : Nat → Nat → Int} {n s n' s' xn xs xn' xs' : Nat → Nat} {su kn fr ta te su' kn' te' : Nat → Int32} {nu de st nu' de' : Nat → Int64} (hS : bh_Sh I J O op l r w)
    (W : ∀ m, m < J → bh_WF t n s m (bh_bd (w m))) (W' : ∀ m, m < J → bh_WF t' n' s' m (bh_bd (w m))) (rf : ∀ m, m < J → bh_Ref t t' n s n' s' m) (hX : bx_XR I J op l r t n s xn xs C su kn fr ta te nu de st) (hj : j < I) (cb : C + 1 < 2147483648)
    (hin : ∀ m, m < I → m ≠ j → n' m = n m ∧ s' m = s m) (a1 : ∀ m, m ≠ j → su' m = su m ∧ kn' m = kn m ∧ xn' m = xn m ∧ xs' m = xs m) (a2 : ∀ x, (x < j * 64 ∨ j * 64 + 64 ≤ x) → te' x = te x ∧ nu' x = nu x ∧ de' x = de x)
    (b1 : kn' j = nI (xn' j)) (b2 : su' j = nI (xs' j)) (b3 : xs' j = s' j) (b4 : xn' j = n' j) (b5 : bx_Da te' nu' de' j (xn' j) (t' j)) (b6 : xn j ≤ xn' j) (b7 : xs j ≠ 2) : bx_XR I J op l r t' n' s' xn' xs' (C + 1) su' kn' fr ta te' nu' de' st := by
  obtain ⟨s1, s2, s3, s4, s5, s6, s7, s8, s9⟩ := hS
  obtain ⟨X1, X2, X3, X4⟩ := hX
  refine ⟨fun m hm => ?_, fun m hm => ?_, fun m hm1 hm => ?_, fun m hm1 hm => ?_⟩
  · by_cases e : m = j
    · subst e
      exact ⟨b1, b2, Nat.le_of_eq b4, Or.inr ⟨b3, b4⟩, b5⟩
    · obtain ⟨c1, c2, c3, c4⟩ := a1 m e
      obtain ⟨d1, d2, d3, d4, d5⟩ := X1 m hm
      obtain ⟨r1, r2, r3, r4, r5⟩ := rf m hm
      rw [c1, c2, c3, c4]
      refine ⟨d1, d2, Nat.le_trans d3 r1, ?_, bx_DaC d5 (fun i hi => r2 i (by omega)) (fun i hi => a2 _ ?_)⟩
      · rcases d4 with z | ⟨z1, z2⟩
        · exact Or.inl z
        · rcases (W m hm).2.1 with y | y | y
          · exact Or.inl (z1.trans y)
          · have q := r3 y
            exact Or.inr ⟨by omega, by omega⟩
          · have q := r4 y
            have q1 := (W m hm).2.2.1 y
            have q2 := (W' m hm).2.2.1 q
            exact Or.inr ⟨by omega, by omega⟩
      · have n64 := (W m hm).1
        omega
  · by_cases e : m = j
    · subst e
      exact ⟨b3, b4⟩
    · obtain ⟨c1, c2, c3, c4⟩ := a1 m e
      obtain ⟨d1, d2⟩ := X2 m hm
      obtain ⟨e1, e2⟩ := hin m hm e
      exact ⟨by omega, by omega⟩
  · have e : m ≠ j := by omega
    obtain ⟨c1, c2, c3, c4⟩ := a1 m e
    obtain ⟨d1, d2, d3⟩ := X3 m hm1 hm
    refine ⟨by omega, fun z => ?_, fun z => ?_⟩
    · exfalso
      rw [z, nI_toInt cb] at d1
      omega
    · rw [c4] at z
      obtain ⟨kl, kr, cl, cr, g1, g2, g3, g4, g5, g6, g7⟩ := d3 z
      obtain ⟨q1, q2, q3, q4⟩ := s9 m hm1 hm
      have up : ∀ y k (d : Bool), k ≤ xn y → (d = true → xs y = 2 ∧ k = xn y) → k ≤ xn' y ∧ (d = true → xs' y = 2 ∧ k = xn' y) := by
        intro y k d hk hd
        by_cases ey : y = j
        · subst ey
          exact ⟨by omega, fun v => absurd (hd v).1 b7⟩
        · rw [(a1 y ey).2.2.1, (a1 y ey).2.2.2]
          exact ⟨hk, hd⟩
      have u1 := up (l m) kl cl g3 g5
      have u2 := up (r m) kr cr g4 g6
      have v1 := (X1 (l m) (by omega)).2.2.1
      have v2 := (X1 (r m) (by omega)).2.2.1
      have v3 := (X1 m hm).2.2.1
      refine ⟨kl, kr, cl, cr, g1, g2, u1.1, u2.1, u1.2, u2.2, ?_⟩
      rw [c3]
      exact bx_StC g7 (fun i hi => ((rf (l m) (by omega)).2.1 i (by omega)).symm) (fun i hi => ((rf (r m) (by omega)).2.1 i (by omega)).symm) (fun i hi => ((rf m hm).2.1 i (by omega)).symm)
  · obtain ⟨c1, c2, c3, c4⟩ := a1 m (by omega)
    rw [c2]
    exact X4 m hm1 hm
section
variable {f_inputCount f_operationLimit f_heightLimit f_joined f_last : Int32} {a_counts a_states a_kinds a_operands a_weights a_positions : Nat → Int32} {a_known a_tops a_bottoms : Nat → Int64}
theorem by_refW {post : SY → Prop} {I J O : Nat} {op l r w : Nat → Nat} {t0 tI : Nat → Nat → Int} {n0 s0 nI' sI : Nat → Nat} (hS : bh_Sh I J O op l r w) (hT : bh_Tb I J op l r w a_kinds a_operands a_weights)
    (w0 : ∀ m, m < J → bh_WF t0 n0 s0 m (bh_bd (w m))) (r0 : ∀ m, I ≤ m → m < J → bh_Res t0 n0 s0 (op m) (l m) (r m) m ∨ (n0 m = 0 ∧ s0 m = 0))
    (wI : ∀ m, m < I → bh_WF tI nI' sI m (bh_bd (w m))) (rI : ∀ m, m < I → bh_Ref t0 tI n0 s0 nI' sI m) (yI : bh_YR I tI nI' sI a_known a_counts a_states)
    (H : ∀ (kn : Nat → Int64) (ct st : Nat → Int32) (tp bt : Nat → Int64) (t : Nat → Nat → Int) (n s : Nat → Nat), (∀ m, m < I → t m = tI m ∧ n m = nI' m ∧ s m = sI m) → (∀ m, m < J → bh_WF t n s m (bh_bd (w m))) → (∀ m, m < J → bh_Ref t0 t n0 s0 n s m) →
      (∀ m, I ≤ m → m < J → bh_Res t n s (op m) (l m) (r m) m) → bh_YR J t n s kn ct st → post (nI I, f_operationLimit, f_heightLimit, nI (J - I), f_last, kn, ct, st, a_kinds, a_operands, a_weights, a_positions, tp, bt)) : wpY_refresh post (nI I, f_operationLimit, f_heightLimit, nI (J - I), f_last, a_known, a_counts, a_states, a_kinds, a_operands, a_weights, a_positions, a_tops, a_bottoms) := by
  have hIJ : I ≤ J := hS.2.2.2.2.1
  exact Exists.intro (J - I + 1) (by_refresh hS hT rfl rfl w0 r0 H (J - I) I a_known a_counts a_states a_tops a_bottoms tI nI' sI (by omega) (Nat.le_refl I) (fun m hm => ⟨rfl, rfl, rfl⟩) wI rI (fun m h1 h2 => absurd h2 (by omega)) yI)
end
end
section
/-! end -/
theorem i_vc_end {k : Nat} {u : SX} {v : SY} (I : i_Rel k u v) (hk : k + 4 ≤ 2051) (v1 : Int32) : wpX_end (fun r u' => wpY_end (fun r' v' => r' = r ∧ i_Rel (k + 4) u' v') v v1) u v1 := by
  refine zz_el (P := fun u v => wpX_end (fun r u' => wpY_end (fun r' v' => r' = r ∧ i_Rel (k + 4) u' v') v v1) u v1) ?_ I
  intro I J O Hh C op l r w t n s xn xs ps f_last a_kinds a_weights a_statuses a_known a_positions a_freshAt a_operands a_taken a_terms a_numers a_denoms a_state a_work b_known b_counts b_states b_kinds b_operands b_weights b_tops b_bottoms F
  have R := i_up (zz_mk (f_last := f_last) (a_work := a_work) (b_tops := b_tops) (b_bottoms := b_bottoms) F)
  obtain ⟨F1, F2, F3, F4, F5, F6, F7, F8, F9, F10⟩ := F
  have F4' := F4
  obtain ⟨s1, s2, s3, s4, s5, s6, s7, s8, s9⟩ := F4'
  unfold wpX_end
  dsimp only
  rcases zz_ix v1 (J := I) (by omega) with h | ⟨j, hj, rfl⟩
  · refine bx_in0 h (br_t rfl ?_)
    by_cases c : v1 < 0
    · exact br_t c ⟨rfl, R⟩
    · exact br_f c (br_t (h.resolve_left c) ⟨rfl, R⟩)
  · have ij : vp_in (nI j) 10 := vp_in_nI (by omega) (by decide)
    have cj : (nI j).toNatClampNeg = j := nI_clamp (by omega)
    obtain ⟨y1, y2, y3⟩ := F8 j (by omega)
    obtain ⟨x1, x2, x3, x4, x5⟩ := F9.1 j (by omega)
    obtain ⟨e1, e2⟩ := F9.2.1 j hj
    have wj := F7.1 j (by omega)
    have sj := wj.2.1
    have sj3 := F7.2.1 j hj
    have n64 := wj.1
    have g0 : ¬ nI j < 0 := nI_pos (by omega)
    have g1 : ¬ nI I ≤ nI j := nI_ge hj (by omega)
    refine bx_in1 hj (by omega) (br_f (by decide) ⟨ij, ?_⟩)
    by_cases a : s j = 0
    · have a2 : ¬ b_states (nI j).toNatClampNeg = 2 := by rw [cj, y2, a]; decide
      refine br_t (by rw [cj, x2, e1, a]; rfl) ⟨ij, ?_⟩
      by_cases b : n j = 0
      · exact br_t (by rw [cj, x1, e2, b]; rfl) (br_f g0 (br_f g1 ⟨ij, br_f a2 ⟨ij, br_t (by rw [cj, y1, b]; rfl) ⟨rfl, R⟩⟩⟩))
      · have b1 : ¬ nI (n j) = 0 := nI_ne0 (by omega) (by omega)
        refine br_f (by rw [cj, x1, e2]; exact b1) ⟨ij, nm_r (e' := upd a_statuses j 2) (by rw [cj]) (nm_r (nI_1 C) ⟨ij, ?_⟩)⟩
        refine br_f g0 (br_f g1 ⟨ij, br_f a2 ⟨ij, br_f (by rw [cj, y1]; exact b1) ⟨ij, nm_r (e' := upd b_states j 2) (by rw [cj]) ?_⟩⟩⟩)
        have w1 : ∀ m, m < I → bh_WF t n (bh_up s j 2) m (bh_bd (w m)) := by
          intro m hm
          by_cases e : m = j
          · subst e
            obtain ⟨q1, q2, q3, q4, q5, q6, q7⟩ := wj
            refine ⟨q1, ?_, ?_, fun _ => by omega, q5, q6, q7⟩
            · rw [bh_ups]; omega
            · rw [bh_ups]; omega
          · exact bh_WFC (t := t) (n := n) (s := s) rfl rfl (bh_upn e) (F7.1 m (by omega))
        refine by_refW (t0 := t) (n0 := n) (s0 := s) (tI := t) (nI' := n) (sI := bh_up s j 2) F4 F6 F7.1 (fun m h1 h2 => Or.inl (F7.2.2 m h1 h2)) w1 (fun m hm => ?_) (fun m hm => ?_) (fun kn ct st tp bt t' n' s' i1 i2 i3 i4 i5 => ?_)
        · by_cases e : m = j
          · subst e
            refine ⟨Nat.le_refl _, fun _ _ => rfl, fun z => by omega, fun z => by omega, fun _ => ?_⟩
            rw [bh_ups]; omega
          · exact bh_RefC (t := t) (n := n) (s := s) rfl rfl (bh_upn e) (bh_RefRefl (F7.1 m (by omega)))
        · obtain ⟨p1, p2, p3⟩ := F8 m (by omega)
          refine ⟨p1, ?_, p3⟩
          by_cases e : m = j
          · subst e
            rw [pk_us, bh_ups]; rfl
          · rw [pk_un e, bh_upn e]; exact p2
        · obtain ⟨o1, o2, o3⟩ := i1 j hj
          rw [bh_ups] at o3
          refine ⟨ij, ?_, ?_⟩
          · rw [cj, (i5 j (by omega)).1, o2, x1, e2]
          · refine zz_mk (t := t') (n := n') (s := s') (xn := xn) (xs := bh_up xs j 2) ⟨by omega, F2, F3, F4, F5, F6, ⟨i2, fun m hm => ?_, i4⟩, i5, ?_, F10⟩
            · obtain ⟨z1, z2, z3⟩ := i1 m hm
              rw [z3]
              by_cases e : m = j
              · subst e
                rw [bh_ups]; omega
              · rw [bh_upn e]; exact F7.2.1 m hm
            · refine bx_XRup F4 F7.1 i2 i3 F9 hj (by omega) (fun m hm e => ?_) (fun m e => ⟨pk_un e, rfl, rfl, bh_upn e⟩) (fun _ _ => ⟨rfl, rfl, rfl⟩) x1 ?_ ?_ ?_ ?_ (Nat.le_refl _) (by omega)
              · obtain ⟨z1, z2, z3⟩ := i1 m hm
                exact ⟨z2, z3.trans (bh_upn e)⟩
              · rw [pk_us, bh_ups]; rfl
              · rw [bh_ups, o3]
              · omega
              · rw [o1]; exact x5
    · have a1 : s j = 2 := by omega
      refine br_f (by rw [cj, x2, e1, a1]; decide) ?_
      exact br_f g0 (br_f g1 ⟨ij, br_t (by rw [cj, y2, a1]; rfl) ⟨rfl, R⟩⟩)
end
section
/-! feed -/
theorem bh_negH {h : Nat} (hh : h ≤ 100) : (-nI h).toInt64 = bh_l (-(h : Int)) := by
  rw [bh_xL, Int32.toInt_neg, nI_toInt (by omega)]
  exact congrArg bh_l (Int.bmod_eq_of_le (by omega) (by omega))
section
variable {f_inputs f_operations f_height f_nodes f_last f_clock : Int32} {a_kinds a_weights a_statuses a_known a_positions a_freshAt a_operands a_taken a_terms a_work : Nat → Int32} {a_numers a_denoms a_state : Nat → Int64}
theorem bx_feed35 {post : Int32 → SX → Prop} {j k Hh C : Nat} {u : Nat → Int} {x : Int32} {P Q : Int} (hj : j < 10) (hk : k < 64) (hH : Hh ≤ 100) (kn : a_known j = nI k) (hn : ∀ i, i < k → a_numers (j * 64 + i) = bh_l (bh_hi u 0 1 (i + 1))) (hd : ∀ i, i < k → a_denoms (j * 64 + i) = bh_l (bh_hi u 1 0 (i + 1)))
    (eP : x.toInt * bh_hi u 0 1 k + bh_lo u 0 1 k = P) (eQ : x.toInt * bh_hi u 1 0 k + bh_lo u 1 0 k = Q) (bP : P.natAbs < 4611686018427387904) (bQ : Q.natAbs < 4611686018427387904)
    (h1 : ¬ (P ≤ Hh ∧ -(Hh : Int) ≤ P ∧ Q ≤ Hh) → post (-4) (f_inputs, f_operations, nI Hh, f_nodes, f_last, nI C, a_kinds, a_weights, a_statuses, a_known, a_positions, a_freshAt, a_operands, a_taken, a_terms, a_numers, a_denoms, a_state, a_work))
    (h2 : P ≤ Hh ∧ -(Hh : Int) ≤ P ∧ Q ≤ Hh → post (nI (k + 1)) (f_inputs, f_operations, nI Hh, f_nodes, f_last, nI (C + 1), a_kinds, a_weights, a_statuses, upd a_known j (nI (k + 1)), a_positions, a_freshAt, a_operands, a_taken, upd a_terms (j * 64 + k) x, vp_updL a_numers (j * 64 + k) (bh_l P), vp_updL a_denoms (j * 64 + k) (bh_l Q), a_state, a_work)) :
    wX_feed_35 post (nI j) x f_inputs f_operations (nI Hh) f_nodes f_last (nI C) a_kinds a_weights a_statuses a_known a_positions a_freshAt a_operands a_taken a_terms a_numers a_denoms a_state a_work := by
  have eP' : x.toInt64 * bh_l (bh_hi u 0 1 k) + bh_l (bh_lo u 0 1 k) = bh_l P := by rw [bh_xL x, ← bh_lM, ← bh_lA, eP]
  have eQ' : x.toInt64 * bh_l (bh_hi u 1 0 k) + bh_l (bh_lo u 1 0 k) = bh_l Q := by rw [bh_xL x, ← bh_lM, ← bh_lA, eQ]
  have c1 := bh_lLt (a := (Hh : Int)) (b := P) (by omega) (by omega)
  have c2 := bh_lLt (a := P) (b := -(Hh : Int)) (by omega) (by omega)
  have c3 := bh_lLe (a := Q) (b := (Hh : Int)) (by omega) (by omega)
  have ij : vp_in (nI j) 10 := vp_in_nI hj (by decide)
  have cj : (nI j).toNatClampNeg = j := nI_clamp (by omega)
  unfold wX_feed_35
  refine bx_nextN hj (by omega) kn hn ?_
  refine bx_nextD hj (by omega) kn hd ?_
  rw [eP', eQ', bh_nL Hh (by omega), bh_negH hH]
  by_cases a : (Hh : Int) < P
  · exact br_t (c1.mpr a) (h1 (by omega))
  refine br_f (fun z => a (c1.mp z)) ?_
  by_cases b : P < -(Hh : Int)
  · exact br_t (c2.mpr b) (h1 (by omega))
  refine br_f (fun z => b (c2.mp z)) ?_
  by_cases c : Q ≤ (Hh : Int)
  · refine br_t (c3.mpr c) ?_
    refine bx_append (t := u) hj hk kn hn hd ?_
    rw [eP', eQ']
    refine nm_r (nI_1 C) ⟨ij, ?_⟩
    rw [cj, pk_us]
    exact h2 (by omega)
  · exact br_f (fun z => c (c3.mp z)) (h1 (by omega))
end
section
variable {f_inputCount f_operationLimit f_heightLimit f_joined f_last : Int32} {a_counts a_states a_kinds a_operands a_weights a_positions : Nat → Int32} {a_known a_tops a_bottoms : Nat → Int64}
theorem by_feed42 {post : Int32 → SY → Prop} {j k Hh : Nat} {u : Nat → Int} {x : Int32} {P Q : Int} (hj : j < 10) (hk : k < 64) (hH : Hh ≤ 100) (kn : ∀ i, i < k → a_known (j * 64 + i) = bh_l (u i))
    (eP : bh_hi (bh_up u k x.toInt) 0 1 (k + 1) = P) (eQ : bh_hi (bh_up u k x.toInt) 1 0 (k + 1) = Q) (bP : P.natAbs < 4611686018427387904) (bQ : Q.natAbs < 4611686018427387904)
    (h1 : ¬ (P ≤ Hh ∧ -(Hh : Int) ≤ P ∧ Q ≤ Hh) → post (-4) (f_inputCount, f_operationLimit, nI Hh, f_joined, f_last, vp_updL a_known (j * 64 + k) (bh_l x.toInt), a_counts, a_states, a_kinds, a_operands, a_weights, a_positions, a_tops, a_bottoms))
    (h2 : P ≤ Hh ∧ -(Hh : Int) ≤ P ∧ Q ≤ Hh → wpY_refresh (fun v' => post (nI (k + 1)) v') (f_inputCount, f_operationLimit, nI Hh, f_joined, f_last, vp_updL a_known (j * 64 + k) (bh_l x.toInt), upd a_counts j (nI (k + 1)), a_states, a_kinds, a_operands, a_weights, a_positions, a_tops, a_bottoms)) :
    wY_feed_42 post (nI j) x (nI k) f_inputCount f_operationLimit (nI Hh) f_joined f_last a_known a_counts a_states a_kinds a_operands a_weights a_positions a_tops a_bottoms := by
  have c1 := bh_lLt (a := (Hh : Int)) (b := P) (by omega) (by omega)
  have c2 := bh_lLt (a := P) (b := -(Hh : Int)) (by omega) (by omega)
  have c3 := bh_lLe (a := Q) (b := (Hh : Int)) (by omega) (by omega)
  have ij : vp_in (nI j) 10 := vp_in_nI hj (by decide)
  have cj : (nI j).toNatClampNeg = j := nI_clamp (by omega)
  have kn' : ∀ i, i < k + 1 → vp_updL a_known (j * 64 + k) (bh_l x.toInt) (j * 64 + i) = bh_l (bh_up u k x.toInt i) := by
    intro i hi
    by_cases e : i = k
    · subst e
      rw [pk_uLs, bh_ups]
    · rw [pk_uLn (by omega), bh_upn e]
      exact kn i (by omega)
  refine And.intro (by rw [bx_m64]; exact vp_in_nI (by omega) (by decide)) (nm_r (e' := vp_updL a_known (j * 64 + k) (bh_l x.toInt)) (by rw [bx_m64, nI_clamp (by omega)]; rfl) ?_)
  refine by_conv (t := bh_up u k x.toInt) (N := k + 1) (a := 0) (b := 1) hj (by omega) (by rw [nI_toInt (by omega)]; omega) kn' rfl rfl ?_
  refine by_conv (t := bh_up u k x.toInt) (N := k + 1) (a := 1) (b := 0) hj (by omega) (by rw [nI_toInt (by omega)]; omega) kn' rfl rfl ?_
  rw [eP, eQ, bh_nL Hh (by omega), bh_negH hH]
  by_cases a : (Hh : Int) < P
  · exact br_t (c1.mpr a) (h1 (by omega))
  refine br_f (fun z => a (c1.mp z)) ?_
  by_cases b : P < -(Hh : Int)
  · exact br_t (c2.mpr b) (h1 (by omega))
  refine br_f (fun z => b (c2.mp z)) ?_
  by_cases c : Q ≤ (Hh : Int)
  · refine br_t (c3.mpr c) ⟨ij, nm_r (e' := upd a_counts j (nI (k + 1))) (by rw [cj, nI_1]) ?_⟩
    rw [nI_1 k]
    exact h2 (by omega)
  · exact br_f (fun z => c (c3.mp z)) (h1 (by omega))
end
theorem i_vc_feed {k : Nat} {u : SX} {v : SY} (I : i_Rel k u v) (hk : k + 4 ≤ 2051) (v1 : Int32) (v2 : Int32) : wpX_feed (fun r u' => wpY_feed (fun r' v' => r' = r ∧ i_Rel (k + 4) u' v') v v1 v2) u v1 v2 := by
  refine zz_el (P := fun u v => wpX_feed (fun r u' => wpY_feed (fun r' v' => r' = r ∧ i_Rel (k + 4) u' v') v v1 v2) u v1 v2) ?_ I
  intro I J O Hh C op l r w t n s xn xs ps f_last a_kinds a_weights a_statuses a_known a_positions a_freshAt a_operands a_taken a_terms a_numers a_denoms a_state a_work b_known b_counts b_states b_kinds b_operands b_weights b_tops b_bottoms F
  have R := i_up (zz_mk (f_last := f_last) (a_work := a_work) (b_tops := b_tops) (b_bottoms := b_bottoms) F)
  obtain ⟨F1, F2, F3, F4, F5, F6, F7, F8, F9, F10⟩ := F
  have F4' := F4
  obtain ⟨s1, s2, s3, s4, s5, s6, s7, s8, s9⟩ := F4'
  unfold wpX_feed
  dsimp only
  rcases zz_ix v1 (J := I) (by omega) with h | ⟨j, hj, rfl⟩
  · refine bx_in0 h (br_t rfl ?_)
    by_cases c : v1 < 0
    · exact br_t c ⟨rfl, R⟩
    · exact br_f c (br_t (h.resolve_left c) ⟨rfl, R⟩)
  · have ij : vp_in (nI j) 10 := vp_in_nI (by omega) (by decide)
    have cj : (nI j).toNatClampNeg = j := nI_clamp (by omega)
    obtain ⟨y1, y2, y3⟩ := F8 j (by omega)
    obtain ⟨x1, x2, x3, x4, x5⟩ := F9.1 j (by omega)
    obtain ⟨e1, e2⟩ := F9.2.1 j hj
    have wj := F7.1 j (by omega)
    have sj := wj.2.1
    have sj3 := F7.2.1 j hj
    rw [(s8 j hj).2, show bh_bd 1 = 100 from rfl] at wj
    have n14 := bh_n14 wj
    have g0 : ¬ nI j < 0 := nI_pos (by omega)
    have g1 : ¬ nI I ≤ nI j := nI_ge hj (by omega)
    refine bx_in1 hj (by omega) (br_f (by decide) ⟨ij, ?_⟩)
    by_cases a : s j = 0
    · have a2 : ¬ b_states (nI j).toNatClampNeg = 2 := by rw [cj, y2, a]; decide
      -- the fed term and its convergents
      generalize hT : v2.toInt = T
      have tl := v2.toInt_lt
      have tg := v2.le_toInt
      have ag : ∀ i, i < n j → bh_up (t j) (n j) T i = t j i := fun i hi => bh_upn (by omega)
      have eP : bh_hi (bh_up (t j) (n j) T) 0 1 (n j + 1) = T * bh_hi (t j) 0 1 (n j) + bh_lo (t j) 0 1 (n j) := by
        rw [bh_hiS, bh_ups, (bh_cvC ag 0 1).1, (bh_cvC ag 0 1).2]
      have eQ : bh_hi (bh_up (t j) (n j) T) 1 0 (n j + 1) = T * bh_hi (t j) 1 0 (n j) + bh_lo (t j) 1 0 (n j) := by
        rw [bh_hiS, bh_ups, (bh_cvC ag 1 0).1, (bh_cvC ag 1 0).2]
      generalize hP : bh_hi (bh_up (t j) (n j) T) 0 1 (n j + 1) = P at eP
      generalize hQ : bh_hi (bh_up (t j) (n j) T) 1 0 (n j + 1) = Q at eQ
      have hb := wj.2.2.2.2.2.1 (n j) (by omega)
      have lb := bh_lobd wj (by omega)
      have bP : P.natAbs < 4611686018427387904 := by
        have := bh_mulAbs (x := T) (a := 2147483648) (by omega) hb.1
        omega
      have bQ : Q.natAbs < 4611686018427387904 := by
        have := bh_mulAbs (x := T) (a := 2147483648) (by omega) hb.2
        omega
      have go : (n j = 0 ∨ 1 ≤ T) → wX_feed_35 (fun r u' => wpY_feed (fun r' v' => r' = r ∧ i_Rel (k + 4) u' v') (nI I, nI O, nI Hh, nI (J - I), f_last, b_known, b_counts, b_states, b_kinds, b_operands, b_weights, a_positions, b_tops, b_bottoms) (nI j) v2) (nI j) v2 (nI I) (nI O) (nI Hh) (nI J) f_last (nI C) a_kinds a_weights a_statuses a_known a_positions a_freshAt a_operands a_taken a_terms a_numers a_denoms a_state a_work := by
        intro hT1
        have yw : ∀ post : Int32 → SY → Prop, wY_feed_42 post (nI j) v2 (nI (n j)) (nI I) (nI O) (nI Hh) (nI (J - I)) f_last b_known b_counts b_states b_kinds b_operands b_weights a_positions b_tops b_bottoms → wpY_feed post (nI I, nI O, nI Hh, nI (J - I), f_last, b_known, b_counts, b_states, b_kinds, b_operands, b_weights, a_positions, b_tops, b_bottoms) (nI j) v2 := by
          intro post hp
          refine br_f g0 (br_f g1 ⟨ij, br_f a2 ⟨ij, nm_r (e' := nI (n j)) (by rw [cj, y1]) ?_⟩⟩)
          by_cases c : n j = 0
          · exact br_t (by rw [c]; decide) hp
          · refine br_f (nI_nle (by omega) (by omega)) (br_t ?_ hp)
            rw [Int32.le_iff_toInt_le, hT, show (1 : Int32).toInt = 1 from by decide]
            omega
        refine bx_feed35 (k := n j) (u := t j) (P := P) (Q := Q) (by omega) (by omega) F3 (by rw [x1, e2]) (fun i hi => (x5 i (by omega)).2.1) (fun i hi => (x5 i (by omega)).2.2) (by rw [hT]; exact eP.symm) (by rw [hT]; exact eQ.symm) bP bQ (fun no => ?_) (fun ok => ?_)
        · refine yw _ (by_feed42 (u := t j) (P := P) (Q := Q) (by omega) (by omega) F3 y3 (by rw [hT]; exact hP) (by rw [hT]; exact hQ) bP bQ (fun _ => ⟨rfl, ?_⟩) (fun ok => absurd ok no))
          refine zz_mk (t := t) (n := n) (s := s) (xn := xn) (xs := xs) ⟨by omega, F2, F3, F4, F5, F6, F7, fun m hm => ?_, F9, F10⟩
          obtain ⟨p1, p2, p3⟩ := F8 m hm
          refine ⟨p1, p2, fun i hi => ?_⟩
          have m64 := (F7.1 m hm).1
          rw [pk_uLn ?_]
          · exact p3 i hi
          · by_cases e : m = j
            · subst e; omega
            · omega
        · refine yw _ (by_feed42 (u := t j) (P := P) (Q := Q) (by omega) (by omega) F3 y3 (by rw [hT]; exact hP) (by rw [hT]; exact hQ) bP bQ (fun no => absurd ok no) (fun _ => ?_))
          obtain ⟨ok1, ok2, ok3⟩ := ok
          have agj : ∀ i, i < n j → bh_up t j (bh_up (t j) (n j) T) j i = t j i := by
            intro i hi
            rw [bh_ups]
            exact ag i hi
          have wfj : bh_WF (bh_up t j (bh_up (t j) (n j) T)) (bh_up n j (n j + 1)) s j (bh_bd (w j)) := by
            rw [(s8 j hj).2, show bh_bd 1 = 100 from rfl]
            obtain ⟨q1, q2, q3, q4, q5, q6, q7⟩ := wj
            unfold bh_WF
            rw [bh_ups, bh_ups]
            have pos : ∀ i, 1 ≤ i → i < n j + 1 → 1 ≤ bh_up (t j) (n j) T i := by
              intro i hi1 hi
              by_cases e : i = n j
              · rw [e, bh_ups]; omega
              · rw [bh_upn e]; exact q5 i hi1 (by omega)
            refine ⟨by omega, q2, fun z => by omega, fun z => by omega, pos, fun i hi => ?_, fun i hi => ?_⟩
            · by_cases e : i = n j + 1
              · subst e
                have := (bh_qpos pos (n j + 1) (by omega)).2.1
                rw [hP, hQ]
                rw [hQ] at this
                omega
              · have c := fun a b => (bh_cvC (t := bh_up (t j) (n j) T) (t' := t j) (n := i) (fun x hx => ag x (by omega)) a b).1
                rw [c, c]
                exact q6 i (by omega)
            · by_cases e : i = n j
              · rw [e, bh_ups]
                rcases hT1 with z | z
                · have p1 : P = T := by
                    rw [eP, z, bh_hi0, bh_lo0]
                    omega
                  omega
                · omega
              · rw [bh_upn e]; exact q7 i (by omega)
          have w1 : ∀ m, m < I → bh_WF (bh_up t j (bh_up (t j) (n j) T)) (bh_up n j (n j + 1)) s m (bh_bd (w m)) := by
            intro m hm
            by_cases e : m = j
            · subst e; exact wfj
            · exact bh_WFC (t := t) (n := n) (s := s) (bh_upn e) (bh_upn e) rfl (F7.1 m (by omega))
          refine by_refW (t0 := t) (n0 := n) (s0 := s) (tI := bh_up t j (bh_up (t j) (n j) T)) (nI' := bh_up n j (n j + 1)) (sI := s) F4 F6 F7.1 (fun m h1 h2 => Or.inl (F7.2.2 m h1 h2)) w1 (fun m hm => ?_) (fun m hm => ?_) (fun kn ct st tp bt t' n' s' i1 i2 i3 i4 i5 => ⟨rfl, ?_⟩)
          · by_cases e : m = j
            · subst e
              refine ⟨?_, agj, fun z => by omega, fun z => by omega, fun _ => by omega⟩
              rw [bh_ups]; omega
            · exact bh_RefC (t := t) (n := n) (s := s) (bh_upn e) (bh_upn e) rfl (bh_RefRefl (F7.1 m (by omega)))
          · obtain ⟨p1, p2, p3⟩ := F8 m (by omega)
            have m64 := (F7.1 m (by omega)).1
            by_cases e : m = j
            · subst e
              rw [pk_us, bh_ups, bh_ups]
              refine ⟨rfl, p2, fun i hi => ?_⟩
              by_cases ei : i = n m
              · rw [ei, pk_uLs, bh_ups, hT]
              · rw [pk_uLn (by omega), bh_upn ei]
                exact p3 i (by omega)
            · rw [pk_un e, bh_upn e, bh_upn e]
              refine ⟨p1, p2, fun i hi => ?_⟩
              rw [pk_uLn (by omega)]
              exact p3 i hi
          · obtain ⟨o1, o2, o3⟩ := i1 j hj
            rw [bh_ups] at o1 o2
            refine zz_mk (t := t') (n := n') (s := s') (xn := bh_up xn j (n j + 1)) (xs := xs) ⟨by omega, F2, F3, F4, F5, F6, ⟨i2, fun m hm => ?_, i4⟩, i5, ?_, F10⟩
            · rw [(i1 m hm).2.2]; exact F7.2.1 m hm
            · refine bx_XRup F4 F7.1 i2 i3 F9 hj (by omega) (fun m hm e => ?_) (fun m e => ⟨rfl, pk_un e, bh_upn e, rfl⟩) (fun x hx => ⟨pk_un (by omega), pk_uLn (by omega), pk_uLn (by omega)⟩) ?_ x2 (by omega) ?_ ?_ ?_ (by omega)
              · obtain ⟨z1, z2, z3⟩ := i1 m hm
                exact ⟨z2.trans (bh_upn e), z3⟩
              · rw [pk_us, bh_ups]
              · rw [bh_ups, o2]
              · rw [bh_ups, o1]
                intro i hi
                by_cases ei : i = n j
                · subst ei
                  rw [pk_us, pk_uLs, pk_uLs, bh_ups, hP, hQ, ← hT, bh_iof]
                  exact ⟨rfl, rfl, rfl⟩
                · rw [pk_un (by omega), pk_uLn (by omega), pk_uLn (by omega), bh_upn ei]
                  have c := fun a b => (bh_cvC (t := bh_up (t j) (n j) T) (t' := t j) (n := i + 1) (fun x hx => ag x (by omega)) a b).1
                  rw [c, c]
                  exact x5 i (by omega)
              · rw [bh_ups]; omega
      refine br_t (by rw [cj, x2, e1, a]; rfl) ⟨ij, ?_⟩
      by_cases b : n j = 0
      · exact br_t (by rw [cj, x1, e2, b]; decide) (go (Or.inl b))
      · have b1 : ¬ nI (n j) ≤ 0 := nI_nle (by omega) (by omega)
        refine br_f (by rw [cj, x1, e2]; exact b1) ?_
        have le1 : (1 : Int32) ≤ v2 ↔ 1 ≤ T := by rw [Int32.le_iff_toInt_le, hT, show (1 : Int32).toInt = 1 from by decide]
        by_cases c : 1 ≤ T
        · exact br_t (le1.mpr c) (go (Or.inr c))
        · have c' : ¬ (1 : Int32) ≤ v2 := fun z => c (le1.mp z)
          exact br_f c' (br_f g0 (br_f g1 ⟨ij, br_f a2 ⟨ij, nm_r (e' := nI (n j)) (by rw [cj, y1]) (br_f b1 (br_f c' ⟨rfl, R⟩))⟩⟩))
    · have a1 : s j = 2 := by omega
      refine br_f (by rw [cj, x2, e1, a1]; decide) ?_
      exact br_f g0 (br_f g1 ⟨ij, br_t (by rw [cj, y2, a1]; rfl) ⟨rfl, R⟩⟩)
end
section
/-! join -/
theorem bx_uLe {f : Nat → Int64} {k j : Nat} {x : Int64} (h : j = k) : vp_updL f k x j = x := if_pos h
section
variable {f_inputs f_operations f_height f_nodes f_last f_clock : Int32} {a_kinds a_weights a_statuses a_known a_positions a_freshAt a_operands a_taken a_terms a_work : Nat → Int32} {a_numers a_denoms a_state : Nat → Int64}
theorem bx_start {post : SX → Prop} {m kd : Nat} {ul ur tm : Nat → Int} (hm : m < 10) (hkd : kd ≤ 3) (ki : a_kinds m = nI kd) (z : ∀ j, m * 8 ≤ j → j < m * 8 + 8 → a_state j = 0)
    (H : ∀ st : Nat → Int64, (∀ j, (j < m * 8 ∨ m * 8 + 8 ≤ j) → st j = a_state j) → bx_St st m kd ul 0 false ur 0 false tm 0 → post (f_inputs, f_operations, f_height, f_nodes, f_last, f_clock, a_kinds, a_weights, a_statuses, a_known, a_positions, a_freshAt, a_operands, a_taken, a_terms, a_numers, a_denoms, st, a_work)) : wpX_startState post (f_inputs, f_operations, f_height, f_nodes, f_last, f_clock, a_kinds, a_weights, a_statuses, a_known, a_positions, a_freshAt, a_operands, a_taken, a_terms, a_numers, a_denoms, a_state, a_work) (nI m) := by
  have ad : ∀ i, nI (m * 8) + nI i = nI (m * 8 + i) := fun i => nI_add _ _
  have vi : ∀ i, i < 8 → vp_in (nI (m * 8) + nI i) 80 := fun i hi => by rw [ad]; exact vp_in_nI (by omega) (by decide)
  have ci : ∀ i, i < 8 → (nI (m * 8) + nI i).toNatClampNeg = m * 8 + i := fun i hi => by rw [ad]; exact nI_clamp (by omega)
  have v0 : vp_in (nI (m * 8)) 80 := vp_in_nI (by omega) (by decide)
  have c0 : (nI (m * 8)).toNatClampNeg = m * 8 := nI_clamp (by omega)
  unfold wpX_startState
  dsimp only
  refine nm_r (bx_m8 m) ⟨vp_in_nI hm (by decide), nm_r (e' := nI kd) (by rw [nI_clamp (by omega)]; exact ki) ?_⟩
  unfold wX_startState_36 wX_startState_68
  rcases (by omega : kd = 0 ∨ kd = 1 ∨ kd = 2 ∨ kd = 3) with rfl | rfl | rfl | rfl
  · refine br_f (by decide) ⟨vi 1 (by omega), nm_r (e' := vp_updL a_state (m * 8 + 1) 1) (congrArg (fun i => vp_updL a_state i 1) (ci 1 (by omega))) (br_t rfl ⟨vi 2 (by omega), nm_r (e' := vp_updL (vp_updL a_state (m * 8 + 1) 1) (m * 8 + 2) 1) (congrArg (fun i => vp_updL _ i 1) (ci 2 (by omega))) (br_f (by decide) ⟨vi 7 (by omega), nm_r (e' := vp_updL (vp_updL (vp_updL a_state (m * 8 + 1) 1) (m * 8 + 2) 1) (m * 8 + 7) 1) (congrArg (fun i => vp_updL _ i 1) (ci 7 (by omega))) ?_⟩)⟩)⟩
    refine H _ (fun j hj => by rw [pk_uLn (by omega), pk_uLn (by omega), pk_uLn (by omega)]) (fun i hi => ?_)
    rcases (by omega : i = 0 ∨ i = 1 ∨ i = 2 ∨ i = 3) with rfl | rfl | rfl | rfl
    · exact ⟨by (repeat (first | rw [pk_uLn (by omega)] | rw [bx_uLe (by omega)])); rw [z _ (by omega) (by omega)]; rfl, by (repeat (first | rw [pk_uLn (by omega)] | rw [bx_uLe (by omega)])); rw [z _ (by omega) (by omega)]; rfl⟩
    · exact ⟨by (repeat (first | rw [pk_uLn (by omega)] | rw [bx_uLe (by omega)])); rfl, by (repeat (first | rw [pk_uLn (by omega)] | rw [bx_uLe (by omega)])); rw [z _ (by omega) (by omega)]; rfl⟩
    · exact ⟨by (repeat (first | rw [pk_uLn (by omega)] | rw [bx_uLe (by omega)])); rfl, by (repeat (first | rw [pk_uLn (by omega)] | rw [bx_uLe (by omega)])); rw [z _ (by omega) (by omega)]; rfl⟩
    · exact ⟨by (repeat (first | rw [pk_uLn (by omega)] | rw [bx_uLe (by omega)])); rw [z _ (by omega) (by omega)]; rfl, by (repeat (first | rw [pk_uLn (by omega)] | rw [bx_uLe (by omega)])); rfl⟩
  · refine br_f (by decide) ⟨vi 1 (by omega), nm_r (e' := vp_updL a_state (m * 8 + 1) 1) (congrArg (fun i => vp_updL a_state i 1) (ci 1 (by omega))) (br_f (by decide) (br_t rfl ⟨vi 2 (by omega), nm_r (e' := vp_updL (vp_updL a_state (m * 8 + 1) 1) (m * 8 + 2) (-1)) (congrArg (fun i => vp_updL _ i (-1)) (ci 2 (by omega))) (br_f (by decide) ⟨vi 7 (by omega), nm_r (e' := vp_updL (vp_updL (vp_updL a_state (m * 8 + 1) 1) (m * 8 + 2) (-1)) (m * 8 + 7) 1) (congrArg (fun i => vp_updL _ i 1) (ci 7 (by omega))) ?_⟩)⟩))⟩
    refine H _ (fun j hj => by rw [pk_uLn (by omega), pk_uLn (by omega), pk_uLn (by omega)]) (fun i hi => ?_)
    rcases (by omega : i = 0 ∨ i = 1 ∨ i = 2 ∨ i = 3) with rfl | rfl | rfl | rfl
    · exact ⟨by (repeat (first | rw [pk_uLn (by omega)] | rw [bx_uLe (by omega)])); rw [z _ (by omega) (by omega)]; rfl, by (repeat (first | rw [pk_uLn (by omega)] | rw [bx_uLe (by omega)])); rw [z _ (by omega) (by omega)]; rfl⟩
    · exact ⟨by (repeat (first | rw [pk_uLn (by omega)] | rw [bx_uLe (by omega)])); rfl, by (repeat (first | rw [pk_uLn (by omega)] | rw [bx_uLe (by omega)])); rw [z _ (by omega) (by omega)]; rfl⟩
    · exact ⟨by (repeat (first | rw [pk_uLn (by omega)] | rw [bx_uLe (by omega)])); rfl, by (repeat (first | rw [pk_uLn (by omega)] | rw [bx_uLe (by omega)])); rw [z _ (by omega) (by omega)]; rfl⟩
    · exact ⟨by (repeat (first | rw [pk_uLn (by omega)] | rw [bx_uLe (by omega)])); rw [z _ (by omega) (by omega)]; rfl, by (repeat (first | rw [pk_uLn (by omega)] | rw [bx_uLe (by omega)])); rfl⟩
  · refine br_t rfl ⟨v0, nm_r (e' := vp_updL a_state (m * 8) 1) (by rw [c0]) (br_f (by decide) (br_f (by decide) (br_f (by decide) ⟨vi 7 (by omega), nm_r (e' := vp_updL (vp_updL a_state (m * 8) 1) (m * 8 + 7) 1) (congrArg (fun i => vp_updL _ i 1) (ci 7 (by omega))) ?_⟩)))⟩
    refine H _ (fun j hj => by rw [pk_uLn (by omega), pk_uLn (by omega)]) (fun i hi => ?_)
    rcases (by omega : i = 0 ∨ i = 1 ∨ i = 2 ∨ i = 3) with rfl | rfl | rfl | rfl
    · exact ⟨by (repeat (first | rw [pk_uLn (by omega)] | rw [bx_uLe (by omega)])); rfl, by (repeat (first | rw [pk_uLn (by omega)] | rw [bx_uLe (by omega)])); rw [z _ (by omega) (by omega)]; rfl⟩
    · exact ⟨by (repeat (first | rw [pk_uLn (by omega)] | rw [bx_uLe (by omega)])); rw [z _ (by omega) (by omega)]; rfl, by (repeat (first | rw [pk_uLn (by omega)] | rw [bx_uLe (by omega)])); rw [z _ (by omega) (by omega)]; rfl⟩
    · exact ⟨by (repeat (first | rw [pk_uLn (by omega)] | rw [bx_uLe (by omega)])); rw [z _ (by omega) (by omega)]; rfl, by (repeat (first | rw [pk_uLn (by omega)] | rw [bx_uLe (by omega)])); rw [z _ (by omega) (by omega)]; rfl⟩
    · exact ⟨by (repeat (first | rw [pk_uLn (by omega)] | rw [bx_uLe (by omega)])); rw [z _ (by omega) (by omega)]; rfl, by (repeat (first | rw [pk_uLn (by omega)] | rw [bx_uLe (by omega)])); rfl⟩
  · refine br_f (by decide) ⟨vi 1 (by omega), nm_r (e' := vp_updL a_state (m * 8 + 1) 1) (congrArg (fun i => vp_updL a_state i 1) (ci 1 (by omega))) (br_f (by decide) (br_f (by decide) (br_t rfl ⟨vi 6 (by omega), nm_r (e' := vp_updL (vp_updL a_state (m * 8 + 1) 1) (m * 8 + 6) 1) (congrArg (fun i => vp_updL _ i 1) (ci 6 (by omega))) ?_⟩)))⟩
    refine H _ (fun j hj => by rw [pk_uLn (by omega), pk_uLn (by omega)]) (fun i hi => ?_)
    rcases (by omega : i = 0 ∨ i = 1 ∨ i = 2 ∨ i = 3) with rfl | rfl | rfl | rfl
    · exact ⟨by (repeat (first | rw [pk_uLn (by omega)] | rw [bx_uLe (by omega)])); rw [z _ (by omega) (by omega)]; rfl, by (repeat (first | rw [pk_uLn (by omega)] | rw [bx_uLe (by omega)])); rw [z _ (by omega) (by omega)]; rfl⟩
    · exact ⟨by (repeat (first | rw [pk_uLn (by omega)] | rw [bx_uLe (by omega)])); rfl, by (repeat (first | rw [pk_uLn (by omega)] | rw [bx_uLe (by omega)])); rw [z _ (by omega) (by omega)]; rfl⟩
    · exact ⟨by (repeat (first | rw [pk_uLn (by omega)] | rw [bx_uLe (by omega)])); rw [z _ (by omega) (by omega)]; rfl, by (repeat (first | rw [pk_uLn (by omega)] | rw [bx_uLe (by omega)])); rfl⟩
    · exact ⟨by (repeat (first | rw [pk_uLn (by omega)] | rw [bx_uLe (by omega)])); rw [z _ (by omega) (by omega)]; rfl, by (repeat (first | rw [pk_uLn (by omega)] | rw [bx_uLe (by omega)])); rw [z _ (by omega) (by omega)]; rfl⟩
end
section
variable {I J O a b kd : Nat} {op l r w : Nat → Nat}
theorem bh_ShJ (hS : bh_Sh I J O op l r w) (ha : a < J) (hb : b < J) (hk : kd ≤ 3) (hO : J - I < O) (hw : w a + w b ≤ 4) : bh_Sh I (J + 1) O (bh_up op J kd) (bh_up l J a) (bh_up r J b) (bh_up w J (w a + w b)) := by
  obtain ⟨s1, s2, s3, s4, s5, s6, s7, s8, s9⟩ := hS
  refine ⟨s1, s2, s3, s4, by omega, by omega, fun m hm => ?_, fun m hm => ?_, fun m hm1 hm => ?_⟩
  · by_cases e : m = J
    · subst e
      rw [bh_ups]
      have := s7 a ha
      omega
    · rw [bh_upn e]; exact s7 m (by omega)
  · rw [bh_upn (by omega), bh_upn (by omega)]
    exact s8 m hm
  · by_cases e : m = J
    · subst e
      rw [bh_ups, bh_ups, bh_ups, bh_ups, bh_upn (by omega), bh_upn (by omega)]
      exact ⟨hk, ha, hb, rfl⟩
    · obtain ⟨q1, q2, q3, q4⟩ := s9 m hm1 (by omega)
      rw [bh_upn e, bh_upn e, bh_upn e, bh_upn e, bh_upn (by omega), bh_upn (by omega)]
      exact ⟨q1, q2, q3, q4⟩
theorem bh_TbJ {ki or we : Nat → Int32} (hS : bh_Sh I J O op l r w) (hT : bh_Tb I J op l r w ki or we) : bh_Tb I (J + 1) (bh_up op J kd) (bh_up l J a) (bh_up r J b) (bh_up w J (w a + w b)) (upd ki J (nI kd)) (upd (upd or (J * 2) (nI a)) (J * 2 + 1) (nI b)) (upd we J (nI (w a + w b))) := by
  intro m hm
  by_cases e : m = J
  · subst e
    rw [bh_ups, bh_ups, bh_ups, bh_ups, pk_us, pk_us]
    exact ⟨rfl, rfl, fun _ => ⟨by rw [pk_un (by omega), pk_us], pk_us⟩⟩
  · obtain ⟨p1, p2, p3⟩ := hT m (by omega)
    rw [bh_upn e, bh_upn e, bh_upn e, bh_upn e, pk_un e, pk_un e]
    refine ⟨p1, p2, fun h => ?_⟩
    rw [pk_un (by omega), pk_un (by omega), pk_un (by omega), pk_un (by omega)]
    exact p3 h
end
theorem bx_XRJ {I J O C a b kd : Nat} {op l r w : Nat → Nat} {t t' : Nat → Nat → Int} {n s n' s' xn xs : Nat → Nat} {su kn fr ta te : Nat → Int32} {nu de st st' : Nat → Int64} {ul ur tm : Nat → Int} (hS : bh_Sh I J O op l r w) (hJ : J < 10)
    (hX : bx_XR I J op l r t n s xn xs C su kn fr ta te nu de st) (W : ∀ m, m < J → bh_WF t n s m (bh_bd (w m))) (same : ∀ m, m < J → n' m = n m ∧ s' m = s m) (tt : ∀ m, m < J → ∀ i, i < n m → t' m i = t m i) (cb : C < 2147483648)
    (f : ∀ j, (j < J * 8 ∨ J * 8 + 8 ≤ j) → st' j = st j) (hst : bx_St st' J kd ul 0 false ur 0 false tm 0) :
    bx_XR I (J + 1) (bh_up op J kd) (bh_up l J a) (bh_up r J b) t' n' s' (bh_up xn J 0) (bh_up xs J 0) C (upd su J 0) kn (upd fr J (-1)) ta te nu de st' := by
  obtain ⟨s1, s2, s3, s4, s5, s6, s7, s8, s9⟩ := hS
  obtain ⟨X1, X2, X3, X4⟩ := hX
  obtain ⟨z1, z2, z3, z4⟩ := X4 J (by omega) hJ
  refine ⟨fun m hm => ?_, fun m hm => ?_, fun m hm1 hm => ?_, fun m hm1 hm => ?_⟩
  · by_cases e : m = J
    · subst e
      rw [bh_ups, bh_ups, pk_us]
      exact ⟨z1, rfl, Nat.zero_le _, Or.inl rfl, fun i hi => absurd hi (by omega)⟩
    · obtain ⟨d1, d2, d3, d4, d5⟩ := X1 m (by omega)
      obtain ⟨e1, e2⟩ := same m (by omega)
      rw [bh_upn e, bh_upn e, pk_un e, e1, e2]
      exact ⟨d1, d2, d3, d4, bx_DaC d5 (fun i hi => tt m (by omega) i (by omega)) (fun i hi => ⟨rfl, rfl, rfl⟩)⟩
  · obtain ⟨e1, e2⟩ := same m (by omega)
    rw [bh_upn (by omega), bh_upn (by omega), e1, e2]
    exact X2 m hm
  · by_cases e : m = J
    · subst e
      rw [bh_ups, bh_ups, bh_ups, bh_ups, bh_ups, pk_us]
      have m1 : (-1 : Int32).toInt = -1 := by decide
      refine ⟨by omega, fun y => ?_, fun _ => ?_⟩
      · exfalso
        rw [y, nI_toInt cb] at m1
        omega
      · refine ⟨0, 0, false, false, z2, z3, Nat.zero_le _, Nat.zero_le _, (fun y => nomatch y), (fun y => nomatch y), ?_⟩
        rw [bh_ups]
        exact bx_StC hst (fun i hi => absurd hi (by omega)) (fun i hi => absurd hi (by omega)) (fun i hi => absurd hi (by omega))
    · obtain ⟨d1, d2, d3⟩ := X3 m hm1 (by omega)
      obtain ⟨e1, e2⟩ := same m (by omega)
      obtain ⟨q1, q2, q3, q4⟩ := s9 m hm1 (by omega)
      have u := bh_upn (f := xs) (v := 0) e
      have u' := bh_upn (f := xn) (v := 0) e
      rw [u, u', bh_upn e, bh_upn e, bh_upn e, pk_un e, e1, e2]
      refine ⟨d1, d2, fun y => ?_⟩
      obtain ⟨kl, kr, cl, cr, g1, g2, g3, g4, g5, g6, g7⟩ := d3 y
      have v1 := (X1 (l m) (by omega)).2.2.1
      have v2 := (X1 (r m) (by omega)).2.2.1
      have v3 := (X1 m (by omega)).2.2.1
      refine ⟨kl, kr, cl, cr, g1, g2, ?_, ?_, ?_, ?_, ?_⟩
      · rw [bh_upn (by omega)]; exact g3
      · rw [bh_upn (by omega)]; exact g4
      · rw [bh_upn (by omega), bh_upn (by omega)]; exact g5
      · rw [bh_upn (by omega), bh_upn (by omega)]; exact g6
      · rw [u']
        exact bx_StC (bx_StO g7 (fun j a b => f j (by omega))) (fun i hi => (tt (l m) (by omega) i (by omega)).symm) (fun i hi => (tt (r m) (by omega) i (by omega)).symm) (fun i hi => (tt m (by omega) i (by omega)).symm)
  · obtain ⟨c1, c2, c3, c4⟩ := X4 m (by omega) hm
    exact ⟨c1, c2, c3, fun i hi => by rw [f _ (by omega)]; exact c4 i hi⟩
theorem i_vc_join {k : Nat} {u : SX} {v : SY} (I : i_Rel k u v) (hk : k + 4 ≤ 2051) (v1 : Int32) (v2 : Int32) (v3 : Int32) : wpX_join (fun r u' => wpY_join (fun r' v' => r' = r ∧ i_Rel (k + 4) u' v') v v1 v2 v3) u v1 v2 v3 := by
  refine zz_el (P := fun u v => wpX_join (fun r u' => wpY_join (fun r' v' => r' = r ∧ i_Rel (k + 4) u' v') v v1 v2 v3) u v1 v2 v3) ?_ I
  intro I J O Hh C op l r w t n s xn xs ps f_last a_kinds a_weights a_statuses a_known a_positions a_freshAt a_operands a_taken a_terms a_numers a_denoms a_state a_work b_known b_counts b_states b_kinds b_operands b_weights b_tops b_bottoms F
  have R := i_up (zz_mk (f_last := f_last) (a_work := a_work) (b_tops := b_tops) (b_bottoms := b_bottoms) F)
  obtain ⟨F1, F2, F3, F4, F5, F6, F7, F8, F9, F10⟩ := F
  have F4' := F4
  obtain ⟨s1, s2, s3, s4, s5, s6, s7, s8, s9⟩ := F4'
  unfold wpX_join
  dsimp only
  by_cases a0 : v1 < 0
  · exact br_t a0 (br_t a0 ⟨rfl, R⟩)
  refine br_f a0 ?_
  by_cases a3 : 3 < v1
  · exact br_t a3 (br_f a0 (br_t a3 ⟨rfl, R⟩))
  refine br_f a3 ?_
  obtain ⟨kd, hkd, rfl⟩ := nI_of2 (n := 3) (M := 3) (by decide) a0 (Int32.not_lt.mp a3)
  rcases zz_ix v2 (J := J) (by omega) with h | ⟨a, ha, rfl⟩
  · exact bx_ex0 h (br_t rfl (br_f a0 (br_f a3 (by_ex0 s5 h (br_t rfl ⟨rfl, R⟩)))))
  refine bx_ex1 ha (by omega) (br_f (by decide) ?_)
  rcases zz_ix v3 (J := J) (by omega) with h | ⟨b, hb, rfl⟩
  · exact bx_ex0 h (br_t rfl (br_f a0 (br_f a3 (by_ex1 s5 ha (by omega) (br_f (by decide) (by_ex0 s5 h (br_t rfl ⟨rfl, R⟩)))))))
  refine bx_ex1 hb (by omega) (br_f (by decide) ?_)
  have Y1 : ∀ P : Prop, P → P := fun _ p => p
  have eS : nI J - nI I = nI (J - I) := pk_sub s5
  have eJ : nI I + nI (J - I) = nI J := by rw [nI_add]; exact congrArg nI (by omega)
  by_cases full : J - I < O
  · have full' : nI (J - I) < nI O := nI_lt full (by omega)
    have ia : vp_in (nI a) 10 := vp_in_nI (by omega) (by decide)
    have ib : vp_in (nI b) 10 := vp_in_nI (by omega) (by decide)
    have ca : (nI a).toNatClampNeg = a := nI_clamp (by omega)
    have cb : (nI b).toNatClampNeg = b := nI_clamp (by omega)
    have wa := s7 a ha
    have wb := s7 b hb
    have eX : a_weights (nI a).toNatClampNeg + a_weights (nI b).toNatClampNeg = nI (w a + w b) := by rw [ca, cb, (F5 a ha).2.1, (F5 b hb).2.1, nI_add]
    have eY : b_weights (nI a).toNatClampNeg + b_weights (nI b).toNatClampNeg = nI (w a + w b) := by rw [ca, cb, (F6 a ha).2.1, (F6 b hb).2.1, nI_add]
    refine br_t (by rw [eS]; exact full') ⟨ia, ib, nm_r eX ?_⟩
    by_cases heavy : w a + w b ≤ 4
    · have heavy' : nI (w a + w b) ≤ 4 := nI_le (b := 4) heavy (by decide)
      have iJ : vp_in (nI J) 10 := vp_in_nI (by omega) (by decide)
      have cJ : (nI J).toNatClampNeg = J := nI_clamp (by omega)
      have j1 : vp_in (nI J * 2) 20 := by rw [bx_m2]; exact vp_in_nI (by omega) (by decide)
      have j2 : vp_in (nI J * 2 + 1) 20 := by rw [bx_m21]; exact vp_in_nI (by omega) (by decide)
      have d1 : (nI J * 2).toNatClampNeg = J * 2 := by rw [bx_m2]; exact nI_clamp (by omega)
      have d2 : (nI J * 2 + 1).toNatClampNeg = J * 2 + 1 := by rw [bx_m21]; exact nI_clamp (by omega)
      obtain ⟨z1, z2, z3, z4⟩ := F9.2.2.2 J (by omega) (by omega)
      refine br_t heavy' (nm_r (nI_1 J) ⟨iJ, nm_r (e' := upd a_kinds J (nI kd)) (by rw [cJ]) ⟨iJ, nm_r (e' := upd a_weights J (nI (w a + w b))) (by rw [cJ]) ⟨iJ, nm_r (e' := upd a_statuses J 0) (by rw [cJ]) ⟨j1, nm_r (e' := upd a_operands (J * 2) (nI a)) (by rw [d1]) ⟨j2, nm_r (e' := upd (upd a_operands (J * 2) (nI a)) (J * 2 + 1) (nI b)) (by rw [d2]) ⟨iJ, nm_r (e' := upd a_freshAt J (-1)) (by rw [cJ]) ?_⟩⟩⟩⟩⟩⟩)
      refine bx_start (kd := kd) (ul := fun _ => 0) (ur := fun _ => 0) (tm := fun _ => 0) (by omega) hkd pk_us (fun j h1 h2 => ?_) (fun st' fr' hst => ?_)
      · have := z4 (j - J * 8) (by omega)
        rw [show J * 8 + (j - J * 8) = j by omega] at this
        exact this
      · dsimp only
        refine br_f a0 (br_f a3 (by_ex1 s5 ha (by omega) (br_f (by decide) (by_ex1 s5 hb (by omega) (br_f (by decide) (br_t full' ⟨ia, ib, br_t (by rw [eY]; exact heavy') (nm_r eJ ⟨iJ, nm_r (e' := upd b_kinds J (nI kd)) (by rw [cJ]) ⟨j1, nm_r (e' := upd b_operands (J * 2) (nI a)) (by rw [d1]) ⟨j2, nm_r (e' := upd (upd b_operands (J * 2) (nI a)) (J * 2 + 1) (nI b)) (by rw [d2]) ⟨ia, ib, iJ, nm_r (e' := upd b_weights J (nI (w a + w b))) (by rw [cJ, eY]) (nm_r (e' := nI (J + 1 - I)) (by rw [nI_1]; exact congrArg nI (by omega)) ?_)⟩⟩⟩⟩)⟩))))))
        have hS1 := bh_ShJ F4 ha hb hkd full heavy
        have n0m : ∀ m, m < J → bh_up n J 0 m = n m := fun m hm => bh_upn (by omega)
        have s0m : ∀ m, m < J → bh_up s J 0 m = s m := fun m hm => bh_upn (by omega)
        have wm : ∀ m, m < J → bh_up w J (w a + w b) m = w m := fun m hm => bh_upn (by omega)
        have w0 : ∀ m, m < J + 1 → bh_WF t (bh_up n J 0) (bh_up s J 0) m (bh_bd (bh_up w J (w a + w b) m)) := by
          intro m hm
          by_cases e : m = J
          · subst e
            have b1 := bh_bdB (bh_up w m (w a + w b) m)
            unfold bh_WF
            rw [bh_ups (f := n), bh_ups (f := s)]
            refine ⟨by omega, by omega, by omega, by omega, fun i _ hi => by omega, fun i hi => ?_, fun i hi => by omega⟩
            have e : i = 0 := by omega
            subst e
            rw [bh_hi0, bh_hi0]
            omega
          · rw [wm m (by omega)]
            exact bh_WFC rfl (n0m m (by omega)) (s0m m (by omega)) (F7.1 m (by omega))
        have r0 : ∀ m, I ≤ m → m < J + 1 → bh_Res t (bh_up n J 0) (bh_up s J 0) (bh_up op J kd m) (bh_up l J a m) (bh_up r J b m) m ∨ (bh_up n J 0 m = 0 ∧ bh_up s J 0 m = 0) := by
          intro m h1 hm
          by_cases e : m = J
          · subst e
            exact Or.inr ⟨bh_ups, bh_ups⟩
          · obtain ⟨q1, q2, q3, q4⟩ := s9 m h1 (by omega)
            rw [bh_upn (f := op) e, bh_upn (f := l) e, bh_upn (f := r) e]
            exact Or.inl (bh_ResC rfl (n0m _ (by omega)) (s0m _ (by omega)) rfl (n0m _ (by omega)) (s0m _ (by omega)) rfl (n0m _ (by omega)) (s0m _ (by omega)) (F7.2.2 m h1 (by omega)))
        refine by_refW (t0 := t) (n0 := bh_up n J 0) (s0 := bh_up s J 0) (tI := t) (nI' := bh_up n J 0) (sI := bh_up s J 0) hS1 (bh_TbJ F4 F6) w0 r0 (fun m hm => w0 m (by omega)) (fun m hm => bh_RefRefl (w0 m (by omega))) (fun m hm => ?_) (fun kn ct st tp bt t' n' s' i1 i2 i3 i4 i5 => ⟨rfl, ?_⟩)
        · rw [n0m m (by omega), s0m m (by omega)]
          exact F8 m (by omega)
        · have i3' : ∀ m, m < J → bh_Ref t t' n s n' s' m := by
            intro m hm
            have h := i3 m (by omega)
            unfold bh_Ref at *
            rw [n0m m hm, s0m m hm] at h
            exact h
          have same := bh_same F4 F7.1 (fun m hm => by have h := i2 m (by omega); rw [wm m hm] at h; exact h) F7.2.2 (fun m h1 hm => by
            have h := i4 m h1 (by omega)
            rw [bh_upn (f := op) (by omega), bh_upn (f := l) (by omega), bh_upn (f := r) (by omega)] at h
            exact h) (fun m hm => by
            have h := i1 m hm
            rw [n0m m (by omega), s0m m (by omega)] at h
            exact h.2) i3'
          refine zz_mk (t := t') (n := n') (s := s') (xn := bh_up xn J 0) (xs := bh_up xs J 0) ⟨by omega, F2, F3, hS1, bh_TbJ F4 F5, bh_TbJ F4 F6, ⟨i2, fun m hm => ?_, i4⟩, i5, bx_XRJ F4 (by omega) F9 F7.1 same (fun m hm i hi => (i3' m hm).2.1 i hi) (by omega) fr' hst, F10⟩
          rw [(same m (by omega)).2]
          exact F7.2.1 m hm
    · have heavy' : ¬ nI (w a + w b) ≤ 4 := nI_ge (b := w a + w b) (a := 4) (by omega) (by omega)
      exact br_f heavy' (br_f a0 (br_f a3 (by_ex1 s5 ha (by omega) (br_f (by decide) (by_ex1 s5 hb (by omega) (br_f (by decide) (br_t full' ⟨ia, ib, br_f (by rw [eY]; exact heavy') ⟨rfl, R⟩⟩)))))))
  · have full' : ¬ nI (J - I) < nI O := nI_nlt (by omega) (by omega)
    exact br_f (by rw [eS]; exact full') (br_f a0 (br_f a3 (by_ex1 s5 ha (by omega) (br_f (by decide) (by_ex1 s5 hb (by omega) (br_f (by decide) (br_f full' ⟨rfl, R⟩)))))))
end
section
/-! the constructors -/
def bx_clp (x lo hi : Int32) : Int32 := if lo ≤ x then (if x ≤ hi then x else hi) else lo
theorem bx_clpE (x : Int32) {lo hi : Nat} (h : lo ≤ hi) (hh : hi ≤ 100) : ∃ i : Nat, lo ≤ i ∧ i ≤ hi ∧ bx_clp x (nI lo) (nI hi) = nI i := by
  unfold bx_clp
  by_cases a : nI lo ≤ x
  · rw [if_pos a]
    by_cases b : x ≤ nI hi
    · rw [if_pos b]
      have a' := a
      rw [Int32.le_iff_toInt_le, nI_toInt (by omega)] at a'
      obtain ⟨i, hi', e⟩ := nI_of2 (n := hi) (M := nI hi) (nI_toInt (by omega)) (by rw [Int32.lt_iff_toInt_lt, show (0 : Int32).toInt = 0 from by decide]; omega) b
      subst e
      rw [nI_leI (by omega) (by omega)] at a
      exact ⟨i, a, hi', rfl⟩
    · rw [if_neg b]
      exact ⟨hi, h, Nat.le_refl _, rfl⟩
  · rw [if_neg a]
    exact ⟨lo, Nat.le_refl _, h, rfl⟩
section
variable {f_inputs f_operations f_height f_nodes f_last f_clock : Int32} {a_kinds a_weights a_statuses a_known a_positions a_freshAt a_operands a_taken a_terms a_work : Nat → Int32} {a_numers a_denoms a_state : Nat → Int64}
theorem bx_clamp {post : Int32 → Prop} {x lo hi : Int32} (h : post (bx_clp x lo hi)) : wpX_clamp post (f_inputs, f_operations, f_height, f_nodes, f_last, f_clock, a_kinds, a_weights, a_statuses, a_known, a_positions, a_freshAt, a_operands, a_taken, a_terms, a_numers, a_denoms, a_state, a_work) x lo hi := by
  unfold bx_clp at h
  by_cases a : lo ≤ x
  · rw [if_pos a] at h
    by_cases b : x ≤ hi
    · rw [if_pos b] at h
      exact br_t a (br_t b h)
    · rw [if_neg b] at h
      exact br_t a (br_f b h)
  · rw [if_neg a] at h
    exact br_f a h
theorem bx_init_s {post : SX → Prop} (H : ∀ ki we : Nat → Int32, (∀ j, j < 4 → ki j = 4 ∧ we j = 1) → post (f_inputs, f_operations, f_height, f_nodes, f_last, f_clock, ki, we, a_statuses, a_known, a_positions, a_freshAt, a_operands, a_taken, a_terms, a_numers, a_denoms, a_state, a_work)) :
    ∀ (d i : Nat) (a_kinds a_weights : Nat → Int32), i + d = 4 → (∀ j, j < i → a_kinds j = 4 ∧ a_weights j = 1) → wX_init_157 post f_inputs f_operations f_height f_nodes f_last f_clock (d + 1) (nI i) a_kinds a_weights a_statuses a_known a_positions a_freshAt a_operands a_taken a_terms a_numers a_denoms a_state a_work := by
  intro d
  induction d with
  | zero =>
    intro i a_kinds a_weights hi hf
    have e : i = 4 := by omega
    subst e
    exact br_t (by decide) (H a_kinds a_weights hf)
  | succ d ih =>
    intro i a_kinds a_weights hi hf
    have v : vp_in (nI i) 10 := vp_in_nI (by omega) (by decide)
    have c : (nI i).toNatClampNeg = i := nI_clamp (by omega)
    refine br_f (nI_ge (b := 4) (by omega) (by decide)) ⟨v, nm_r (e' := upd a_kinds i 4) (by rw [c]) ⟨v, nm_r (e' := upd a_weights i 1) (by rw [c]) (nm_r (nI_1 i) (ih (i + 1) _ _ (by omega) (fun j hj => ?_)))⟩⟩
    by_cases e : j = i
    · subst e
      exact ⟨pk_us, pk_us⟩
    · rw [pk_un e, pk_un e]
      exact hf j (by omega)
end
section
variable {f_inputCount f_operationLimit f_heightLimit f_joined f_last : Int32} {a_counts a_states a_kinds a_operands a_weights a_positions : Nat → Int32} {a_known a_tops a_bottoms : Nat → Int64}
theorem by_init_s {post : SY → Prop} (H : ∀ ki we : Nat → Int32, (∀ j, j < 10 → ki j = 4 ∧ we j = 1) → post (f_inputCount, f_operationLimit, f_heightLimit, f_joined, f_last, a_known, a_counts, a_states, ki, a_operands, we, a_positions, a_tops, a_bottoms)) :
    ∀ (d i : Nat) (a_kinds a_weights : Nat → Int32), i + d = 10 → (∀ j, j < i → a_kinds j = 4 ∧ a_weights j = 1) → wY_init_151 post f_inputCount f_operationLimit f_heightLimit f_joined f_last (d + 1) (nI i) a_known a_counts a_states a_kinds a_operands a_weights a_positions a_tops a_bottoms := by
  intro d
  induction d with
  | zero =>
    intro i a_kinds a_weights hi hf
    have e : i = 10 := by omega
    subst e
    exact br_t (by decide) (H a_kinds a_weights hf)
  | succ d ih =>
    intro i a_kinds a_weights hi hf
    have v : vp_in (nI i) 10 := vp_in_nI (by omega) (by decide)
    have c : (nI i).toNatClampNeg = i := nI_clamp (by omega)
    refine br_f (nI_ge (b := 10) (by omega) (by decide)) ⟨v, nm_r (e' := upd a_kinds i 4) (by rw [c]) ⟨v, nm_r (e' := upd a_weights i 1) (by rw [c]) (nm_r (nI_1 i) (ih (i + 1) _ _ (by omega) (fun j hj => ?_)))⟩⟩
    by_cases e : j = i
    · subst e
      exact ⟨pk_us, pk_us⟩
    · rw [pk_un e, pk_un e]
      exact hf j (by omega)
theorem by_120 {post : SY → Prop} {x z : Int32} (h : ∃ N, wY_init_151 post f_inputCount z (bx_clp x 2 100) f_joined f_last N 0 a_known a_counts a_states a_kinds a_operands a_weights a_positions a_tops a_bottoms) : wY_init_120 post x z f_inputCount f_operationLimit f_heightLimit f_joined f_last a_known a_counts a_states a_kinds a_operands a_weights a_positions a_tops a_bottoms := by
  unfold bx_clp at h
  by_cases a : 2 ≤ x
  · rw [if_pos a] at h
    by_cases b : x ≤ 100
    · rw [if_pos b] at h
      exact br_t a (br_t b h)
    · rw [if_neg b] at h
      exact br_t a (br_f b h)
  · rw [if_neg a] at h
    exact br_f a h
theorem by_95 {post : SY → Prop} {x y z : Int32} (h : wY_init_120 post y (bx_clp x 1 6) z f_operationLimit f_heightLimit f_joined f_last a_known a_counts a_states a_kinds a_operands a_weights a_positions a_tops a_bottoms) : wY_init_95 post x y z f_inputCount f_operationLimit f_heightLimit f_joined f_last a_known a_counts a_states a_kinds a_operands a_weights a_positions a_tops a_bottoms := by
  unfold bx_clp at h
  by_cases a : 1 ≤ x
  · rw [if_pos a] at h
    by_cases b : x ≤ 6
    · rw [if_pos b] at h
      exact br_t a (br_t b h)
    · rw [if_neg b] at h
      exact br_t a (br_f b h)
  · rw [if_neg a] at h
    exact br_f a h
end
theorem by_init {post : SY → Prop} {x y z : Int32} (h : wY_init_95 post y z (bx_clp x 1 4) 0 0 0 0 0 (fun _ => 0) (fun _ => 0) (fun _ => 0) (fun _ => 0) (fun _ => 0) (fun _ => 0) (fun _ => 0) (fun _ => 0) (fun _ => 0)) : wpY_init post x y z := by
  unfold bx_clp at h
  by_cases a : 1 ≤ x
  · rw [if_pos a] at h
    by_cases b : x ≤ 4
    · rw [if_pos b] at h
      exact br_t a (br_t b h)
    · rw [if_neg b] at h
      exact br_t a (br_f b h)
  · rw [if_neg a] at h
    exact br_f a h
theorem bx_F0 {I O Hh : Nat} {op l r w n : Nat → Nat} {t : Nat → Nat → Int} {zI ki we ki' we' : Nat → Int32} {zL : Nat → Int64} (hI1 : 1 ≤ I) (hI2 : I ≤ 4) (hO1 : 1 ≤ O) (hO2 : O ≤ 6) (hH1 : 2 ≤ Hh) (hH2 : Hh ≤ 100) (h4 : ∀ m, op m = 4) (h1 : ∀ m, w m = 1) (h0 : ∀ m, n m = 0) (hz : ∀ m, zI m = 0) (hl : ∀ m, zL m = 0)
    (hX : ∀ j, j < 4 → ki j = 4 ∧ we j = 1) (hY : ∀ j, j < 10 → ki' j = 4 ∧ we' j = 1) : bx_F 3 I I O Hh 0 op l r w t n n n n n ki we zI zI zI zI zI zI zI zL zL zL zL zI zI ki' zI we' := by
  have e0 : ∀ m, zI m = nI (n m) := fun m => by rw [hz, h0]; rfl
  have WF : ∀ m b, 1 ≤ b → bh_WF t n n m b := by
    intro m b hb
    have e := h0 m
    refine ⟨by omega, by omega, fun y => by omega, fun y => by omega, fun i _ hi => by omega, fun j hj => ?_, fun i hi => by omega⟩
    have ej : j = 0 := by omega
    subst ej
    rw [bh_hi0, bh_hi0]
    omega
  refine ⟨by omega, hH1, hH2, ⟨hI1, hI2, hO1, hO2, Nat.le_refl _, by omega, fun m _ => ?_, fun m _ => ⟨h4 m, h1 m⟩, fun m y1 y2 => absurd y2 (by omega)⟩, fun m hm => ?_, fun m hm => ?_, ⟨fun m hm => WF m _ (bh_bdB _).1, fun m hm => ?_, fun m y1 y2 => absurd y2 (by omega)⟩, fun m hm => ⟨e0 m, e0 m, fun i hi => ?_⟩, ⟨fun m hm => ⟨e0 m, e0 m, Nat.le_refl _, Or.inl (h0 m), fun i hi => ?_⟩, fun m hm => ⟨rfl, rfl⟩, fun m y1 y2 => absurd y2 (by omega), fun m y1 y2 => ⟨hz m, hz _, hz _, fun i hi => hl _⟩⟩, fun m hm => ⟨e0 m, ?_⟩⟩
  · rw [h1 m]; omega
  · rw [h4 m, h1 m]
    exact ⟨(hX m (by omega)).1, (hX m (by omega)).2, fun y => absurd y (by omega)⟩
  · rw [h4 m, h1 m]
    exact ⟨(hY m (by omega)).1, (hY m (by omega)).2, fun y => absurd y (by omega)⟩
  · have := h0 m
    omega
  · have := h0 m
    omega
  · have := h0 m
    omega
  · have := h0 m
    omega
theorem i_vc0 (k0 : Int32) (k1 : Int32) (k2 : Int32) : wpX_init (fun u => wpY_init (fun v => i_Rel 3 u v) k0 k1 k2) k0 k1 k2 := by
  obtain ⟨I, hI1, hI2, eI⟩ := bx_clpE k0 (lo := 1) (hi := 4) (by omega) (by omega)
  obtain ⟨O, hO1, hO2, eO⟩ := bx_clpE k1 (lo := 1) (hi := 6) (by omega) (by omega)
  obtain ⟨Hh, hH1, hH2, eH⟩ := bx_clpE k2 (lo := 2) (hi := 100) (by omega) (by omega)
  have eI' : bx_clp k0 1 4 = nI I := eI
  have eO' : bx_clp k1 1 6 = nI O := eO
  have eH' : bx_clp k2 2 100 = nI Hh := eH
  unfold wpX_init
  refine bx_clamp ?_
  rw [eI']
  refine bx_clamp ?_
  rw [eO']
  refine bx_clamp ?_
  rw [eH']
  refine Exists.intro 5 (bx_init_s (fun ki we hX => ?_) 4 0 _ _ (by omega) (fun j hj => absurd hj (by omega)))
  refine by_init (by_95 (by_120 ?_))
  rw [eI', eO', eH']
  refine Exists.intro 11 (by_init_s (fun ki' we' hY => ?_) 10 0 _ _ (by omega) (fun j hj => absurd hj (by omega)))
  have F := bx_F0 (op := fun _ => 4) (l := fun _ => 0) (r := fun _ => 0) (w := fun _ => 1) (t := fun _ _ => 0) (n := fun _ => 0) hI1 hI2 hO1 hO2 hH1 hH2 (fun _ => rfl) (fun _ => rfl) (fun _ => rfl) (zI := fun _ => 0) (zL := fun _ => 0) (fun _ => rfl) (fun _ => rfl) hX hY
  have R := zz_mk (f_last := 0) (a_work := fun _ => 0) (b_tops := fun _ => 0) (b_bottoms := fun _ => 0) F
  rw [Nat.sub_self] at R
  exact R
end
