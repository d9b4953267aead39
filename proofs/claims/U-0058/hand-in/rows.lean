section
/-! rows of kit/rows (starting text): PURE-ROWS and BITS, a choice -/
theorem pk_us {f : Nat → Int32} {k : Nat} {x : Int32} : upd f k x k = x := if_pos rfl
theorem pk_un {f : Nat → Int32} {k j : Nat} {x : Int32} (h : j ≠ k) : upd f k x j = f j := if_neg h
theorem pk_sub {a b : Nat} (h : b ≤ a) : nI a - nI b = nI (a - b) := by
  obtain ⟨c, rfl⟩ : ∃ c, a = c + b := ⟨a - b, by omega⟩
  rw [← nI_add, Int32.add_sub_cancel, Nat.add_sub_cancel]
theorem pk_m1 (n : Nat) : nI (n + 1) + (-1) = nI n := by
  rw [← nI_1, Int32.add_assoc, show (1 : Int32) + (-1) = 0 from rfl, Int32.add_zero]
theorem pk_mul (a b : Nat) : nI a * nI b = nI (a * b) := (Int32.ofNat_mul a b).symm
theorem pk_sub_toInt {a b : Nat} (ha : a < 2 ^ 30) (hb : b < 2 ^ 30) : (nI a - nI b).toInt = (a : Int) - b := by
  rw [Int32.toInt_sub, nI_toInt (by omega), nI_toInt (by omega)]
  exact Int.bmod_eq_of_le (by omega) (by omega)
theorem pk_sneg {a b : Nat} (hb : b < 2 ^ 30) (h : a < b) : nI a - nI b < 0 := by
  rw [Int32.lt_iff_toInt_lt, pk_sub_toInt (by omega) hb, show (0 : Int32).toInt = 0 from by decide]
  omega
theorem pk_ix (x : Int32) {n : Nat} (hn : n < 2 ^ 31) : x < 0 ∨ nI n ≤ x ∨ ∃ j : Nat, j < n ∧ x = nI j := by
  by_cases h : x < 0
  · exact Or.inl h
  · obtain ⟨j, hj, rfl⟩ := nI_of h
    by_cases h2 : j < n
    · exact Or.inr (Or.inr ⟨j, h2, rfl⟩)
    · exact Or.inr (Or.inl (nI_le (by omega) hj))
theorem pk_le {x y : Int32} {A B : Prop} (a b : Nat) (f : a ≤ b → A) (g : b < a → B) (hx : x = nI a := by rfl) (hy : y = nI b := by rfl) (ha : a < 2 ^ 31 := by omega) (hb : b < 2 ^ 31 := by omega) : (x ≤ y → A) ∧ (¬ x ≤ y → B) := by
  subst hx hy
  rw [nI_leI ha hb]
  exact ⟨f, fun z => g (by omega)⟩
theorem pk_lt {x y : Int32} {A B : Prop} (a b : Nat) (f : a < b → A) (g : b ≤ a → B) (hx : x = nI a := by rfl) (hy : y = nI b := by rfl) (ha : a < 2 ^ 31 := by omega) (hb : b < 2 ^ 31 := by omega) : (x < y → A) ∧ (¬ x < y → B) := by
  subst hx hy
  rw [nI_ltI ha hb]
  exact ⟨f, fun z => g (by omega)⟩
theorem pk_eq {x y : Int32} {A B : Prop} (a b : Nat) (f : a = b → A) (g : a ≠ b → B) (hx : x = nI a := by rfl) (hy : y = nI b := by rfl) (ha : a < 2 ^ 31 := by omega) (hb : b < 2 ^ 31 := by omega) : (x = y → A) ∧ (¬ x = y → B) := by
  subst hx hy
  rw [nI_eq ha hb]
  exact ⟨f, g⟩
theorem pk_in {x : Int32} (n N : Nat) (h : n < N) (hx : x = nI n := by rfl) (hN : N < 2 ^ 31 := by omega) : vp_in x N := by
  subst hx
  exact vp_in_nI h hN
theorem pk_cl {x : Int32} (n : Nat) (hx : x = nI n := by rfl) (h : n < 2 ^ 31 := by omega) : x.toNatClampNeg = n := by
  subst hx
  exact nI_clamp h
theorem pk_tn {n : Nat} (h : n < 2 ^ 32) : (nI n).toBitVec.toNat = n := Nat.mod_eq_of_lt h
theorem pk_and (x : Int32) {m : Int32} (k : Nat) (hm : m.toBitVec.toNat = 2 ^ k - 1) : x &&& m = nI (x.toBitVec.toNat % 2 ^ k) := by
  apply Int32.toBitVec_inj.mp
  apply BitVec.eq_of_toNat_eq
  rw [Int32.toBitVec_and, BitVec.toNat_and, hm, Nat.and_two_pow_sub_one_eq_mod]
  show _ = (BitVec.ofNat 32 _).toNat
  rw [BitVec.toNat_ofNat]
  exact (Nat.mod_eq_of_lt (Nat.lt_of_le_of_lt (Nat.mod_le _ _) x.toBitVec.isLt)).symm
theorem pk_andN {n : Nat} (h : n < 2 ^ 32) {m : Int32} (k : Nat) (hm : m.toBitVec.toNat = 2 ^ k - 1) : nI n &&& m = nI (n % 2 ^ k) := by
  rw [pk_and _ k hm, pk_tn h]
theorem pk_andE (x : Int32) {m : Int32} (k : Nat) (hm : m.toBitVec.toNat = 2 ^ k - 1) : ∃ j : Nat, j < 2 ^ k ∧ x &&& m = nI j := ⟨_, Nat.mod_lt _ (Nat.two_pow_pos k), pk_and x k hm⟩
theorem pk_andIn (x : Int32) {m : Int32} (k : Nat) (hm : m.toBitVec.toNat = 2 ^ k - 1) (hk : k ≤ 30) : vp_in (x &&& m) (2 ^ k) := by
  obtain ⟨j, hj, e⟩ := pk_andE x k hm
  rw [e]
  exact vp_in_nI hj (Nat.lt_of_le_of_lt (Nat.pow_le_pow_right (by decide) hk) (by decide))
theorem pk_shl (a s : Int32) (k : Nat) (hs : (s.toBitVec.smod 32).toNat = k) : (a <<< s).toBitVec.toNat = a.toBitVec.toNat * 2 ^ k % 2 ^ 32 := by
  show (a.toBitVec <<< (s.toBitVec.smod 32).toNat).toNat = _
  rw [hs, BitVec.toNat_shiftLeft, Nat.shiftLeft_eq]
theorem pk_shlN {n : Nat} (s : Int32) (k : Nat) (hs : (s.toBitVec.smod 32).toNat = k) (h : n * 2 ^ k < 2 ^ 32) : nI n <<< s = nI (n * 2 ^ k) := by
  apply Int32.toBitVec_inj.mp
  apply BitVec.eq_of_toNat_eq
  have hn : n < 2 ^ 32 := Nat.lt_of_le_of_lt (Nat.le_mul_of_pos_right n (Nat.two_pow_pos k)) h
  rw [pk_shl _ _ k hs, pk_tn hn, pk_tn h, Nat.mod_eq_of_lt h]
theorem pk_shr (a s : Int32) (k : Nat) (hs : (s.toBitVec.smod 32).toNat = k) : (a >>> s).toInt = a.toInt >>> k := by
  show (a.toBitVec.sshiftRight (s.toBitVec.smod 32).toNat).toInt = _
  rw [hs, BitVec.toInt_sshiftRight]
  rfl
theorem pk_shrN {n : Nat} (h : n < 2 ^ 31) (s : Int32) (k : Nat) (hs : (s.toBitVec.smod 32).toNat = k) : nI n >>> s = nI (n / 2 ^ k) := by
  apply Int32.toInt_inj.mp
  have h2 : n / 2 ^ k ≤ n := Nat.div_le_self _ _
  rw [pk_shr _ _ k hs, nI_toInt h, nI_toInt (by omega), Int.shiftRight_eq_div_pow]
  rfl
theorem pk_ushr (x s : Int32) (k : Nat) (hs : ((s.toUInt32 &&& Int32.toUInt32 31).toBitVec % 32).toNat = k) : (x.toUInt32 >>> (s.toUInt32 &&& Int32.toUInt32 31)).toInt32.toBitVec.toNat = x.toBitVec.toNat / 2 ^ k := by
  have e : (x.toUInt32 >>> (s.toUInt32 &&& Int32.toUInt32 31)).toInt32.toBitVec = x.toBitVec >>> k := by
    rw [← hs]
    exact UInt32.toBitVec_shiftRight _ _
  rw [e, BitVec.toNat_ushiftRight, Nat.shiftRight_eq_div_pow]
theorem pk_ushrN {n : Nat} (hn : n < 2 ^ 32) (s : Int32) (k : Nat) (hs : ((s.toUInt32 &&& Int32.toUInt32 31).toBitVec % 32).toNat = k) : ((nI n).toUInt32 >>> (s.toUInt32 &&& Int32.toUInt32 31)).toInt32 = nI (n / 2 ^ k) := by
  apply Int32.toBitVec_inj.mp
  apply BitVec.eq_of_toNat_eq
  rw [pk_ushr _ s k hs, pk_tn hn, pk_tn (Nat.lt_of_le_of_lt (Nat.div_le_self _ _) hn)]
def bt (x : Int32) (i : Nat) : Bool := x.toBitVec.getLsbD i
theorem b_ext {x y : Int32} (h : ∀ i, i < 32 → bt x i = bt y i) : x = y := Int32.toBitVec_inj.mp (BitVec.eq_of_getLsbD_eq (fun i hi => h i hi))
theorem b_or (x y : Int32) (i : Nat) : bt (x ||| y) i = (bt x i || bt y i) := by unfold bt; rw [Int32.toBitVec_or, BitVec.getLsbD_or]
theorem b_and (x y : Int32) (i : Nat) : bt (x &&& y) i = (bt x i && bt y i) := by unfold bt; rw [Int32.toBitVec_and, BitVec.getLsbD_and]
theorem b_xor (x y : Int32) (i : Nat) : bt (x ^^^ y) i = (bt x i ^^ bt y i) := by unfold bt; rw [Int32.toBitVec_xor, BitVec.getLsbD_xor]
theorem b_big {x : Int32} {i : Nat} (h : 32 ≤ i) : bt x i = false := BitVec.getLsbD_of_ge _ _ h
theorem b_0 (i : Nat) : bt 0 i = false := BitVec.getLsbD_zero
theorem s_l : ∀ n, n < 32 → ((nI n &&& 31).toBitVec.smod 32).toNat = n := by decide +kernel
theorem s_u : ∀ n, n < 32 → (((nI n).toUInt32 &&& Int32.toUInt32 31).toBitVec % 32).toNat = n := by decide +kernel
theorem b_shl (n : Nat) (hn : n < 32) (x : Int32) {i : Nat} (hi : i < 32) : bt (x <<< (nI n &&& 31)) i = (decide (n ≤ i) && bt x (i - n)) := by
  unfold bt
  rw [Int32.toBitVec_shiftLeft]
  show (x.toBitVec <<< ((nI n &&& 31).toBitVec.smod 32).toNat).getLsbD i = _
  rw [s_l n hn, BitVec.getLsbD_shiftLeft]
  rcases Nat.lt_or_ge i n with h | h
  · simp [h, Nat.not_le.mpr h]
  · simp [hi, h, Nat.not_lt.mpr h]
theorem b_ushr (n : Nat) (hn : n < 32) (x : Int32) (i : Nat) : bt ((x.toUInt32 >>> ((nI n).toUInt32 &&& Int32.toUInt32 31)).toInt32) i = bt x (n + i) := by
  show (x.toUInt32 >>> ((nI n).toUInt32 &&& Int32.toUInt32 31)).toBitVec.getLsbD i = x.toUInt32.toBitVec.getLsbD (n + i)
  rw [UInt32.toBitVec_shiftRight]
  show (x.toUInt32.toBitVec >>> (((nI n).toUInt32 &&& Int32.toUInt32 31).toBitVec % 32).toNat).getLsbD i = _
  rw [s_u n hn, BitVec.getLsbD_ushiftRight]
theorem b_sshr (n : Nat) (hn : n < 32) (x : Int32) {i : Nat} (hi : i < 32) : bt (x >>> (nI n &&& 31)) i = if n + i < 32 then bt x (n + i) else bt x 31 := by
  unfold bt
  rw [Int32.toBitVec_shiftRight]
  show (x.toBitVec.sshiftRight ((nI n &&& 31).toBitVec.smod 32).toNat).getLsbD i = _
  rw [s_l n hn, BitVec.getLsbD_sshiftRight, BitVec.msb_eq_getLsbD_last]
  simp [hi]
theorem nx_and (a b : Nat) : nI a &&& nI b = nI (a &&& b) := by
  apply Int32.toBitVec_inj.1
  show BitVec.ofNat 32 a &&& BitVec.ofNat 32 b = BitVec.ofNat 32 (a &&& b)
  apply BitVec.eq_of_getLsbD_eq
  intro i hi
  simp [hi]
theorem nx_xor (a b : Nat) : nI a ^^^ nI b = nI (a ^^^ b) := by
  apply Int32.toBitVec_inj.1
  show BitVec.ofNat 32 a ^^^ BitVec.ofNat 32 b = BitVec.ofNat 32 (a ^^^ b)
  apply BitVec.eq_of_getLsbD_eq
  intro i hi
  simp [hi]
end
section
/-! ===== sums and polynomials over a commutative ring of characteristic 2 ===== -/
theorem ra_self {R : Type} [Lean.Grind.CommRing R] [Lean.Grind.IsCharP R 2] (a : R) : a + a = 0 := by grind
theorem ra_eq {R : Type} [Lean.Grind.CommRing R] [Lean.Grind.IsCharP R 2] {a b : R} (h : a + b = 0) : a = b := by grind
theorem ra_ne {R : Type} [Lean.Grind.CommRing R] [Lean.Grind.IsCharP R 2] {a b : R} (h : a ≠ b) : a + b ≠ 0 := fun z => h (ra_eq z)
theorem ra_0 {R : Type} [Lean.Grind.CommRing R] (a : R) : a + 0 = a := Lean.Grind.Semiring.add_zero a
theorem ra_z {R : Type} [Lean.Grind.CommRing R] (a : R) : 0 + a = a := by grind
theorem ra_m0 {R : Type} [Lean.Grind.CommRing R] (a : R) : a * 0 = 0 := Lean.Grind.Semiring.mul_zero a
theorem ra_0m {R : Type} [Lean.Grind.CommRing R] (a : R) : 0 * a = 0 := Lean.Grind.Semiring.zero_mul a
theorem ra_m1 {R : Type} [Lean.Grind.CommRing R] (a : R) : a * 1 = a := Lean.Grind.Semiring.mul_one a
theorem ra_p0 {R : Type} [Lean.Grind.CommRing R] (a : R) : a ^ 0 = 1 := Lean.Grind.Semiring.pow_zero a
theorem ra_pS {R : Type} [Lean.Grind.CommRing R] (a : R) (n : Nat) : a ^ (n + 1) = a ^ n * a := Lean.Grind.Semiring.pow_succ a n
theorem ra_pA {R : Type} [Lean.Grind.CommRing R] (a : R) (m n : Nat) : a ^ (m + n) = a ^ m * a ^ n := Lean.Grind.Semiring.pow_add a m n
theorem ra_p1 {R : Type} [Lean.Grind.CommRing R] (a : R) : a ^ 1 = a := Lean.Grind.Semiring.pow_one a
theorem ra_p00 {R : Type} [Lean.Grind.CommRing R] (n : Nat) : (0 : R) ^ (n + 1) = 0 := by rw [ra_pS, ra_m0]
def ra_sm {R : Type} [Lean.Grind.CommRing R] : Nat → (Nat → R) → R
  | 0, _ => 0
  | n + 1, f => ra_sm n f + f n
theorem ra_sm0 {R : Type} [Lean.Grind.CommRing R] (f : Nat → R) : ra_sm 0 f = 0 := rfl
theorem ra_smS {R : Type} [Lean.Grind.CommRing R] (n : Nat) (f : Nat → R) : ra_sm (n + 1) f = ra_sm n f + f n := rfl
theorem ra_cong {R : Type} [Lean.Grind.CommRing R] {n : Nat} {f g : Nat → R} (h : ∀ i, i < n → f i = g i) : ra_sm n f = ra_sm n g := by
  induction n with
  | zero => rfl
  | succ n ih => rw [ra_smS, ra_smS, ih (fun i hi => h i (by omega)), h n (by omega)]
theorem ra_zero {R : Type} [Lean.Grind.CommRing R] {n : Nat} {f : Nat → R} (h : ∀ i, i < n → f i = 0) : ra_sm n f = 0 := by
  induction n with
  | zero => rfl
  | succ n ih => rw [ra_smS, ih (fun i hi => h i (by omega)), h n (by omega), ra_0]
theorem ra_add {R : Type} [Lean.Grind.CommRing R] (n : Nat) (f g : Nat → R) : ra_sm n (fun i => f i + g i) = ra_sm n f + ra_sm n g := by
  induction n with
  | zero => exact (ra_0 0).symm
  | succ n ih => rw [ra_smS, ra_smS, ra_smS, ih]; grind
theorem ra_mul {R : Type} [Lean.Grind.CommRing R] (n : Nat) (c : R) (f : Nat → R) : ra_sm n (fun i => c * f i) = c * ra_sm n f := by
  induction n with
  | zero => exact (ra_m0 c).symm
  | succ n ih => rw [ra_smS, ra_smS, ih]; grind
theorem ra_first {R : Type} [Lean.Grind.CommRing R] (n : Nat) (f : Nat → R) : ra_sm (n + 1) f = f 0 + ra_sm n (fun i => f (i + 1)) := by
  induction n with
  | zero => rw [ra_smS, ra_sm0, ra_sm0]; grind
  | succ n ih => rw [ra_smS, ih, ra_smS]; grind
theorem ra_ext {R : Type} [Lean.Grind.CommRing R] (n k : Nat) (f : Nat → R) (h : ∀ i, n ≤ i → i < n + k → f i = 0) : ra_sm (n + k) f = ra_sm n f := by
  induction k with
  | zero => rfl
  | succ k ih =>
    rw [← Nat.add_assoc, ra_smS, ih (fun i h1 h2 => h i h1 (by omega)), h (n + k) (by omega) (by omega), ra_0]
theorem ra_ext2 {R : Type} [Lean.Grind.CommRing R] {n N : Nat} (hN : n ≤ N) (f : Nat → R) (h : ∀ i, n ≤ i → i < N → f i = 0) : ra_sm N f = ra_sm n f := by
  obtain ⟨k, rfl⟩ : ∃ k, N = n + k := ⟨N - n, by omega⟩
  exact ra_ext n k f h
theorem ra_shift {R : Type} [Lean.Grind.CommRing R] (s n : Nat) (g : Nat → R) : ra_sm (s + n) (fun j => if s ≤ j then g (j - s) else 0) = ra_sm n g := by
  induction n with
  | zero => exact ra_zero (fun i hi => if_neg (by omega))
  | succ n ih =>
    rw [← Nat.add_assoc, ra_smS, ih, ra_smS, if_pos (Nat.le_add_right s n), Nat.add_sub_cancel_left]
theorem ra_rev {R : Type} [Lean.Grind.CommRing R] (n : Nat) (f : Nat → R) : ra_sm (n + 1) (fun i => f (n - i)) = ra_sm (n + 1) f := by
  induction n generalizing f with
  | zero => rfl
  | succ n ih =>
    rw [ra_first, ra_smS (n + 1) f, ← ih f, Lean.Grind.Semiring.add_comm]
    refine congrArg (fun z => z + f (n + 1)) (ra_cong (fun i _ => ?_))
    exact congrArg f (by omega)
theorem ra_one {R : Type} [Lean.Grind.CommRing R] {n k : Nat} (hk : k < n) (f : Nat → R) (h : ∀ i, i < n → i ≠ k → f i = 0) : ra_sm n f = f k := by
  induction n with
  | zero => omega
  | succ n ih =>
    rw [ra_smS]
    by_cases e : k = n
    · subst e
      rw [ra_zero (fun i hi => h i (by omega) (by omega)), ra_z]
    · rw [ih (by omega) (fun i hi hn => h i (by omega) hn), h n (by omega) (fun z => e z.symm), ra_0]
/-! polynomials: coefficients P i, i < n -/
def ra_ev {R : Type} [Lean.Grind.CommRing R] (n : Nat) (P : Nat → R) (x : R) : R := ra_sm n (fun i => P i * x ^ i)
theorem ra_evS {R : Type} [Lean.Grind.CommRing R] (n : Nat) (P : Nat → R) (x : R) : ra_ev (n + 1) P x = ra_ev n P x + P n * x ^ n := rfl
theorem ra_ev0 {R : Type} [Lean.Grind.CommRing R] (P : Nat → R) (x : R) : ra_ev 0 P x = 0 := rfl
theorem ra_evF {R : Type} [Lean.Grind.CommRing R] (n : Nat) (P : Nat → R) (x : R) : ra_ev (n + 1) P x = P 0 + x * ra_ev n (fun i => P (i + 1)) x := by
  unfold ra_ev
  rw [ra_first, ← ra_mul, ra_p0, ra_m1]
  refine congrArg (fun z => P 0 + z) (ra_cong (fun i _ => ?_))
  rw [ra_pS]; grind
theorem ra_evC {R : Type} [Lean.Grind.CommRing R] {n : Nat} {P Q : Nat → R} (x : R) (h : ∀ i, i < n → P i = Q i) : ra_ev n P x = ra_ev n Q x :=
  ra_cong (fun i hi => by rw [h i hi])
theorem ra_evZ {R : Type} [Lean.Grind.CommRing R] {n : Nat} {P : Nat → R} (x : R) (h : ∀ i, i < n → P i = 0) : ra_ev n P x = 0 :=
  ra_zero (fun i hi => by rw [h i hi, ra_0m])
theorem ra_evX {R : Type} [Lean.Grind.CommRing R] {n N : Nat} (hN : n ≤ N) (P : Nat → R) (x : R) (h : ∀ i, n ≤ i → i < N → P i = 0) : ra_ev N P x = ra_ev n P x :=
  ra_ext2 hN _ (fun i h1 h2 => by rw [h i h1 h2, ra_0m])
theorem ra_evA {R : Type} [Lean.Grind.CommRing R] (n : Nat) (P Q : Nat → R) (x : R) : ra_ev n (fun i => P i + Q i) x = ra_ev n P x + ra_ev n Q x := by
  unfold ra_ev
  rw [← ra_add]
  exact ra_cong (fun i _ => by grind)
/-- one entry changed -/
def ra_ur {R : Type} (A : Nat → R) (k : Nat) (x : R) : Nat → R := fun j => if j = k then x else A j
theorem ra_urs {R : Type} {A : Nat → R} {k : Nat} {x : R} : ra_ur A k x k = x := if_pos rfl
theorem ra_urn {R : Type} {A : Nat → R} {k j : Nat} {x : R} (h : j ≠ k) : ra_ur A k x j = A j := if_neg h
theorem ra_evU {R : Type} [Lean.Grind.CommRing R] {n k : Nat} (hk : k < n) (A : Nat → R) (y x : R) : ra_ev n (ra_ur A k (A k + y)) x = ra_ev n A x + y * x ^ k := by
  induction n with
  | zero => omega
  | succ n ih =>
    rw [ra_evS, ra_evS]
    by_cases e : k = n
    · subst e
      rw [ra_evC (Q := A) x (fun i hi => ra_urn (by omega)), ra_urs]; grind
    · rw [ih (by omega), ra_urn (fun z => e z.symm)]; grind
/-- c X^a P added to W at the places a .. a + i - 1 -/
def ra_aw {R : Type} [Lean.Grind.CommRing R] (W : Nat → R) (a i : Nat) (c : R) (P : Nat → R) : Nat → R := fun j => if a ≤ j ∧ j < a + i then W j + c * P (j - a) else W j
theorem ra_aw0 {R : Type} [Lean.Grind.CommRing R] (W : Nat → R) (a : Nat) (c : R) (P : Nat → R) : ra_aw W a 0 c P = W := by
  funext j
  exact if_neg (by omega)
theorem ra_awS {R : Type} [Lean.Grind.CommRing R] (W : Nat → R) (a i : Nat) (c : R) (P : Nat → R) : ra_ur (ra_aw W a i c P) (a + i) (ra_aw W a i c P (a + i) + c * P i) = ra_aw W a (i + 1) c P := by
  funext j
  unfold ra_ur ra_aw
  by_cases e : j = a + i
  · subst e
    rw [if_pos rfl, if_neg (by omega), if_pos (by omega), Nat.add_sub_cancel_left]
  · rw [if_neg e]
    by_cases h : a ≤ j ∧ j < a + i
    · rw [if_pos h, if_pos (by omega)]
    · rw [if_neg h, if_neg (by omega)]
theorem ra_awI {R : Type} [Lean.Grind.CommRing R] {W : Nat → R} {a i j : Nat} {c : R} {P : Nat → R} (h1 : a ≤ j) (h2 : j < a + i) : ra_aw W a i c P j = W j + c * P (j - a) := if_pos ⟨h1, h2⟩
theorem ra_awN {R : Type} [Lean.Grind.CommRing R] {W : Nat → R} {a i j : Nat} {c : R} {P : Nat → R} (h : j < a ∨ a + i ≤ j) : ra_aw W a i c P j = W j := if_neg (by omega)
theorem ra_evW {R : Type} [Lean.Grind.CommRing R] {n a i : Nat} (h : a + i ≤ n) (W P : Nat → R) (c x : R) : ra_ev n (ra_aw W a i c P) x = ra_ev n W x + c * x ^ a * ra_ev i P x := by
  induction i with
  | zero => rw [ra_aw0, ra_ev0, ra_m0, ra_0]
  | succ i ih =>
    rw [← ra_awS, ra_evU (by omega), ih (by omega), ra_evS, ra_pA]; grind
/-! the count of roots -/
theorem ra_syn {R : Type} [Lean.Grind.CommRing R] [Lean.Grind.IsCharP R 2] (r : R) : ∀ (n : Nat) (P : Nat → R), ∃ Q : Nat → R, (∀ x, ra_ev (n + 1) P x + ra_ev (n + 1) P r = (x + r) * ra_ev n Q x) ∧ ((∀ j, j < n → Q j = 0) → ∀ j, j < n → P (j + 1) = 0) := by
  intro n
  induction n with
  | zero =>
    intro P
    refine ⟨fun _ => 0, fun x => ?_, fun _ j hj => by omega⟩
    rw [ra_evF, ra_evF, ra_ev0, ra_ev0, ra_ev0]; grind
  | succ n ih =>
    intro P
    obtain ⟨Q, hQ, hZ⟩ := ih (fun i => P (i + 1))
    refine ⟨fun j => if j = 0 then ra_ev (n + 1) (fun i => P (i + 1)) r else Q (j - 1), fun x => ?_, fun h => ?_⟩
    · have e := hQ x
      have e3 : ra_ev (n + 1) (fun j => if j = 0 then ra_ev (n + 1) (fun i => P (i + 1)) r else Q (j - 1)) x = ra_ev (n + 1) (fun i => P (i + 1)) r + x * ra_ev n Q x := by
        rw [ra_evF]
        have e2 : ra_ev n (fun i => (fun j => if j = 0 then ra_ev (n + 1) (fun i => P (i + 1)) r else Q (j - 1)) (i + 1)) x = ra_ev n Q x := ra_evC x (fun i _ => by simp)
        rw [e2]
        rfl
      rw [ra_evF (n + 1) P x, ra_evF (n + 1) P r, e3]
      generalize ra_ev (n + 1) (fun i => P (i + 1)) x = p at *
      generalize ra_ev (n + 1) (fun i => P (i + 1)) r = q at *
      generalize ra_ev n Q x = z at *
      grind
    · have h1 : ∀ j, j < n → Q j = 0 := fun j hj => by
        have := h (j + 1) (by omega)
        simpa using this
      have h2 := hZ h1
      have h0 : ra_ev (n + 1) (fun i => P (i + 1)) r = 0 := by
        have := h 0 (by omega)
        simpa using this
      intro j hj
      rcases j with _ | j
      · rw [ra_evF, ra_evZ (n := n) r (fun i hi => h2 i hi), ra_m0, ra_0] at h0
        exact h0
      · exact h2 j (by omega)
theorem ra_rc {R : Type} [Lean.Grind.CommRing R] [Lean.Grind.IsCharP R 2] (dm : ∀ a b : R, a * b = 0 → a = 0 ∨ b = 0) : ∀ (n : Nat) (P : Nat → R) (F : List R), F.Nodup → n ≤ F.length → (∀ r, r ∈ F → ra_ev n P r = 0) → ∀ j, j < n → P j = 0 := by
  intro n
  induction n with
  | zero => intro P F _ _ _ j hj; omega
  | succ n ih =>
    intro P F hF hn hr
    match F, hF, hn, hr with
    | [], _, hn, _ => exact absurd hn (by simp)
    | r :: F, hF, hn, hr =>
      rw [List.nodup_cons] at hF
      obtain ⟨Q, hQ, hZ⟩ := ra_syn r n P
      have hr0 : ra_ev (n + 1) P r = 0 := hr r (by simp)
      have hq : ∀ j, j < n → Q j = 0 := by
        refine ih Q F hF.2 (by simpa using hn) (fun x hx => ?_)
        have e := hQ x
        rw [hr x (by simp [hx]), hr0, ra_0] at e
        rcases dm _ _ e.symm with z | z
        · exact absurd (ra_eq z) (fun q => hF.1 (q ▸ hx))
        · exact z
      have hP := hZ hq
      intro j hj
      rcases j with _ | j
      · rw [ra_evF, ra_evZ (n := n) r (fun i hi => hP i hi), ra_m0, ra_0] at hr0
        exact hr0
      · exact hP j (by omega)
/-! sums over a list -/
def ra_ls {R : Type} [Lean.Grind.CommRing R] : List R → (R → R) → R
  | [], _ => 0
  | x :: l, f => f x + ra_ls l f
theorem ra_lsC {R : Type} [Lean.Grind.CommRing R] {l : List R} {f g : R → R} (h : ∀ x, x ∈ l → f x = g x) : ra_ls l f = ra_ls l g := by
  induction l with
  | nil => rfl
  | cons x l ih =>
    show f x + ra_ls l f = g x + ra_ls l g
    rw [h x (by simp), ih (fun y hy => h y (by simp [hy]))]
theorem ra_lsZ {R : Type} [Lean.Grind.CommRing R] {l : List R} {f : R → R} (h : ∀ x, x ∈ l → f x = 0) : ra_ls l f = 0 := by
  induction l with
  | nil => rfl
  | cons x l ih =>
    show f x + ra_ls l f = 0
    rw [h x (by simp), ih (fun y hy => h y (by simp [hy])), ra_0]
theorem ra_lsA {R : Type} [Lean.Grind.CommRing R] (l : List R) (f g : R → R) : ra_ls l (fun x => f x + g x) = ra_ls l f + ra_ls l g := by
  induction l with
  | nil => exact (ra_0 0).symm
  | cons x l ih =>
    show f x + g x + ra_ls l (fun x => f x + g x) = f x + ra_ls l f + (g x + ra_ls l g)
    rw [ih]; grind
theorem ra_lsM {R : Type} [Lean.Grind.CommRing R] (l : List R) (c : R) (f : R → R) : ra_ls l (fun x => c * f x) = c * ra_ls l f := by
  induction l with
  | nil => exact (ra_m0 c).symm
  | cons x l ih =>
    show c * f x + ra_ls l (fun x => c * f x) = c * (f x + ra_ls l f)
    rw [ih]; grind
theorem ra_lsS {R : Type} [Lean.Grind.CommRing R] (l : List R) (n : Nat) (f : Nat → R → R) : ra_sm n (fun i => ra_ls l (f i)) = ra_ls l (fun x => ra_sm n (fun i => f i x)) := by
  induction n with
  | zero => exact (ra_lsZ (fun _ _ => rfl)).symm
  | succ n ih => rw [ra_smS, ih, ← ra_lsA]; rfl
theorem ra_lsP {R : Type} [Lean.Grind.CommRing R] {l l' : List R} (h : l.Perm l') (f : R → R) : ra_ls l f = ra_ls l' f := by
  induction h with
  | nil => rfl
  | cons x _ ih => show f x + ra_ls _ f = f x + ra_ls _ f; rw [ih]
  | swap x y l => show f y + (f x + ra_ls l f) = f x + (f y + ra_ls l f); grind
  | trans _ _ i1 i2 => exact i1.trans i2
/-- Vandermonde: the moments 1 .. |E| fix the weights -/
theorem ra_vm {R : Type} [Lean.Grind.CommRing R] [Lean.Grind.IsCharP R 2] (dm : ∀ a b : R, a * b = 0 → a = 0 ∨ b = 0) : ∀ (E : List R), E.Nodup → (∀ x, x ∈ E → x ≠ 0) → ∀ w : R → R, (∀ j, 1 ≤ j → j ≤ E.length → ra_ls E (fun x => x ^ j * w x) = 0) → ∀ x, x ∈ E → w x = 0 := by
  intro E
  induction E with
  | nil => intro _ _ w _ x hx; simp at hx
  | cons y E ih =>
    intro hN h0 w h
    rw [List.nodup_cons] at hN
    have hE : ∀ x, x ∈ E → w x = 0 := by
      have k := ih hN.2 (fun x hx => h0 x (by simp [hx])) (fun x => (x + y) * w x) (fun j h1 h2 => ?_)
      · intro x hx
        rcases dm _ _ (k x hx) with z | z
        · exact absurd (ra_eq z) (fun q => hN.1 (q ▸ hx))
        · exact z
      · have a := h (j + 1) (by omega) (by simp; omega)
        have b := h j h1 (by simp; omega)
        have e : ra_ls (y :: E) (fun x => x ^ j * ((x + y) * w x)) = ra_ls (y :: E) (fun x => x ^ (j + 1) * w x) + y * ra_ls (y :: E) (fun x => x ^ j * w x) := by
          rw [← ra_lsM, ← ra_lsA]
          refine ra_lsC (fun x _ => ?_)
          rw [ra_pS]; grind
        rw [a, b, ra_m0, ra_0] at e
        have e2 : ra_ls (y :: E) (fun x => x ^ j * ((x + y) * w x)) = y ^ j * ((y + y) * w y) + ra_ls E (fun x => x ^ j * ((x + y) * w x)) := rfl
        rw [e2, ra_self, ra_0m, ra_m0, ra_z] at e
        exact e
    intro x hx
    rcases List.mem_cons.mp hx with rfl | hx
    · have a := h 1 (by omega) (by simp)
      have e2 : ra_ls (x :: E) (fun x => x ^ 1 * w x) = x ^ 1 * w x + ra_ls E (fun x => x ^ 1 * w x) := rfl
      rw [e2, ra_lsZ (fun z hz => by rw [hE z hz, ra_m0]), ra_0, ra_p1] at a
      rcases dm _ _ a with z | z
      · exact absurd z (h0 x (by simp))
      · exact z
    · exact hE x hx
end
section
/-! ===== Berlekamp-Massey over the moments of a set E ===== -/
theorem ra_10 {R : Type} [Lean.Grind.CommRing R] [Lean.Grind.IsCharP R 2] : (1 : R) ≠ 0 := fun h => absurd ((Lean.Grind.IsCharP.ofNat_eq_zero_iff (α := R) 2 1).mp h) (by decide)
def bm_st {R : Type} [Lean.Grind.CommRing R] (L : Nat) (C : Nat → R) (x : R) : R := ra_sm (L + 1) (fun i => C i * x ^ (L - i))
def bm_mom {R : Type} [Lean.Grind.CommRing R] (E : List R) (w : R → R) (j : Nat) : R := ra_ls E (fun x => x ^ j * w x)
theorem bm_disc {R : Type} [Lean.Grind.CommRing R] {E : List R} {n L : Nat} (hL : L ≤ n) (C S : Nat → R) (hS : ∀ j, 1 ≤ j → j ≤ n + 1 → S j = ra_ls E (fun x => x ^ j)) : ra_sm (L + 1) (fun i => C i * S (n + 1 - i)) = bm_mom E (bm_st L C) (n + 1 - L) := by
  have e1 : ra_sm (L + 1) (fun i => C i * S (n + 1 - i)) = ra_sm (L + 1) (fun i => ra_ls E (fun x => C i * x ^ (n + 1 - i))) := by
    refine ra_cong (fun i hi => ?_)
    rw [hS _ (by omega) (by omega), ra_lsM]
  rw [e1, ra_lsS]
  unfold bm_mom bm_st
  refine ra_lsC (fun x _ => ?_)
  rw [← ra_mul]
  refine ra_cong (fun i hi => ?_)
  have e2 : n + 1 - i = (n + 1 - L) + (L - i) := by omega
  rw [e2, ra_pA]; grind
theorem bm_stL {R : Type} [Lean.Grind.CommRing R] {L L' : Nat} (h : L ≤ L') (C : Nat → R) (hC : ∀ i, L < i → i ≤ L' → C i = 0) (x : R) : bm_st L' C x = x ^ (L' - L) * bm_st L C x := by
  unfold bm_st
  rw [ra_ext2 (n := L + 1) (N := L' + 1) (by omega) _ (fun i h1 h2 => by rw [hC i (by omega) (by omega), ra_0m]), ← ra_mul]
  refine ra_cong (fun i hi => ?_)
  have e2 : L' - i = (L' - L) + (L - i) := by omega
  rw [e2, ra_pA]; grind
theorem bm_stA {R : Type} [Lean.Grind.CommRing R] {L Lb L' g : Nat} (hL : L ≤ L') (hg : g + Lb ≤ L') (h16 : L' < 16) (C B : Nat → R) (s : R) (hC : ∀ i, L < i → i < 16 → C i = 0) (hB : ∀ i, Lb < i → i < 16 → B i = 0) (x : R) : bm_st L' (ra_aw C g (16 - g) s B) x = x ^ (L' - L) * bm_st L C x + s * (x ^ (L' - g - Lb) * bm_st Lb B x) := by
  rw [← bm_stL hL C (fun i h1 h2 => hC i h1 (by omega)) x, ← bm_stL (L' := L' - g) (by omega) B (fun i h1 h2 => hB i h1 (by omega)) x]
  unfold bm_st
  have e1 : ra_sm (L' + 1) (fun i => ra_aw C g (16 - g) s B i * x ^ (L' - i)) = ra_sm (L' + 1) (fun i => C i * x ^ (L' - i) + (if g ≤ i then (fun j => s * (B j * x ^ (L' - g - j))) (i - g) else 0)) := by
    refine ra_cong (fun i hi => ?_)
    by_cases h : g ≤ i
    · rw [ra_awI h (by omega), if_pos h]
      have e2 : L' - g - (i - g) = L' - i := by omega
      dsimp only
      rw [e2]; grind
    · rw [ra_awN (by omega), if_neg h, ra_0]
  have e3 : L' + 1 = g + (L' - g + 1) := by omega
  have e4 : ra_sm (L' + 1) (fun i => if g ≤ i then (fun j => s * (B j * x ^ (L' - g - j))) (i - g) else 0) = ra_sm (L' - g + 1) (fun j => s * (B j * x ^ (L' - g - j))) := by
    rw [e3]
    exact ra_shift g (L' - g + 1) (fun j => s * (B j * x ^ (L' - g - j)))
  rw [e1, ra_add, ← ra_mul, e4]
theorem bm_momA {R : Type} [Lean.Grind.CommRing R] (E : List R) (a : Nat) (w : R → R) (j : Nat) : bm_mom E (fun x => x ^ a * w x) j = bm_mom E w (j + a) := by
  refine ra_lsC (fun x _ => ?_)
  rw [ra_pA]; grind
theorem bm_momL {R : Type} [Lean.Grind.CommRing R] (E : List R) (u w : R → R) (s : R) (j : Nat) : bm_mom E (fun x => u x + s * w x) j = bm_mom E u j + s * bm_mom E w j := by
  unfold bm_mom
  rw [← ra_lsM, ← ra_lsA]
  refine ra_lsC (fun x _ => ?_)
  grind
theorem bm_momC {R : Type} [Lean.Grind.CommRing R] {E : List R} {u w : R → R} (h : ∀ x, u x = w x) (j : Nat) : bm_mom E u j = bm_mom E w j := by
  rw [show u = w from funext h]
def bm_B {R : Type} [Lean.Grind.CommRing R] (E : List R) (n L g : Nat) (b : R) (B : Nat → R) (Lb : Nat) : Prop :=
  n + 1 = L + Lb + g ∧ (∀ i, Lb < i → i < 16 → B i = 0) ∧ (∀ j, 1 ≤ j → j < L → bm_mom E (bm_st Lb B) j = 0) ∧ bm_mom E (bm_st Lb B) L = b
def bm_I {R : Type} [Lean.Grind.CommRing R] (E : List R) (n L g : Nat) (b : R) (C B : Nat → R) : Prop :=
  L ≤ n ∧ L ≤ E.length ∧ C 0 = 1 ∧ (∀ i, L < i → i < 16 → C i = 0) ∧ (∀ j, 1 ≤ j → j + L ≤ n → bm_mom E (bm_st L C) j = 0) ∧ b ≠ 0 ∧ 1 ≤ g ∧
    ((L = 0 ∧ g = n + 1 ∧ (∀ i, 0 < i → i < 16 → B i = 0)) ∨ (0 < L ∧ ∃ Lb, bm_B E n L g b B Lb))
theorem bm_0 {R : Type} [Lean.Grind.CommRing R] [Lean.Grind.IsCharP R 2] (E : List R) (C : Nat → R) (h0 : C 0 = 1) (hC : ∀ i, 0 < i → i < 16 → C i = 0) : bm_I E 0 0 1 1 C C :=
  ⟨Nat.le_refl 0, Nat.zero_le _, h0, hC, fun j h1 h2 => by omega, ra_10, Nat.le_refl 1, Or.inl ⟨rfl, rfl, hC⟩⟩
theorem bm_1 {R : Type} [Lean.Grind.CommRing R] [Lean.Grind.IsCharP R 2] {E : List R} {n L g : Nat} {b : R} {C B : Nat → R} (I : bm_I E n L g b C B) (hd : bm_mom E (bm_st L C) (n + 1 - L) = 0) : bm_I E (n + 1) L (g + 1) b C B := by
  obtain ⟨h1, h2, h3, h4, h5, h6, h7, h8⟩ := I
  refine ⟨by omega, h2, h3, h4, fun j a c => ?_, h6, by omega, ?_⟩
  · by_cases e : j + L ≤ n
    · exact h5 j a e
    · have e2 : j = n + 1 - L := by omega
      rw [e2]; exact hd
  · rcases h8 with ⟨a, c, d⟩ | ⟨a, Lb, c, d⟩
    · exact Or.inl ⟨a, by omega, d⟩
    · exact Or.inr ⟨a, Lb, by omega, d⟩
theorem bm_aw0 {R : Type} [Lean.Grind.CommRing R] [Lean.Grind.IsCharP R 2] {C B : Nat → R} {g k : Nat} {s : R} (hg : 1 ≤ g) (h : C 0 = 1) : ra_aw C g k s B 0 = 1 := by
  rw [ra_awN (by omega), h]
theorem bm_awZ {R : Type} [Lean.Grind.CommRing R] [Lean.Grind.IsCharP R 2] {C B : Nat → R} {g L Lb M : Nat} {s : R} (hC : ∀ i, L < i → i < 16 → C i = 0) (hB : ∀ i, Lb < i → i < 16 → B i = 0) (h1 : L ≤ M) (h2 : g + Lb ≤ M) : ∀ i, M < i → i < 16 → ra_aw C g (16 - g) s B i = 0 := by
  intro i a c
  rw [ra_awI (by omega) (by omega), hC i (by omega) c, hB (i - g) (by omega) (by omega), ra_m0, ra_0]
theorem bm_2 {R : Type} [Lean.Grind.CommRing R] [Lean.Grind.IsCharP R 2] {E : List R} {n L g : Nat} {b : R} {C B : Nat → R} (I : bm_I E n L g b C B) (s : R) (hs : s * b = bm_mom E (bm_st L C) (n + 1 - L)) (hn : n < 2 * L) (h16 : n < 15) : bm_I E (n + 1) L (g + 1) b (ra_aw C g (16 - g) s B) B := by
  obtain ⟨h1, h2, h3, h4, h5, h6, h7, h8⟩ := I
  rcases h8 with ⟨a, c, d⟩ | ⟨a, Lb, c, d, e, f⟩
  · omega
  refine ⟨by omega, h2, bm_aw0 h7 h3, bm_awZ h4 d (Nat.le_refl L) (by omega), fun j p q => ?_, h6, by omega, Or.inr ⟨a, Lb, by omega, d, e, f⟩⟩
  rw [bm_momC (bm_stA (Nat.le_refl L) (by omega) (by omega) C B s h4 d) j, bm_momL, Nat.sub_self]
  have z : bm_mom E (fun x => x ^ 0 * bm_st L C x) j = bm_mom E (bm_st L C) j := bm_momA E 0 _ j
  rw [z, bm_momA]
  by_cases w : j + L ≤ n
  · rw [h5 j p w, e (j + (L - g - Lb)) (by omega) (by omega), ra_m0, ra_0]
  · have e2 : j = n + 1 - L := by omega
    have e3 : j + (L - g - Lb) = L := by omega
    rw [e3, f, hs, e2, ra_self]
theorem bm_3 {R : Type} [Lean.Grind.CommRing R] [Lean.Grind.IsCharP R 2] (dm : ∀ a b : R, a * b = 0 → a = 0 ∨ b = 0) {E : List R} (hN : E.Nodup) (h0 : ∀ x, x ∈ E → x ≠ 0) {n L g : Nat} {b : R} {C B : Nat → R} (I : bm_I E n L g b C B) (s d : R) (hs : s * b = d) (hd : d = bm_mom E (bm_st L C) (n + 1 - L)) (hd0 : d ≠ 0) (hn : 2 * L ≤ n) (h16 : n < 15) : bm_I E (n + 1) (n + 1 - L) 1 d (ra_aw C g (16 - g) s B) C := by
  obtain ⟨h1, h2, h3, h4, h5, h6, h7, h8⟩ := I
  have hE : n - L < E.length := by
    apply Classical.byContradiction
    intro z
    have k := ra_vm dm E hN h0 (bm_st L C) (fun j a c => h5 j a (by omega))
    apply hd0
    rw [hd]
    exact ra_lsZ (fun x hx => by rw [k x hx, ra_m0])
  have hB : bm_B E (n + 1) (n + 1 - L) 1 d C L := ⟨by omega, h4, fun j p q => h5 j p (by omega), hd.symm⟩
  rcases h8 with ⟨a, c, w⟩ | ⟨a, Lb, c, w, e, f⟩
  · subst a
    refine ⟨by omega, by omega, bm_aw0 h7 h3, bm_awZ h4 w (Nat.zero_le _) (by omega), fun j p q => by omega, hd0, Nat.le_refl 1, Or.inr ⟨by omega, 0, hB⟩⟩
  · refine ⟨by omega, by omega, bm_aw0 h7 h3, bm_awZ h4 w (by omega) (by omega), fun j p q => ?_, hd0, Nat.le_refl 1, Or.inr ⟨by omega, L, hB⟩⟩
    rw [bm_momC (bm_stA (L' := n + 1 - L) (by omega) (by omega) (by omega) C B s h4 w) j, bm_momL, bm_momA, bm_momA]
    by_cases y : j < L
    · rw [h5 _ (by omega) (by omega), e _ (by omega) (by omega), ra_m0, ra_0]
    · have e2 : j + (n + 1 - L - L) = n + 1 - L := by omega
      have e3 : j + (n + 1 - L - g - Lb) = L := by omega
      rw [e2, e3, f, hs, ← hd, ra_self]
theorem bm_rev {R : Type} [Lean.Grind.CommRing R] (L : Nat) (C : Nat → R) (x : R) : ra_ev (L + 1) (fun i => C (L - i)) x = bm_st L C x := by
  unfold ra_ev bm_st
  rw [← ra_rev]
  refine ra_cong (fun i hi => ?_)
  have e : L - (L - i) = i := by omega
  dsimp only
  rw [e]
theorem bm_end {R : Type} [Lean.Grind.CommRing R] [Lean.Grind.IsCharP R 2] (dm : ∀ a b : R, a * b = 0 → a = 0 ∨ b = 0) {E : List R} (hN : E.Nodup) (h0 : ∀ x, x ∈ E → x ≠ 0) {k L g : Nat} {b : R} {C B : Nat → R} (I : bm_I E (2 * k) L g b C B) (hk : E.length ≤ k) : L = E.length ∧ ∀ x, x ∈ E → bm_st L C x = 0 := by
  obtain ⟨h1, h2, h3, h4, h5, h6, h7, h8⟩ := I
  have hz := ra_vm dm E hN h0 (bm_st L C) (fun j a c => h5 j a (by omega))
  refine ⟨?_, hz⟩
  apply Classical.byContradiction
  intro w
  have e := ra_rc dm (L + 1) (fun i => C (L - i)) E hN (by omega) (fun r hr => by rw [bm_rev]; exact hz r hr) L (by omega)
  rw [Nat.sub_self, h3] at e
  exact ra_10 e
end
section
/-! ===== divisors and Euclid, for polynomials with five coefficients ===== -/
def eu_t {R : Type} [Lean.Grind.CommRing R] (A : Nat → R) : Nat → R := fun j => if j < 5 then A j else 0
theorem eu_tI {R : Type} [Lean.Grind.CommRing R] {A : Nat → R} {j : Nat} (h : j < 5) : eu_t A j = A j := if_pos h
theorem eu_tN {R : Type} [Lean.Grind.CommRing R] {A : Nat → R} {j : Nat} (h : 5 ≤ j) : eu_t A j = 0 := if_neg (by omega)
def eu_c {R : Type} [Lean.Grind.CommRing R] (D : Nat) (h g : Nat → R) (n : Nat) : R := ra_sm D (fun i => if i ≤ n then h i * eu_t g (n - i) else 0)
def eu_Dv {R : Type} [Lean.Grind.CommRing R] (g A : Nat → R) : Prop := ∃ (D : Nat) (h : Nat → R), ∀ n, eu_t A n = eu_c D h g n
theorem eu_refl {R : Type} [Lean.Grind.CommRing R] (g : Nat → R) : eu_Dv g g := by
  refine ⟨1, fun _ => 1, fun n => ?_⟩
  unfold eu_c
  rw [ra_smS, ra_sm0, ra_z, if_pos (Nat.zero_le n)]
  show _ = 1 * eu_t g n
  grind
theorem eu_zero {R : Type} [Lean.Grind.CommRing R] (g : Nat → R) {A : Nat → R} (h : ∀ j, j < 5 → A j = 0) : eu_Dv g A := by
  refine ⟨0, fun _ => 0, fun n => ?_⟩
  show eu_t A n = 0
  by_cases e : n < 5
  · rw [eu_tI e, h n e]
  · exact eu_tN (by omega)
theorem eu_cl {R : Type} [Lean.Grind.CommRing R] {g A B A' : Nat → R} {s : Nat} {c : R} (hA : eu_Dv g A) (hB : eu_Dv g B) (e : ∀ n, eu_t A' n = eu_t A n + (if s ≤ n then c * eu_t B (n - s) else 0)) : eu_Dv g A' := by
  obtain ⟨D, h, hA⟩ := hA
  obtain ⟨D', h', hB⟩ := hB
  refine ⟨s + D' + D, fun i => (if i < D then h i else 0) + (if s ≤ i ∧ i < s + D' then c * h' (i - s) else 0), fun n => ?_⟩
  rw [e n, hA n]
  unfold eu_c
  have e1 : ra_sm (s + D' + D) (fun i => if i ≤ n then ((if i < D then h i else 0) + (if s ≤ i ∧ i < s + D' then c * h' (i - s) else 0)) * eu_t g (n - i) else 0) = ra_sm (s + D' + D) (fun i => (if i < D then (if i ≤ n then h i * eu_t g (n - i) else 0) else 0) + (if i < s + D' then (if s ≤ i then (fun j => if j + s ≤ n then c * (h' j * eu_t g (n - s - j)) else 0) (i - s) else 0) else 0)) := by
    refine ra_cong (fun i _ => ?_)
    by_cases a : i ≤ n
    · by_cases b : i < D
      · by_cases d : s ≤ i ∧ i < s + D'
        · have w : n - s - (i - s) = n - i := by omega
          have w2 : i - s + s ≤ n := by omega
          simp only [if_pos a, if_pos b, if_pos d, if_pos d.1, if_pos d.2, if_pos w2, w]
          grind
        · have w : (if i < s + D' then (if s ≤ i then (fun j => if j + s ≤ n then c * (h' j * eu_t g (n - s - j)) else 0) (i - s) else 0) else 0 : R) = 0 := by
            by_cases u : i < s + D'
            · rw [if_pos u, if_neg (by omega)]
            · rw [if_neg u]
          rw [w]
          simp only [if_pos a, if_pos b, if_neg d, ra_0]
      · by_cases d : s ≤ i ∧ i < s + D'
        · have w : n - s - (i - s) = n - i := by omega
          have w2 : i - s + s ≤ n := by omega
          simp only [if_pos a, if_neg b, if_pos d, if_pos d.1, if_pos d.2, if_pos w2, w]
          grind
        · have w : (if i < s + D' then (if s ≤ i then (fun j => if j + s ≤ n then c * (h' j * eu_t g (n - s - j)) else 0) (i - s) else 0) else 0 : R) = 0 := by
            by_cases u : i < s + D'
            · rw [if_pos u, if_neg (by omega)]
            · rw [if_neg u]
          rw [w]
          simp only [if_pos a, if_neg b, if_neg d, ra_0, ra_0m]
    · have w : (if i < D then (if i ≤ n then h i * eu_t g (n - i) else 0) else 0 : R) = 0 := by
        rw [if_neg a]
        exact ite_self 0
      have w2 : (if i < s + D' then (if s ≤ i then (fun j => if j + s ≤ n then c * (h' j * eu_t g (n - s - j)) else 0) (i - s) else 0) else 0 : R) = 0 := by
        by_cases u : i < s + D'
        · rw [if_pos u]
          by_cases v : s ≤ i
          · rw [if_pos v]
            exact if_neg (by omega)
          · rw [if_neg v]
        · rw [if_neg u]
      rw [w, w2, if_neg a, ra_0]
  rw [e1, ra_add]
  have e2 : ra_sm (s + D' + D) (fun i => if i < D then (if i ≤ n then h i * eu_t g (n - i) else 0) else 0) = ra_sm D (fun i => if i ≤ n then h i * eu_t g (n - i) else 0) := by
    rw [ra_ext2 (n := D) (by omega) _ (fun i a _ => if_neg (by omega))]
    exact ra_cong (fun i a => if_pos a)
  have e3 : ra_sm (s + D' + D) (fun i => if i < s + D' then (if s ≤ i then (fun j => if j + s ≤ n then c * (h' j * eu_t g (n - s - j)) else 0) (i - s) else 0) else 0) = (if s ≤ n then c * eu_t B (n - s) else 0) := by
    rw [ra_ext2 (n := s + D') (by omega) _ (fun i a _ => if_neg (by omega)), ra_cong (fun i a => if_pos a)]
    refine (ra_shift s D' (fun j => if j + s ≤ n then c * (h' j * eu_t g (n - s - j)) else 0)).trans ?_
    by_cases u : s ≤ n
    · rw [if_pos u, hB (n - s)]
      unfold eu_c
      rw [← ra_mul]
      refine ra_cong (fun i _ => ?_)
      by_cases v : i ≤ n - s
      · rw [if_pos (show i + s ≤ n by omega), if_pos v]
      · rw [if_neg (show ¬ i + s ≤ n by omega), if_neg v, ra_m0]
    · rw [if_neg u]
      exact ra_zero (fun i _ => if_neg (by omega))
  rw [e2, e3]
theorem eu_awt {R : Type} [Lean.Grind.CommRing R] {L B : Nat → R} {a i : Nat} (hB : ∀ j, i ≤ j → j < 5 → B j = 0) (ha : a + i ≤ 5) (c : R) (n : Nat) : eu_t (ra_aw L a i c B) n = eu_t L n + (if a ≤ n then c * eu_t B (n - a) else 0) := by
  by_cases h : n < 5
  · rw [eu_tI h, eu_tI h]
    by_cases u : a ≤ n
    · rw [if_pos u, eu_tI (by omega)]
      by_cases v : n < a + i
      · rw [ra_awI u v]
      · rw [ra_awN (by omega), hB _ (by omega) (by omega), ra_m0, ra_0]
    · rw [if_neg u, ra_awN (by omega), ra_0]
  · rw [eu_tN (by omega), eu_tN (by omega), ra_z]
    by_cases u : a ≤ n
    · rw [if_pos u]
      by_cases v : n - a < 5
      · rw [eu_tI v, hB _ (by omega) v, ra_m0]
      · rw [eu_tN (by omega), ra_m0]
    · rw [if_neg u]
theorem eu_aw {R : Type} [Lean.Grind.CommRing R] [Lean.Grind.IsCharP R 2] {g L B : Nat → R} {a i : Nat} (hB : ∀ j, i ≤ j → j < 5 → B j = 0) (ha : a + i ≤ 5) {c : R} (h1 : eu_Dv g B) (h2 : eu_Dv g (ra_aw L a i c B)) : eu_Dv g L := by
  refine eu_cl (s := a) (c := c) h2 h1 (fun n => ?_)
  rw [eu_awt hB ha]
  grind
/-- A' is A but for multiples of B -/
def eu_M {R : Type} [Lean.Grind.CommRing R] (B A A' : Nat → R) : Prop := (∀ x, ra_ev 5 B x = 0 → ra_ev 5 A' x = ra_ev 5 A x) ∧ (∀ g, eu_Dv g B → eu_Dv g A' → eu_Dv g A)
theorem eu_Mr {R : Type} [Lean.Grind.CommRing R] (B A : Nat → R) : eu_M B A A := ⟨fun _ _ => rfl, fun _ _ h => h⟩
theorem eu_Mt {R : Type} [Lean.Grind.CommRing R] {B A A' A'' : Nat → R} (h1 : eu_M B A A') (h2 : eu_M B A' A'') : eu_M B A A'' :=
  ⟨fun x hx => (h2.1 x hx).trans (h1.1 x hx), fun g a b => h1.2 g a (h2.2 g a b)⟩
theorem eu_Ms {R : Type} [Lean.Grind.CommRing R] [Lean.Grind.IsCharP R 2] (A B : Nat → R) {a i : Nat} (hB : ∀ j, i ≤ j → j < 5 → B j = 0) (ha : a + i ≤ 5) (c : R) : eu_M B A (ra_aw A a i c B) := by
  refine ⟨fun x hx => ?_, fun g h1 h2 => eu_aw hB ha h1 h2⟩
  rw [ra_evX (n := i) (by omega) B x hB] at hx
  rw [ra_evW ha, hx, ra_m0, ra_0]
/-- the operands of one common divisor -/
def eu_G {R : Type} [Lean.Grind.CommRing R] (A B A' B' : Nat → R) : Prop := (∀ x, (ra_ev 5 A' x = 0 ∧ ra_ev 5 B' x = 0) ↔ (ra_ev 5 A x = 0 ∧ ra_ev 5 B x = 0)) ∧ (∀ g, eu_Dv g A' → eu_Dv g B' → eu_Dv g A ∧ eu_Dv g B)
theorem eu_Gr {R : Type} [Lean.Grind.CommRing R] (A B : Nat → R) : eu_G A B A B := ⟨fun _ => Iff.rfl, fun _ a b => ⟨a, b⟩⟩
theorem eu_Gt {R : Type} [Lean.Grind.CommRing R] {A B A' B' A'' B'' : Nat → R} (h1 : eu_G A B A' B') (h2 : eu_G A' B' A'' B'') : eu_G A B A'' B'' :=
  ⟨fun x => (h2.1 x).trans (h1.1 x), fun g a b => (fun h => h1.2 g h.1 h.2) (h2.2 g a b)⟩
theorem eu_Gs {R : Type} [Lean.Grind.CommRing R] {A B A' : Nat → R} (h : eu_M B A A') : eu_G A B B A' := by
  refine ⟨fun x => ⟨fun z => ⟨?_, z.1⟩, fun z => ⟨z.2, ?_⟩⟩, fun g a b => ⟨h.2 g a b, a⟩⟩
  · rw [← h.1 x z.1]; exact z.2
  · rw [h.1 x z.2]; exact z.1
/-! the degree of a common divisor -/
theorem eu_cS {R : Type} [Lean.Grind.CommRing R] (D : Nat) (h g : Nat → R) (n : Nat) : eu_c (D + 1) h g n = eu_c D h g n + (if D ≤ n then h D * eu_t g (n - D) else 0) := rfl
theorem eu_cev {R : Type} [Lean.Grind.CommRing R] (h g : Nat → R) (x : R) : ∀ (D M : Nat), D + 5 ≤ M → ra_ev M (eu_c D h g) x = ra_ev D h x * ra_ev 5 g x := by
  intro D
  induction D with
  | zero =>
    intro M _
    rw [ra_ev0, ra_0m]
    exact ra_evZ x (fun i _ => rfl)
  | succ D ih =>
    intro M hM
    have e1 : ra_ev M (eu_c (D + 1) h g) x = ra_ev M (fun n => eu_c D h g n + (if D ≤ n then h D * eu_t g (n - D) else 0)) x := ra_evC x (fun i _ => eu_cS D h g i)
    rw [e1, ra_evA, ih M (by omega), ra_evS D h x]
    have e2 : ra_ev M (fun n => if D ≤ n then h D * eu_t g (n - D) else 0) x = h D * x ^ D * ra_ev 5 g x := by
      have e3 : ra_ev M (fun n => if D ≤ n then h D * eu_t g (n - D) else 0) x = ra_sm M (fun n => if D ≤ n then (fun j => h D * x ^ D * (eu_t g j * x ^ j)) (n - D) else 0) := by
        refine ra_cong (fun i _ => ?_)
        dsimp only
        by_cases u : D ≤ i
        · rw [if_pos u, if_pos u]
          have w : i = D + (i - D) := by omega
          have w2 : x ^ i = x ^ D * x ^ (i - D) := by
            rw [← ra_pA, ← w]
          rw [w2]; grind
        · rw [if_neg u, if_neg u, ra_0m]
      obtain ⟨k, rfl⟩ : ∃ k, M = D + k := ⟨M - D, by omega⟩
      rw [e3]
      refine (ra_shift D k (fun j => h D * x ^ D * (eu_t g j * x ^ j))).trans ?_
      rw [ra_mul]
      have e4 : ra_sm k (fun i => eu_t g i * x ^ i) = ra_ev 5 g x := by
        have e5 : ra_ev k (eu_t g) x = ra_ev 5 (eu_t g) x := ra_evX (by omega) _ x (fun i a _ => eu_tN a)
        exact e5.trans (ra_evC x (fun i a => eu_tI a))
      rw [e4]
    rw [e2]; grind
theorem eu_top {R : Type} [Lean.Grind.CommRing R] [Lean.Grind.IsCharP R 2] (dm : ∀ a b : R, a * b = 0 → a = 0 ∨ b = 0) {D : Nat} {h g P : Nat → R} {d p : Nat} (hP : ∀ n, eu_t P n = eu_c D h g n) (hd : ∀ j, d < j → j < 5 → P j = 0) (hp5 : p < 5) (hp : g p ≠ 0) (hg : ∀ j, p < j → j < 5 → g j = 0) : ∀ c i, D ≤ i + c → i < D → d < i + p → h i = 0 := by
  intro c
  induction c with
  | zero => intro i a b _; omega
  | succ c ih =>
    intro i a b k
    have e := hP (i + p)
    have z : eu_t P (i + p) = 0 := by
      by_cases u : i + p < 5
      · rw [eu_tI u, hd _ k u]
      · exact eu_tN (by omega)
    unfold eu_c at e
    rw [z, ra_one (k := i) b _ (fun j hj hn => ?_)] at e
    · rw [if_pos (Nat.le_add_right i p), Nat.add_sub_cancel_left, eu_tI hp5] at e
      rcases dm _ _ e.symm with w | w
      · exact w
      · exact absurd w hp
    · by_cases u : j < i
      · rw [if_pos (by omega)]
        by_cases v : i + p - j < 5
        · rw [eu_tI v, hg _ (by omega) v, ra_m0]
        · rw [eu_tN (by omega), ra_m0]
      · rw [ih j (by omega) hj (by omega), ra_0m]
        exact ite_self 0
theorem eu_deg {R : Type} [Lean.Grind.CommRing R] [Lean.Grind.IsCharP R 2] (dm : ∀ a b : R, a * b = 0 → a = 0 ∨ b = 0) {P G : Nat → R} {d p : Nat} {F : List R} (q : R → Bool) (hd5 : d < 5) (hd : P d = 1) (hP : ∀ j, d < j → j < 5 → P j = 0) (hN : F.Nodup) (hF : F.length = d) (hr : ∀ r, r ∈ F → ra_ev 5 P r = 0) (hp5 : p < 5) (hp : G p ≠ 0) (hG : ∀ j, p < j → j < 5 → G j = 0) (hz : ∀ r, r ∈ F → (ra_ev 5 G r = 0 ↔ q r = true)) (hD : eu_Dv G P) : p = (F.filter q).length := by
  have a1 : (F.filter q).length ≤ p := by
    apply Classical.byContradiction
    intro u
    refine hp (ra_rc dm (p + 1) G (F.filter q) (hN.filter q) (by omega) (fun r hr' => ?_) p (by omega))
    rw [List.mem_filter] at hr'
    rw [← ra_evX (N := 5) (by omega) G r (fun i a b => hG i (by omega) b)]
    exact (hz r hr'.1).mpr hr'.2
  have a2 : (F.filter q).length + (F.filter (fun x => !q x)).length = d := by
    rw [← hF, ← List.length_append]
    exact (List.filter_append_perm q F).length_eq
  obtain ⟨D, h, hc⟩ := hD
  have tp := eu_top dm hc hP hp5 hp hG D
  have a3 : (F.filter (fun x => !q x)).length + p ≤ d := by
    apply Classical.byContradiction
    intro u
    have hz0 : ∀ i, i < D → h i = 0 := by
      intro i hi
      by_cases v : d < i + p
      · exact tp i (by omega) hi v
      · have k := ra_rc dm (d - p + 1) (fun i => if i < D then h i else 0) (F.filter (fun x => !q x)) (hN.filter _) (by omega) (fun r hr' => ?_) i (by omega)
        · rw [if_pos hi] at k
          exact k
        · rw [List.mem_filter] at hr'
          have g0 : ra_ev 5 G r ≠ 0 := fun z => by
            have := (hz r hr'.1).mp z
            rw [this] at hr'
            exact absurd hr'.2 (by decide)
          have e1 : ra_ev (D + 5) (eu_t P) r = ra_ev 5 P r := by
            rw [ra_evX (n := 5) (by omega) _ r (fun i a _ => eu_tN a)]
            exact ra_evC r (fun i a => eu_tI a)
          have e2 := eu_cev h G r D (D + 5) (Nat.le_refl _)
          rw [← ra_evC (P := eu_t P) r (fun i _ => hc i), e1, hr r hr'.1] at e2
          have e3 : ra_ev D h r = 0 := by
            rcases dm _ _ e2.symm with w | w
            · exact w
            · exact absurd w g0
          have e4 : ra_ev (D + (d - p + 1)) (fun i => if i < D then h i else 0) r = ra_ev D h r := by
            rw [ra_evX (n := D) (by omega) _ r (fun i a _ => if_neg (by omega))]
            exact ra_evC r (fun i a => if_pos a)
          have e5 : ra_ev (D + (d - p + 1)) (fun i => if i < D then h i else 0) r = ra_ev (d - p + 1) (fun i => if i < D then h i else 0) r := by
            refine ra_evX (by omega) _ r (fun i a _ => ?_)
            by_cases w : i < D
            · rw [if_pos w]
              exact tp i (by omega) w (by omega)
            · exact if_neg w
          rw [← e5, e4, e3]
    have e6 := hc d
    rw [eu_tI hd5, hd] at e6
    refine ra_10 (e6.trans (ra_zero (fun i hi => ?_)))
    rw [hz0 i hi, ra_0m]
    exact ite_self 0
  omega
end
section
/-! ===== the field's facts, arrays of field values ===== -/
def ra_cf {R : Type} (cv : R → Int32) (A : Nat → R) : Nat → Int32 := fun j => cv (A j)
theorem ra_cfu {R : Type} (cv : R → Int32) (A : Nat → R) (k : Nat) (x : R) : upd (ra_cf cv A) k (cv x) = ra_cf cv (ra_ur A k x) := by
  funext j
  unfold upd ra_cf ra_ur
  by_cases h : j = k
  · rw [if_pos h, if_pos h]
  · rw [if_neg h, if_neg h]
/-- the places i .. e - 1 filled by f -/
def ra_fl {R : Type} (A : Nat → R) (i e : Nat) (f : Nat → R) : Nat → R := fun j => if i ≤ j ∧ j < e then f j else A j
theorem ra_fl0 {R : Type} (A : Nat → R) (e : Nat) (f : Nat → R) : ra_fl A e e f = A := by
  funext j
  exact if_neg (by omega)
theorem ra_flS {R : Type} (A : Nat → R) {i e : Nat} (f : Nat → R) (h : i < e) : ra_fl (ra_ur A i (f i)) (i + 1) e f = ra_fl A i e f := by
  funext j
  unfold ra_fl ra_ur
  by_cases a : j = i
  · subst a
    rw [if_neg (by omega), if_pos rfl, if_pos (by omega)]
  · by_cases b : i ≤ j ∧ j < e
    · rw [if_pos (by omega), if_pos b]
    · rw [if_neg (by omega), if_neg a, if_neg b]
theorem ra_flI {R : Type} {A : Nat → R} {i e : Nat} {f : Nat → R} {j : Nat} (h1 : i ≤ j) (h2 : j < e) : ra_fl A i e f j = f j := if_pos ⟨h1, h2⟩
theorem ra_flN {R : Type} {A : Nat → R} {i e : Nat} {f : Nat → R} {j : Nat} (h : j < i ∨ e ≤ j) : ra_fl A i e f j = A j := if_neg (by omega)
def fq_fr {R : Type} [Lean.Grind.CommRing R] : Nat → R → R
  | 0, a => a
  | n + 1, a => fq_fr n a * fq_fr n a
def fq_tr {R : Type} [Lean.Grind.CommRing R] (m : Nat) (a : R) : R := ra_sm m (fun i => fq_fr i a)
/-- the field and its numbers 0 .. N in the program -/
def fq_F {R : Type} [Lean.Grind.CommRing R] (cv : R → Int32) (el : Nat → R) (iv : R → R) (m N : Nat) : Prop :=
  (∀ a b, cv a = cv b → a = b) ∧ cv 0 = 0 ∧ cv 1 = 1 ∧ (∀ a b, cv (a + b) = cv a ^^^ cv b) ∧ (∀ n, n ≤ N → cv (el n) = nI n) ∧ (∀ a, ∃ n, n ≤ N ∧ a = el n) ∧
  (∀ a b : R, a * b = 0 → a = 0 ∨ b = 0) ∧ (∀ a, a ≠ 0 → a * iv a = 1) ∧ iv 0 = 0 ∧ (3 ≤ m ∧ m ≤ 5 ∧ N + 1 = 2 ^ m ∧ 7 ≤ N ∧ N ≤ 31) ∧
  (∀ a : R, fq_fr m a = a) ∧ (∀ a : R, fq_tr m a = 0 ∨ fq_tr m a = 1) ∧ (∀ a b : R, (∀ j, j < m → fq_tr m (el (2 ^ j) * a) = fq_tr m (el (2 ^ j) * b)) → a = b)
/-- the tables of logarithms -/
def fq_T {R : Type} [Lean.Grind.CommRing R] (cv : R → Int32) (iv : R → R) (N : Nat) (a_exp a_log : Nat → Int32) : Prop :=
  (∀ a b : R, a ≠ 0 → b ≠ 0 → vp_in (a_log (cv a).toNatClampNeg + a_log (cv b).toNatClampNeg) 64 ∧ a_exp (a_log (cv a).toNatClampNeg + a_log (cv b).toNatClampNeg).toNatClampNeg = cv (a * b)) ∧
  (∀ a : R, a ≠ 0 → vp_in (nI N - a_log (cv a).toNatClampNeg) 64 ∧ a_exp (nI N - a_log (cv a).toNatClampNeg).toNatClampNeg = cv (iv a))
section
variable {f_bits f_words f_sides f_order f_result f_found f_polyDegree f_polyBasis f_depth : Int32} {a_exp a_log a_power a_members a_sizes a_sketches a_combined a_list a_syndromes a_locator a_previous a_saved a_poly a_residue a_wide a_left a_right a_quotient a_stackPoly a_stackDegree a_stackBasis : Nat → Int32}
theorem fq_nz {R : Type} [Lean.Grind.CommRing R] {cv : R → Int32} {el : Nat → R} {iv : R → R} {m N : Nat} (F : fq_F cv el iv m N) {a : R} : cv a = 0 ↔ a = 0 :=
  ⟨fun h => F.1 _ _ (h.trans F.2.1.symm), fun h => by rw [h]; exact F.2.1⟩
theorem fq_nat {R : Type} [Lean.Grind.CommRing R] {cv : R → Int32} {el : Nat → R} {iv : R → R} {m N : Nat} (F : fq_F cv el iv m N) (a : R) : ∃ n, n ≤ N ∧ a = el n ∧ cv a = nI n := by
  obtain ⟨n, h, e⟩ := F.2.2.2.2.2.1 a
  exact ⟨n, h, e, by rw [e, F.2.2.2.2.1 n h]⟩
theorem fq_in {R : Type} [Lean.Grind.CommRing R] {cv : R → Int32} {el : Nat → R} {iv : R → R} {m N : Nat} (F : fq_F cv el iv m N) (a : R) : vp_in (cv a) 32 := by
  obtain ⟨n, h, _, e⟩ := fq_nat F a
  have := F.2.2.2.2.2.2.2.2.2.1
  rw [e]
  exact vp_in_nI (by omega) (by decide)
theorem fq_xor {R : Type} [Lean.Grind.CommRing R] {cv : R → Int32} {el : Nat → R} {iv : R → R} {m N : Nat} (F : fq_F cv el iv m N) (a b : R) : cv a ^^^ cv b = cv (a + b) := (F.2.2.2.1 a b).symm
theorem xw_product {R : Type} [Lean.Grind.CommRing R] {cv : R → Int32} {el : Nat → R} {iv : R → R} {m N : Nat} (F : fq_F cv el iv m N) (T : fq_T cv iv N a_exp a_log) (a b : R) {post : Int32 → Prop} (h : post (cv (a * b))) : wpX_product post (f_bits, f_words, f_sides, f_order, f_result, f_found, f_polyDegree, f_polyBasis, f_depth, a_exp, a_log, a_power, a_members, a_sizes, a_sketches, a_combined, a_list, a_syndromes, a_locator, a_previous, a_saved, a_poly, a_residue, a_wide, a_left, a_right, a_quotient, a_stackPoly, a_stackDegree, a_stackBasis) (cv a) (cv b) := by
  by_cases za : a = 0
  · subst za
    rw [ra_0m, F.2.1] at h
    exact br_t F.2.1 h
  · by_cases zb : b = 0
    · subst zb
      rw [ra_m0, F.2.1] at h
      exact br_f (fun z => za ((fq_nz F).mp z)) (br_t F.2.1 h)
    · obtain ⟨t1, t2⟩ := T.1 a b za zb
      rw [← t2] at h
      exact br_f (fun z => za ((fq_nz F).mp z)) (br_f (fun z => zb ((fq_nz F).mp z)) ⟨fq_in F a, fq_in F b, t1, h⟩)
theorem xw_inverse {R : Type} [Lean.Grind.CommRing R] {cv : R → Int32} {el : Nat → R} {iv : R → R} {m N : Nat} (F : fq_F cv el iv m N) (T : fq_T cv iv N a_exp a_log) (a : R) {post : Int32 → Prop} (h : post (cv (iv a))) : wpX_inverse post (f_bits, f_words, f_sides, nI N, f_result, f_found, f_polyDegree, f_polyBasis, f_depth, a_exp, a_log, a_power, a_members, a_sizes, a_sketches, a_combined, a_list, a_syndromes, a_locator, a_previous, a_saved, a_poly, a_residue, a_wide, a_left, a_right, a_quotient, a_stackPoly, a_stackDegree, a_stackBasis) (cv a) := by
  by_cases za : a = 0
  · subst za
    rw [F.2.2.2.2.2.2.2.2.1, F.2.1] at h
    exact br_t F.2.1 h
  · obtain ⟨t1, t2⟩ := T.2 a za
    rw [← t2] at h
    exact br_f (fun z => za ((fq_nz F).mp z)) ⟨fq_in F a, t1, h⟩
end
end
section
/-! ===== copies ===== -/
section
variable {f_bits f_words f_sides f_order f_result f_found f_polyDegree f_polyBasis f_depth : Int32} {a_exp a_log a_power a_members a_sizes a_sketches a_combined a_list a_syndromes a_locator a_previous a_saved a_poly a_residue a_wide a_left a_right a_quotient a_stackPoly a_stackDegree a_stackBasis : Nat → Int32}
theorem xw_copy__locator_saved_3 {R : Type} {cv : R → Int32} {P : Nat → R} {post : SX → Prop} : ∀ (d i : Nat) (L : Nat → R), i + d = 16 → post (f_bits, f_words, f_sides, f_order, f_result, f_found, f_polyDegree, f_polyBasis, f_depth, a_exp, a_log, a_power, a_members, a_sizes, a_sketches, a_combined, a_list, a_syndromes, ra_cf cv P, a_previous, ra_cf cv (ra_fl L i 16 P), a_poly, a_residue, a_wide, a_left, a_right, a_quotient, a_stackPoly, a_stackDegree, a_stackBasis) → wX_copy__locator_saved_3 post 16 f_bits f_words f_sides f_order f_result f_found f_polyDegree f_polyBasis f_depth (d + 1) (nI i) a_exp a_log a_power a_members a_sizes a_sketches a_combined a_list a_syndromes (ra_cf cv P) a_previous (ra_cf cv L) a_poly a_residue a_wide a_left a_right a_quotient a_stackPoly a_stackDegree a_stackBasis := by
  intro d
  induction d with
  | zero =>
    intro i L h hp
    obtain rfl : i = 16 := by omega
    rw [ra_fl0] at hp
    exact br_t (nI_le (a := 16) (b := 16) (Nat.le_refl _) (by decide)) hp
  | succ d ih =>
    intro i L h hp
    refine br_f (nI_ge (b := 16) (by omega) (by decide)) ⟨vp_in_nI (by omega) (by decide), vp_in_nI (by omega) (by decide), nm_r (e' := ra_cf cv (ra_ur L i (P i))) ?_ (nm_r (nI_1 i) ?_)⟩
    · rw [nI_clamp (by omega)]
      exact ra_cfu cv L i (P i)
    · exact ih (i + 1) _ (by omega) (by rw [ra_flS L P (by omega)]; exact hp)
theorem xw_copy__locator_saved {R : Type} {cv : R → Int32} {P L : Nat → R} {post : SX → Prop} (h : post (f_bits, f_words, f_sides, f_order, f_result, f_found, f_polyDegree, f_polyBasis, f_depth, a_exp, a_log, a_power, a_members, a_sizes, a_sketches, a_combined, a_list, a_syndromes, ra_cf cv P, a_previous, ra_cf cv (ra_fl L 0 16 P), a_poly, a_residue, a_wide, a_left, a_right, a_quotient, a_stackPoly, a_stackDegree, a_stackBasis)) : wpX_copy__locator_saved post (f_bits, f_words, f_sides, f_order, f_result, f_found, f_polyDegree, f_polyBasis, f_depth, a_exp, a_log, a_power, a_members, a_sizes, a_sketches, a_combined, a_list, a_syndromes, ra_cf cv P, a_previous, ra_cf cv L, a_poly, a_residue, a_wide, a_left, a_right, a_quotient, a_stackPoly, a_stackDegree, a_stackBasis) 16 :=
  ⟨_, xw_copy__locator_saved_3 16 0 L rfl h⟩
theorem xw_copy__saved_previous_3 {R : Type} {cv : R → Int32} {P : Nat → R} {post : SX → Prop} : ∀ (d i : Nat) (L : Nat → R), i + d = 16 → post (f_bits, f_words, f_sides, f_order, f_result, f_found, f_polyDegree, f_polyBasis, f_depth, a_exp, a_log, a_power, a_members, a_sizes, a_sketches, a_combined, a_list, a_syndromes, a_locator, ra_cf cv (ra_fl L i 16 P), ra_cf cv P, a_poly, a_residue, a_wide, a_left, a_right, a_quotient, a_stackPoly, a_stackDegree, a_stackBasis) → wX_copy__saved_previous_3 post 16 f_bits f_words f_sides f_order f_result f_found f_polyDegree f_polyBasis f_depth (d + 1) (nI i) a_exp a_log a_power a_members a_sizes a_sketches a_combined a_list a_syndromes a_locator (ra_cf cv L) (ra_cf cv P) a_poly a_residue a_wide a_left a_right a_quotient a_stackPoly a_stackDegree a_stackBasis := by
  intro d
  induction d with
  | zero =>
    intro i L h hp
    obtain rfl : i = 16 := by omega
    rw [ra_fl0] at hp
    exact br_t (nI_le (a := 16) (b := 16) (Nat.le_refl _) (by decide)) hp
  | succ d ih =>
    intro i L h hp
    refine br_f (nI_ge (b := 16) (by omega) (by decide)) ⟨vp_in_nI (by omega) (by decide), vp_in_nI (by omega) (by decide), nm_r (e' := ra_cf cv (ra_ur L i (P i))) ?_ (nm_r (nI_1 i) ?_)⟩
    · rw [nI_clamp (by omega)]
      exact ra_cfu cv L i (P i)
    · exact ih (i + 1) _ (by omega) (by rw [ra_flS L P (by omega)]; exact hp)
theorem xw_copy__saved_previous {R : Type} {cv : R → Int32} {P L : Nat → R} {post : SX → Prop} (h : post (f_bits, f_words, f_sides, f_order, f_result, f_found, f_polyDegree, f_polyBasis, f_depth, a_exp, a_log, a_power, a_members, a_sizes, a_sketches, a_combined, a_list, a_syndromes, a_locator, ra_cf cv (ra_fl L 0 16 P), ra_cf cv P, a_poly, a_residue, a_wide, a_left, a_right, a_quotient, a_stackPoly, a_stackDegree, a_stackBasis)) : wpX_copy__saved_previous post (f_bits, f_words, f_sides, f_order, f_result, f_found, f_polyDegree, f_polyBasis, f_depth, a_exp, a_log, a_power, a_members, a_sizes, a_sketches, a_combined, a_list, a_syndromes, a_locator, ra_cf cv L, ra_cf cv P, a_poly, a_residue, a_wide, a_left, a_right, a_quotient, a_stackPoly, a_stackDegree, a_stackBasis) 16 :=
  ⟨_, xw_copy__saved_previous_3 16 0 L rfl h⟩
theorem xw_copy__poly_left_3 {R : Type} {cv : R → Int32} {P : Nat → R} {post : SX → Prop} : ∀ (d i : Nat) (L : Nat → R), i + d = 5 → post (f_bits, f_words, f_sides, f_order, f_result, f_found, f_polyDegree, f_polyBasis, f_depth, a_exp, a_log, a_power, a_members, a_sizes, a_sketches, a_combined, a_list, a_syndromes, a_locator, a_previous, a_saved, ra_cf cv P, a_residue, a_wide, ra_cf cv (ra_fl L i 5 P), a_right, a_quotient, a_stackPoly, a_stackDegree, a_stackBasis) → wX_copy__poly_left_3 post 5 f_bits f_words f_sides f_order f_result f_found f_polyDegree f_polyBasis f_depth (d + 1) (nI i) a_exp a_log a_power a_members a_sizes a_sketches a_combined a_list a_syndromes a_locator a_previous a_saved (ra_cf cv P) a_residue a_wide (ra_cf cv L) a_right a_quotient a_stackPoly a_stackDegree a_stackBasis := by
  intro d
  induction d with
  | zero =>
    intro i L h hp
    obtain rfl : i = 5 := by omega
    rw [ra_fl0] at hp
    exact br_t (nI_le (a := 5) (b := 5) (Nat.le_refl _) (by decide)) hp
  | succ d ih =>
    intro i L h hp
    refine br_f (nI_ge (b := 5) (by omega) (by decide)) ⟨vp_in_nI (by omega) (by decide), vp_in_nI (by omega) (by decide), nm_r (e' := ra_cf cv (ra_ur L i (P i))) ?_ (nm_r (nI_1 i) ?_)⟩
    · rw [nI_clamp (by omega)]
      exact ra_cfu cv L i (P i)
    · exact ih (i + 1) _ (by omega) (by rw [ra_flS L P (by omega)]; exact hp)
theorem xw_copy__poly_left {R : Type} {cv : R → Int32} {P L : Nat → R} {post : SX → Prop} (h : post (f_bits, f_words, f_sides, f_order, f_result, f_found, f_polyDegree, f_polyBasis, f_depth, a_exp, a_log, a_power, a_members, a_sizes, a_sketches, a_combined, a_list, a_syndromes, a_locator, a_previous, a_saved, ra_cf cv P, a_residue, a_wide, ra_cf cv (ra_fl L 0 5 P), a_right, a_quotient, a_stackPoly, a_stackDegree, a_stackBasis)) : wpX_copy__poly_left post (f_bits, f_words, f_sides, f_order, f_result, f_found, f_polyDegree, f_polyBasis, f_depth, a_exp, a_log, a_power, a_members, a_sizes, a_sketches, a_combined, a_list, a_syndromes, a_locator, a_previous, a_saved, ra_cf cv P, a_residue, a_wide, ra_cf cv L, a_right, a_quotient, a_stackPoly, a_stackDegree, a_stackBasis) 5 :=
  ⟨_, xw_copy__poly_left_3 5 0 L rfl h⟩
theorem xw_copy__residue_right_3 {R : Type} {cv : R → Int32} {P : Nat → R} {post : SX → Prop} : ∀ (d i : Nat) (L : Nat → R), i + d = 5 → post (f_bits, f_words, f_sides, f_order, f_result, f_found, f_polyDegree, f_polyBasis, f_depth, a_exp, a_log, a_power, a_members, a_sizes, a_sketches, a_combined, a_list, a_syndromes, a_locator, a_previous, a_saved, a_poly, ra_cf cv P, a_wide, a_left, ra_cf cv (ra_fl L i 5 P), a_quotient, a_stackPoly, a_stackDegree, a_stackBasis) → wX_copy__residue_right_3 post 5 f_bits f_words f_sides f_order f_result f_found f_polyDegree f_polyBasis f_depth (d + 1) (nI i) a_exp a_log a_power a_members a_sizes a_sketches a_combined a_list a_syndromes a_locator a_previous a_saved a_poly (ra_cf cv P) a_wide a_left (ra_cf cv L) a_quotient a_stackPoly a_stackDegree a_stackBasis := by
  intro d
  induction d with
  | zero =>
    intro i L h hp
    obtain rfl : i = 5 := by omega
    rw [ra_fl0] at hp
    exact br_t (nI_le (a := 5) (b := 5) (Nat.le_refl _) (by decide)) hp
  | succ d ih =>
    intro i L h hp
    refine br_f (nI_ge (b := 5) (by omega) (by decide)) ⟨vp_in_nI (by omega) (by decide), vp_in_nI (by omega) (by decide), nm_r (e' := ra_cf cv (ra_ur L i (P i))) ?_ (nm_r (nI_1 i) ?_)⟩
    · rw [nI_clamp (by omega)]
      exact ra_cfu cv L i (P i)
    · exact ih (i + 1) _ (by omega) (by rw [ra_flS L P (by omega)]; exact hp)
theorem xw_copy__residue_right {R : Type} {cv : R → Int32} {P L : Nat → R} {post : SX → Prop} (h : post (f_bits, f_words, f_sides, f_order, f_result, f_found, f_polyDegree, f_polyBasis, f_depth, a_exp, a_log, a_power, a_members, a_sizes, a_sketches, a_combined, a_list, a_syndromes, a_locator, a_previous, a_saved, a_poly, ra_cf cv P, a_wide, a_left, ra_cf cv (ra_fl L 0 5 P), a_quotient, a_stackPoly, a_stackDegree, a_stackBasis)) : wpX_copy__residue_right post (f_bits, f_words, f_sides, f_order, f_result, f_found, f_polyDegree, f_polyBasis, f_depth, a_exp, a_log, a_power, a_members, a_sizes, a_sketches, a_combined, a_list, a_syndromes, a_locator, a_previous, a_saved, a_poly, ra_cf cv P, a_wide, a_left, ra_cf cv L, a_quotient, a_stackPoly, a_stackDegree, a_stackBasis) 5 :=
  ⟨_, xw_copy__residue_right_3 5 0 L rfl h⟩
end
end
section
/-! ===== the locator: walks ===== -/
theorem xw_in {n N : Nat} {x : Int32} (e : x = nI n) (h : n < N) (hN : N < 2 ^ 31) : vp_in x N := by
  rw [e]
  exact vp_in_nI h hN
theorem xw_lit (n k : Nat) : nI n * nI k = nI (n * k) := pk_mul n k
theorem xw_2n (i : Nat) : (2 : Int32) * nI i = nI (2 * i) := pk_mul 2 i
theorem xw_4n (i : Nat) : (4 : Int32) * nI i = nI (4 * i) := pk_mul 4 i
theorem xw_5n (i : Nat) : (5 : Int32) * nI i = nI (5 * i) := pk_mul 5 i
theorem xw_2n1 (i : Nat) : (2 : Int32) * nI i + 1 = nI (2 * i + 1) := by rw [xw_2n, nI_1]
section
variable {f_bits f_words f_sides f_order f_result f_found f_polyDegree f_polyBasis f_depth : Int32} {a_exp a_log a_power a_members a_sizes a_sketches a_combined a_list a_syndromes a_locator a_previous a_saved a_poly a_residue a_wide a_left a_right a_quotient a_stackPoly a_stackDegree a_stackBasis : Nat → Int32}
def xw_dl {R : Type} [Lean.Grind.CommRing R] : Nat → R := fun i => if i = 0 then 1 else 0
theorem xw_resetLocator_22 {R : Type} {cv : R → Int32} {post : SX → Prop} {J2 : Int32 → (Nat → Int32) → (Nat → Int32) → (Nat → Int32) → (Nat → Int32) → (Nat → Int32) → (Nat → Int32) → (Nat → Int32) → (Nat → Int32) → (Nat → Int32) → (Nat → Int32) → (Nat → Int32) → (Nat → Int32) → (Nat → Int32) → (Nat → Int32) → (Nat → Int32) → (Nat → Int32) → (Nat → Int32) → (Nat → Int32) → (Nat → Int32) → (Nat → Int32) → (Nat → Int32) → Prop} (i : Nat) (hi : i < 16) (z : R) (z0 : Int32) (hz : z0 = cv z) (A B : Nat → R) (h : J2 (nI (i + 1)) a_exp a_log a_power a_members a_sizes a_sketches a_combined a_list a_syndromes (ra_cf cv (ra_ur A i z)) (ra_cf cv (ra_ur B i z)) a_saved a_poly a_residue a_wide a_left a_right a_quotient a_stackPoly a_stackDegree a_stackBasis) : wX_resetLocator_22 post J2 (nI i) z0 (nI i) f_bits f_words f_sides f_order f_result f_found f_polyDegree f_polyBasis f_depth a_exp a_log a_power a_members a_sizes a_sketches a_combined a_list a_syndromes (ra_cf cv A) (ra_cf cv B) a_saved a_poly a_residue a_wide a_left a_right a_quotient a_stackPoly a_stackDegree a_stackBasis := by
  subst hz
  refine And.intro (vp_in_nI hi (by decide)) (nm_r (e' := ra_cf cv (ra_ur A i z)) ?_ ⟨vp_in_nI hi (by decide), vp_in_nI hi (by decide), nm_r (e' := ra_cf cv (ra_ur B i z)) ?_ (nm_r (nI_1 i) h)⟩)
  · rw [nI_clamp (by omega)]
    exact ra_cfu cv A i z
  · rw [nI_clamp (by omega)]
    have e : ra_cf cv (ra_ur A i z) i = cv z := congrArg cv ra_urs
    rw [e]
    exact ra_cfu cv B i z
theorem xw_resetLocator_2 {R : Type} [Lean.Grind.CommRing R] {cv : R → Int32} {el : Nat → R} {iv : R → R} {m N : Nat} (F : fq_F cv el iv m N) {post : SX → Prop} : ∀ (d i : Nat) (A B : Nat → R), i + d = 16 → post (f_bits, f_words, f_sides, f_order, f_result, f_found, f_polyDegree, f_polyBasis, f_depth, a_exp, a_log, a_power, a_members, a_sizes, a_sketches, a_combined, a_list, a_syndromes, ra_cf cv (ra_fl A i 16 xw_dl), ra_cf cv (ra_fl B i 16 xw_dl), a_saved, a_poly, a_residue, a_wide, a_left, a_right, a_quotient, a_stackPoly, a_stackDegree, a_stackBasis) → wX_resetLocator_2 post f_bits f_words f_sides f_order f_result f_found f_polyDegree f_polyBasis f_depth (d + 1) (nI i) a_exp a_log a_power a_members a_sizes a_sketches a_combined a_list a_syndromes (ra_cf cv A) (ra_cf cv B) a_saved a_poly a_residue a_wide a_left a_right a_quotient a_stackPoly a_stackDegree a_stackBasis := by
  intro d
  induction d with
  | zero =>
    intro i A B h hp
    obtain rfl : i = 16 := by omega
    rw [ra_fl0, ra_fl0] at hp
    exact br_t (nI_le (a := 16) (b := 16) (Nat.le_refl _) (by decide)) hp
  | succ d ih =>
    intro i A B h hp
    have k := ih (i + 1) (ra_ur A i (xw_dl i)) (ra_ur B i (xw_dl i)) (by omega) (by rw [ra_flS A xw_dl (by omega), ra_flS B xw_dl (by omega)]; exact hp)
    refine br_f (nI_ge (b := 16) (by omega) (by decide)) ?_
    by_cases e : i = 0
    · subst e
      exact br_t rfl (xw_resetLocator_22 0 (by omega) (xw_dl 0) 1 (F.2.2.1.symm) A B k)
    · refine br_f (nI_ne0 (by omega) (by omega)) (xw_resetLocator_22 i (by omega) (xw_dl i) 0 ?_ A B k)
      show 0 = cv (if i = 0 then 1 else 0)
      rw [if_neg e, F.2.1]
theorem xw_resetLocator {R : Type} [Lean.Grind.CommRing R] {cv : R → Int32} {el : Nat → R} {iv : R → R} {m N : Nat} (F : fq_F cv el iv m N) {A B : Nat → R} {post : SX → Prop} (h : post (f_bits, f_words, f_sides, f_order, f_result, f_found, f_polyDegree, f_polyBasis, f_depth, a_exp, a_log, a_power, a_members, a_sizes, a_sketches, a_combined, a_list, a_syndromes, ra_cf cv (ra_fl A 0 16 xw_dl), ra_cf cv (ra_fl B 0 16 xw_dl), a_saved, a_poly, a_residue, a_wide, a_left, a_right, a_quotient, a_stackPoly, a_stackDegree, a_stackBasis)) : wpX_resetLocator post (f_bits, f_words, f_sides, f_order, f_result, f_found, f_polyDegree, f_polyBasis, f_depth, a_exp, a_log, a_power, a_members, a_sizes, a_sketches, a_combined, a_list, a_syndromes, ra_cf cv A, ra_cf cv B, a_saved, a_poly, a_residue, a_wide, a_left, a_right, a_quotient, a_stackPoly, a_stackDegree, a_stackBasis) :=
  ⟨_, xw_resetLocator_2 F 16 0 A B rfl h⟩
/-! the power sums -/
def xw_SyO {R : Type} [Lean.Grind.CommRing R] (W S : Nat → R) (i : Nat) : Prop := ∀ j, j < i → S (2 * j + 1) = W j
def xw_SyE {R : Type} [Lean.Grind.CommRing R] (S : Nat → R) (i : Nat) : Prop := ∀ j, 1 ≤ j → j < i → S (2 * j) = S j * S j
theorem xw_loadSyndromes_31 {R : Type} [Lean.Grind.CommRing R] {cv : R → Int32} {el : Nat → R} {iv : R → R} {m N : Nat} (F : fq_F cv el iv m N) (T : fq_T cv iv N a_exp a_log) {post : SX → Prop} {W : Nat → R} {k : Nat} (hk : k ≤ 4) (hp : ∀ S, xw_SyO W S k → xw_SyE S (k + 1) → post (f_bits, f_words, f_sides, f_order, f_result, f_found, f_polyDegree, f_polyBasis, f_depth, a_exp, a_log, a_power, a_members, a_sizes, a_sketches, a_combined, a_list, ra_cf cv S, a_locator, a_previous, a_saved, a_poly, a_residue, a_wide, a_left, a_right, a_quotient, a_stackPoly, a_stackDegree, a_stackBasis)) : ∀ (d i : Nat) (S : Nat → R), i + d = k + 1 → 1 ≤ i → xw_SyO W S k → xw_SyE S i → wX_loadSyndromes_31 post (nI k) f_bits f_words f_sides f_order f_result f_found f_polyDegree f_polyBasis f_depth (d + 1) (nI i) a_exp a_log a_power a_members a_sizes a_sketches a_combined a_list (ra_cf cv S) a_locator a_previous a_saved a_poly a_residue a_wide a_left a_right a_quotient a_stackPoly a_stackDegree a_stackBasis := by
  intro d
  induction d with
  | zero =>
    intro i S h h1 hO hE
    obtain rfl : i = k + 1 := by omega
    exact br_t (nI_lt (by omega) (by omega)) (hp S hO hE)
  | succ d ih =>
    intro i S h h1 hO hE
    refine br_f (nI_nlt (by omega) (by omega)) ⟨vp_in_nI (by omega) (by decide), vp_in_nI (by omega) (by decide), ?_⟩
    rw [nI_clamp (by omega)]
    refine xw_product F T (S i) (S i) (And.intro (xw_in (xw_2n i) (by omega) (by decide)) (nm_r (e' := ra_cf cv (ra_ur S (2 * i) (S i * S i))) ?_ (nm_r (nI_1 i) ?_)))
    · rw [xw_2n, nI_clamp (by omega)]
      exact ra_cfu cv S (2 * i) (S i * S i)
    · refine ih (i + 1) _ (by omega) (by omega) (fun j hj => ?_) (fun j a b => ?_)
      · rw [ra_urn (by omega)]; exact hO j hj
      · rw [ra_urn (k := 2 * i) (j := j) (by omega)]
        by_cases e : j = i
        · subst e; exact ra_urs
        · rw [ra_urn (by omega)]; exact hE j a (by omega)
theorem xw_loadSyndromes_2 {R : Type} [Lean.Grind.CommRing R] {cv : R → Int32} {el : Nat → R} {iv : R → R} {m N : Nat} (F : fq_F cv el iv m N) (T : fq_T cv iv N a_exp a_log) {post : SX → Prop} {W : Nat → R} {k : Nat} (hk : k ≤ 4) (hp : ∀ S, xw_SyO W S k → xw_SyE S (k + 1) → post (f_bits, f_words, f_sides, f_order, f_result, f_found, f_polyDegree, f_polyBasis, f_depth, a_exp, a_log, a_power, a_members, a_sizes, a_sketches, ra_cf cv W, a_list, ra_cf cv S, a_locator, a_previous, a_saved, a_poly, a_residue, a_wide, a_left, a_right, a_quotient, a_stackPoly, a_stackDegree, a_stackBasis)) : ∀ (d i : Nat) (S : Nat → R), i + d = k → xw_SyO W S i → wX_loadSyndromes_2 post (nI k) f_bits f_words f_sides f_order f_result f_found f_polyDegree f_polyBasis f_depth (d + 1) (nI i) a_exp a_log a_power a_members a_sizes a_sketches (ra_cf cv W) a_list (ra_cf cv S) a_locator a_previous a_saved a_poly a_residue a_wide a_left a_right a_quotient a_stackPoly a_stackDegree a_stackBasis := by
  intro d
  induction d with
  | zero =>
    intro i S h hO
    obtain rfl : i = k := by omega
    exact br_t (nI_le (Nat.le_refl _) (by omega)) ⟨_, xw_loadSyndromes_31 F T hk hp i 1 S (by omega) (by omega) hO (fun j a b => by omega)⟩
  | succ d ih =>
    intro i S h hO
    refine br_f (nI_ge (by omega) (by omega)) ⟨vp_in_nI (by omega) (by decide), xw_in (xw_2n1 i) (by omega) (by decide), nm_r (e' := ra_cf cv (ra_ur S (2 * i + 1) (W i))) ?_ (nm_r (nI_1 i) ?_)⟩
    · rw [xw_2n1, nI_clamp (by omega), nI_clamp (by omega)]
      exact ra_cfu cv S (2 * i + 1) (W i)
    · refine ih (i + 1) _ (by omega) (fun j hj => ?_)
      by_cases e : j = i
      · subst e; exact ra_urs
      · rw [ra_urn (by omega)]; exact hO j (by omega)
theorem xw_loadSyndromes {R : Type} [Lean.Grind.CommRing R] {cv : R → Int32} {el : Nat → R} {iv : R → R} {m N : Nat} (F : fq_F cv el iv m N) (T : fq_T cv iv N a_exp a_log) {post : SX → Prop} {W S : Nat → R} {k : Nat} (hk : k ≤ 4) (hp : ∀ S, xw_SyO W S k → xw_SyE S (k + 1) → post (f_bits, f_words, f_sides, f_order, f_result, f_found, f_polyDegree, f_polyBasis, f_depth, a_exp, a_log, a_power, a_members, a_sizes, a_sketches, ra_cf cv W, a_list, ra_cf cv S, a_locator, a_previous, a_saved, a_poly, a_residue, a_wide, a_left, a_right, a_quotient, a_stackPoly, a_stackDegree, a_stackBasis)) : wpX_loadSyndromes post (f_bits, f_words, f_sides, f_order, f_result, f_found, f_polyDegree, f_polyBasis, f_depth, a_exp, a_log, a_power, a_members, a_sizes, a_sketches, ra_cf cv W, a_list, ra_cf cv S, a_locator, a_previous, a_saved, a_poly, a_residue, a_wide, a_left, a_right, a_quotient, a_stackPoly, a_stackDegree, a_stackBasis) (nI k) :=
  ⟨_, xw_loadSyndromes_2 F T hk hp k 0 S (by omega) (fun j hj => by omega)⟩
/-! the discrepancy -/
def xw_dis {R : Type} [Lean.Grind.CommRing R] (S C : Nat → R) (n L c : Nat) : R := S (n + 1) + ra_sm c (fun i => C (i + 1) * S (n - i))
theorem xw_discrepancy_12 {R : Type} [Lean.Grind.CommRing R] {cv : R → Int32} {el : Nat → R} {iv : R → R} {m N : Nat} (F : fq_F cv el iv m N) (T : fq_T cv iv N a_exp a_log) {post : Int32 → Prop} {S C : Nat → R} {n L : Nat} (hn : n < 8) (hL : L ≤ n) (hp : post (cv (xw_dis S C n L L))) : ∀ (d c : Nat), c + d = L → wX_discrepancy_12 post (nI n) (nI L) f_bits f_words f_sides f_order f_result f_found f_polyDegree f_polyBasis f_depth a_exp a_log a_power a_members a_sizes a_sketches a_combined a_list (ra_cf cv S) (ra_cf cv C) a_previous a_saved a_poly a_residue a_wide a_left a_right a_quotient a_stackPoly a_stackDegree a_stackBasis (d + 1) (cv (xw_dis S C n L c)) (nI (c + 1)) := by
  intro d
  induction d with
  | zero =>
    intro c h
    obtain rfl : c = L := by omega
    exact br_t (nI_lt (by omega) (by omega)) hp
  | succ d ih =>
    intro c h
    have e1 : nI n + 1 - nI (c + 1) = nI (n - c) := by
      rw [nI_1, pk_sub (by omega)]
      exact congrArg nI (by omega)
    refine br_f (nI_nlt (by omega) (by omega)) (br_f (nI_nlt (by omega) (by omega)) ⟨vp_in_nI (by omega) (by decide), xw_in e1 (by omega) (by decide), ?_⟩)
    rw [e1, nI_clamp (by omega), nI_clamp (by omega)]
    refine xw_product F T (C (c + 1)) (S (n - c)) (nm_r (e' := cv (xw_dis S C n L (c + 1))) ?_ (nm_r (nI_1 (c + 1)) (ih (c + 1) (by omega))))
    rw [fq_xor F]
    refine congrArg cv ?_
    unfold xw_dis
    rw [ra_smS]
    exact Lean.Grind.Semiring.add_assoc _ _ _
theorem xw_discrepancy {R : Type} [Lean.Grind.CommRing R] {cv : R → Int32} {el : Nat → R} {iv : R → R} {m N : Nat} (F : fq_F cv el iv m N) (T : fq_T cv iv N a_exp a_log) {post : Int32 → Prop} {S C : Nat → R} {n L : Nat} (hn : n < 8) (hL : L ≤ n) (hp : post (cv (xw_dis S C n L L))) : wpX_discrepancy post (f_bits, f_words, f_sides, f_order, f_result, f_found, f_polyDegree, f_polyBasis, f_depth, a_exp, a_log, a_power, a_members, a_sizes, a_sketches, a_combined, a_list, ra_cf cv S, ra_cf cv C, a_previous, a_saved, a_poly, a_residue, a_wide, a_left, a_right, a_quotient, a_stackPoly, a_stackDegree, a_stackBasis) (nI n) (nI L) := by
  refine And.intro (xw_in (nI_1 n) (by omega) (by decide)) (nm_r (e' := cv (xw_dis S C n L 0)) ?_ ⟨_, xw_discrepancy_12 F T hn hL hp L 0 (by omega)⟩)
  rw [nI_1, nI_clamp (by omega)]
  exact congrArg cv (ra_0 _).symm
/-! the correction -/
theorem xw_addShifted_2 {R : Type} [Lean.Grind.CommRing R] {cv : R → Int32} {el : Nat → R} {iv : R → R} {m N : Nat} (F : fq_F cv el iv m N) (T : fq_T cv iv N a_exp a_log) {post : SX → Prop} {C B : Nat → R} {s : R} {g : Nat} (hg : g ≤ 16) (hp : post (f_bits, f_words, f_sides, f_order, f_result, f_found, f_polyDegree, f_polyBasis, f_depth, a_exp, a_log, a_power, a_members, a_sizes, a_sketches, a_combined, a_list, a_syndromes, ra_cf cv (ra_aw C g (16 - g) s B), ra_cf cv B, a_saved, a_poly, a_residue, a_wide, a_left, a_right, a_quotient, a_stackPoly, a_stackDegree, a_stackBasis)) : ∀ (d i : Nat), i + g + d = 16 → wX_addShifted_2 post (cv s) (nI g) f_bits f_words f_sides f_order f_result f_found f_polyDegree f_polyBasis f_depth (d + 1) (nI i) a_exp a_log a_power a_members a_sizes a_sketches a_combined a_list a_syndromes (ra_cf cv (ra_aw C g i s B)) (ra_cf cv B) a_saved a_poly a_residue a_wide a_left a_right a_quotient a_stackPoly a_stackDegree a_stackBasis := by
  intro d
  induction d with
  | zero =>
    intro i h
    obtain rfl : i = 16 - g := by omega
    refine br_t ?_ hp
    rw [nI_add]
    exact nI_le (a := 16) (by omega) (by omega)
  | succ d ih =>
    intro i h
    have e1 : nI i + nI g = nI (g + i) := by rw [nI_add]; exact congrArg nI (by omega)
    refine br_f ?_ ⟨xw_in e1 (by omega) (by decide), vp_in_nI (by omega) (by decide), ?_⟩
    · rw [e1]
      exact nI_ge (b := 16) (by omega) (by decide)
    · rw [e1, nI_clamp (by omega), nI_clamp (by omega)]
      refine xw_product F T s (B i) (And.intro (vp_in_nI (by omega) (by decide)) (nm_r (e' := ra_cf cv (ra_aw C g (i + 1) s B)) ?_ (nm_r (nI_1 i) (ih (i + 1) (by omega)))))
      show upd _ _ (cv _ ^^^ _) = _
      rw [fq_xor F, ra_cfu, ra_awS]
theorem xw_addShifted {R : Type} [Lean.Grind.CommRing R] {cv : R → Int32} {el : Nat → R} {iv : R → R} {m N : Nat} (F : fq_F cv el iv m N) (T : fq_T cv iv N a_exp a_log) {post : SX → Prop} {C B : Nat → R} {s : R} {g : Nat} (hg : g ≤ 16) (hp : post (f_bits, f_words, f_sides, f_order, f_result, f_found, f_polyDegree, f_polyBasis, f_depth, a_exp, a_log, a_power, a_members, a_sizes, a_sketches, a_combined, a_list, a_syndromes, ra_cf cv (ra_aw C g (16 - g) s B), ra_cf cv B, a_saved, a_poly, a_residue, a_wide, a_left, a_right, a_quotient, a_stackPoly, a_stackDegree, a_stackBasis)) : wpX_addShifted post (f_bits, f_words, f_sides, f_order, f_result, f_found, f_polyDegree, f_polyBasis, f_depth, a_exp, a_log, a_power, a_members, a_sizes, a_sketches, a_combined, a_list, a_syndromes, ra_cf cv C, ra_cf cv B, a_saved, a_poly, a_residue, a_wide, a_left, a_right, a_quotient, a_stackPoly, a_stackDegree, a_stackBasis) (cv s) (nI g) := by
  refine ⟨16 - g + 1, ?_⟩
  have k := xw_addShifted_2 F T hg hp (16 - g) 0 (by omega)
  rw [ra_aw0] at k
  exact k
end
end
section
/-! ===== findLocator ===== -/
def bm_Nc {R : Type} [Lean.Grind.CommRing R] (S : Nat → R) (k : Nat) (E : List R) : Prop := E.Nodup ∧ (∀ x, x ∈ E → x ≠ 0) ∧ E.length ≤ k ∧ ∀ j, 1 ≤ j → j ≤ 2 * k → S j = ra_ls E (fun x => x ^ j)
theorem bm_dis {R : Type} [Lean.Grind.CommRing R] {S C : Nat → R} {n L : Nat} (hL : L ≤ n) (h0 : C 0 = 1) : xw_dis S C n L L = ra_sm (L + 1) (fun i => C i * S (n + 1 - i)) := by
  unfold xw_dis
  rw [ra_first, h0]
  have e : ra_sm L (fun i => C (i + 1) * S (n - i)) = ra_sm L (fun i => C (i + 1) * S (n + 1 - (i + 1))) := by
    refine ra_cong (fun i _ => ?_)
    rw [show n + 1 - (i + 1) = n - i by omega]
  rw [e]
  show S (n + 1) + _ = 1 * S (n + 1) + _
  grind
theorem bm_stC {R : Type} [Lean.Grind.CommRing R] {L : Nat} {B B' : Nat → R} (h : ∀ i, i ≤ L → B i = B' i) : bm_st L B = bm_st L B' := by
  funext x
  exact ra_cong (fun i hi => by rw [h i (by omega)])
theorem bm_cB {R : Type} [Lean.Grind.CommRing R] {E : List R} {n L g : Nat} {b : R} {C B B' : Nat → R} (h : ∀ i, i < 16 → B i = B' i) (hn : n < 15) (I : bm_I E n L g b C B) : bm_I E n L g b C B' := by
  obtain ⟨h1, h2, h3, h4, h5, h6, h7, h8⟩ := I
  refine ⟨h1, h2, h3, h4, h5, h6, h7, ?_⟩
  rcases h8 with ⟨a, c, d⟩ | ⟨a, Lb, c, d, e, f⟩
  · exact Or.inl ⟨a, c, fun i p q => by rw [← h i q]; exact d i p q⟩
  · refine Or.inr ⟨a, Lb, c, fun i p q => by rw [← h i q]; exact d i p q, fun j p q => ?_, ?_⟩
    · rw [← bm_stC (fun i hi => h i (by omega))]; exact e j p q
    · rw [← bm_stC (fun i hi => h i (by omega))]; exact f
section
variable {f_bits f_words f_sides f_order f_result f_found f_polyDegree f_polyBasis f_depth : Int32} {a_exp a_log a_power a_members a_sizes a_sketches a_combined a_list a_syndromes a_locator a_previous a_saved a_poly a_residue a_wide a_left a_right a_quotient a_stackPoly a_stackDegree a_stackBasis : Nat → Int32}
theorem xw_fl49a {R : Type} {cv : R → Int32} {post : Int32 → SX → Prop} {J : Int32 → Int32 → Int32 → Int32 → Int32 → Int32 → Int32 → Int32 → Int32 → Int32 → Int32 → Int32 → Int32 → (Nat → Int32) → (Nat → Int32) → (Nat → Int32) → (Nat → Int32) → (Nat → Int32) → (Nat → Int32) → (Nat → Int32) → (Nat → Int32) → (Nat → Int32) → (Nat → Int32) → (Nat → Int32) → (Nat → Int32) → (Nat → Int32) → (Nat → Int32) → (Nat → Int32) → (Nat → Int32) → (Nat → Int32) → (Nat → Int32) → (Nat → Int32) → (Nat → Int32) → (Nat → Int32) → Prop} {x1 x2 x3 x4 x5 x6 z0 : Int32} {C V : Nat → R} (h6 : x6 = 0) (h : wX_findLocator_95 post J x1 x2 x3 x4 x5 x6 z0 f_bits f_words f_sides f_order f_result f_found f_polyDegree f_polyBasis f_depth a_exp a_log a_power a_members a_sizes a_sketches a_combined a_list a_syndromes (ra_cf cv C) a_previous (ra_cf cv (ra_fl V 0 16 C)) a_poly a_residue a_wide a_left a_right a_quotient a_stackPoly a_stackDegree a_stackBasis) : wX_findLocator_49 post J x1 x2 x3 x4 x5 x6 z0 f_bits f_words f_sides f_order f_result f_found f_polyDegree f_polyBasis f_depth a_exp a_log a_power a_members a_sizes a_sketches a_combined a_list a_syndromes (ra_cf cv C) a_previous (ra_cf cv V) a_poly a_residue a_wide a_left a_right a_quotient a_stackPoly a_stackDegree a_stackBasis := by
  unfold wX_findLocator_49
  refine xw_copy__locator_saved ?_
  exact br_t h6 h
theorem xw_fl49b {R : Type} [Lean.Grind.CommRing R] {cv : R → Int32} {el : Nat → R} {iv : R → R} {m N : Nat} (F : fq_F cv el iv m N) (T : fq_T cv iv N a_exp a_log) {post : Int32 → SX → Prop} {J : Int32 → Int32 → Int32 → Int32 → Int32 → Int32 → Int32 → Int32 → Int32 → Int32 → Int32 → Int32 → Int32 → (Nat → Int32) → (Nat → Int32) → (Nat → Int32) → (Nat → Int32) → (Nat → Int32) → (Nat → Int32) → (Nat → Int32) → (Nat → Int32) → (Nat → Int32) → (Nat → Int32) → (Nat → Int32) → (Nat → Int32) → (Nat → Int32) → (Nat → Int32) → (Nat → Int32) → (Nat → Int32) → (Nat → Int32) → (Nat → Int32) → (Nat → Int32) → (Nat → Int32) → (Nat → Int32) → Prop} {x1 x2 x5 z0 : Int32} {g : Nat} {b w : R} {C B V : Nat → R} (hg : g ≤ 16) (hw : w ≠ 0) (h : wX_findLocator_95 post J x1 x2 (nI g) (cv b) x5 (cv w) z0 f_bits f_words f_sides (nI N) f_result f_found f_polyDegree f_polyBasis f_depth a_exp a_log a_power a_members a_sizes a_sketches a_combined a_list a_syndromes (ra_cf cv (ra_aw C g (16 - g) (w * iv b) B)) (ra_cf cv B) (ra_cf cv (ra_fl V 0 16 C)) a_poly a_residue a_wide a_left a_right a_quotient a_stackPoly a_stackDegree a_stackBasis) : wX_findLocator_49 post J x1 x2 (nI g) (cv b) x5 (cv w) z0 f_bits f_words f_sides (nI N) f_result f_found f_polyDegree f_polyBasis f_depth a_exp a_log a_power a_members a_sizes a_sketches a_combined a_list a_syndromes (ra_cf cv C) (ra_cf cv B) (ra_cf cv V) a_poly a_residue a_wide a_left a_right a_quotient a_stackPoly a_stackDegree a_stackBasis := by
  unfold wX_findLocator_49
  refine xw_copy__locator_saved ?_
  refine br_f (fun z => hw ((fq_nz F).mp z)) ?_
  refine xw_inverse F T b ?_
  refine xw_product F T w (iv b) ?_
  exact xw_addShifted F T hg h
theorem xw_fl95a {post : Int32 → SX → Prop} {J : Int32 → Int32 → Int32 → Int32 → Int32 → Int32 → Int32 → Int32 → Int32 → Int32 → Int32 → Int32 → Int32 → (Nat → Int32) → (Nat → Int32) → (Nat → Int32) → (Nat → Int32) → (Nat → Int32) → (Nat → Int32) → (Nat → Int32) → (Nat → Int32) → (Nat → Int32) → (Nat → Int32) → (Nat → Int32) → (Nat → Int32) → (Nat → Int32) → (Nat → Int32) → (Nat → Int32) → (Nat → Int32) → (Nat → Int32) → (Nat → Int32) → (Nat → Int32) → (Nat → Int32) → (Nat → Int32) → Prop} {x1 x2 x4 x6 : Int32} {g n : Nat} (h : J x2 (nI (g + 1)) x4 (nI (n + 1)) f_bits f_words f_sides f_order f_result f_found f_polyDegree f_polyBasis f_depth a_exp a_log a_power a_members a_sizes a_sketches a_combined a_list a_syndromes a_locator a_previous a_saved a_poly a_residue a_wide a_left a_right a_quotient a_stackPoly a_stackDegree a_stackBasis) : wX_findLocator_95 post J x1 x2 (nI g) x4 (nI n) x6 0 f_bits f_words f_sides f_order f_result f_found f_polyDegree f_polyBasis f_depth a_exp a_log a_power a_members a_sizes a_sketches a_combined a_list a_syndromes a_locator a_previous a_saved a_poly a_residue a_wide a_left a_right a_quotient a_stackPoly a_stackDegree a_stackBasis := by
  unfold wX_findLocator_95
  exact nm_r (nI_1 g) (br_t rfl (nm_r (nI_1 n) h))
theorem xw_fl95b {R : Type} {cv : R → Int32} {post : Int32 → SX → Prop} {J : Int32 → Int32 → Int32 → Int32 → Int32 → Int32 → Int32 → Int32 → Int32 → Int32 → Int32 → Int32 → Int32 → (Nat → Int32) → (Nat → Int32) → (Nat → Int32) → (Nat → Int32) → (Nat → Int32) → (Nat → Int32) → (Nat → Int32) → (Nat → Int32) → (Nat → Int32) → (Nat → Int32) → (Nat → Int32) → (Nat → Int32) → (Nat → Int32) → (Nat → Int32) → (Nat → Int32) → (Nat → Int32) → (Nat → Int32) → (Nat → Int32) → (Nat → Int32) → (Nat → Int32) → (Nat → Int32) → Prop} {x1 x4 x6 : Int32} {g n L : Nat} {B V : Nat → R} (hL : L ≤ n) (h : J (nI (n + 1 - L)) 1 x6 (nI (n + 1)) f_bits f_words f_sides f_order f_result f_found f_polyDegree f_polyBasis f_depth a_exp a_log a_power a_members a_sizes a_sketches a_combined a_list a_syndromes a_locator (ra_cf cv (ra_fl B 0 16 V)) (ra_cf cv V) a_poly a_residue a_wide a_left a_right a_quotient a_stackPoly a_stackDegree a_stackBasis) : wX_findLocator_95 post J x1 (nI L) (nI g) x4 (nI n) x6 1 f_bits f_words f_sides f_order f_result f_found f_polyDegree f_polyBasis f_depth a_exp a_log a_power a_members a_sizes a_sketches a_combined a_list a_syndromes a_locator (ra_cf cv B) (ra_cf cv V) a_poly a_residue a_wide a_left a_right a_quotient a_stackPoly a_stackDegree a_stackBasis := by
  unfold wX_findLocator_95
  refine nm_r (nI_1 g) (br_f (by decide) ?_)
  refine xw_copy__saved_previous ?_
  refine nm_r (e' := nI (n + 1 - L)) ?_ (nm_r (nI_1 n) h)
  rw [nI_1, pk_sub (by omega)]
theorem xw_findLocator_14 {R : Type} [Lean.Grind.CommRing R] [Lean.Grind.IsCharP R 2] {cv : R → Int32} {el : Nat → R} {iv : R → R} {m N : Nat} (F : fq_F cv el iv m N) (T : fq_T cv iv N a_exp a_log) {post : Int32 → SX → Prop} {S : Nat → R} {k : Nat} (hk : k ≤ 4) (hp : ∀ (L g : Nat) (b : R) (C B V : Nat → R), L ≤ 2 * k → C 0 = 1 → (∀ E, bm_Nc S k E → bm_I E (2 * k) L g b C B) → post (nI L) (f_bits, f_words, f_sides, nI N, f_result, f_found, f_polyDegree, f_polyBasis, f_depth, a_exp, a_log, a_power, a_members, a_sizes, a_sketches, a_combined, a_list, ra_cf cv S, ra_cf cv C, ra_cf cv B, ra_cf cv V, a_poly, a_residue, a_wide, a_left, a_right, a_quotient, a_stackPoly, a_stackDegree, a_stackBasis)) : ∀ (d n L g : Nat) (b : R) (C B V : Nat → R), n + d = 2 * k → L ≤ n → 1 ≤ g → g ≤ n + 1 → C 0 = 1 → (∀ E, bm_Nc S k E → bm_I E n L g b C B) → wX_findLocator_14 post (nI k) (d + 1) (nI L) (nI g) (cv b) (nI n) f_bits f_words f_sides (nI N) f_result f_found f_polyDegree f_polyBasis f_depth a_exp a_log a_power a_members a_sizes a_sketches a_combined a_list (ra_cf cv S) (ra_cf cv C) (ra_cf cv B) (ra_cf cv V) a_poly a_residue a_wide a_left a_right a_quotient a_stackPoly a_stackDegree a_stackBasis := by
  intro d
  induction d with
  | zero =>
    intro n L g b C B V h hL hg hg2 hC I
    obtain rfl : n = 2 * k := by omega
    refine br_t ?_ (hp L g b C B V hL hC I)
    rw [xw_2n]
    exact nI_le (Nat.le_refl _) (by omega)
  | succ d ih =>
    intro n L g b C B V h hL hg hg2 hC I
    refine br_f ?_ ?_
    · rw [xw_2n]
      exact nI_ge (by omega) (by omega)
    refine xw_discrepancy F T (by omega) hL ?_
    have hdd : ∀ E, bm_Nc S k E → xw_dis S C n L L = bm_mom E (bm_st L C) (n + 1 - L) := fun E hE => by
      rw [bm_dis hL hC]
      exact bm_disc hL C S (fun j a b => hE.2.2.2 j a (by omega))
    generalize xw_dis S C n L L = w at hdd
    by_cases hw : w = 0
    · subst hw
      refine br_t F.2.1 ?_
      unfold wX_findLocator_48
      refine xw_fl49a F.2.1 (xw_fl95a ?_)
      exact ih (n + 1) L (g + 1) b C B _ (by omega) (by omega) (by omega) (by omega) hC (fun E hE => bm_1 (I E hE) (hdd E hE).symm)
    · have hC' : ra_aw C g (16 - g) (w * iv b) B 0 = 1 := by rw [ra_awN (by omega), hC]
      have hs : ∀ E, bm_Nc S k E → w * iv b * b = w := fun E hE => by
        have q := F.2.2.2.2.2.2.2.1 b (I E hE).2.2.2.2.2.1
        grind
      refine br_f (fun z => hw ((fq_nz F).mp z)) ?_
      by_cases h2 : n < 2 * L
      · refine br_t ?_ ?_
        · rw [xw_2n]
          exact nI_lt h2 (by omega)
        unfold wX_findLocator_48
        refine xw_fl49b F T (by omega) hw (xw_fl95a ?_)
        refine ih (n + 1) L (g + 1) b _ B _ (by omega) (by omega) (by omega) (by omega) hC' (fun E hE => bm_2 (I E hE) _ ?_ h2 (by omega))
        rw [hs E hE, hdd E hE]
      · refine br_f ?_ ?_
        · rw [xw_2n]
          exact nI_nlt (by omega) (by omega)
        refine xw_fl49b F T (by omega) hw (xw_fl95b hL ?_)
        refine ih (n + 1) (n + 1 - L) 1 w _ _ _ (by omega) (by omega) (by omega) (by omega) hC' (fun E hE => ?_)
        refine bm_cB (B := C) (fun i hi => ?_) (by omega) (bm_3 F.2.2.2.2.2.2.1 hE.1 hE.2.1 (I E hE) (w * iv b) w (hs E hE) (hdd E hE) hw (by omega) (by omega))
        rw [ra_flI (by omega) hi, ra_flI (by omega) hi]
theorem xw_findLocator {R : Type} [Lean.Grind.CommRing R] [Lean.Grind.IsCharP R 2] {cv : R → Int32} {el : Nat → R} {iv : R → R} {m N : Nat} (F : fq_F cv el iv m N) (T : fq_T cv iv N a_exp a_log) {post : Int32 → SX → Prop} {S C B V : Nat → R} {k : Nat} (hk : k ≤ 4) (hp : ∀ (L : Nat) (C B V : Nat → R), L ≤ 2 * k → C 0 = 1 → (∀ E, bm_Nc S k E → L = E.length ∧ ∀ x, x ∈ E → bm_st L C x = 0) → post (nI L) (f_bits, f_words, f_sides, nI N, f_result, f_found, f_polyDegree, f_polyBasis, f_depth, a_exp, a_log, a_power, a_members, a_sizes, a_sketches, a_combined, a_list, ra_cf cv S, ra_cf cv C, ra_cf cv B, ra_cf cv V, a_poly, a_residue, a_wide, a_left, a_right, a_quotient, a_stackPoly, a_stackDegree, a_stackBasis)) : wpX_findLocator post (f_bits, f_words, f_sides, nI N, f_result, f_found, f_polyDegree, f_polyBasis, f_depth, a_exp, a_log, a_power, a_members, a_sizes, a_sketches, a_combined, a_list, ra_cf cv S, ra_cf cv C, ra_cf cv B, ra_cf cv V, a_poly, a_residue, a_wide, a_left, a_right, a_quotient, a_stackPoly, a_stackDegree, a_stackBasis) (nI k) := by
  unfold wpX_findLocator
  refine xw_resetLocator F ?_
  refine ⟨2 * k + 1, ?_⟩
  have k1 := xw_findLocator_14 (f_bits := f_bits) (f_words := f_words) (f_sides := f_sides) (f_result := f_result) (f_found := f_found) (f_polyDegree := f_polyDegree) (f_polyBasis := f_polyBasis) (f_depth := f_depth) (a_power := a_power) (a_members := a_members) (a_sizes := a_sizes) (a_sketches := a_sketches) (a_combined := a_combined) (a_list := a_list) (a_poly := a_poly) (a_residue := a_residue) (a_wide := a_wide) (a_left := a_left) (a_right := a_right) (a_quotient := a_quotient) (a_stackPoly := a_stackPoly) (a_stackDegree := a_stackDegree) (a_stackBasis := a_stackBasis) F T (post := post) (S := S) hk (fun L g b C B V h1 h2 h3 => hp L C B V h1 h2 (fun E hE => bm_end F.2.2.2.2.2.2.1 hE.1 hE.2.1 (h3 E hE) hE.2.2.1)) (2 * k) 0 0 1 1 (ra_fl C 0 16 xw_dl) (ra_fl B 0 16 xw_dl) V (by omega) (by omega) (by omega) (by omega) (by rw [ra_flI (by omega) (by omega)]; rfl) (fun E hE => ?_)
  · rw [F.2.2.1] at k1
    exact k1
  · refine bm_cB (B := ra_fl C 0 16 xw_dl) (fun i hi => ?_) (by omega) (bm_0 E _ (by rw [ra_flI (by omega) (by omega)]; rfl) (fun i a b => ?_))
    · rw [ra_flI (by omega) hi, ra_flI (by omega) hi]
    · rw [ra_flI (by omega) b]
      exact if_neg (by omega)
end
end
section
/-! ===== the reversed locator, squares modulo poly, splits ===== -/
theorem xw_m1 {p : Nat} (h : 0 < p) : nI p + (-1) = nI (p - 1) := by
  obtain ⟨q, rfl⟩ : ∃ q, p = q + 1 := ⟨p - 1, by omega⟩
  exact pk_m1 q
theorem xw_sa {p d i : Nat} (h : d ≤ p) : nI p - nI d + nI i = nI (p - d + i) := by rw [pk_sub h, nI_add]
theorem ra_flP {R : Type} (A : Nat → R) (i : Nat) (f : Nat → R) : ra_ur (ra_fl A 0 i f) i (f i) = ra_fl A 0 (i + 1) f := by
  funext j
  unfold ra_fl ra_ur
  dsimp only
  by_cases a : j = i
  · subst a
    rw [if_pos rfl, if_pos (by omega)]
  · by_cases b : j < i
    · rw [if_neg a, if_pos (by omega), if_pos (by omega)]
    · rw [if_neg a, if_neg (by omega), if_neg (by omega)]
/-- a monic polynomial of degree d and its roots -/
def rt_N {R : Type} [Lean.Grind.CommRing R] (P : Nat → R) (d : Nat) (F : List R) : Prop := F.Nodup ∧ F.length = d ∧ P d = 1 ∧ (∀ j, d < j → j < 5 → P j = 0) ∧ ∀ r, r ∈ F → ra_ev 5 P r = 0
def rt_rv {R : Type} [Lean.Grind.CommRing R] (L : Nat) (C : Nat → R) : Nat → R := fun i => if i ≤ L then C (L - i) else 0
def rt_lin {R : Type} [Lean.Grind.CommRing R] (b : R) : Nat → R := fun i => if i = 1 then b else 0
theorem rt_linE {R : Type} [Lean.Grind.CommRing R] (b : R) {n : Nat} (hn : 2 ≤ n) (x : R) : ra_ev n (rt_lin b) x = b * x := by
  rw [ra_evX hn (rt_lin b) x (fun i a _ => if_neg (by omega)), ra_evS, ra_evS, ra_ev0]
  show 0 + 0 * x ^ 0 + b * x ^ 1 = b * x
  rw [ra_p1]; grind
/-- the square of Q before the reduction -/
def rt_sq {R : Type} [Lean.Grind.CommRing R] (Q W : Nat → R) (i : Nat) : Nat → R := fun j => if j < 2 * i then (if j % 2 = 0 then Q (j / 2) * Q (j / 2) else 0) else W j
theorem rt_sqS {R : Type} [Lean.Grind.CommRing R] (Q W : Nat → R) (i : Nat) : ra_ur (ra_ur (rt_sq Q W i) (2 * i) (Q i * Q i)) (2 * i + 1) 0 = rt_sq Q W (i + 1) := by
  funext j
  unfold ra_ur rt_sq
  by_cases a : j = 2 * i + 1
  · subst a
    rw [if_pos rfl, if_pos (by omega), if_neg (by omega)]
  · by_cases b : j = 2 * i
    · subst b
      have e : 2 * i / 2 = i := by omega
      rw [if_neg a, if_pos rfl, if_pos (by omega), if_pos (by omega), e]
    · by_cases c : j < 2 * i
      · rw [if_neg a, if_neg b, if_pos c, if_pos (show j < 2 * (i + 1) by omega)]
      · rw [if_neg a, if_neg b, if_neg c, if_neg (by omega)]
theorem rt_sq0 {R : Type} [Lean.Grind.CommRing R] (Q W : Nat → R) : rt_sq Q W 0 = W := by
  funext j
  exact if_neg (by omega)
theorem rt_sqE {R : Type} [Lean.Grind.CommRing R] [Lean.Grind.IsCharP R 2] (Q W : Nat → R) (x : R) : ra_ev 8 (rt_sq Q W 4) x = ra_ev 4 Q x * ra_ev 4 Q x := by
  have h : ∀ j, j < 8 → rt_sq Q W 4 j = (if j % 2 = 0 then Q (j / 2) * Q (j / 2) else 0) := fun j hj => if_pos (by omega)
  simp only [ra_evS, ra_ev0]
  rw [h 0 (by omega), h 1 (by omega), h 2 (by omega), h 3 (by omega), h 4 (by omega), h 5 (by omega), h 6 (by omega), h 7 (by omega)]
  show 0 + Q 0 * Q 0 * x ^ 0 + 0 * x ^ 1 + Q 1 * Q 1 * x ^ 2 + 0 * x ^ 3 + Q 2 * Q 2 * x ^ 4 + 0 * x ^ 5 + Q 3 * Q 3 * x ^ 6 + 0 * x ^ 7 = (0 + Q 0 * x ^ 0 + Q 1 * x ^ 1 + Q 2 * x ^ 2 + Q 3 * x ^ 3) * (0 + Q 0 * x ^ 0 + Q 1 * x ^ 1 + Q 2 * x ^ 2 + Q 3 * x ^ 3)
  grind
section
variable {f_bits f_words f_sides f_order f_result f_found f_polyDegree f_polyBasis f_depth : Int32} {a_exp a_log a_power a_members a_sizes a_sketches a_combined a_list a_syndromes a_locator a_previous a_saved a_poly a_residue a_wide a_left a_right a_quotient a_stackPoly a_stackDegree a_stackBasis : Nat → Int32}
theorem xw_loadReversed_7 {R : Type} [Lean.Grind.CommRing R] {cv : R → Int32} {el : Nat → R} {iv : R → R} {m N : Nat} (F : fq_F cv el iv m N) {post : SX → Prop} {C : Nat → R} {L : Nat} (hL : L ≤ 4) : ∀ (d i : Nat) (P : Nat → R), i + d = 5 → post (f_bits, f_words, f_sides, f_order, f_result, f_found, f_polyDegree, f_polyBasis, f_depth, a_exp, a_log, a_power, a_members, a_sizes, a_sketches, a_combined, a_list, a_syndromes, ra_cf cv C, a_previous, a_saved, ra_cf cv (ra_fl P i 5 (rt_rv L C)), a_residue, a_wide, a_left, a_right, a_quotient, a_stackPoly, a_stackDegree, a_stackBasis) → wX_loadReversed_7 post (nI L) f_bits f_words f_sides f_order f_result f_found f_polyDegree f_polyBasis f_depth (d + 1) (nI i) a_exp a_log a_power a_members a_sizes a_sketches a_combined a_list a_syndromes (ra_cf cv C) a_previous a_saved (ra_cf cv P) a_residue a_wide a_left a_right a_quotient a_stackPoly a_stackDegree a_stackBasis := by
  intro d
  induction d with
  | zero =>
    intro i P h hp
    obtain rfl : i = 5 := by omega
    rw [ra_fl0] at hp
    exact br_t (nI_le (a := 5) (b := 5) (Nat.le_refl _) (by decide)) hp
  | succ d ih =>
    intro i P h hp
    have k := ih (i + 1) (ra_ur P i (rt_rv L C i)) (by omega) (by rw [ra_flS P _ (by omega)]; exact hp)
    refine br_f (nI_ge (b := 5) (by omega) (by decide)) ?_
    by_cases e : i ≤ L
    · have e1 : nI L - nI i = nI (L - i) := pk_sub e
      refine br_f (nI_nlt e (by omega)) ⟨xw_in e1 (by omega) (by decide), vp_in_nI (by omega) (by decide), nm_r (e' := ra_cf cv (ra_ur P i (rt_rv L C i))) ?_ (nm_r (nI_1 i) k)⟩
      rw [← ra_cfu, e1, nI_clamp (by omega), nI_clamp (by omega)]
      unfold rt_rv
      rw [if_pos e]
      rfl
    · refine br_t (nI_lt (by omega) (by omega)) ⟨vp_in_nI (by omega) (by decide), nm_r (e' := ra_cf cv (ra_ur P i (rt_rv L C i))) ?_ (nm_r (nI_1 i) k)⟩
      rw [← ra_cfu, nI_clamp (by omega)]
      unfold rt_rv
      rw [if_neg e, F.2.1]
theorem xw_loadReversed {R : Type} [Lean.Grind.CommRing R] {cv : R → Int32} {el : Nat → R} {iv : R → R} {m N : Nat} (F : fq_F cv el iv m N) {post : SX → Prop} {C P : Nat → R} {L : Nat} (hL : L ≤ 4) (hp : post (f_bits, f_words, f_sides, f_order, f_result, f_found, nI L, f_polyBasis, f_depth, a_exp, a_log, a_power, a_members, a_sizes, a_sketches, a_combined, a_list, a_syndromes, ra_cf cv C, a_previous, a_saved, ra_cf cv (ra_fl P 0 5 (rt_rv L C)), a_residue, a_wide, a_left, a_right, a_quotient, a_stackPoly, a_stackDegree, a_stackBasis)) : wpX_loadReversed post (f_bits, f_words, f_sides, f_order, f_result, f_found, f_polyDegree, f_polyBasis, f_depth, a_exp, a_log, a_power, a_members, a_sizes, a_sketches, a_combined, a_list, a_syndromes, ra_cf cv C, a_previous, a_saved, ra_cf cv P, a_residue, a_wide, a_left, a_right, a_quotient, a_stackPoly, a_stackDegree, a_stackBasis) (nI L) :=
  ⟨_, xw_loadReversed_7 F hL 5 0 P rfl hp⟩
theorem xw_loadLinear_2 {R : Type} [Lean.Grind.CommRing R] {cv : R → Int32} {el : Nat → R} {iv : R → R} {m N : Nat} (F : fq_F cv el iv m N) {post : SX → Prop} {b : R} : ∀ (d i : Nat) (Q : Nat → R), i + d = 5 → post (f_bits, f_words, f_sides, f_order, f_result, f_found, f_polyDegree, f_polyBasis, f_depth, a_exp, a_log, a_power, a_members, a_sizes, a_sketches, a_combined, a_list, a_syndromes, a_locator, a_previous, a_saved, a_poly, ra_cf cv (ra_fl Q i 5 (rt_lin b)), a_wide, a_left, a_right, a_quotient, a_stackPoly, a_stackDegree, a_stackBasis) → wX_loadLinear_2 post (cv b) f_bits f_words f_sides f_order f_result f_found f_polyDegree f_polyBasis f_depth (d + 1) (nI i) a_exp a_log a_power a_members a_sizes a_sketches a_combined a_list a_syndromes a_locator a_previous a_saved a_poly (ra_cf cv Q) a_wide a_left a_right a_quotient a_stackPoly a_stackDegree a_stackBasis := by
  intro d
  induction d with
  | zero =>
    intro i Q h hp
    obtain rfl : i = 5 := by omega
    rw [ra_fl0] at hp
    exact br_t (nI_le (a := 5) (b := 5) (Nat.le_refl _) (by decide)) hp
  | succ d ih =>
    intro i Q h hp
    have k := ih (i + 1) (ra_ur Q i (rt_lin b i)) (by omega) (by rw [ra_flS Q _ (by omega)]; exact hp)
    refine br_f (nI_ge (b := 5) (by omega) (by decide)) (pk_eq i 1 (fun e => ?_) (fun e => ?_))
    · subst e
      refine And.intro (vp_in_nI (by omega) (by decide)) (nm_r (e' := ra_cf cv (ra_ur Q 1 (rt_lin b 1))) ?_ (nm_r (nI_1 1) k))
      rw [← ra_cfu, nI_clamp (by omega)]
      rfl
    · refine And.intro (vp_in_nI (by omega) (by decide)) (nm_r (e' := ra_cf cv (ra_ur Q i (rt_lin b i))) ?_ (nm_r (nI_1 i) k))
      rw [← ra_cfu, nI_clamp (by omega)]
      unfold rt_lin
      rw [if_neg e, F.2.1]
theorem xw_loadLinear {R : Type} [Lean.Grind.CommRing R] {cv : R → Int32} {el : Nat → R} {iv : R → R} {m N : Nat} (F : fq_F cv el iv m N) {post : SX → Prop} {b : R} {Q : Nat → R} (hp : post (f_bits, f_words, f_sides, f_order, f_result, f_found, f_polyDegree, f_polyBasis, f_depth, a_exp, a_log, a_power, a_members, a_sizes, a_sketches, a_combined, a_list, a_syndromes, a_locator, a_previous, a_saved, a_poly, ra_cf cv (ra_fl Q 0 5 (rt_lin b)), a_wide, a_left, a_right, a_quotient, a_stackPoly, a_stackDegree, a_stackBasis)) : wpX_loadLinear post (f_bits, f_words, f_sides, f_order, f_result, f_found, f_polyDegree, f_polyBasis, f_depth, a_exp, a_log, a_power, a_members, a_sizes, a_sketches, a_combined, a_list, a_syndromes, a_locator, a_previous, a_saved, a_poly, ra_cf cv Q, a_wide, a_left, a_right, a_quotient, a_stackPoly, a_stackDegree, a_stackBasis) (cv b) :=
  ⟨_, xw_loadLinear_2 F 5 0 Q rfl hp⟩
/-! squareResidue -/
theorem xw_sq117 {R : Type} {cv : R → Int32} {post : SX → Prop} {W : Nat → R} {dg : Nat} (hd : dg ≤ 4) : ∀ (d i : Nat) (Q : Nat → R), i + d = dg → post (f_bits, f_words, f_sides, f_order, f_result, f_found, nI dg, f_polyBasis, f_depth, a_exp, a_log, a_power, a_members, a_sizes, a_sketches, a_combined, a_list, a_syndromes, a_locator, a_previous, a_saved, a_poly, ra_cf cv (ra_fl Q i dg W), ra_cf cv W, a_left, a_right, a_quotient, a_stackPoly, a_stackDegree, a_stackBasis) → wX_squareResidue_117 post f_bits f_words f_sides f_order f_result f_found (nI dg) f_polyBasis f_depth (d + 1) (nI i) a_exp a_log a_power a_members a_sizes a_sketches a_combined a_list a_syndromes a_locator a_previous a_saved a_poly (ra_cf cv Q) (ra_cf cv W) a_left a_right a_quotient a_stackPoly a_stackDegree a_stackBasis := by
  intro d
  induction d with
  | zero =>
    intro i Q h hp
    obtain rfl : i = dg := by omega
    rw [ra_fl0] at hp
    exact br_t (nI_le (Nat.le_refl _) (by omega)) hp
  | succ d ih =>
    intro i Q h hp
    refine br_f (nI_ge (by omega) (by omega)) ⟨vp_in_nI (by omega) (by decide), vp_in_nI (by omega) (by decide), nm_r (e' := ra_cf cv (ra_ur Q i (W i))) ?_ (nm_r (nI_1 i) (ih (i + 1) _ (by omega) (by rw [ra_flS Q _ (by omega)]; exact hp)))⟩
    rw [← ra_cfu, nI_clamp (by omega)]
    rfl
theorem xw_sq68 {R : Type} [Lean.Grind.CommRing R] {cv : R → Int32} {el : Nat → R} {iv : R → R} {m N : Nat} (F : fq_F cv el iv m N) (T : fq_T cv iv N a_exp a_log) {post : SX → Prop} {J : Int32 → (Nat → Int32) → (Nat → Int32) → (Nat → Int32) → (Nat → Int32) → (Nat → Int32) → (Nat → Int32) → (Nat → Int32) → (Nat → Int32) → (Nat → Int32) → (Nat → Int32) → (Nat → Int32) → (Nat → Int32) → (Nat → Int32) → (Nat → Int32) → (Nat → Int32) → (Nat → Int32) → (Nat → Int32) → (Nat → Int32) → (Nat → Int32) → (Nat → Int32) → (Nat → Int32) → Prop} {P W : Nat → R} {c : R} {p dg : Nat} (h1 : 1 ≤ dg) (h2 : dg ≤ p) (h3 : p ≤ 6) (h4 : dg ≤ 4) (hp : J (nI (p - 1)) a_exp a_log a_power a_members a_sizes a_sketches a_combined a_list a_syndromes a_locator a_previous a_saved (ra_cf cv P) a_residue (ra_cf cv (ra_aw W (p - dg) (dg + 1) c P)) a_left a_right a_quotient a_stackPoly a_stackDegree a_stackBasis) : ∀ (d i : Nat), i + d = dg + 1 → wX_squareResidue_68 post J (nI p) (cv c) f_bits f_words f_sides f_order f_result f_found (nI dg) f_polyBasis f_depth (d + 1) (nI i) a_exp a_log a_power a_members a_sizes a_sketches a_combined a_list a_syndromes a_locator a_previous a_saved (ra_cf cv P) a_residue (ra_cf cv (ra_aw W (p - dg) i c P)) a_left a_right a_quotient a_stackPoly a_stackDegree a_stackBasis := by
  intro d
  induction d with
  | zero =>
    intro i h
    obtain rfl : i = dg + 1 := by omega
    exact br_t (nI_lt (by omega) (by omega)) (nm_r (xw_m1 (by omega)) hp)
  | succ d ih =>
    intro i h
    have e1 := xw_sa (i := i) h2
    refine br_f (nI_nlt (by omega) (by omega)) ⟨xw_in e1 (by omega) (by decide), vp_in_nI (by omega) (by decide), ?_⟩
    rw [e1, nI_clamp (by omega), nI_clamp (by omega)]
    refine xw_product F T c (P i) (And.intro (vp_in_nI (by omega) (by decide)) (nm_r (e' := ra_cf cv (ra_aw W (p - dg) (i + 1) c P)) ?_ (nm_r (nI_1 i) (ih (i + 1) (by omega)))))
    show upd _ _ (cv _ ^^^ _) = _
    rw [fq_xor F, ra_cfu, ra_awS]
theorem xw_sq68z {R : Type} [Lean.Grind.CommRing R] {cv : R → Int32} {el : Nat → R} {iv : R → R} {m N : Nat} (F : fq_F cv el iv m N) (T : fq_T cv iv N a_exp a_log) {post : SX → Prop} {J : Int32 → (Nat → Int32) → (Nat → Int32) → (Nat → Int32) → (Nat → Int32) → (Nat → Int32) → (Nat → Int32) → (Nat → Int32) → (Nat → Int32) → (Nat → Int32) → (Nat → Int32) → (Nat → Int32) → (Nat → Int32) → (Nat → Int32) → (Nat → Int32) → (Nat → Int32) → (Nat → Int32) → (Nat → Int32) → (Nat → Int32) → (Nat → Int32) → (Nat → Int32) → (Nat → Int32) → Prop} {P W : Nat → R} {c : R} {p dg : Nat} (h1 : 1 ≤ dg) (h2 : dg ≤ p) (h3 : p ≤ 6) (h4 : dg ≤ 4) (hp : J (nI (p - 1)) a_exp a_log a_power a_members a_sizes a_sketches a_combined a_list a_syndromes a_locator a_previous a_saved (ra_cf cv P) a_residue (ra_cf cv (ra_aw W (p - dg) (dg + 1) c P)) a_left a_right a_quotient a_stackPoly a_stackDegree a_stackBasis) : wX_squareResidue_68 post J (nI p) (cv c) f_bits f_words f_sides f_order f_result f_found (nI dg) f_polyBasis f_depth (dg + 2) (nI 0) a_exp a_log a_power a_members a_sizes a_sketches a_combined a_list a_syndromes a_locator a_previous a_saved (ra_cf cv P) a_residue (ra_cf cv W) a_left a_right a_quotient a_stackPoly a_stackDegree a_stackBasis := by
  have k := xw_sq68 (post := post) (f_bits := f_bits) (f_words := f_words) (f_sides := f_sides) (f_order := f_order) (f_result := f_result) (f_found := f_found) (f_polyBasis := f_polyBasis) (f_depth := f_depth) F T h1 h2 h3 h4 hp (dg + 1) 0 (by omega)
  rw [ra_aw0] at k
  exact k
def rt_W {R : Type} [Lean.Grind.CommRing R] (P W0 : Nat → R) (dg p : Nat) (W : Nat → R) : Prop := W 7 = W0 7 ∧ (P dg = 1 → (∀ j, p < j → j ≤ 6 → W j = 0) ∧ ∀ r, ra_ev (dg + 1) P r = 0 → ra_ev 8 W r = ra_ev 8 W0 r)
theorem rt_Ws {R : Type} [Lean.Grind.CommRing R] [Lean.Grind.IsCharP R 2] {P W0 W : Nat → R} {dg p : Nat} (h2 : dg ≤ p) (h3 : p ≤ 6) (h : rt_W P W0 dg p W) (h1 : 1 ≤ dg) : rt_W P W0 dg (p - 1) (ra_aw W (p - dg) (dg + 1) (W p) P) := by
  obtain ⟨a, b⟩ := h
  refine ⟨by rw [ra_awN (by omega), a], fun hm => ⟨fun j x y => ?_, fun r hr => ?_⟩⟩
  · by_cases e : j = p
    · subst e
      have e2 : j - (j - dg) = dg := by omega
      rw [ra_awI (by omega) (by omega), e2, hm, ra_m1, ra_self]
    · rw [ra_awN (by omega)]
      exact (b hm).1 j (by omega) y
  · rw [ra_evW (by omega), hr, ra_m0, ra_0]
    exact (b hm).2 r hr
theorem xw_sq51 {R : Type} [Lean.Grind.CommRing R] [Lean.Grind.IsCharP R 2] {cv : R → Int32} {el : Nat → R} {iv : R → R} {m N : Nat} (F : fq_F cv el iv m N) (T : fq_T cv iv N a_exp a_log) {post : SX → Prop} {P W0 Q : Nat → R} {dg : Nat} (h1 : 1 ≤ dg) (h4 : dg ≤ 4) (hp : ∀ W, rt_W P W0 dg (dg - 1) W → post (f_bits, f_words, f_sides, f_order, f_result, f_found, nI dg, f_polyBasis, f_depth, a_exp, a_log, a_power, a_members, a_sizes, a_sketches, a_combined, a_list, a_syndromes, a_locator, a_previous, a_saved, ra_cf cv P, ra_cf cv (ra_fl Q 0 dg W), ra_cf cv W, a_left, a_right, a_quotient, a_stackPoly, a_stackDegree, a_stackBasis)) : ∀ (d p : Nat) (W : Nat → R), p + 1 = dg + d → p ≤ 6 → rt_W P W0 dg p W → wX_squareResidue_51 post f_bits f_words f_sides f_order f_result f_found (nI dg) f_polyBasis f_depth (d + 1) (nI p) a_exp a_log a_power a_members a_sizes a_sketches a_combined a_list a_syndromes a_locator a_previous a_saved (ra_cf cv P) (ra_cf cv Q) (ra_cf cv W) a_left a_right a_quotient a_stackPoly a_stackDegree a_stackBasis := by
  intro d
  induction d with
  | zero =>
    intro p W h h6 hW
    obtain rfl : p = dg - 1 := by omega
    exact br_t (nI_lt (by omega) (by omega)) ⟨_, xw_sq117 h4 dg 0 Q (by omega) (hp W hW)⟩
  | succ d ih =>
    intro p W h h6 hW
    refine br_f (nI_nlt (by omega) (by omega)) ⟨vp_in_nI (by omega) (by decide), nm_r (e' := cv (W p)) ?_ ⟨dg + 2, ?_⟩⟩
    · rw [nI_clamp (by omega)]
      rfl
    · exact xw_sq68z F T h1 (by omega) h6 h4 (ih (p - 1) _ (by omega) (by omega) (rt_Ws (by omega) h6 hW h1))
theorem xw_sq2 {R : Type} [Lean.Grind.CommRing R] [Lean.Grind.IsCharP R 2] {cv : R → Int32} {el : Nat → R} {iv : R → R} {m N : Nat} (F : fq_F cv el iv m N) (T : fq_T cv iv N a_exp a_log) {post : SX → Prop} {P Q W : Nat → R} {dg : Nat} (h1 : 1 ≤ dg) (h4 : dg ≤ 4) (hp : ∀ W', rt_W P (rt_sq Q W 4) dg (dg - 1) W' → post (f_bits, f_words, f_sides, f_order, f_result, f_found, nI dg, f_polyBasis, f_depth, a_exp, a_log, a_power, a_members, a_sizes, a_sketches, a_combined, a_list, a_syndromes, a_locator, a_previous, a_saved, ra_cf cv P, ra_cf cv (ra_fl Q 0 dg W'), ra_cf cv W', a_left, a_right, a_quotient, a_stackPoly, a_stackDegree, a_stackBasis)) : ∀ (d i : Nat), i + d = 4 → wX_squareResidue_2 post f_bits f_words f_sides f_order f_result f_found (nI dg) f_polyBasis f_depth (d + 1) (nI i) a_exp a_log a_power a_members a_sizes a_sketches a_combined a_list a_syndromes a_locator a_previous a_saved (ra_cf cv P) (ra_cf cv Q) (ra_cf cv (rt_sq Q W i)) a_left a_right a_quotient a_stackPoly a_stackDegree a_stackBasis := by
  intro d
  induction d with
  | zero =>
    intro i h
    obtain rfl : i = 4 := by omega
    refine br_t (nI_le (a := 4) (b := 4) (Nat.le_refl _) (by decide)) ⟨8 - dg, ?_⟩
    have e : 8 - dg = (7 - dg) + 1 := by omega
    rw [e]
    exact xw_sq51 F T h1 h4 hp (7 - dg) 6 _ (by omega) (by omega) ⟨rfl, fun _ => ⟨fun j a b => by omega, fun _ _ => rfl⟩⟩
  | succ d ih =>
    intro i h
    refine br_f (nI_ge (b := 4) (by omega) (by decide)) ⟨vp_in_nI (by omega) (by decide), vp_in_nI (by omega) (by decide), ?_⟩
    rw [nI_clamp (by omega)]
    refine xw_product F T (Q i) (Q i) (And.intro (xw_in (xw_2n i) (by omega) (by decide)) (nm_r (e' := ra_cf cv (ra_ur (rt_sq Q W i) (2 * i) (Q i * Q i))) ?_ ⟨xw_in (xw_2n1 i) (by omega) (by decide), nm_r (e' := ra_cf cv (rt_sq Q W (i + 1))) ?_ (nm_r (nI_1 i) (ih (i + 1) (by omega)))⟩))
    · rw [xw_2n, nI_clamp (by omega), ra_cfu]
    · rw [xw_2n1, nI_clamp (by omega), ← rt_sqS, ← ra_cfu cv _ (2 * i + 1) 0, F.2.1]
theorem xw_sq2z {R : Type} [Lean.Grind.CommRing R] [Lean.Grind.IsCharP R 2] {cv : R → Int32} {el : Nat → R} {iv : R → R} {m N : Nat} (F : fq_F cv el iv m N) (T : fq_T cv iv N a_exp a_log) {post : SX → Prop} {P Q W : Nat → R} {dg : Nat} (h1 : 1 ≤ dg) (h4 : dg ≤ 4) (hp : ∀ W', rt_W P (rt_sq Q W 4) dg (dg - 1) W' → post (f_bits, f_words, f_sides, f_order, f_result, f_found, nI dg, f_polyBasis, f_depth, a_exp, a_log, a_power, a_members, a_sizes, a_sketches, a_combined, a_list, a_syndromes, a_locator, a_previous, a_saved, ra_cf cv P, ra_cf cv (ra_fl Q 0 dg W'), ra_cf cv W', a_left, a_right, a_quotient, a_stackPoly, a_stackDegree, a_stackBasis)) : wX_squareResidue_2 post f_bits f_words f_sides f_order f_result f_found (nI dg) f_polyBasis f_depth 5 (nI 0) a_exp a_log a_power a_members a_sizes a_sketches a_combined a_list a_syndromes a_locator a_previous a_saved (ra_cf cv P) (ra_cf cv Q) (ra_cf cv W) a_left a_right a_quotient a_stackPoly a_stackDegree a_stackBasis := by
  have k := xw_sq2 F T h1 h4 hp 4 0 rfl
  rw [rt_sq0] at k
  exact k
theorem xw_squareResidue {R : Type} [Lean.Grind.CommRing R] [Lean.Grind.IsCharP R 2] {cv : R → Int32} {el : Nat → R} {iv : R → R} {m N : Nat} (F : fq_F cv el iv m N) (T : fq_T cv iv N a_exp a_log) {post : SX → Prop} {P Q W : Nat → R} {dg : Nat} (h1 : 1 ≤ dg) (h4 : dg ≤ 4) (hp : ∀ Q' W', (∀ j, dg ≤ j → Q' j = Q j) → (P dg = 1 → (∀ j, dg ≤ j → j < 5 → Q j = 0) → ∀ r, ra_ev (dg + 1) P r = 0 → ra_ev 5 Q' r = ra_ev 5 Q r * ra_ev 5 Q r) → post (f_bits, f_words, f_sides, f_order, f_result, f_found, nI dg, f_polyBasis, f_depth, a_exp, a_log, a_power, a_members, a_sizes, a_sketches, a_combined, a_list, a_syndromes, a_locator, a_previous, a_saved, ra_cf cv P, ra_cf cv Q', ra_cf cv W', a_left, a_right, a_quotient, a_stackPoly, a_stackDegree, a_stackBasis)) : wpX_squareResidue post (f_bits, f_words, f_sides, f_order, f_result, f_found, nI dg, f_polyBasis, f_depth, a_exp, a_log, a_power, a_members, a_sizes, a_sketches, a_combined, a_list, a_syndromes, a_locator, a_previous, a_saved, ra_cf cv P, ra_cf cv Q, ra_cf cv W, a_left, a_right, a_quotient, a_stackPoly, a_stackDegree, a_stackBasis) := by
  refine ⟨5, ?_⟩
  refine xw_sq2z F T h1 h4 (fun W' hW => hp (ra_fl Q 0 dg W') W' (fun j hj => ra_flN (by omega)) (fun hm hQ r hr => ?_))
  · obtain ⟨a, b⟩ := hW
    have e1 := (b hm).2 r hr
    have z7 : W' 7 = 0 := by
      rw [a]
      rfl
    rw [rt_sqE, ra_evX (n := dg) (N := 8) (by omega) W' r (fun i x y => by
      by_cases e : i = 7
      · rw [e, z7]
      · exact (b hm).1 i (by omega) (by omega))] at e1
    rw [ra_evX (n := dg) (N := 5) (by omega) (ra_fl Q 0 dg W') r (fun i x y => by rw [ra_flN (by omega)]; exact hQ i x y)]
    rw [ra_evC (Q := W') r (fun i hi => ra_flI (by omega) hi), e1, ra_evX (n := 4) (N := 5) (by omega) Q r (fun i x y => hQ i (by omega) y)]
/-! splits -/
theorem xw_spl39 {R : Type} [Lean.Grind.CommRing R] {cv : R → Int32} {el : Nat → R} {iv : R → R} {m N : Nat} (F : fq_F cv el iv m N) {post : Int32 → SX → Prop} {Q : Nat → R} {dg : Nat} (h4 : dg ≤ 4) (hp : ∀ b : Bool, ((∀ j, j < dg → Q j = rt_lin 1 j) → b = true) → post (if b then 1 else 0) (f_bits, f_words, f_sides, f_order, f_result, f_found, nI dg, f_polyBasis, f_depth, a_exp, a_log, a_power, a_members, a_sizes, a_sketches, a_combined, a_list, a_syndromes, a_locator, a_previous, a_saved, a_poly, ra_cf cv Q, a_wide, a_left, a_right, a_quotient, a_stackPoly, a_stackDegree, a_stackBasis)) : ∀ (d i : Nat) (b : Bool), i + d = dg → ((∀ j, j < dg → Q j = rt_lin 1 j) → b = true) → wX_splits_39 post f_bits f_words f_sides f_order f_result f_found (nI dg) f_polyBasis f_depth a_exp a_log a_power a_members a_sizes a_sketches a_combined a_list a_syndromes a_locator a_previous a_saved a_poly (ra_cf cv Q) a_wide a_left a_right a_quotient a_stackPoly a_stackDegree a_stackBasis (d + 1) (if b then 1 else 0) (nI i) := by
  intro d
  induction d with
  | zero =>
    intro i b h hb
    obtain rfl : i = dg := by omega
    refine br_t (nI_le (Nat.le_refl _) (by omega)) ⟨?_, hp b hb⟩
    cases b
    · exact rfl
    · exact rfl
  | succ d ih =>
    intro i b h hb
    refine br_f (nI_ge (by omega) (by omega)) ?_
    cases b with
    | false => exact br_t rfl (nm_r (nI_1 i) (ih (i + 1) false (by omega) hb))
    | true =>
      refine br_f (by decide) ⟨vp_in_nI (by omega) (by decide), ?_⟩
      rw [nI_clamp (by omega)]
      have key : ∀ z0 : Int32, z0 = cv (rt_lin 1 i) → wX_splits_67 post (wX_splits_39 post f_bits f_words f_sides f_order f_result f_found (nI dg) f_polyBasis f_depth a_exp a_log a_power a_members a_sizes a_sketches a_combined a_list a_syndromes a_locator a_previous a_saved a_poly (ra_cf cv Q) a_wide a_left a_right a_quotient a_stackPoly a_stackDegree a_stackBasis (d + 1)) (nI i) z0 (ra_cf cv Q i) f_bits f_words f_sides f_order f_result f_found (nI dg) f_polyBasis f_depth a_exp a_log a_power a_members a_sizes a_sketches a_combined a_list a_syndromes a_locator a_previous a_saved a_poly (ra_cf cv Q) a_wide a_left a_right a_quotient a_stackPoly a_stackDegree a_stackBasis := by
        intro z0 hz
        unfold wX_splits_67
        by_cases e : Q i = rt_lin 1 i
        · refine br_t ?_ (nm_r (nI_1 i) (ih (i + 1) true (by omega) (fun _ => rfl)))
          rw [hz, ← e]
          rfl
        · refine br_f (fun z => e (F.1 _ _ (z.trans hz))) (nm_r (nI_1 i) (ih (i + 1) false (by omega) (fun q => absurd (q i (by omega)) e)))
      refine pk_eq i 1 (fun e => ?_) (fun e => ?_)
      · subst e
        exact key 1 F.2.2.1.symm
      · refine key 0 ?_
        unfold rt_lin
        rw [if_neg e, F.2.1]
theorem xw_spl17 {R : Type} [Lean.Grind.CommRing R] [Lean.Grind.IsCharP R 2] {cv : R → Int32} {el : Nat → R} {iv : R → R} {m N : Nat} (F : fq_F cv el iv m N) (T : fq_T cv iv N a_exp a_log) {post : Int32 → SX → Prop} {P : Nat → R} {dg : Nat} (h2 : 2 ≤ dg) (h4 : dg ≤ 4) (hp : ∀ (b : Bool) (Q W : Nat → R), (∀ E, rt_N P dg E → b = true) → post (if b then 1 else 0) (nI m, f_words, f_sides, f_order, f_result, f_found, nI dg, f_polyBasis, f_depth, a_exp, a_log, a_power, a_members, a_sizes, a_sketches, a_combined, a_list, a_syndromes, a_locator, a_previous, a_saved, ra_cf cv P, ra_cf cv Q, ra_cf cv W, a_left, a_right, a_quotient, a_stackPoly, a_stackDegree, a_stackBasis)) : ∀ (d i : Nat) (Q W : Nat → R), i + d = m → (∀ j, dg ≤ j → j < 5 → Q j = 0) → (P dg = 1 → ∀ r, ra_ev (dg + 1) P r = 0 → ra_ev 5 Q r = fq_fr i r) → wX_splits_17 post (d + 1) (nI i) (nI m) f_words f_sides f_order f_result f_found (nI dg) f_polyBasis f_depth a_exp a_log a_power a_members a_sizes a_sketches a_combined a_list a_syndromes a_locator a_previous a_saved (ra_cf cv P) (ra_cf cv Q) (ra_cf cv W) a_left a_right a_quotient a_stackPoly a_stackDegree a_stackBasis := by
  have hm := F.2.2.2.2.2.2.2.2.2.1
  intro d
  induction d with
  | zero =>
    intro i Q W h hQ hr
    obtain rfl : i = m := by omega
    refine br_t (nI_le (Nat.le_refl _) (by omega)) ⟨dg + 1, xw_spl39 F h4 (fun b hb => hp b Q W (fun E hE => hb (fun j hj => ?_))) dg 0 true (by omega) (fun _ => rfl)⟩
    have k := ra_rc F.2.2.2.2.2.2.1 dg (fun j => Q j + rt_lin 1 j) E hE.1 (by rw [hE.2.1]; exact Nat.le_refl _) (fun r hr' => ?_) j hj
    · exact ra_eq k
    · have q := hr hE.2.2.1 r (by rw [← ra_evX (N := 5) (by omega) P r (fun i a b => hE.2.2.2.1 i (by omega) b)]; exact hE.2.2.2.2 r hr')
      rw [F.2.2.2.2.2.2.2.2.2.2.1 r, ra_evX (n := dg) (by omega) Q r hQ] at q
      rw [ra_evA, q, rt_linE 1 h2]
      grind
  | succ d ih =>
    intro i Q W h hQ hr
    refine br_f (nI_ge (by omega) (by omega)) ?_
    refine xw_squareResidue F T (by omega) h4 (fun Q' W' hk hs => ?_)
    refine nm_r (nI_1 i) (ih (i + 1) Q' W' (by omega) (fun j a b => by rw [hk j a]; exact hQ j a b) (fun hm r hr' => ?_))
    rw [hs hm hQ r hr', hr hm r hr']
    rfl
theorem xw_splits {R : Type} [Lean.Grind.CommRing R] [Lean.Grind.IsCharP R 2] {cv : R → Int32} {el : Nat → R} {iv : R → R} {m N : Nat} (F : fq_F cv el iv m N) (T : fq_T cv iv N a_exp a_log) {post : Int32 → SX → Prop} {P Q W : Nat → R} {dg : Nat} (h4 : dg ≤ 4) (hp : ∀ (b : Bool) (Q W : Nat → R), (∀ E, rt_N P dg E → b = true) → post (if b then 1 else 0) (nI m, f_words, f_sides, f_order, f_result, f_found, nI dg, f_polyBasis, f_depth, a_exp, a_log, a_power, a_members, a_sizes, a_sketches, a_combined, a_list, a_syndromes, a_locator, a_previous, a_saved, ra_cf cv P, ra_cf cv Q, ra_cf cv W, a_left, a_right, a_quotient, a_stackPoly, a_stackDegree, a_stackBasis)) : wpX_splits post (nI m, f_words, f_sides, f_order, f_result, f_found, nI dg, f_polyBasis, f_depth, a_exp, a_log, a_power, a_members, a_sizes, a_sketches, a_combined, a_list, a_syndromes, a_locator, a_previous, a_saved, ra_cf cv P, ra_cf cv Q, ra_cf cv W, a_left, a_right, a_quotient, a_stackPoly, a_stackDegree, a_stackBasis) := by
  unfold wpX_splits
  refine pk_le 2 dg (fun e => ?_) (fun e => ?_)
  · have k : wpX_loadLinear (fun u => match u with | (f_bits, f_words, f_sides, f_order, f_result, f_found, f_polyDegree, f_polyBasis, f_depth, a_exp, a_log, a_power, a_members, a_sizes, a_sketches, a_combined, a_list, a_syndromes, a_locator, a_previous, a_saved, a_poly, a_residue, a_wide, a_left, a_right, a_quotient, a_stackPoly, a_stackDegree, a_stackBasis) => (∃ n17 : Nat, wX_splits_17 post n17 0 f_bits f_words f_sides f_order f_result f_found f_polyDegree f_polyBasis f_depth a_exp a_log a_power a_members a_sizes a_sketches a_combined a_list a_syndromes a_locator a_previous a_saved a_poly a_residue a_wide a_left a_right a_quotient a_stackPoly a_stackDegree a_stackBasis)) (nI m, f_words, f_sides, f_order, f_result, f_found, nI dg, f_polyBasis, f_depth, a_exp, a_log, a_power, a_members, a_sizes, a_sketches, a_combined, a_list, a_syndromes, a_locator, a_previous, a_saved, ra_cf cv P, ra_cf cv Q, ra_cf cv W, a_left, a_right, a_quotient, a_stackPoly, a_stackDegree, a_stackBasis) (cv 1) := by
      refine xw_loadLinear F ?_
      refine ⟨m + 1, ?_⟩
      refine xw_spl17 F T e h4 hp m 0 _ W (by omega) (fun j a b => ?_) (fun _ r _ => ?_)
      · rw [ra_flI (by omega) b]
        exact if_neg (by omega)
      · rw [ra_evC (Q := rt_lin 1) r (fun i hi => ra_flI (by omega) hi), rt_linE 1 (by omega)]
        show 1 * r = r
        grind
    rw [F.2.2.1] at k
    exact k
  · exact hp true Q W (fun _ _ => rfl)
end
end
section
/-! ===== Euclid, division: walks ===== -/
def eu_D {R : Type} [Lean.Grind.CommRing R] (A : Nat → R) (n : Nat) (x : Int32) : Prop := (x = -1 ∧ ∀ j, j < n → A j = 0) ∨ ∃ d, d < n ∧ x = nI d ∧ A d ≠ 0 ∧ ∀ j, d < j → j < n → A j = 0
theorem eu_Ds0 {R : Type} [Lean.Grind.CommRing R] {A : Nat → R} {i : Nat} {x : Int32} (h : eu_D A i x) (z : A i = 0) : eu_D A (i + 1) x := by
  rcases h with ⟨a, b⟩ | ⟨d, a, b, c, e⟩
  · refine Or.inl ⟨a, fun j hj => ?_⟩
    by_cases e : j = i
    · rw [e, z]
    · exact b j (by omega)
  · refine Or.inr ⟨d, by omega, b, c, fun j p q => ?_⟩
    by_cases u : j = i
    · rw [u, z]
    · exact e j p (by omega)
theorem eu_Ds1 {R : Type} [Lean.Grind.CommRing R] {A : Nat → R} {i : Nat} (z : A i ≠ 0) : eu_D A (i + 1) (nI i) := Or.inr ⟨i, by omega, rfl, z, fun j p q => by omega⟩
theorem eu_tc {R : Type} [Lean.Grind.CommRing R] {A B : Nat → R} (h : ∀ j, j < 5 → A j = B j) : eu_t A = eu_t B := by
  funext j
  unfold eu_t
  by_cases e : j < 5
  · rw [if_pos e, if_pos e, h j e]
  · rw [if_neg e, if_neg e]
theorem eu_dc {R : Type} [Lean.Grind.CommRing R] {g A B : Nat → R} (h : ∀ j, j < 5 → A j = B j) (k : eu_Dv g A) : eu_Dv g B := by
  unfold eu_Dv
  rw [← eu_tc h]
  exact k
theorem eu_Gc {R : Type} [Lean.Grind.CommRing R] {A B A' B' A'' B'' : Nat → R} (h1 : ∀ j, j < 5 → A' j = A'' j) (h2 : ∀ j, j < 5 → B' j = B'' j) (h : eu_G A B A' B') : eu_G A B A'' B'' := by
  refine ⟨fun x => ?_, fun g a b => h.2 g (eu_dc (fun j hj => (h1 j hj).symm) a) (eu_dc (fun j hj => (h2 j hj).symm) b)⟩
  rw [← ra_evC x h1, ← ra_evC x h2]
  exact h.1 x
theorem xw_pm {q d : Nat} (h : q ≤ d) (hd : d < 100) : nI q + (-1) < nI d := by
  rcases q with _ | q
  · rw [Int32.lt_iff_toInt_lt, nI_toInt (by omega)]
    show (-1 : Int) < d
    omega
  · rw [pk_m1]
    exact nI_lt (by omega) (by omega)
section
variable {f_bits f_words f_sides f_order f_result f_found f_polyDegree f_polyBasis f_depth : Int32} {a_exp a_log a_power a_members a_sizes a_sketches a_combined a_list a_syndromes a_locator a_previous a_saved a_poly a_residue a_wide a_left a_right a_quotient a_stackPoly a_stackDegree a_stackBasis : Nat → Int32}
theorem xw_degreeOf__right {R : Type} [Lean.Grind.CommRing R] {cv : R → Int32} {el : Nat → R} {iv : R → R} {m N : Nat} (F : fq_F cv el iv m N) {post : Int32 → Prop} {A : Nat → R} (hp : ∀ x, eu_D A 5 x → post x) : wpX_degreeOf__right post (f_bits, f_words, f_sides, f_order, f_result, f_found, f_polyDegree, f_polyBasis, f_depth, a_exp, a_log, a_power, a_members, a_sizes, a_sketches, a_combined, a_list, a_syndromes, a_locator, a_previous, a_saved, a_poly, a_residue, a_wide, a_left, ra_cf cv A, a_quotient, a_stackPoly, a_stackDegree, a_stackBasis) := by
  have k : ∀ (d i : Nat) (x : Int32), i + d = 5 → eu_D A i x → wX_degreeOf__right_4 post f_bits f_words f_sides f_order f_result f_found f_polyDegree f_polyBasis f_depth a_exp a_log a_power a_members a_sizes a_sketches a_combined a_list a_syndromes a_locator a_previous a_saved a_poly a_residue a_wide a_left (ra_cf cv A) a_quotient a_stackPoly a_stackDegree a_stackBasis (d + 1) x (nI i) := by
    intro d
    induction d with
    | zero =>
      intro i x h hx
      obtain rfl : i = 5 := by omega
      exact br_t (nI_le (a := 5) (b := 5) (Nat.le_refl _) (by decide)) (hp x hx)
    | succ d ih =>
      intro i x h hx
      refine br_f (nI_ge (b := 5) (by omega) (by decide)) ⟨vp_in_nI (by omega) (by decide), ?_⟩
      rw [nI_clamp (by omega)]
      by_cases z : A i = 0
      · exact br_t ((fq_nz F).mpr z) (nm_r (nI_1 i) (ih (i + 1) x (by omega) (eu_Ds0 hx z)))
      · exact br_f (fun q => z ((fq_nz F).mp q)) (nm_r (nI_1 i) (ih (i + 1) (nI i) (by omega) (eu_Ds1 z)))
  exact ⟨_, k 5 0 (-1) rfl (Or.inl ⟨rfl, fun j hj => by omega⟩)⟩
theorem xw_degreeOf__left {R : Type} [Lean.Grind.CommRing R] {cv : R → Int32} {el : Nat → R} {iv : R → R} {m N : Nat} (F : fq_F cv el iv m N) {post : Int32 → Prop} {A : Nat → R} (hp : ∀ x, eu_D A 5 x → post x) : wpX_degreeOf__left post (f_bits, f_words, f_sides, f_order, f_result, f_found, f_polyDegree, f_polyBasis, f_depth, a_exp, a_log, a_power, a_members, a_sizes, a_sketches, a_combined, a_list, a_syndromes, a_locator, a_previous, a_saved, a_poly, a_residue, a_wide, ra_cf cv A, a_right, a_quotient, a_stackPoly, a_stackDegree, a_stackBasis) := by
  have k : ∀ (d i : Nat) (x : Int32), i + d = 5 → eu_D A i x → wX_degreeOf__left_4 post f_bits f_words f_sides f_order f_result f_found f_polyDegree f_polyBasis f_depth a_exp a_log a_power a_members a_sizes a_sketches a_combined a_list a_syndromes a_locator a_previous a_saved a_poly a_residue a_wide (ra_cf cv A) a_right a_quotient a_stackPoly a_stackDegree a_stackBasis (d + 1) x (nI i) := by
    intro d
    induction d with
    | zero =>
      intro i x h hx
      obtain rfl : i = 5 := by omega
      exact br_t (nI_le (a := 5) (b := 5) (Nat.le_refl _) (by decide)) (hp x hx)
    | succ d ih =>
      intro i x h hx
      refine br_f (nI_ge (b := 5) (by omega) (by decide)) ⟨vp_in_nI (by omega) (by decide), ?_⟩
      rw [nI_clamp (by omega)]
      by_cases z : A i = 0
      · exact br_t ((fq_nz F).mpr z) (nm_r (nI_1 i) (ih (i + 1) x (by omega) (eu_Ds0 hx z)))
      · exact br_f (fun q => z ((fq_nz F).mp q)) (nm_r (nI_1 i) (ih (i + 1) (nI i) (by omega) (eu_Ds1 z)))
  exact ⟨_, k 5 0 (-1) rfl (Or.inl ⟨rfl, fun j hj => by omega⟩)⟩
/-! reduceLeft -/
theorem xw_rl34 {R : Type} [Lean.Grind.CommRing R] {cv : R → Int32} {el : Nat → R} {iv : R → R} {m N : Nat} (F : fq_F cv el iv m N) (T : fq_T cv iv N a_exp a_log) {post : SX → Prop} {J : Int32 → (Nat → Int32) → (Nat → Int32) → (Nat → Int32) → (Nat → Int32) → (Nat → Int32) → (Nat → Int32) → (Nat → Int32) → (Nat → Int32) → (Nat → Int32) → (Nat → Int32) → (Nat → Int32) → (Nat → Int32) → (Nat → Int32) → (Nat → Int32) → (Nat → Int32) → (Nat → Int32) → (Nat → Int32) → (Nat → Int32) → (Nat → Int32) → (Nat → Int32) → (Nat → Int32) → Prop} {A B : Nat → R} {c : R} {x2 : Int32} {p dg : Nat} (h2 : dg ≤ p) (h3 : p ≤ 4) (hp : J (nI p + (-1)) a_exp a_log a_power a_members a_sizes a_sketches a_combined a_list a_syndromes a_locator a_previous a_saved a_poly a_residue a_wide (ra_cf cv (ra_aw A (p - dg) (dg + 1) c B)) (ra_cf cv B) a_quotient a_stackPoly a_stackDegree a_stackBasis) : ∀ (d i : Nat), i + d = dg + 1 → wX_reduceLeft_34 post J (nI dg) x2 (nI p) (cv c) f_bits f_words f_sides f_order f_result f_found f_polyDegree f_polyBasis f_depth (d + 1) (nI i) a_exp a_log a_power a_members a_sizes a_sketches a_combined a_list a_syndromes a_locator a_previous a_saved a_poly a_residue a_wide (ra_cf cv (ra_aw A (p - dg) i c B)) (ra_cf cv B) a_quotient a_stackPoly a_stackDegree a_stackBasis := by
  intro d
  induction d with
  | zero =>
    intro i h
    obtain rfl : i = dg + 1 := by omega
    exact br_t (nI_lt (by omega) (by omega)) (nm_e hp)
  | succ d ih =>
    intro i h
    have e1 := xw_sa (i := i) h2
    refine br_f (nI_nlt (by omega) (by omega)) ⟨xw_in e1 (by omega) (by decide), vp_in_nI (by omega) (by decide), ?_⟩
    rw [e1, nI_clamp (by omega), nI_clamp (by omega)]
    refine xw_product F T c (B i) (And.intro (vp_in_nI (by omega) (by decide)) (nm_r (e' := ra_cf cv (ra_aw A (p - dg) (i + 1) c B)) ?_ (nm_r (nI_1 i) (ih (i + 1) (by omega)))))
    show upd _ _ (cv _ ^^^ _) = _
    rw [fq_xor F, ra_cfu, ra_awS]
theorem xw_rl34z {R : Type} [Lean.Grind.CommRing R] {cv : R → Int32} {el : Nat → R} {iv : R → R} {m N : Nat} (F : fq_F cv el iv m N) (T : fq_T cv iv N a_exp a_log) {post : SX → Prop} {J : Int32 → (Nat → Int32) → (Nat → Int32) → (Nat → Int32) → (Nat → Int32) → (Nat → Int32) → (Nat → Int32) → (Nat → Int32) → (Nat → Int32) → (Nat → Int32) → (Nat → Int32) → (Nat → Int32) → (Nat → Int32) → (Nat → Int32) → (Nat → Int32) → (Nat → Int32) → (Nat → Int32) → (Nat → Int32) → (Nat → Int32) → (Nat → Int32) → (Nat → Int32) → (Nat → Int32) → Prop} {A B : Nat → R} {c : R} {x2 : Int32} {p dg : Nat} (h2 : dg ≤ p) (h3 : p ≤ 4) (hp : J (nI p + (-1)) a_exp a_log a_power a_members a_sizes a_sketches a_combined a_list a_syndromes a_locator a_previous a_saved a_poly a_residue a_wide (ra_cf cv (ra_aw A (p - dg) (dg + 1) c B)) (ra_cf cv B) a_quotient a_stackPoly a_stackDegree a_stackBasis) : wX_reduceLeft_34 post J (nI dg) x2 (nI p) (cv c) f_bits f_words f_sides f_order f_result f_found f_polyDegree f_polyBasis f_depth (dg + 2) (nI 0) a_exp a_log a_power a_members a_sizes a_sketches a_combined a_list a_syndromes a_locator a_previous a_saved a_poly a_residue a_wide (ra_cf cv A) (ra_cf cv B) a_quotient a_stackPoly a_stackDegree a_stackBasis := by
  have k := xw_rl34 (post := post) (x2 := x2) (f_bits := f_bits) (f_words := f_words) (f_sides := f_sides) (f_order := f_order) (f_result := f_result) (f_found := f_found) (f_polyDegree := f_polyDegree) (f_polyBasis := f_polyBasis) (f_depth := f_depth) F T h2 h3 hp (dg + 1) 0 (by omega)
  rw [ra_aw0] at k
  exact k
theorem xw_rl13 {R : Type} [Lean.Grind.CommRing R] [Lean.Grind.IsCharP R 2] {cv : R → Int32} {el : Nat → R} {iv : R → R} {m N : Nat} (F : fq_F cv el iv m N) (T : fq_T cv iv N a_exp a_log) {post : SX → Prop} {A0 B : Nat → R} {v : R} {dg : Nat} (h4 : dg ≤ 4) (hv : B dg * v = 1) (hB : ∀ j, dg + 1 ≤ j → j < 5 → B j = 0) (hp : ∀ A, (∀ j, dg ≤ j → j < 5 → A j = 0) → eu_M B A0 A → post (f_bits, f_words, f_sides, f_order, f_result, f_found, f_polyDegree, f_polyBasis, f_depth, a_exp, a_log, a_power, a_members, a_sizes, a_sketches, a_combined, a_list, a_syndromes, a_locator, a_previous, a_saved, a_poly, a_residue, a_wide, ra_cf cv A, ra_cf cv B, a_quotient, a_stackPoly, a_stackDegree, a_stackBasis)) : ∀ (d q : Nat) (A : Nat → R), q = dg + d → q ≤ 5 → (∀ j, q ≤ j → j < 5 → A j = 0) → eu_M B A0 A → wX_reduceLeft_13 post (nI dg) (cv v) f_bits f_words f_sides f_order f_result f_found f_polyDegree f_polyBasis f_depth (d + 1) (nI q + (-1)) a_exp a_log a_power a_members a_sizes a_sketches a_combined a_list a_syndromes a_locator a_previous a_saved a_poly a_residue a_wide (ra_cf cv A) (ra_cf cv B) a_quotient a_stackPoly a_stackDegree a_stackBasis := by
  intro d
  induction d with
  | zero =>
    intro q A h h5 hz hM
    obtain rfl : q = dg := by omega
    exact br_t (xw_pm (Nat.le_refl _) (by omega)) (hp A hz hM)
  | succ d ih =>
    intro q A h h5 hz hM
    have e1 : nI q + (-1) = nI (q - 1) := xw_m1 (by omega)
    rw [e1]
    refine br_f (nI_nlt (by omega) (by omega)) ⟨vp_in_nI (by omega) (by decide), ?_⟩
    rw [nI_clamp (by omega)]
    refine xw_product F T (A (q - 1)) v ⟨dg + 2, ?_⟩
    refine xw_rl34z F T (by omega) (by omega) (ih (q - 1) _ (by omega) (by omega) (fun j a b => ?_) (eu_Mt hM (eu_Ms A B hB (by omega) _)))
    by_cases e : j = q - 1
    · have e2 : j - (q - 1 - dg) = dg := by omega
      rw [ra_awI (by omega) (by omega), e2, e]
      grind
    · rw [ra_awN (by omega)]
      exact hz j (by omega) b
theorem xw_reduceLeft {R : Type} [Lean.Grind.CommRing R] [Lean.Grind.IsCharP R 2] {cv : R → Int32} {el : Nat → R} {iv : R → R} {m N : Nat} (F : fq_F cv el iv m N) (T : fq_T cv iv N a_exp a_log) {post : SX → Prop} {A B : Nat → R} {dg : Nat} (h4 : dg ≤ 4) (hb : B dg ≠ 0) (hB : ∀ j, dg < j → j < 5 → B j = 0) (hp : ∀ A', (∀ j, dg ≤ j → j < 5 → A' j = 0) → eu_M B A A' → post (f_bits, f_words, f_sides, nI N, f_result, f_found, f_polyDegree, f_polyBasis, f_depth, a_exp, a_log, a_power, a_members, a_sizes, a_sketches, a_combined, a_list, a_syndromes, a_locator, a_previous, a_saved, a_poly, a_residue, a_wide, ra_cf cv A', ra_cf cv B, a_quotient, a_stackPoly, a_stackDegree, a_stackBasis)) : wpX_reduceLeft post (f_bits, f_words, f_sides, nI N, f_result, f_found, f_polyDegree, f_polyBasis, f_depth, a_exp, a_log, a_power, a_members, a_sizes, a_sketches, a_combined, a_list, a_syndromes, a_locator, a_previous, a_saved, a_poly, a_residue, a_wide, ra_cf cv A, ra_cf cv B, a_quotient, a_stackPoly, a_stackDegree, a_stackBasis) (nI dg) := by
  refine And.intro (vp_in_nI (by omega) (by decide)) ?_
  rw [nI_clamp (by omega)]
  refine xw_inverse F T (B dg) ⟨5 - dg + 1, ?_⟩
  exact xw_rl13 F T h4 (F.2.2.2.2.2.2.2.1 _ hb) (fun j a b => hB j (by omega) b) hp (5 - dg) 5 A (by omega) (Nat.le_refl _) (fun j a b => by omega) (eu_Mr B A)
/-! swapOperands -/
theorem xw_sw2 {R : Type} {cv : R → Int32} {post : SX → Prop} {A B : Nat → R} (hp : post (f_bits, f_words, f_sides, f_order, f_result, f_found, f_polyDegree, f_polyBasis, f_depth, a_exp, a_log, a_power, a_members, a_sizes, a_sketches, a_combined, a_list, a_syndromes, a_locator, a_previous, a_saved, a_poly, a_residue, a_wide, ra_cf cv (ra_fl A 0 5 B), ra_cf cv (ra_fl B 0 5 A), a_quotient, a_stackPoly, a_stackDegree, a_stackBasis)) : ∀ (d i : Nat), i + d = 5 → wX_swapOperands_2 post f_bits f_words f_sides f_order f_result f_found f_polyDegree f_polyBasis f_depth (d + 1) (nI i) a_exp a_log a_power a_members a_sizes a_sketches a_combined a_list a_syndromes a_locator a_previous a_saved a_poly a_residue a_wide (ra_cf cv (ra_fl A 0 i B)) (ra_cf cv (ra_fl B 0 i A)) a_quotient a_stackPoly a_stackDegree a_stackBasis := by
  intro d
  induction d with
  | zero =>
    intro i h
    obtain rfl : i = 5 := by omega
    exact br_t (nI_le (a := 5) (b := 5) (Nat.le_refl _) (by decide)) hp
  | succ d ih =>
    intro i h
    have hi : vp_in (nI i) 5 := vp_in_nI (by omega) (by decide)
    refine br_f (nI_ge (b := 5) (by omega) (by decide)) ⟨hi, nm_r (e' := cv (A i)) ?_ ⟨hi, hi, nm_r (e' := ra_cf cv (ra_fl A 0 (i + 1) B)) ?_ ⟨hi, nm_r (e' := ra_cf cv (ra_fl B 0 (i + 1) A)) ?_ (nm_r (nI_1 i) (ih (i + 1) (by omega)))⟩⟩⟩
    · rw [nI_clamp (by omega)]
      exact congrArg cv (ra_flN (by omega))
    · rw [nI_clamp (by omega), ← ra_flP, ← ra_cfu]
      exact congrArg (upd _ i) (congrArg cv (ra_flN (by omega)))
    · rw [nI_clamp (by omega), ← ra_flP, ← ra_cfu]
theorem xw_swapOperands {R : Type} {cv : R → Int32} {post : SX → Prop} {A B : Nat → R} (hp : post (f_bits, f_words, f_sides, f_order, f_result, f_found, f_polyDegree, f_polyBasis, f_depth, a_exp, a_log, a_power, a_members, a_sizes, a_sketches, a_combined, a_list, a_syndromes, a_locator, a_previous, a_saved, a_poly, a_residue, a_wide, ra_cf cv (ra_fl A 0 5 B), ra_cf cv (ra_fl B 0 5 A), a_quotient, a_stackPoly, a_stackDegree, a_stackBasis)) : wpX_swapOperands post (f_bits, f_words, f_sides, f_order, f_result, f_found, f_polyDegree, f_polyBasis, f_depth, a_exp, a_log, a_power, a_members, a_sizes, a_sketches, a_combined, a_list, a_syndromes, a_locator, a_previous, a_saved, a_poly, a_residue, a_wide, ra_cf cv A, ra_cf cv B, a_quotient, a_stackPoly, a_stackDegree, a_stackBasis) := by
  have k := xw_sw2 hp 5 0 rfl
  rw [ra_fl0, ra_fl0] at k
  exact ⟨_, k⟩
/-! reduceToDivisor -/
theorem xw_rtd2 {R : Type} [Lean.Grind.CommRing R] [Lean.Grind.IsCharP R 2] {cv : R → Int32} {el : Nat → R} {iv : R → R} {m N : Nat} (F : fq_F cv el iv m N) (T : fq_T cv iv N a_exp a_log) {post : SX → Prop} {A0 B0 : Nat → R} (hp : ∀ A B, (∀ j, j < 5 → B j = 0) → eu_G A0 B0 A B → post (f_bits, f_words, f_sides, nI N, f_result, f_found, f_polyDegree, f_polyBasis, f_depth, a_exp, a_log, a_power, a_members, a_sizes, a_sketches, a_combined, a_list, a_syndromes, a_locator, a_previous, a_saved, a_poly, a_residue, a_wide, ra_cf cv A, ra_cf cv B, a_quotient, a_stackPoly, a_stackDegree, a_stackBasis)) : ∀ (c q : Nat) (A B : Nat → R), q + c = 5 → (∀ j, c ≤ j → j < 5 → B j = 0) → eu_G A0 B0 A B → wX_reduceToDivisor_2 post (c + 1) (nI q) f_bits f_words f_sides (nI N) f_result f_found f_polyDegree f_polyBasis f_depth a_exp a_log a_power a_members a_sizes a_sketches a_combined a_list a_syndromes a_locator a_previous a_saved a_poly a_residue a_wide (ra_cf cv A) (ra_cf cv B) a_quotient a_stackPoly a_stackDegree a_stackBasis := by
  intro c
  induction c with
  | zero =>
    intro q A B h hB hG
    refine br_f (nI_ge (b := 8) (by omega) (by decide)) ?_
    refine xw_degreeOf__right F (fun x hx => ?_)
    rcases hx with ⟨rfl, _⟩ | ⟨d, a, _, b, _⟩
    · exact br_f (by decide) (hp A B (fun j hj => hB j (by omega) hj) hG)
    · exact absurd (hB d (by omega) a) b
  | succ c ih =>
    intro q A B h hB hG
    refine br_f (nI_ge (b := 8) (by omega) (by decide)) ?_
    refine xw_degreeOf__right F (fun x hx => ?_)
    rcases hx with ⟨rfl, z⟩ | ⟨d, a, rfl, b, e⟩
    · exact br_f (by decide) (hp A B z hG)
    · refine br_t (nI_pos' (by omega)) ?_
      have hd : d < c + 1 := by
        apply Classical.byContradiction
        intro u
        exact b (hB d (by omega) a)
      refine xw_reduceLeft F T (by omega) b e (fun A' hz hM => ?_)
      refine xw_swapOperands ?_
      refine nm_r (nI_1 q) (ih (q + 1) _ _ (by omega) (fun j x y => ?_) (eu_Gc (A' := B) (B' := A') (fun j hj => ?_) (fun j hj => ?_) (eu_Gt hG (eu_Gs hM))))
      · rw [ra_flI (by omega) y]
        exact hz j (by omega) y
      · rw [ra_flI (by omega) hj]
      · rw [ra_flI (by omega) hj]
theorem xw_reduceToDivisor {R : Type} [Lean.Grind.CommRing R] [Lean.Grind.IsCharP R 2] {cv : R → Int32} {el : Nat → R} {iv : R → R} {m N : Nat} (F : fq_F cv el iv m N) (T : fq_T cv iv N a_exp a_log) {post : SX → Prop} {A B : Nat → R} (hp : ∀ A' B', (∀ j, j < 5 → B' j = 0) → eu_G A B A' B' → post (f_bits, f_words, f_sides, nI N, f_result, f_found, f_polyDegree, f_polyBasis, f_depth, a_exp, a_log, a_power, a_members, a_sizes, a_sketches, a_combined, a_list, a_syndromes, a_locator, a_previous, a_saved, a_poly, a_residue, a_wide, ra_cf cv A', ra_cf cv B', a_quotient, a_stackPoly, a_stackDegree, a_stackBasis)) : wpX_reduceToDivisor post (f_bits, f_words, f_sides, nI N, f_result, f_found, f_polyDegree, f_polyBasis, f_depth, a_exp, a_log, a_power, a_members, a_sizes, a_sketches, a_combined, a_list, a_syndromes, a_locator, a_previous, a_saved, a_poly, a_residue, a_wide, ra_cf cv A, ra_cf cv B, a_quotient, a_stackPoly, a_stackDegree, a_stackBasis) :=
  ⟨6, xw_rtd2 F T hp 5 0 A B rfl (fun j a b => by omega) (eu_Gr A B)⟩
/-! makeMonic -/
theorem xw_mm13 {R : Type} [Lean.Grind.CommRing R] {cv : R → Int32} {el : Nat → R} {iv : R → R} {m N : Nat} (F : fq_F cv el iv m N) (T : fq_T cv iv N a_exp a_log) {post : SX → Prop} {A : Nat → R} {v : R} {p : Nat} (h4 : p ≤ 4) (hp : post (f_bits, f_words, f_sides, f_order, f_result, f_found, f_polyDegree, f_polyBasis, f_depth, a_exp, a_log, a_power, a_members, a_sizes, a_sketches, a_combined, a_list, a_syndromes, a_locator, a_previous, a_saved, a_poly, a_residue, a_wide, ra_cf cv (ra_fl A 0 (p + 1) (fun i => A i * v)), a_right, a_quotient, a_stackPoly, a_stackDegree, a_stackBasis)) : ∀ (d i : Nat), i + d = p + 1 → wX_makeMonic_13 post (nI p) (cv v) f_bits f_words f_sides f_order f_result f_found f_polyDegree f_polyBasis f_depth (d + 1) (nI i) a_exp a_log a_power a_members a_sizes a_sketches a_combined a_list a_syndromes a_locator a_previous a_saved a_poly a_residue a_wide (ra_cf cv (ra_fl A 0 i (fun i => A i * v))) a_right a_quotient a_stackPoly a_stackDegree a_stackBasis := by
  intro d
  induction d with
  | zero =>
    intro i h
    obtain rfl : i = p + 1 := by omega
    exact br_t (nI_lt (by omega) (by omega)) hp
  | succ d ih =>
    intro i h
    refine br_f (nI_nlt (by omega) (by omega)) ⟨vp_in_nI (by omega) (by decide), ?_⟩
    rw [nI_clamp (by omega)]
    have e : ra_cf cv (ra_fl A 0 i (fun i => A i * v)) i = cv (A i) := congrArg cv (ra_flN (by omega))
    rw [e]
    refine xw_product F T (A i) v (And.intro (vp_in_nI (by omega) (by decide)) (nm_r (e' := ra_cf cv (ra_fl A 0 (i + 1) (fun i => A i * v))) ?_ (nm_r (nI_1 i) (ih (i + 1) (by omega)))))
    rw [← ra_flP, ← ra_cfu]
theorem xw_makeMonic {R : Type} [Lean.Grind.CommRing R] {cv : R → Int32} {el : Nat → R} {iv : R → R} {m N : Nat} (F : fq_F cv el iv m N) (T : fq_T cv iv N a_exp a_log) {post : SX → Prop} {A : Nat → R} {p : Nat} (h4 : p ≤ 4) (hp : post (f_bits, f_words, f_sides, nI N, f_result, f_found, f_polyDegree, f_polyBasis, f_depth, a_exp, a_log, a_power, a_members, a_sizes, a_sketches, a_combined, a_list, a_syndromes, a_locator, a_previous, a_saved, a_poly, a_residue, a_wide, ra_cf cv (ra_fl A 0 (p + 1) (fun i => A i * iv (A p))), a_right, a_quotient, a_stackPoly, a_stackDegree, a_stackBasis)) : wpX_makeMonic post (f_bits, f_words, f_sides, nI N, f_result, f_found, f_polyDegree, f_polyBasis, f_depth, a_exp, a_log, a_power, a_members, a_sizes, a_sketches, a_combined, a_list, a_syndromes, a_locator, a_previous, a_saved, a_poly, a_residue, a_wide, ra_cf cv A, a_right, a_quotient, a_stackPoly, a_stackDegree, a_stackBasis) (nI p) := by
  refine And.intro (vp_in_nI (by omega) (by decide)) ?_
  rw [nI_clamp (by omega)]
  refine xw_inverse F T (A p) ⟨p + 2, ?_⟩
  have k := xw_mm13 F T h4 hp (p + 1) 0 (by omega)
  rw [ra_fl0] at k
  exact k
/-! divideByLeft -/
def dv_I {R : Type} [Lean.Grind.CommRing R] (L P0 : Nat → R) (pt dg p : Nat) (P Q : Nat → R) : Prop :=
  L pt = 1 → (∀ j, pt < j → j < 5 → L j = 0) → (∀ j, dg < j → j < 5 → P0 j = 0) →
    (∀ j, p < j → j < 5 → P j = 0) ∧ (∀ j, j < 5 → (j + pt ≤ p ∨ dg < j + pt) → Q j = 0) ∧ (p < dg → Q (dg - pt) = P0 dg) ∧ (p = dg → P = P0) ∧ ∀ r, ra_ev 5 P0 r = ra_ev 5 P r + ra_ev 5 Q r * ra_ev 5 L r
theorem dv_S {R : Type} [Lean.Grind.CommRing R] [Lean.Grind.IsCharP R 2] {L P0 P Q : Nat → R} {pt dg p : Nat} (h1 : 1 ≤ pt) (h2 : pt ≤ p) (h3 : p ≤ dg) (h4 : dg ≤ 4) (I : dv_I L P0 pt dg p P Q) : dv_I L P0 pt dg (p - 1) (ra_aw P (p - pt) (pt + 1) (P p) L) (ra_ur Q (p - pt) (P p)) := by
  intro a b c
  obtain ⟨i1, i2, i3, i4, i5⟩ := I a b c
  refine ⟨fun j x y => ?_, fun j x y => ?_, fun x => ?_, fun x => by omega, fun r => ?_⟩
  · by_cases e : j = p
    · have e2 : j - (p - pt) = pt := by omega
      rw [ra_awI (by omega) (by omega), e2, a, e]
      grind
    · rw [ra_awN (by omega)]
      exact i1 j (by omega) y
  · rw [ra_urn (by omega)]
    exact i2 j x (by omega)
  · by_cases e : p = dg
    · rw [← e, ra_urs, i4 e]
    · rw [ra_urn (by omega)]
      exact i3 (by omega)
  · have q0 : Q (p - pt) = 0 := i2 (p - pt) (by omega) (by omega)
    have e1 : ra_ur Q (p - pt) (P p) = ra_ur Q (p - pt) (Q (p - pt) + P p) := by rw [q0, ra_z]
    rw [e1, ra_evU (by omega), ra_evW (by omega), i5 r, ra_evX (n := pt + 1) (N := 5) (by omega) L r (fun i x y => b i (by omega) y)]
    generalize ra_ev (pt + 1) L r = l
    generalize ra_ev 5 P r = y
    generalize ra_ev 5 Q r = z
    generalize P p * r ^ (p - pt) = w
    grind
theorem xw_db49 {R : Type} [Lean.Grind.CommRing R] {cv : R → Int32} {el : Nat → R} {iv : R → R} {m N : Nat} (F : fq_F cv el iv m N) (T : fq_T cv iv N a_exp a_log) {post : SX → Prop} {J : Int32 → (Nat → Int32) → (Nat → Int32) → (Nat → Int32) → (Nat → Int32) → (Nat → Int32) → (Nat → Int32) → (Nat → Int32) → (Nat → Int32) → (Nat → Int32) → (Nat → Int32) → (Nat → Int32) → (Nat → Int32) → (Nat → Int32) → (Nat → Int32) → (Nat → Int32) → (Nat → Int32) → (Nat → Int32) → (Nat → Int32) → (Nat → Int32) → (Nat → Int32) → (Nat → Int32) → Prop} {P L : Nat → R} {c : R} {p pt : Nat} (h1 : 1 ≤ pt) (h2 : pt ≤ p) (h3 : p ≤ 4) (hp : J (nI (p - 1)) a_exp a_log a_power a_members a_sizes a_sketches a_combined a_list a_syndromes a_locator a_previous a_saved (ra_cf cv (ra_aw P (p - pt) (pt + 1) c L)) a_residue a_wide (ra_cf cv L) a_right a_quotient a_stackPoly a_stackDegree a_stackBasis) : ∀ (d i : Nat), i + d = pt + 1 → wX_divideByLeft_49 post J (nI pt) (nI p) (cv c) f_bits f_words f_sides f_order f_result f_found f_polyDegree f_polyBasis f_depth (d + 1) (nI i) a_exp a_log a_power a_members a_sizes a_sketches a_combined a_list a_syndromes a_locator a_previous a_saved (ra_cf cv (ra_aw P (p - pt) i c L)) a_residue a_wide (ra_cf cv L) a_right a_quotient a_stackPoly a_stackDegree a_stackBasis := by
  intro d
  induction d with
  | zero =>
    intro i h
    obtain rfl : i = pt + 1 := by omega
    exact br_t (nI_lt (by omega) (by omega)) (nm_r (xw_m1 (by omega)) hp)
  | succ d ih =>
    intro i h
    have e1 := xw_sa (i := i) h2
    refine br_f (nI_nlt (by omega) (by omega)) ⟨xw_in e1 (by omega) (by decide), vp_in_nI (by omega) (by decide), ?_⟩
    rw [e1, nI_clamp (by omega), nI_clamp (by omega)]
    refine xw_product F T c (L i) (And.intro (vp_in_nI (by omega) (by decide)) (nm_r (e' := ra_cf cv (ra_aw P (p - pt) (i + 1) c L)) ?_ (nm_r (nI_1 i) (ih (i + 1) (by omega)))))
    show upd _ _ (cv _ ^^^ _) = _
    rw [fq_xor F, ra_cfu, ra_awS]
theorem xw_db49z {R : Type} [Lean.Grind.CommRing R] {cv : R → Int32} {el : Nat → R} {iv : R → R} {m N : Nat} (F : fq_F cv el iv m N) (T : fq_T cv iv N a_exp a_log) {post : SX → Prop} {J : Int32 → (Nat → Int32) → (Nat → Int32) → (Nat → Int32) → (Nat → Int32) → (Nat → Int32) → (Nat → Int32) → (Nat → Int32) → (Nat → Int32) → (Nat → Int32) → (Nat → Int32) → (Nat → Int32) → (Nat → Int32) → (Nat → Int32) → (Nat → Int32) → (Nat → Int32) → (Nat → Int32) → (Nat → Int32) → (Nat → Int32) → (Nat → Int32) → (Nat → Int32) → (Nat → Int32) → Prop} {P L : Nat → R} {c : R} {p pt : Nat} (h1 : 1 ≤ pt) (h2 : pt ≤ p) (h3 : p ≤ 4) (hp : J (nI (p - 1)) a_exp a_log a_power a_members a_sizes a_sketches a_combined a_list a_syndromes a_locator a_previous a_saved (ra_cf cv (ra_aw P (p - pt) (pt + 1) c L)) a_residue a_wide (ra_cf cv L) a_right a_quotient a_stackPoly a_stackDegree a_stackBasis) : wX_divideByLeft_49 post J (nI pt) (nI p) (cv c) f_bits f_words f_sides f_order f_result f_found f_polyDegree f_polyBasis f_depth (pt + 2) (nI 0) a_exp a_log a_power a_members a_sizes a_sketches a_combined a_list a_syndromes a_locator a_previous a_saved (ra_cf cv P) a_residue a_wide (ra_cf cv L) a_right a_quotient a_stackPoly a_stackDegree a_stackBasis := by
  have k := xw_db49 (post := post) (f_bits := f_bits) (f_words := f_words) (f_sides := f_sides) (f_order := f_order) (f_result := f_result) (f_found := f_found) (f_polyDegree := f_polyDegree) (f_polyBasis := f_polyBasis) (f_depth := f_depth) F T h1 h2 h3 hp (pt + 1) 0 (by omega)
  rw [ra_aw0] at k
  exact k
theorem xw_db25 {R : Type} [Lean.Grind.CommRing R] [Lean.Grind.IsCharP R 2] {cv : R → Int32} {el : Nat → R} {iv : R → R} {m N : Nat} (F : fq_F cv el iv m N) (T : fq_T cv iv N a_exp a_log) {post : SX → Prop} {L P0 : Nat → R} {pt dg : Nat} (h1 : 1 ≤ pt) (h4 : dg ≤ 4) (hp : ∀ P Q, dv_I L P0 pt dg (pt - 1) P Q → post (f_bits, f_words, f_sides, f_order, f_result, f_found, f_polyDegree, f_polyBasis, f_depth, a_exp, a_log, a_power, a_members, a_sizes, a_sketches, a_combined, a_list, a_syndromes, a_locator, a_previous, a_saved, ra_cf cv P, a_residue, a_wide, ra_cf cv L, a_right, ra_cf cv Q, a_stackPoly, a_stackDegree, a_stackBasis)) : ∀ (d p : Nat) (P Q : Nat → R), p + 1 = pt + d → p ≤ dg → dv_I L P0 pt dg p P Q → wX_divideByLeft_25 post (nI pt) f_bits f_words f_sides f_order f_result f_found f_polyDegree f_polyBasis f_depth (d + 1) (nI p) a_exp a_log a_power a_members a_sizes a_sketches a_combined a_list a_syndromes a_locator a_previous a_saved (ra_cf cv P) a_residue a_wide (ra_cf cv L) a_right (ra_cf cv Q) a_stackPoly a_stackDegree a_stackBasis := by
  intro d
  induction d with
  | zero =>
    intro p P Q h h5 I
    obtain rfl : p = pt - 1 := by omega
    exact br_t (nI_lt (by omega) (by omega)) (hp P Q I)
  | succ d ih =>
    intro p P Q h h5 I
    have e1 : nI p - nI pt = nI (p - pt) := pk_sub (by omega)
    refine br_f (nI_nlt (by omega) (by omega)) ⟨vp_in_nI (by omega) (by decide), nm_r (e' := cv (P p)) ?_ ⟨xw_in e1 (by omega) (by decide), nm_r (e' := ra_cf cv (ra_ur Q (p - pt) (P p))) ?_ ⟨pt + 2, ?_⟩⟩⟩
    · rw [nI_clamp (by omega)]
      rfl
    · rw [e1, nI_clamp (by omega), ra_cfu]
    · exact xw_db49z F T h1 (by omega) (by omega) (ih (p - 1) _ _ (by omega) (by omega) (dv_S h1 (by omega) h5 h4 I))
theorem xw_divideByLeft {R : Type} [Lean.Grind.CommRing R] [Lean.Grind.IsCharP R 2] {cv : R → Int32} {el : Nat → R} {iv : R → R} {m N : Nat} (F : fq_F cv el iv m N) (T : fq_T cv iv N a_exp a_log) {post : SX → Prop} {L P Q : Nat → R} {pt dg : Nat} (h1 : 1 ≤ pt) (h2 : pt ≤ dg) (h4 : dg ≤ 4) (hp : ∀ P' Q', dv_I L P pt dg (pt - 1) P' Q' → post (f_bits, f_words, f_sides, f_order, f_result, f_found, nI dg, f_polyBasis, f_depth, a_exp, a_log, a_power, a_members, a_sizes, a_sketches, a_combined, a_list, a_syndromes, a_locator, a_previous, a_saved, ra_cf cv P', a_residue, a_wide, ra_cf cv L, a_right, ra_cf cv Q', a_stackPoly, a_stackDegree, a_stackBasis)) : wpX_divideByLeft post (f_bits, f_words, f_sides, f_order, f_result, f_found, nI dg, f_polyBasis, f_depth, a_exp, a_log, a_power, a_members, a_sizes, a_sketches, a_combined, a_list, a_syndromes, a_locator, a_previous, a_saved, ra_cf cv P, a_residue, a_wide, ra_cf cv L, a_right, ra_cf cv Q, a_stackPoly, a_stackDegree, a_stackBasis) (nI pt) := by
  have k : ∀ (d i : Nat) (Q : Nat → R), i + d = 5 → (∀ j, j < i → Q j = 0) → wX_divideByLeft_2 post (nI pt) f_bits f_words f_sides f_order f_result f_found (nI dg) f_polyBasis f_depth (d + 1) (nI i) a_exp a_log a_power a_members a_sizes a_sketches a_combined a_list a_syndromes a_locator a_previous a_saved (ra_cf cv P) a_residue a_wide (ra_cf cv L) a_right (ra_cf cv Q) a_stackPoly a_stackDegree a_stackBasis := by
    intro d
    induction d with
    | zero =>
      intro i Q h hQ
      obtain rfl : i = 5 := by omega
      refine br_t (nI_le (a := 5) (b := 5) (Nat.le_refl _) (by decide)) ⟨dg + 1 - pt + 1, ?_⟩
      refine xw_db25 F T h1 h4 hp (dg + 1 - pt) dg P Q (by omega) (Nat.le_refl _) (fun a b c => ⟨c, fun j x _ => hQ j x, fun z => by omega, fun _ => rfl, fun r => ?_⟩)
      rw [ra_evZ (n := 5) (P := Q) r hQ, ra_0m, ra_0]
    | succ d ih =>
      intro i Q h hQ
      refine br_f (nI_ge (b := 5) (by omega) (by decide)) ⟨vp_in_nI (by omega) (by decide), nm_r (e' := ra_cf cv (ra_ur Q i 0)) ?_ (nm_r (nI_1 i) (ih (i + 1) _ (by omega) (fun j hj => ?_)))⟩
      · rw [nI_clamp (by omega), ← ra_cfu, F.2.1]
      · by_cases e : j = i
        · rw [e, ra_urs]
        · rw [ra_urn e]
          exact hQ j (by omega)
  exact ⟨6, k 5 0 Q rfl (fun j hj => by omega)⟩
/-! loadTrace -/
theorem xw_lt47 {R : Type} [Lean.Grind.CommRing R] {cv : R → Int32} {el : Nat → R} {iv : R → R} {m N : Nat} (F : fq_F cv el iv m N) {post : SX → Prop} {J : Int32 → Int32 → Int32 → Int32 → Int32 → Int32 → Int32 → Int32 → Int32 → Int32 → (Nat → Int32) → (Nat → Int32) → (Nat → Int32) → (Nat → Int32) → (Nat → Int32) → (Nat → Int32) → (Nat → Int32) → (Nat → Int32) → (Nat → Int32) → (Nat → Int32) → (Nat → Int32) → (Nat → Int32) → (Nat → Int32) → (Nat → Int32) → (Nat → Int32) → (Nat → Int32) → (Nat → Int32) → (Nat → Int32) → (Nat → Int32) → (Nat → Int32) → (Nat → Int32) → Prop} {A Q : Nat → R} {x dg : Nat} (h4 : dg ≤ 4) (hp : J (nI (x + 1)) f_bits f_words f_sides f_order f_result f_found (nI dg) f_polyBasis f_depth a_exp a_log a_power a_members a_sizes a_sketches a_combined a_list a_syndromes a_locator a_previous a_saved a_poly (ra_cf cv Q) a_wide a_left (ra_cf cv (ra_fl A 0 dg (fun j => A j + Q j))) a_quotient a_stackPoly a_stackDegree a_stackBasis) : ∀ (d i : Nat), i + d = dg → wX_loadTrace_47 post J (nI x) f_bits f_words f_sides f_order f_result f_found (nI dg) f_polyBasis f_depth (d + 1) (nI i) a_exp a_log a_power a_members a_sizes a_sketches a_combined a_list a_syndromes a_locator a_previous a_saved a_poly (ra_cf cv Q) a_wide a_left (ra_cf cv (ra_fl A 0 i (fun j => A j + Q j))) a_quotient a_stackPoly a_stackDegree a_stackBasis := by
  intro d
  induction d with
  | zero =>
    intro i h
    obtain rfl : i = dg := by omega
    exact br_t (nI_le (Nat.le_refl _) (by omega)) (nm_r (nI_1 x) hp)
  | succ d ih =>
    intro i h
    have hi : vp_in (nI i) 5 := vp_in_nI (by omega) (by decide)
    refine br_f (nI_ge (by omega) (by omega)) ⟨hi, hi, hi, nm_r (e' := ra_cf cv (ra_fl A 0 (i + 1) (fun j => A j + Q j))) ?_ (nm_r (nI_1 i) (ih (i + 1) (by omega)))⟩
    rw [nI_clamp (by omega), ← ra_flP, ← ra_cfu, ← fq_xor F]
    have e : ra_cf cv (ra_fl A 0 i (fun j => A j + Q j)) i = cv (A i) := congrArg cv (ra_flN (by omega))
    rw [e]
    rfl
theorem xw_lt47z {R : Type} [Lean.Grind.CommRing R] {cv : R → Int32} {el : Nat → R} {iv : R → R} {m N : Nat} (F : fq_F cv el iv m N) {post : SX → Prop} {J : Int32 → Int32 → Int32 → Int32 → Int32 → Int32 → Int32 → Int32 → Int32 → Int32 → (Nat → Int32) → (Nat → Int32) → (Nat → Int32) → (Nat → Int32) → (Nat → Int32) → (Nat → Int32) → (Nat → Int32) → (Nat → Int32) → (Nat → Int32) → (Nat → Int32) → (Nat → Int32) → (Nat → Int32) → (Nat → Int32) → (Nat → Int32) → (Nat → Int32) → (Nat → Int32) → (Nat → Int32) → (Nat → Int32) → (Nat → Int32) → (Nat → Int32) → (Nat → Int32) → Prop} {A Q : Nat → R} {x dg : Nat} (h4 : dg ≤ 4) (hp : J (nI (x + 1)) f_bits f_words f_sides f_order f_result f_found (nI dg) f_polyBasis f_depth a_exp a_log a_power a_members a_sizes a_sketches a_combined a_list a_syndromes a_locator a_previous a_saved a_poly (ra_cf cv Q) a_wide a_left (ra_cf cv (ra_fl A 0 dg (fun j => A j + Q j))) a_quotient a_stackPoly a_stackDegree a_stackBasis) : wX_loadTrace_47 post J (nI x) f_bits f_words f_sides f_order f_result f_found (nI dg) f_polyBasis f_depth (dg + 1) (nI 0) a_exp a_log a_power a_members a_sizes a_sketches a_combined a_list a_syndromes a_locator a_previous a_saved a_poly (ra_cf cv Q) a_wide a_left (ra_cf cv A) a_quotient a_stackPoly a_stackDegree a_stackBasis := by
  have k := xw_lt47 (post := post) F h4 hp dg 0 (by omega)
  rw [ra_fl0] at k
  exact k
theorem xw_lt33 {R : Type} [Lean.Grind.CommRing R] [Lean.Grind.IsCharP R 2] {cv : R → Int32} {el : Nat → R} {iv : R → R} {m N : Nat} (F : fq_F cv el iv m N) (T : fq_T cv iv N a_exp a_log) {post : SX → Prop} {P : Nat → R} {b : R} {dg : Nat} (h1 : 1 ≤ dg) (h4 : dg ≤ 4) (hp : ∀ Q W A, (∀ j, dg ≤ j → j < 5 → A j = 0) → (P dg = 1 → ∀ r, ra_ev (dg + 1) P r = 0 → ra_ev 5 A r = fq_tr m (b * r)) → post (nI m, f_words, f_sides, f_order, f_result, f_found, nI dg, f_polyBasis, f_depth, a_exp, a_log, a_power, a_members, a_sizes, a_sketches, a_combined, a_list, a_syndromes, a_locator, a_previous, a_saved, ra_cf cv P, ra_cf cv Q, ra_cf cv W, a_left, ra_cf cv A, a_quotient, a_stackPoly, a_stackDegree, a_stackBasis)) : ∀ (d i : Nat) (Q W A : Nat → R), i + 1 + d = m → (∀ j, dg ≤ j → j < 5 → Q j = 0) → (∀ j, dg ≤ j → j < 5 → A j = 0) → (P dg = 1 → ∀ r, ra_ev (dg + 1) P r = 0 → ra_ev 5 Q r = fq_fr i (b * r) ∧ ra_ev 5 A r = ra_sm (i + 1) (fun j => fq_fr j (b * r))) → wX_loadTrace_33 post (d + 1) (nI (i + 1)) (nI m) f_words f_sides f_order f_result f_found (nI dg) f_polyBasis f_depth a_exp a_log a_power a_members a_sizes a_sketches a_combined a_list a_syndromes a_locator a_previous a_saved (ra_cf cv P) (ra_cf cv Q) (ra_cf cv W) a_left (ra_cf cv A) a_quotient a_stackPoly a_stackDegree a_stackBasis := by
  have hm := F.2.2.2.2.2.2.2.2.2.1
  intro d
  induction d with
  | zero =>
    intro i Q W A h hQ hA hr
    refine br_t (nI_le (by omega) (by omega)) (hp Q W A hA (fun a r z => ?_))
    rw [(hr a r z).2]
    unfold fq_tr
    rw [show i + 1 = m by omega]
  | succ d ih =>
    intro i Q W A h hQ hA hr
    refine br_f (nI_ge (by omega) (by omega)) ?_
    refine xw_squareResidue F T h1 h4 (fun Q' W' hk hs => ⟨dg + 1, ?_⟩)
    refine xw_lt47z F h4 (ih (i + 1) Q' W' _ (by omega) (fun j x y => by rw [hk j x]; exact hQ j x y) (fun j x y => by rw [ra_flN (by omega)]; exact hA j x y) (fun a r z => ?_))
    have e1 : ra_ev 5 Q' r = fq_fr (i + 1) (b * r) := by
      rw [hs a hQ r z, (hr a r z).1]
      rfl
    refine ⟨e1, ?_⟩
    rw [ra_smS, ← (hr a r z).2, ← e1, ← ra_evA]
    refine ra_evC r (fun j hj => ?_)
    by_cases e : j < dg
    · rw [ra_flI (by omega) e]
    · rw [ra_flN (by omega), hk j (by omega), hQ j (by omega) hj, ra_0]
theorem xw_loadTrace {R : Type} [Lean.Grind.CommRing R] [Lean.Grind.IsCharP R 2] {cv : R → Int32} {el : Nat → R} {iv : R → R} {m N : Nat} (F : fq_F cv el iv m N) (T : fq_T cv iv N a_exp a_log) {post : SX → Prop} {P Q W L A : Nat → R} {b : R} {dg : Nat} (h2 : 2 ≤ dg) (h4 : dg ≤ 4) (hp : ∀ Q' W' A', (∀ j, dg ≤ j → j < 5 → A' j = 0) → (P dg = 1 → ∀ r, ra_ev (dg + 1) P r = 0 → ra_ev 5 A' r = fq_tr m (b * r)) → post (nI m, f_words, f_sides, f_order, f_result, f_found, nI dg, f_polyBasis, f_depth, a_exp, a_log, a_power, a_members, a_sizes, a_sketches, a_combined, a_list, a_syndromes, a_locator, a_previous, a_saved, ra_cf cv P, ra_cf cv Q', ra_cf cv W', ra_cf cv (ra_fl L 0 5 P), ra_cf cv A', a_quotient, a_stackPoly, a_stackDegree, a_stackBasis)) : wpX_loadTrace post (nI m, f_words, f_sides, f_order, f_result, f_found, nI dg, f_polyBasis, f_depth, a_exp, a_log, a_power, a_members, a_sizes, a_sketches, a_combined, a_list, a_syndromes, a_locator, a_previous, a_saved, ra_cf cv P, ra_cf cv Q, ra_cf cv W, ra_cf cv L, ra_cf cv A, a_quotient, a_stackPoly, a_stackDegree, a_stackBasis) (cv b) := by
  have hm := F.2.2.2.2.2.2.2.2.2.1
  unfold wpX_loadTrace
  refine xw_copy__poly_left ?_
  refine xw_loadLinear F ?_
  refine xw_copy__residue_right ?_
  refine ⟨m, ?_⟩
  have em : m = (m - 1) + 1 := by omega
  have k : ∀ d, d = m - 1 → wX_loadTrace_33 post (d + 1) (nI (0 + 1)) (nI m) f_words f_sides f_order f_result f_found (nI dg) f_polyBasis f_depth a_exp a_log a_power a_members a_sizes a_sketches a_combined a_list a_syndromes a_locator a_previous a_saved (ra_cf cv P) (ra_cf cv (ra_fl Q 0 5 (rt_lin b))) (ra_cf cv W) (ra_cf cv (ra_fl L 0 5 P)) (ra_cf cv (ra_fl A 0 5 (ra_fl Q 0 5 (rt_lin b)))) a_quotient a_stackPoly a_stackDegree a_stackBasis := by
    intro d hd
    refine xw_lt33 F T (by omega) h4 hp d 0 _ W _ (by omega) (fun j x y => ?_) (fun j x y => ?_) (fun a r z => ?_)
    · rw [ra_flI (by omega) y]
      exact if_neg (by omega)
    · rw [ra_flI (by omega) y, ra_flI (by omega) y]
      exact if_neg (by omega)
    · have e1 : ra_ev 5 (ra_fl Q 0 5 (rt_lin b)) r = b * r := by
        rw [ra_evC (Q := rt_lin b) r (fun i hi => ra_flI (by omega) hi), rt_linE b (by omega)]
      refine ⟨e1, ?_⟩
      rw [ra_evC (Q := ra_fl Q 0 5 (rt_lin b)) r (fun i hi => ra_flI (by omega) hi), e1, ra_smS, ra_sm0, ra_z]
      rfl
  have k2 := k (m - 1) rfl
  rw [← em] at k2
  exact k2
end
end
section
/-! ===== the stack: push ===== -/
def xw_nf (s : Nat → Nat) : Nat → Int32 := fun j => nI (s j)
theorem xw_nfu (s : Nat → Nat) (k x : Nat) : upd (xw_nf s) k (nI x) = xw_nf (ra_ur s k x) := by
  funext j
  unfold upd xw_nf ra_ur
  by_cases h : j = k
  · rw [if_pos h, if_pos h]
  · rw [if_neg h, if_neg h]
def xw_sp {R : Type} (S : Nat → R) (D i : Nat) (P : Nat → R) : Nat → R := fun j => if 5 * D ≤ j ∧ j < 5 * D + i then P (j - 5 * D) else S j
theorem xw_sp0 {R : Type} (S : Nat → R) (D : Nat) (P : Nat → R) : xw_sp S D 0 P = S := by
  funext j
  exact if_neg (by omega)
theorem xw_spS {R : Type} (S : Nat → R) (D i : Nat) (P : Nat → R) : ra_ur (xw_sp S D i P) (5 * D + i) (P i) = xw_sp S D (i + 1) P := by
  funext j
  unfold ra_ur xw_sp
  by_cases e : j = 5 * D + i
  · subst e
    rw [if_pos rfl, if_pos (by omega), Nat.add_sub_cancel_left]
  · rw [if_neg e]
    by_cases h : 5 * D ≤ j ∧ j < 5 * D + i
    · rw [if_pos h, if_pos (by omega)]
    · rw [if_neg h, if_neg (by omega)]
theorem xw_5nI (D i : Nat) : (5 : Int32) * nI D + nI i = nI (5 * D + i) := by rw [xw_5n, nI_add]
section
variable {f_bits f_words f_sides f_order f_result f_found f_polyDegree f_polyBasis f_depth : Int32} {a_exp a_log a_power a_members a_sizes a_sketches a_combined a_list a_syndromes a_locator a_previous a_saved a_poly a_residue a_wide a_left a_right a_quotient a_stackPoly a_stackDegree a_stackBasis : Nat → Int32}
theorem xw_push__poly_13 {R : Type} {cv : R → Int32} {post : SX → Prop} {P S : Nat → R} {sd sb : Nat → Nat} {D x y : Nat} (hD : D < 8) (hp : post (f_bits, f_words, f_sides, f_order, f_result, f_found, f_polyDegree, f_polyBasis, nI (D + 1), a_exp, a_log, a_power, a_members, a_sizes, a_sketches, a_combined, a_list, a_syndromes, a_locator, a_previous, a_saved, ra_cf cv P, a_residue, a_wide, a_left, a_right, a_quotient, ra_cf cv (xw_sp S D 5 P), xw_nf (ra_ur sd D x), xw_nf (ra_ur sb D y))) : ∀ (d i : Nat), i + d = 5 → wX_push__poly_13 post (nI x) (nI y) f_bits f_words f_sides f_order f_result f_found f_polyDegree f_polyBasis (nI D) (d + 1) (nI i) a_exp a_log a_power a_members a_sizes a_sketches a_combined a_list a_syndromes a_locator a_previous a_saved (ra_cf cv P) a_residue a_wide a_left a_right a_quotient (ra_cf cv (xw_sp S D i P)) (xw_nf sd) (xw_nf sb) := by
  intro d
  induction d with
  | zero =>
    intro i h
    obtain rfl : i = 5 := by omega
    refine br_t (nI_le (a := 5) (b := 5) (Nat.le_refl _) (by decide)) ⟨vp_in_nI hD (by decide), nm_r (e' := xw_nf (ra_ur sd D x)) ?_ ⟨vp_in_nI hD (by decide), nm_r (e' := xw_nf (ra_ur sb D y)) ?_ (nm_r (nI_1 D) hp)⟩⟩
    · rw [nI_clamp (by omega), xw_nfu]
    · rw [nI_clamp (by omega), xw_nfu]
  | succ d ih =>
    intro i h
    have e1 := xw_5nI D i
    refine br_f (nI_ge (b := 5) (by omega) (by decide)) ⟨vp_in_nI (by omega) (by decide), xw_in e1 (by omega) (by decide), nm_r (e' := ra_cf cv (xw_sp S D (i + 1) P)) ?_ (nm_r (nI_1 i) (ih (i + 1) (by omega)))⟩
    rw [e1, nI_clamp (by omega), nI_clamp (by omega), ← xw_spS, ← ra_cfu]
    rfl
theorem xw_push__poly {R : Type} {cv : R → Int32} {post : SX → Prop} {P S : Nat → R} {sd sb : Nat → Nat} {D x y : Nat} (hD : D < 8) (hp : post (f_bits, f_words, f_sides, f_order, f_result, f_found, f_polyDegree, f_polyBasis, nI (D + 1), a_exp, a_log, a_power, a_members, a_sizes, a_sketches, a_combined, a_list, a_syndromes, a_locator, a_previous, a_saved, ra_cf cv P, a_residue, a_wide, a_left, a_right, a_quotient, ra_cf cv (xw_sp S D 5 P), xw_nf (ra_ur sd D x), xw_nf (ra_ur sb D y))) : wpX_push__poly post (f_bits, f_words, f_sides, f_order, f_result, f_found, f_polyDegree, f_polyBasis, nI D, a_exp, a_log, a_power, a_members, a_sizes, a_sketches, a_combined, a_list, a_syndromes, a_locator, a_previous, a_saved, ra_cf cv P, a_residue, a_wide, a_left, a_right, a_quotient, ra_cf cv S, xw_nf sd, xw_nf sb) (nI x) (nI y) := by
  have k := xw_push__poly_13 hD hp 5 0 rfl
  rw [xw_sp0] at k
  exact br_t (nI_lt (b := 8) hD (by decide)) ⟨_, k⟩
theorem xw_push__poly_8 {post : SX → Prop} {x y : Int32} (hp : post (f_bits, f_words, f_sides, f_order, f_result, f_found, f_polyDegree, f_polyBasis, nI 8, a_exp, a_log, a_power, a_members, a_sizes, a_sketches, a_combined, a_list, a_syndromes, a_locator, a_previous, a_saved, a_poly, a_residue, a_wide, a_left, a_right, a_quotient, a_stackPoly, a_stackDegree, a_stackBasis)) : wpX_push__poly post (f_bits, f_words, f_sides, f_order, f_result, f_found, f_polyDegree, f_polyBasis, nI 8, a_exp, a_log, a_power, a_members, a_sizes, a_sketches, a_combined, a_list, a_syndromes, a_locator, a_previous, a_saved, a_poly, a_residue, a_wide, a_left, a_right, a_quotient, a_stackPoly, a_stackDegree, a_stackBasis) x y :=
  br_f (nI_nlt (b := 8) (Nat.le_refl _) (by decide)) hp
theorem xw_push__left_13 {R : Type} {cv : R → Int32} {post : SX → Prop} {P S : Nat → R} {sd sb : Nat → Nat} {D x y : Nat} (hD : D < 8) (hp : post (f_bits, f_words, f_sides, f_order, f_result, f_found, f_polyDegree, f_polyBasis, nI (D + 1), a_exp, a_log, a_power, a_members, a_sizes, a_sketches, a_combined, a_list, a_syndromes, a_locator, a_previous, a_saved, a_poly, a_residue, a_wide, ra_cf cv P, a_right, a_quotient, ra_cf cv (xw_sp S D 5 P), xw_nf (ra_ur sd D x), xw_nf (ra_ur sb D y))) : ∀ (d i : Nat), i + d = 5 → wX_push__left_13 post (nI x) (nI y) f_bits f_words f_sides f_order f_result f_found f_polyDegree f_polyBasis (nI D) (d + 1) (nI i) a_exp a_log a_power a_members a_sizes a_sketches a_combined a_list a_syndromes a_locator a_previous a_saved a_poly a_residue a_wide (ra_cf cv P) a_right a_quotient (ra_cf cv (xw_sp S D i P)) (xw_nf sd) (xw_nf sb) := by
  intro d
  induction d with
  | zero =>
    intro i h
    obtain rfl : i = 5 := by omega
    refine br_t (nI_le (a := 5) (b := 5) (Nat.le_refl _) (by decide)) ⟨vp_in_nI hD (by decide), nm_r (e' := xw_nf (ra_ur sd D x)) ?_ ⟨vp_in_nI hD (by decide), nm_r (e' := xw_nf (ra_ur sb D y)) ?_ (nm_r (nI_1 D) hp)⟩⟩
    · rw [nI_clamp (by omega), xw_nfu]
    · rw [nI_clamp (by omega), xw_nfu]
  | succ d ih =>
    intro i h
    have e1 := xw_5nI D i
    refine br_f (nI_ge (b := 5) (by omega) (by decide)) ⟨vp_in_nI (by omega) (by decide), xw_in e1 (by omega) (by decide), nm_r (e' := ra_cf cv (xw_sp S D (i + 1) P)) ?_ (nm_r (nI_1 i) (ih (i + 1) (by omega)))⟩
    rw [e1, nI_clamp (by omega), nI_clamp (by omega), ← xw_spS, ← ra_cfu]
    rfl
theorem xw_push__left {R : Type} {cv : R → Int32} {post : SX → Prop} {P S : Nat → R} {sd sb : Nat → Nat} {D x y : Nat} (hD : D < 8) (hp : post (f_bits, f_words, f_sides, f_order, f_result, f_found, f_polyDegree, f_polyBasis, nI (D + 1), a_exp, a_log, a_power, a_members, a_sizes, a_sketches, a_combined, a_list, a_syndromes, a_locator, a_previous, a_saved, a_poly, a_residue, a_wide, ra_cf cv P, a_right, a_quotient, ra_cf cv (xw_sp S D 5 P), xw_nf (ra_ur sd D x), xw_nf (ra_ur sb D y))) : wpX_push__left post (f_bits, f_words, f_sides, f_order, f_result, f_found, f_polyDegree, f_polyBasis, nI D, a_exp, a_log, a_power, a_members, a_sizes, a_sketches, a_combined, a_list, a_syndromes, a_locator, a_previous, a_saved, a_poly, a_residue, a_wide, ra_cf cv P, a_right, a_quotient, ra_cf cv S, xw_nf sd, xw_nf sb) (nI x) (nI y) := by
  have k := xw_push__left_13 hD hp 5 0 rfl
  rw [xw_sp0] at k
  exact br_t (nI_lt (b := 8) hD (by decide)) ⟨_, k⟩
theorem xw_push__left_8 {post : SX → Prop} {x y : Int32} (hp : post (f_bits, f_words, f_sides, f_order, f_result, f_found, f_polyDegree, f_polyBasis, nI 8, a_exp, a_log, a_power, a_members, a_sizes, a_sketches, a_combined, a_list, a_syndromes, a_locator, a_previous, a_saved, a_poly, a_residue, a_wide, a_left, a_right, a_quotient, a_stackPoly, a_stackDegree, a_stackBasis)) : wpX_push__left post (f_bits, f_words, f_sides, f_order, f_result, f_found, f_polyDegree, f_polyBasis, nI 8, a_exp, a_log, a_power, a_members, a_sizes, a_sketches, a_combined, a_list, a_syndromes, a_locator, a_previous, a_saved, a_poly, a_residue, a_wide, a_left, a_right, a_quotient, a_stackPoly, a_stackDegree, a_stackBasis) x y :=
  br_f (nI_nlt (b := 8) (Nat.le_refl _) (by decide)) hp
theorem xw_push__quotient_13 {R : Type} {cv : R → Int32} {post : SX → Prop} {P S : Nat → R} {sd sb : Nat → Nat} {D x y : Nat} (hD : D < 8) (hp : post (f_bits, f_words, f_sides, f_order, f_result, f_found, f_polyDegree, f_polyBasis, nI (D + 1), a_exp, a_log, a_power, a_members, a_sizes, a_sketches, a_combined, a_list, a_syndromes, a_locator, a_previous, a_saved, a_poly, a_residue, a_wide, a_left, a_right, ra_cf cv P, ra_cf cv (xw_sp S D 5 P), xw_nf (ra_ur sd D x), xw_nf (ra_ur sb D y))) : ∀ (d i : Nat), i + d = 5 → wX_push__quotient_13 post (nI x) (nI y) f_bits f_words f_sides f_order f_result f_found f_polyDegree f_polyBasis (nI D) (d + 1) (nI i) a_exp a_log a_power a_members a_sizes a_sketches a_combined a_list a_syndromes a_locator a_previous a_saved a_poly a_residue a_wide a_left a_right (ra_cf cv P) (ra_cf cv (xw_sp S D i P)) (xw_nf sd) (xw_nf sb) := by
  intro d
  induction d with
  | zero =>
    intro i h
    obtain rfl : i = 5 := by omega
    refine br_t (nI_le (a := 5) (b := 5) (Nat.le_refl _) (by decide)) ⟨vp_in_nI hD (by decide), nm_r (e' := xw_nf (ra_ur sd D x)) ?_ ⟨vp_in_nI hD (by decide), nm_r (e' := xw_nf (ra_ur sb D y)) ?_ (nm_r (nI_1 D) hp)⟩⟩
    · rw [nI_clamp (by omega), xw_nfu]
    · rw [nI_clamp (by omega), xw_nfu]
  | succ d ih =>
    intro i h
    have e1 := xw_5nI D i
    refine br_f (nI_ge (b := 5) (by omega) (by decide)) ⟨vp_in_nI (by omega) (by decide), xw_in e1 (by omega) (by decide), nm_r (e' := ra_cf cv (xw_sp S D (i + 1) P)) ?_ (nm_r (nI_1 i) (ih (i + 1) (by omega)))⟩
    rw [e1, nI_clamp (by omega), nI_clamp (by omega), ← xw_spS, ← ra_cfu]
    rfl
theorem xw_push__quotient {R : Type} {cv : R → Int32} {post : SX → Prop} {P S : Nat → R} {sd sb : Nat → Nat} {D x y : Nat} (hD : D < 8) (hp : post (f_bits, f_words, f_sides, f_order, f_result, f_found, f_polyDegree, f_polyBasis, nI (D + 1), a_exp, a_log, a_power, a_members, a_sizes, a_sketches, a_combined, a_list, a_syndromes, a_locator, a_previous, a_saved, a_poly, a_residue, a_wide, a_left, a_right, ra_cf cv P, ra_cf cv (xw_sp S D 5 P), xw_nf (ra_ur sd D x), xw_nf (ra_ur sb D y))) : wpX_push__quotient post (f_bits, f_words, f_sides, f_order, f_result, f_found, f_polyDegree, f_polyBasis, nI D, a_exp, a_log, a_power, a_members, a_sizes, a_sketches, a_combined, a_list, a_syndromes, a_locator, a_previous, a_saved, a_poly, a_residue, a_wide, a_left, a_right, ra_cf cv P, ra_cf cv S, xw_nf sd, xw_nf sb) (nI x) (nI y) := by
  have k := xw_push__quotient_13 hD hp 5 0 rfl
  rw [xw_sp0] at k
  exact br_t (nI_lt (b := 8) hD (by decide)) ⟨_, k⟩
theorem xw_push__quotient_8 {post : SX → Prop} {x y : Int32} (hp : post (f_bits, f_words, f_sides, f_order, f_result, f_found, f_polyDegree, f_polyBasis, nI 8, a_exp, a_log, a_power, a_members, a_sizes, a_sketches, a_combined, a_list, a_syndromes, a_locator, a_previous, a_saved, a_poly, a_residue, a_wide, a_left, a_right, a_quotient, a_stackPoly, a_stackDegree, a_stackBasis)) : wpX_push__quotient post (f_bits, f_words, f_sides, f_order, f_result, f_found, f_polyDegree, f_polyBasis, nI 8, a_exp, a_log, a_power, a_members, a_sizes, a_sketches, a_combined, a_list, a_syndromes, a_locator, a_previous, a_saved, a_poly, a_residue, a_wide, a_left, a_right, a_quotient, a_stackPoly, a_stackDegree, a_stackBasis) x y :=
  br_f (nI_nlt (b := 8) (Nat.le_refl _) (by decide)) hp
end
end
section
/-! ===== pop, insert ===== -/
section
variable {f_bits f_words f_sides f_order f_result f_found f_polyDegree f_polyBasis f_depth : Int32} {a_exp a_log a_power a_members a_sizes a_sketches a_combined a_list a_syndromes a_locator a_previous a_saved a_poly a_residue a_wide a_left a_right a_quotient a_stackPoly a_stackDegree a_stackBasis : Nat → Int32}
theorem xw_pop_12 {R : Type} {cv : R → Int32} {post : SX → Prop} {S : Nat → R} {sd sb : Nat → Nat} {D : Nat} (hD : D < 8) : ∀ (d i : Nat) (P : Nat → R), i + d = 5 → post (f_bits, f_words, f_sides, f_order, f_result, f_found, nI (sd D), nI (sb D), nI D, a_exp, a_log, a_power, a_members, a_sizes, a_sketches, a_combined, a_list, a_syndromes, a_locator, a_previous, a_saved, ra_cf cv (ra_fl P i 5 (fun j => S (5 * D + j))), a_residue, a_wide, a_left, a_right, a_quotient, ra_cf cv S, xw_nf sd, xw_nf sb) → wX_pop_12 post f_bits f_words f_sides f_order f_result f_found f_polyDegree f_polyBasis (nI D) (d + 1) (nI i) a_exp a_log a_power a_members a_sizes a_sketches a_combined a_list a_syndromes a_locator a_previous a_saved (ra_cf cv P) a_residue a_wide a_left a_right a_quotient (ra_cf cv S) (xw_nf sd) (xw_nf sb) := by
  intro d
  induction d with
  | zero =>
    intro i P h hp
    obtain rfl : i = 5 := by omega
    rw [ra_fl0] at hp
    refine br_t (nI_le (a := 5) (b := 5) (Nat.le_refl _) (by decide)) ⟨vp_in_nI hD (by decide), nm_r (e' := nI (sd D)) ?_ ⟨vp_in_nI hD (by decide), nm_r (e' := nI (sb D)) ?_ hp⟩⟩
    · rw [nI_clamp (by omega)]
      rfl
    · rw [nI_clamp (by omega)]
      rfl
  | succ d ih =>
    intro i P h hp
    have e1 := xw_5nI D i
    refine br_f (nI_ge (b := 5) (by omega) (by decide)) ⟨xw_in e1 (by omega) (by decide), vp_in_nI (by omega) (by decide), nm_r (e' := ra_cf cv (ra_ur P i ((fun j => S (5 * D + j)) i))) ?_ (nm_r (nI_1 i) (ih (i + 1) _ (by omega) ?_))⟩
    · rw [e1, nI_clamp (by omega), nI_clamp (by omega), ← ra_cfu]
      rfl
    · rw [ra_flS P (fun j => S (5 * D + j)) (by omega)]
      exact hp
theorem xw_pop {R : Type} {cv : R → Int32} {post : SX → Prop} {S P : Nat → R} {sd sb : Nat → Nat} {D : Nat} (hD : D < 8) (hp : post (f_bits, f_words, f_sides, f_order, f_result, f_found, nI (sd D), nI (sb D), nI D, a_exp, a_log, a_power, a_members, a_sizes, a_sketches, a_combined, a_list, a_syndromes, a_locator, a_previous, a_saved, ra_cf cv (ra_fl P 0 5 (fun j => S (5 * D + j))), a_residue, a_wide, a_left, a_right, a_quotient, ra_cf cv S, xw_nf sd, xw_nf sb)) : wpX_pop post (f_bits, f_words, f_sides, f_order, f_result, f_found, f_polyDegree, f_polyBasis, nI (D + 1), a_exp, a_log, a_power, a_members, a_sizes, a_sketches, a_combined, a_list, a_syndromes, a_locator, a_previous, a_saved, ra_cf cv P, a_residue, a_wide, a_left, a_right, a_quotient, ra_cf cv S, xw_nf sd, xw_nf sb) := by
  unfold wpX_pop
  exact nm_r (nI_pred D) ⟨_, xw_pop_12 hD 5 0 P rfl hp⟩
/-! insert -/
def in_sh {R : Type} (L : Nat → R) (i n : Nat) : Nat → R := fun j => if i < j ∧ j ≤ n then L (j - 1) else L j
theorem in_sh0 {R : Type} (L : Nat → R) (n : Nat) : in_sh L n n = L := by
  funext j
  exact if_neg (by omega)
theorem in_shS {R : Type} (L : Nat → R) {i n : Nat} (h : i + 1 ≤ n) : ra_ur (in_sh L (i + 1) n) (i + 1) (L i) = in_sh L i n := by
  funext j
  unfold ra_ur in_sh
  by_cases e : j = i + 1
  · subst e
    rw [if_pos rfl, if_pos (by omega), Nat.add_sub_cancel]
  · rw [if_neg e]
    by_cases g : i + 1 < j ∧ j ≤ n
    · rw [if_pos g, if_pos (by omega)]
    · rw [if_neg g, if_neg (by omega)]
def in_S {R : Type} (cv : R → Int32) (L : Nat → R) (n : Nat) (x : R) (L' : Nat → R) : Prop :=
  ∃ p, p ≤ n ∧ L' = ra_ur (in_sh L p n) p x ∧ (p = 0 ∨ cv (L (p - 1)) ≤ cv x) ∧ ∀ j, p ≤ j → j < n → cv x < cv (L j)
theorem xw_in59 {R : Type} {cv : R → Int32} {post : SX → Prop} {L : Nat → R} {x : R} {p n : Nat} (hp : p < 4) (h : post (f_bits, f_words, f_sides, f_order, f_result, nI (n + 1), f_polyDegree, f_polyBasis, f_depth, a_exp, a_log, a_power, a_members, a_sizes, a_sketches, a_combined, ra_cf cv (ra_ur L p x), a_syndromes, a_locator, a_previous, a_saved, a_poly, a_residue, a_wide, a_left, a_right, a_quotient, a_stackPoly, a_stackDegree, a_stackBasis)) : wX_insert_59 post (cv x) (nI p) f_bits f_words f_sides f_order f_result (nI n) f_polyDegree f_polyBasis f_depth a_exp a_log a_power a_members a_sizes a_sketches a_combined (ra_cf cv L) a_syndromes a_locator a_previous a_saved a_poly a_residue a_wide a_left a_right a_quotient a_stackPoly a_stackDegree a_stackBasis := by
  unfold wX_insert_59
  refine And.intro (vp_in_nI hp (by decide)) (nm_r (e' := ra_cf cv (ra_ur L p x)) ?_ (nm_r (nI_1 n) h))
  rw [nI_clamp (by omega), ra_cfu]
theorem xw_in19 {R : Type} {cv : R → Int32} {post : SX → Prop} {L : Nat → R} {x : R} {n : Nat} (hn : n < 4) (hp : ∀ L', in_S cv L n x L' → post (f_bits, f_words, f_sides, f_order, f_result, nI (n + 1), f_polyDegree, f_polyBasis, f_depth, a_exp, a_log, a_power, a_members, a_sizes, a_sketches, a_combined, ra_cf cv L', a_syndromes, a_locator, a_previous, a_saved, a_poly, a_residue, a_wide, a_left, a_right, a_quotient, a_stackPoly, a_stackDegree, a_stackBasis)) : ∀ (i : Nat), i ≤ n → (∀ j, i ≤ j → j < n → cv x < cv (L j)) → wX_insert_19 post (cv x) f_bits f_words f_sides f_order f_result (nI n) f_polyDegree f_polyBasis f_depth (i + 1) (nI i) (nI i) a_exp a_log a_power a_members a_sizes a_sketches a_combined (ra_cf cv (in_sh L i n)) a_syndromes a_locator a_previous a_saved a_poly a_residue a_wide a_left a_right a_quotient a_stackPoly a_stackDegree a_stackBasis := by
  intro i
  induction i with
  | zero =>
    intro h hj
    exact br_t (nI_le (a := 0) (b := 0) (Nat.le_refl _) (by decide)) (xw_in59 (by omega) (hp _ ⟨0, h, rfl, Or.inl rfl, hj⟩))
  | succ i ih =>
    intro h hj
    have e1 : nI (i + 1) - 1 = nI i := nI_pred i
    have hi : vp_in (nI (i + 1) - 1) 4 := xw_in e1 (by omega) (by decide)
    refine br_f (nI_nle (by omega) (by omega)) ⟨hi, ?_⟩
    rw [e1, nI_clamp (by omega)]
    have e2 : ra_cf cv (in_sh L (i + 1) n) i = cv (L i) := congrArg cv (if_neg (by omega))
    rw [e2]
    refine br_c (fun z => ?_) (fun z => ?_)
    · exact xw_in59 (by omega) (hp _ ⟨i + 1, h, rfl, Or.inr z, hj⟩)
    · refine And.intro (vp_in_nI (by omega) (by decide)) ⟨vp_in_nI (by omega) (by decide), nm_r (e' := ra_cf cv (in_sh L i n)) ?_ (nm_e (nm_r (pk_m1 i) (ih (by omega) (fun j a b => ?_))))⟩
      · rw [nI_clamp (by omega), ra_cfu, in_shS L h]
      · by_cases e : j = i
        · rw [e]
          exact Int32.not_le.mp z
        · exact hj j (by omega) b
theorem xw_insert {R : Type} {cv : R → Int32} {post : SX → Prop} {L : Nat → R} {x : R} {n : Nat} (hn : n < 4) (hp : ∀ L', in_S cv L n x L' → post (f_bits, f_words, f_sides, f_order, f_result, nI (n + 1), f_polyDegree, f_polyBasis, f_depth, a_exp, a_log, a_power, a_members, a_sizes, a_sketches, a_combined, ra_cf cv L', a_syndromes, a_locator, a_previous, a_saved, a_poly, a_residue, a_wide, a_left, a_right, a_quotient, a_stackPoly, a_stackDegree, a_stackBasis)) : wpX_insert post (f_bits, f_words, f_sides, f_order, f_result, nI n, f_polyDegree, f_polyBasis, f_depth, a_exp, a_log, a_power, a_members, a_sizes, a_sketches, a_combined, ra_cf cv L, a_syndromes, a_locator, a_previous, a_saved, a_poly, a_residue, a_wide, a_left, a_right, a_quotient, a_stackPoly, a_stackDegree, a_stackBasis) (cv x) := by
  have k := xw_in19 hn hp n (Nat.le_refl _) (fun j a b => by omega)
  rw [in_sh0] at k
  exact br_t (nI_lt (b := 4) hn (by decide)) ⟨_, k⟩
theorem xw_insert_4 {post : SX → Prop} {x : Int32} (hp : post (f_bits, f_words, f_sides, f_order, f_result, nI 4, f_polyDegree, f_polyBasis, f_depth, a_exp, a_log, a_power, a_members, a_sizes, a_sketches, a_combined, a_list, a_syndromes, a_locator, a_previous, a_saved, a_poly, a_residue, a_wide, a_left, a_right, a_quotient, a_stackPoly, a_stackDegree, a_stackBasis)) : wpX_insert post (f_bits, f_words, f_sides, f_order, f_result, nI 4, f_polyDegree, f_polyBasis, f_depth, a_exp, a_log, a_power, a_members, a_sizes, a_sketches, a_combined, a_list, a_syndromes, a_locator, a_previous, a_saved, a_poly, a_residue, a_wide, a_left, a_right, a_quotient, a_stackPoly, a_stackDegree, a_stackBasis) x :=
  br_f (nI_nlt (b := 4) (Nat.le_refl _) (by decide)) hp
end
/-! lists out of arrays -/
def sg_l {R : Type} (L : Nat → R) : Nat → Nat → List R
  | _, 0 => []
  | a, k + 1 => L a :: sg_l L (a + 1) k
theorem sg_len {R : Type} (L : Nat → R) : ∀ k a, (sg_l L a k).length = k := by
  intro k
  induction k with
  | zero => intro a; rfl
  | succ k ih => intro a; show (sg_l L (a + 1) k).length + 1 = k + 1; rw [ih]
theorem sg_app {R : Type} (L : Nat → R) : ∀ j a k, sg_l L a (j + k) = sg_l L a j ++ sg_l L (a + j) k := by
  intro j
  induction j with
  | zero => intro a k; rw [Nat.zero_add]; rfl
  | succ j ih =>
    intro a k
    rw [show j + 1 + k = (j + k) + 1 by omega]
    show L a :: sg_l L (a + 1) (j + k) = L a :: (sg_l L (a + 1) j ++ sg_l L (a + (j + 1)) k)
    rw [ih, show a + 1 + j = a + (j + 1) by omega]
theorem sg_cong {R : Type} {L L' : Nat → R} : ∀ k a b, (∀ i, i < k → L (a + i) = L' (b + i)) → sg_l L a k = sg_l L' b k := by
  intro k
  induction k with
  | zero => intro a b _; rfl
  | succ k ih =>
    intro a b h
    show L a :: sg_l L (a + 1) k = L' b :: sg_l L' (b + 1) k
    rw [ih (a + 1) (b + 1) (fun i hi => by have := h (i + 1) (by omega); rw [show a + 1 + i = a + (i + 1) by omega, show b + 1 + i = b + (i + 1) by omega]; exact this)]
    have := h 0 (by omega)
    rw [show L a = L' b from this]
theorem sg_mem {R : Type} (L : Nat → R) : ∀ k a j, j < k → L (a + j) ∈ sg_l L a k := by
  intro k
  induction k with
  | zero => intro a j h; omega
  | succ k ih =>
    intro a j h
    rcases j with _ | j
    · exact List.mem_cons_self
    · refine List.mem_cons_of_mem _ ?_
      have := ih (a + 1) j (by omega)
      rw [show a + 1 + j = a + (j + 1) by omega] at this
      exact this
theorem sg_of {R : Type} (L : Nat → R) : ∀ k a x, x ∈ sg_l L a k → ∃ j, j < k ∧ x = L (a + j) := by
  intro k
  induction k with
  | zero => intro a x h; exact absurd h (by simp [sg_l])
  | succ k ih =>
    intro a x h
    rcases List.mem_cons.mp h with e | h
    · exact ⟨0, by omega, e⟩
    · obtain ⟨j, h1, h2⟩ := ih (a + 1) x h
      exact ⟨j + 1, by omega, by rw [h2, show a + 1 + j = a + (j + 1) by omega]⟩
def in_so {R : Type} (cv : R → Int32) (L : Nat → R) (n : Nat) : Prop := ∀ i j, i < j → j < n → cv (L i) < cv (L j)
theorem in_perm {R : Type} {cv : R → Int32} {L L' : Nat → R} {n : Nat} {x : R} (h : in_S cv L n x L') : (sg_l L' 0 (n + 1)).Perm (x :: sg_l L 0 n) := by
  obtain ⟨p, h1, rfl, _, _⟩ := h
  have e1 : sg_l (ra_ur (in_sh L p n) p x) 0 (n + 1) = sg_l L 0 p ++ (x :: sg_l L p (n - p)) := by
    rw [show n + 1 = p + ((n - p) + 1) by omega, sg_app]
    have a : sg_l (ra_ur (in_sh L p n) p x) 0 p = sg_l L 0 p := by
      refine sg_cong p 0 0 (fun i hi => ?_)
      rw [Nat.zero_add, ra_urn (by omega)]
      exact if_neg (by omega)
    have b : sg_l (ra_ur (in_sh L p n) p x) (0 + p) ((n - p) + 1) = x :: sg_l L p (n - p) := by
      rw [Nat.zero_add]
      show ra_ur (in_sh L p n) p x p :: sg_l _ (p + 1) (n - p) = _
      rw [ra_urs, sg_cong (L' := L) (n - p) (p + 1) p (fun i hi => ?_)]
      rw [ra_urn (by omega)]
      show (if p < p + 1 + i ∧ p + 1 + i ≤ n then L (p + 1 + i - 1) else L (p + 1 + i)) = L (p + i)
      rw [if_pos (by omega), show p + 1 + i - 1 = p + i by omega]
    rw [a, b]
  have e2 : sg_l L 0 n = sg_l L 0 p ++ sg_l L p (n - p) := by
    have := sg_app L p 0 (n - p)
    rw [show p + (n - p) = n by omega, Nat.zero_add] at this
    exact this
  rw [e1, e2]
  exact List.perm_middle
theorem in_sort {R : Type} {cv : R → Int32} (hi : ∀ a b, cv a = cv b → a = b) {L L' : Nat → R} {n : Nat} {x : R} (h : in_S cv L n x L') (hs : in_so cv L n) (hx : x ∉ sg_l L 0 n) : in_so cv L' (n + 1) := by
  obtain ⟨p, h1, rfl, h2, h3⟩ := h
  have hlo : ∀ j, j < p → cv (L j) < cv x := by
    intro j hj
    have q : cv (L (p - 1)) < cv x := by
      rcases h2 with z | z
      · omega
      · rcases Int32.lt_or_eq_of_le z with w | w
        · exact w
        · refine absurd ?_ hx
          rw [← hi _ _ w]
          have := sg_mem L n 0 (p - 1) (by omega)
          rw [Nat.zero_add] at this
          exact this
    by_cases e : j = p - 1
    · rw [e]; exact q
    · exact Int32.lt_trans (hs j (p - 1) (by omega) (by omega)) q
  have v : ∀ j, j ≤ n → ra_ur (in_sh L p n) p x j = if j < p then L j else if j = p then x else L (j - 1) := by
    intro j hj
    by_cases a : j < p
    · rw [if_pos a, ra_urn (by omega)]
      exact if_neg (by omega)
    · rw [if_neg a]
      by_cases b : j = p
      · rw [if_pos b, b, ra_urs]
      · rw [if_neg b, ra_urn b]
        exact if_pos (by omega)
  intro i j a b
  rw [v i (by omega), v j (by omega)]
  by_cases c : j < p
  · rw [if_pos c, if_pos (by omega)]
    exact hs i j a (by omega)
  · rw [if_neg c]
    by_cases d : j = p
    · rw [if_pos d, if_pos (by omega)]
      exact hlo i (by omega)
    · rw [if_neg d]
      by_cases e : i < p
      · rw [if_pos e]
        by_cases f : i = j - 1
        · omega
        · exact hs i (j - 1) (by omega) (by omega)
      · rw [if_neg e]
        by_cases f : i = p
        · rw [if_pos f]
          exact h3 (j - 1) (by omega) (by omega)
        · rw [if_neg f]
          exact hs (i - 1) (j - 1) (by omega) (by omega)
end
section
/-! ===== splitting by the trace ===== -/
def sp_ag {R : Type} [Lean.Grind.CommRing R] (el : Nat → R) (m b : Nat) (E : List R) : Prop := ∀ r, r ∈ E → ∀ r', r' ∈ E → ∀ j, j < b → fq_tr m (el (2 ^ j) * r) = fq_tr m (el (2 ^ j) * r')
theorem sp_agS {R : Type} [Lean.Grind.CommRing R] {el : Nat → R} {m b : Nat} {E E' : List R} (h : sp_ag el m b E) (hs : ∀ r, r ∈ E' → r ∈ E) {z : R} (hz : ∀ r, r ∈ E' → fq_tr m (el (2 ^ b) * r) = z) : sp_ag el m (b + 1) E' := by
  intro r hr r' hr' j hj
  by_cases e : j = b
  · rw [e, hz r hr, hz r' hr']
  · exact h r (hs r hr) r' (hs r' hr') j (by omega)
theorem rt_Nc {R : Type} [Lean.Grind.CommRing R] {P P' : Nat → R} {d : Nat} {E : List R} (h : ∀ j, j < 5 → P j = P' j) (hd : d < 5) (k : rt_N P d E) : rt_N P' d E := by
  obtain ⟨a, b, c, e, f⟩ := k
  refine ⟨a, b, by rw [← h d hd]; exact c, fun j x y => by rw [← h j y]; exact e j x y, fun r hr => ?_⟩
  rw [← ra_evC r h]
  exact f r hr
/-- the stack's polynomials with their roots, the top first -/
def sp_K {R : Type} [Lean.Grind.CommRing R] (el : Nat → R) (m : Nat) (S : Nat → R) (sd sb : Nat → Nat) : Nat → List (List R × Nat) → Prop
  | D, [] => D = 0
  | D, e :: l => ∃ D', D = D' + 1 ∧ rt_N (fun j => S (5 * D' + j)) (sd D') e.1 ∧ 1 ≤ sd D' ∧ sd D' ≤ 4 ∧ sb D' = e.2 ∧ e.2 ≤ m ∧ sp_ag el m e.2 e.1 ∧ sp_K el m S sd sb D' l
theorem sp_Kc {R : Type} [Lean.Grind.CommRing R] {el : Nat → R} {m : Nat} {S S' : Nat → R} {sd sb sd' sb' : Nat → Nat} : ∀ (l : List (List R × Nat)) (D : Nat), (∀ j, j < 5 * D → S j = S' j) → (∀ i, i < D → sd i = sd' i ∧ sb i = sb' i) → sp_K el m S sd sb D l → sp_K el m S' sd' sb' D l := by
  intro l
  induction l with
  | nil => intro D _ _ h; exact h
  | cons e l ih =>
    intro D h1 h2 h
    obtain ⟨D', rfl, a, b, c, d, f, g, k⟩ := h
    obtain ⟨q1, q2⟩ := h2 D' (by omega)
    refine ⟨D', rfl, ?_, by omega, by omega, by omega, f, g, ih D' (fun j hj => h1 j (by omega)) (fun i hi => h2 i (by omega)) k⟩
    rw [← q1]
    exact rt_Nc (fun j hj => h1 _ (by omega)) (by omega) a
def sp_fl {R : Type} : List (List R × Nat) → List R
  | [] => []
  | e :: l => e.1 ++ sp_fl l
def sp_mu {R : Type} (m : Nat) : List (List R × Nat) → Nat
  | [] => 0
  | e :: l => e.1.length * (m + 1 - e.2) + sp_mu m l
/-- what a split may leave: one or two further polynomials -/
def sp_N {R : Type} [Lean.Grind.CommRing R] (el : Nat → R) (m : Nat) (S : Nat → R) (sd sb : Nat → Nat) (P : Nat → R) (dg b D D' : Nat) (S' : Nat → R) (sd' sb' : Nat → Nat) : Prop :=
  ∀ E l, rt_N P dg E → sp_ag el m b E → D ≤ 6 → sp_K el m S sd sb D l → ∃ l', sp_K el m S' sd' sb' D' l' ∧ (sp_fl l').Perm (E ++ sp_fl l) ∧ sp_mu m l' ≤ dg * (m - b) + sp_mu m l
def sp_O {R : Type} [Lean.Grind.CommRing R] (el : Nat → R) (m : Nat) (S : Nat → R) (sd sb : Nat → Nat) (P : Nat → R) (dg b D D' : Nat) (S' : Nat → R) (sd' sb' : Nat → Nat) : Prop :=
  D ≤ D' ∧ D' ≤ 8 ∧ (∀ i, i < D' → (1 ≤ sd i ∧ sd i ≤ 4 ∧ sb i ≤ m) ∨ D ≤ i → 1 ≤ sd' i ∧ sd' i ≤ 4 ∧ sb' i ≤ m) ∧ sp_N el m S sd sb P dg b D D' S' sd' sb'
/-- the polynomial goes back whole -/
theorem sp_whole {R : Type} [Lean.Grind.CommRing R] {el : Nat → R} {m : Nat} {S : Nat → R} {sd sb : Nat → Nat} {P : Nat → R} {dg b D : Nat} (h1 : 1 ≤ dg) (h4 : dg ≤ 4) (hb : b < m) (hD : D < 8) (hz : ∀ E, rt_N P dg E → ∃ z, ∀ r, r ∈ E → fq_tr m (el (2 ^ b) * r) = z) : sp_O el m S sd sb P dg b D (D + 1) (xw_sp S D 5 P) (ra_ur sd D dg) (ra_ur sb D (b + 1)) := by
  refine ⟨by omega, by omega, fun i hi h => ?_, fun E l hE ha _ hK => ?_⟩
  · by_cases e : i = D
    · rw [e, ra_urs, ra_urs]
      omega
    · rw [ra_urn e, ra_urn e]
      rcases h with h | h
      · exact h
      · omega
  · obtain ⟨z, hz⟩ := hz E hE
    refine ⟨(E, b + 1) :: l, ⟨D, rfl, ?_, by rw [ra_urs]; exact h1, by rw [ra_urs]; exact h4, by rw [ra_urs], by show b + 1 ≤ m; omega, sp_agS ha (fun r h => h) hz, ?_⟩, List.Perm.refl _, ?_⟩
    · rw [ra_urs]
      refine rt_Nc (fun j hj => ?_) (by omega) hE
      show P j = xw_sp S D 5 P (5 * D + j)
      unfold xw_sp
      rw [if_pos (by omega), Nat.add_sub_cancel_left]
    · refine sp_Kc l D (fun j hj => ?_) (fun i hi => ?_) hK
      · unfold xw_sp
        rw [if_neg (by omega)]
      · rw [ra_urn (by omega), ra_urn (by omega)]
        exact ⟨rfl, rfl⟩
    · show E.length * (m + 1 - (b + 1)) + sp_mu m l ≤ _
      rw [hE.2.1, show m + 1 - (b + 1) = m - b by omega]
      exact Nat.le_refl _
theorem sp_8 {R : Type} [Lean.Grind.CommRing R] {el : Nat → R} {m : Nat} {S : Nat → R} {sd sb : Nat → Nat} {P : Nat → R} {dg b : Nat} : sp_O el m S sd sb P dg b 8 8 S sd sb := by
  refine ⟨Nat.le_refl _, Nat.le_refl _, fun i hi h => ?_, fun E l hE ha h _ => by omega⟩
  rcases h with h | h
  · exact h
  · omega
/-- two polynomials go back -/
theorem sp_two {R : Type} [Lean.Grind.CommRing R] {el : Nat → R} {m : Nat} {S : Nat → R} {sd sb : Nat → Nat} {P L Q : Nat → R} {dg b D p : Nat} (h1 : 1 ≤ p) (h2 : p < dg) (h4 : dg ≤ 4) (hb : b < m) (hD : D < 7) (hz : ∀ E, rt_N P dg E → ∃ E0 E1 z0 z1, (E0 ++ E1).Perm E ∧ rt_N L p E0 ∧ rt_N Q (dg - p) E1 ∧ (∀ r, r ∈ E0 → fq_tr m (el (2 ^ b) * r) = z0) ∧ (∀ r, r ∈ E1 → fq_tr m (el (2 ^ b) * r) = z1)) : sp_O el m S sd sb P dg b D (D + 2) (xw_sp (xw_sp S D 5 L) (D + 1) 5 Q) (ra_ur (ra_ur sd D p) (D + 1) (dg - p)) (ra_ur (ra_ur sb D (b + 1)) (D + 1) (b + 1)) := by
  refine ⟨by omega, by omega, fun i hi h => ?_, fun E l hE ha _ hK => ?_⟩
  · by_cases e : i = D + 1
    · rw [e, ra_urs, ra_urs]
      omega
    · rw [ra_urn e, ra_urn e]
      by_cases e : i = D
      · rw [e, ra_urs, ra_urs]
        omega
      · rw [ra_urn e, ra_urn e]
        rcases h with h | h
        · exact h
        · omega
  · obtain ⟨E0, E1, z0, z1, hp, n0, n1, t0, t1⟩ := hz E hE
    have s0 : ∀ r, r ∈ E0 → r ∈ E := fun r hr => hp.mem_iff.mp (List.mem_append.mpr (Or.inl hr))
    have s1 : ∀ r, r ∈ E1 → r ∈ E := fun r hr => hp.mem_iff.mp (List.mem_append.mpr (Or.inr hr))
    refine ⟨(E1, b + 1) :: (E0, b + 1) :: l, ⟨D + 1, rfl, ?_, by rw [ra_urs]; omega, by rw [ra_urs]; omega, by rw [ra_urs], by show b + 1 ≤ m; omega, sp_agS ha s1 t1, ?_⟩, ?_, ?_⟩
    · rw [ra_urs]
      refine rt_Nc (fun j hj => ?_) (by omega) n1
      show Q j = xw_sp (xw_sp S D 5 L) (D + 1) 5 Q (5 * (D + 1) + j)
      unfold xw_sp
      rw [if_pos (by omega), Nat.add_sub_cancel_left]
    · refine ⟨D, rfl, ?_, by rw [ra_urn (by omega), ra_urs]; omega, by rw [ra_urn (by omega), ra_urs]; omega, by rw [ra_urn (by omega), ra_urs], by show b + 1 ≤ m; omega, sp_agS ha s0 t0, ?_⟩
      · rw [ra_urn (by omega), ra_urs]
        refine rt_Nc (fun j hj => ?_) (by omega) n0
        show L j = xw_sp (xw_sp S D 5 L) (D + 1) 5 Q (5 * D + j)
        unfold xw_sp
        rw [if_neg (by omega), if_pos (by omega), Nat.add_sub_cancel_left]
      · refine sp_Kc l D (fun j hj => ?_) (fun i hi => ?_) hK
        · unfold xw_sp
          rw [if_neg (by omega), if_neg (by omega)]
        · rw [ra_urn (by omega), ra_urn (by omega), ra_urn (by omega), ra_urn (by omega)]
          exact ⟨rfl, rfl⟩
    · show (E1 ++ (E0 ++ sp_fl l)).Perm (E ++ sp_fl l)
      rw [← List.append_assoc]
      exact ((List.perm_append_comm).trans hp).append_right _
    · show E1.length * (m + 1 - (b + 1)) + (E0.length * (m + 1 - (b + 1)) + sp_mu m l) ≤ _
      rw [n0.2.1, n1.2.1, show m + 1 - (b + 1) = m - b by omega, ← Nat.add_assoc, ← Nat.add_mul, show dg - p + p = dg by omega]
      exact Nat.le_refl _
/-! the common divisor of poly and the trace -/
theorem sp_gcd {R : Type} [Lean.Grind.CommRing R] [Lean.Grind.IsCharP R 2] [DecidableEq R] {cv : R → Int32} {el : Nat → R} {iv : R → R} {m N : Nat} (F : fq_F cv el iv m N) {P A G B L0 : Nat → R} {dg b : Nat} (h4 : dg ≤ 4) (hA : P dg = 1 → ∀ r, ra_ev (dg + 1) P r = 0 → ra_ev 5 A r = fq_tr m (el (2 ^ b) * r)) (hB : ∀ j, j < 5 → B j = 0) (hG : eu_G (ra_fl L0 0 5 P) A G B) {E : List R} (hE : rt_N P dg E) : (∀ r, r ∈ E → (ra_ev 5 G r = 0 ↔ decide (fq_tr m (el (2 ^ b) * r) = 0) = true)) ∧ eu_Dv G P := by
  have hc : ∀ j, j < 5 → ra_fl L0 0 5 P j = P j := fun j hj => ra_flI (by omega) hj
  constructor
  · intro r hr
    have e0 : ra_ev 5 P r = 0 := hE.2.2.2.2 r hr
    have e1 : ra_ev (dg + 1) P r = 0 := by
      rw [← ra_evX (N := 5) (by omega) P r (fun i a b => hE.2.2.2.1 i (by omega) b)]
      exact e0
    have e2 := hA hE.2.2.1 r e1
    have e3 := hG.1 r
    rw [ra_evC r hc, e0, ra_evZ (P := B) r hB, e2] at e3
    rw [decide_eq_true_iff]
    exact ⟨fun z => (e3.mp ⟨z, rfl⟩).2, fun z => (e3.mpr ⟨rfl, z⟩).1⟩
  · exact eu_dc hc (hG.2 G (eu_refl G) (eu_zero G hB)).1
theorem sp_zero {R : Type} [Lean.Grind.CommRing R] [Lean.Grind.IsCharP R 2] [DecidableEq R] {cv : R → Int32} {el : Nat → R} {iv : R → R} {m N : Nat} (F : fq_F cv el iv m N) {P A G B L0 : Nat → R} {dg b : Nat} (h4 : dg ≤ 4) (hA : P dg = 1 → ∀ r, ra_ev (dg + 1) P r = 0 → ra_ev 5 A r = fq_tr m (el (2 ^ b) * r)) (hB : ∀ j, j < 5 → B j = 0) (hG : eu_G (ra_fl L0 0 5 P) A G B) (hz : ∀ j, j < 5 → G j = 0) {E : List R} (hE : rt_N P dg E) : ∃ z, ∀ r, r ∈ E → fq_tr m (el (2 ^ b) * r) = z := by
  refine ⟨0, fun r hr => ?_⟩
  have k := ((sp_gcd F h4 hA hB hG hE).1 r hr).mp (ra_evZ r hz)
  exact of_decide_eq_true k
theorem sp_part {R : Type} [Lean.Grind.CommRing R] [Lean.Grind.IsCharP R 2] [DecidableEq R] {cv : R → Int32} {el : Nat → R} {iv : R → R} {m N : Nat} (F : fq_F cv el iv m N) {P A G B L0 : Nat → R} {dg b p : Nat} (h4 : dg ≤ 4) (hA : P dg = 1 → ∀ r, ra_ev (dg + 1) P r = 0 → ra_ev 5 A r = fq_tr m (el (2 ^ b) * r)) (hB : ∀ j, j < 5 → B j = 0) (hG : eu_G (ra_fl L0 0 5 P) A G B) (hp5 : p < 5) (hp : G p ≠ 0) (hz : ∀ j, p < j → j < 5 → G j = 0) {E : List R} (hE : rt_N P dg E) : p = (E.filter (fun r => decide (fq_tr m (el (2 ^ b) * r) = 0))).length := by
  obtain ⟨k1, k2⟩ := sp_gcd F h4 hA hB hG hE
  exact eu_deg F.2.2.2.2.2.2.1 _ (by omega) hE.2.2.1 hE.2.2.2.1 hE.1 hE.2.1 hE.2.2.2.2 hp5 hp hz k1 k2
theorem sp_one {R : Type} [Lean.Grind.CommRing R] {cv : R → Int32} {el : Nat → R} {iv : R → R} {m N : Nat} (F : fq_F cv el iv m N) {b : Nat} {r : R} (h : ¬ fq_tr m (el (2 ^ b) * r) = 0) : fq_tr m (el (2 ^ b) * r) = 1 := by
  rcases F.2.2.2.2.2.2.2.2.2.2.2.1 (el (2 ^ b) * r) with z | z
  · exact absurd z h
  · exact z
theorem sp_noSplit {R : Type} [Lean.Grind.CommRing R] [Lean.Grind.IsCharP R 2] [DecidableEq R] {cv : R → Int32} {el : Nat → R} {iv : R → R} {m N : Nat} (F : fq_F cv el iv m N) {P A G B L0 : Nat → R} {dg b p : Nat} (h4 : dg ≤ 4) (hA : P dg = 1 → ∀ r, ra_ev (dg + 1) P r = 0 → ra_ev 5 A r = fq_tr m (el (2 ^ b) * r)) (hB : ∀ j, j < 5 → B j = 0) (hG : eu_G (ra_fl L0 0 5 P) A G B) (hp5 : p < 5) (hp : G p ≠ 0) (hz : ∀ j, p < j → j < 5 → G j = 0) (hs : p < 1 ∨ dg ≤ p) {E : List R} (hE : rt_N P dg E) : ∃ z, ∀ r, r ∈ E → fq_tr m (el (2 ^ b) * r) = z := by
  have k := sp_part F h4 hA hB hG hp5 hp hz hE
  rcases hs with h | h
  · refine ⟨1, fun r hr => sp_one F (fun z => ?_)⟩
    have e : E.filter (fun r => decide (fq_tr m (el (2 ^ b) * r) = 0)) = [] := List.eq_nil_of_length_eq_zero (by omega)
    have : r ∈ E.filter (fun r => decide (fq_tr m (el (2 ^ b) * r) = 0)) := List.mem_filter.mpr ⟨hr, decide_eq_true z⟩
    rw [e] at this
    exact absurd this (by simp)
  · refine ⟨0, fun r hr => ?_⟩
    have e1 := hE.2.1
    have e2 : (E.filter (fun r => decide (fq_tr m (el (2 ^ b) * r) = 0))).length ≤ E.length := List.length_filter_le _ _
    have e3 := List.length_filter_eq_length_iff.mp (show (E.filter (fun r => decide (fq_tr m (el (2 ^ b) * r) = 0))).length = E.length by omega) r hr
    exact of_decide_eq_true e3
theorem sp_split {R : Type} [Lean.Grind.CommRing R] [Lean.Grind.IsCharP R 2] [DecidableEq R] {cv : R → Int32} {el : Nat → R} {iv : R → R} {m N : Nat} (F : fq_F cv el iv m N) {P A G B L0 P' Q : Nat → R} {dg b p : Nat} (h4 : dg ≤ 4) (hA : P dg = 1 → ∀ r, ra_ev (dg + 1) P r = 0 → ra_ev 5 A r = fq_tr m (el (2 ^ b) * r)) (hB : ∀ j, j < 5 → B j = 0) (hG : eu_G (ra_fl L0 0 5 P) A G B) (hp5 : p < 5) (hp : G p ≠ 0) (hz : ∀ j, p < j → j < 5 → G j = 0) (h1 : 1 ≤ p) (h2 : p < dg) (hI : dv_I (ra_fl G 0 (p + 1) (fun i => G i * iv (G p))) P p dg (p - 1) P' Q) {E : List R} (hE : rt_N P dg E) : ∃ E0 E1 z0 z1, (E0 ++ E1).Perm E ∧ rt_N (ra_fl G 0 (p + 1) (fun i => G i * iv (G p))) p E0 ∧ rt_N Q (dg - p) E1 ∧ (∀ r, r ∈ E0 → fq_tr m (el (2 ^ b) * r) = z0) ∧ (∀ r, r ∈ E1 → fq_tr m (el (2 ^ b) * r) = z1) := by
  have dm := F.2.2.2.2.2.2.1
  have k := sp_part F h4 hA hB hG hp5 hp hz hE
  obtain ⟨k1, k2⟩ := sp_gcd F h4 hA hB hG hE
  have hv := F.2.2.2.2.2.2.2.1 _ hp
  have v0 : iv (G p) ≠ 0 := fun z => by rw [z, ra_m0] at hv; exact ra_10 hv.symm
  have l1 : ra_fl G 0 (p + 1) (fun i => G i * iv (G p)) p = 1 := by
    rw [ra_flI (by omega) (by omega)]
    exact hv
  have l2 : ∀ j, p < j → j < 5 → ra_fl G 0 (p + 1) (fun i => G i * iv (G p)) j = 0 := fun j x y => by
    rw [ra_flN (by omega)]
    exact hz j x y
  have l3 : ∀ r, ra_ev 5 (ra_fl G 0 (p + 1) (fun i => G i * iv (G p))) r = ra_ev 5 G r * iv (G p) := by
    intro r
    have e : ra_ev 5 G r * iv (G p) = iv (G p) * ra_ev 5 G r := by grind
    rw [e]
    unfold ra_ev
    rw [← ra_mul]
    refine ra_cong (fun i hi => ?_)
    by_cases u : i < p + 1
    · rw [ra_flI (by omega) u]; grind
    · rw [ra_flN (by omega), hz i (by omega) hi]; grind
  generalize ra_fl G 0 (p + 1) (fun i => G i * iv (G p)) = L at *
  obtain ⟨i1, i2, i3, i4, i5⟩ := hI l1 l2 hE.2.2.2.1
  have hpm := List.filter_append_perm (fun r => decide (fq_tr m (el (2 ^ b) * r) = 0)) E
  have hl := hpm.length_eq
  rw [List.length_append, ← k, hE.2.1] at hl
  have z0 : ∀ r, r ∈ E.filter (fun r => decide (fq_tr m (el (2 ^ b) * r) = 0)) → ra_ev 5 L r = 0 := by
    intro r hr
    rw [List.mem_filter] at hr
    rw [l3, (k1 r hr.1).mpr hr.2, ra_0m]
  have hP' : ∀ j, j < 5 → P' j = 0 := by
    have q := ra_rc dm p P' (E.filter (fun r => decide (fq_tr m (el (2 ^ b) * r) = 0))) (hE.1.filter _) (by omega) (fun r hr => ?_)
    · intro j hj
      by_cases u : j < p
      · exact q j u
      · exact i1 j (by omega) hj
    · have e := i5 r
      rw [z0 r hr, ra_m0, ra_0, hE.2.2.2.2 r (List.mem_filter.mp hr).1] at e
      rw [← ra_evX (N := 5) (by omega) P' r (fun i x y => i1 i (by omega) y)]
      exact e.symm
  refine ⟨_, _, 0, 1, hpm, ⟨hE.1.filter _, k.symm, l1, l2, z0⟩, ⟨hE.1.filter _, by omega, by rw [i3 (by omega)]; exact hE.2.2.1, fun j x y => i2 j y (by omega), fun r hr => ?_⟩, fun r hr => of_decide_eq_true (List.mem_filter.mp hr).2, fun r hr => ?_⟩
  · have hr' := List.mem_filter.mp hr
    have e := i5 r
    rw [ra_evZ (P := P') r hP', ra_z, hE.2.2.2.2 r hr'.1] at e
    rcases dm _ _ e.symm with w | w
    · exact w
    · rw [l3] at w
      rcases dm _ _ w with w | w
      · have := (k1 r hr'.1).mp w
        rw [this] at hr'
        exact absurd hr'.2 (by decide)
      · exact absurd w v0
  · have hr' := List.mem_filter.mp hr
    refine sp_one F (fun z => ?_)
    rw [decide_eq_true z] at hr'
    exact absurd hr'.2 (by decide)
end
section
/-! ===== splitByTrace, separate: walks ===== -/
theorem xw_shl1 : ∀ b, b < 5 → (1 : Int32) <<< (nI b &&& 31) = nI (2 ^ b) := by decide +kernel
theorem sp_7 {R : Type} [Lean.Grind.CommRing R] {el : Nat → R} {m : Nat} {S S' : Nat → R} {sd sb : Nat → Nat} {P : Nat → R} {dg b p : Nat} (h1 : 1 ≤ p) (h4 : p ≤ 4) (hb : b < m) : sp_O el m S sd sb P dg b 7 8 S' (ra_ur sd 7 p) (ra_ur sb 7 (b + 1)) := by
  refine ⟨by omega, Nat.le_refl _, fun i hi h => ?_, fun E l hE ha h _ => by omega⟩
  by_cases e : i = 7
  · rw [e, ra_urs, ra_urs]
    omega
  · rw [ra_urn e, ra_urn e]
    rcases h with h | h
    · exact h
    · omega
theorem sp_Kl {R : Type} [Lean.Grind.CommRing R] {el : Nat → R} {m : Nat} {S : Nat → R} {sd sb : Nat → Nat} : ∀ (l : List (List R × Nat)) (D : Nat), sp_K el m S sd sb D l → D ≤ (sp_fl l).length := by
  intro l
  induction l with
  | nil => intro D h; exact Nat.le_of_eq h
  | cons e l ih =>
    intro D h
    obtain ⟨D', rfl, a, b, c, _, _, _, k⟩ := h
    have := ih D' k
    have e1 := a.2.1
    show D' + 1 ≤ (e.1 ++ sp_fl l).length
    rw [List.length_append]
    omega
def sp_I {R : Type} [Lean.Grind.CommRing R] (cv : R → Int32) (el : Nat → R) (m : Nat) (E : List R) (D : Nat) (S : Nat → R) (sd sb : Nat → Nat) (L : Nat → R) (n st : Nat) : Prop :=
  ∃ l, sp_K el m S sd sb D l ∧ E.Perm (sg_l L 0 n ++ sp_fl l) ∧ in_so cv L n ∧ st + sp_mu m l ≤ 24
theorem sp_I0 {R : Type} [Lean.Grind.CommRing R] {cv : R → Int32} {el : Nat → R} {m : Nat} {E : List R} {S : Nat → R} {sd sb : Nat → Nat} {L : Nat → R} {n st : Nat} (h : sp_I cv el m E 0 S sd sb L n st) : E.Perm (sg_l L 0 n) ∧ in_so cv L n := by
  obtain ⟨l, a, b, c, d⟩ := h
  rcases l with _ | ⟨e, l⟩
  · refine ⟨?_, c⟩
    have q : sg_l L 0 n ++ sp_fl ([] : List (List R × Nat)) = sg_l L 0 n := List.append_nil _
    rw [q] at b
    exact b
  · obtain ⟨D', z, _⟩ := a
    omega
theorem sp_I64 {R : Type} [Lean.Grind.CommRing R] {cv : R → Int32} {el : Nat → R} {m : Nat} {E : List R} {D : Nat} {S : Nat → R} {sd sb : Nat → Nat} {L : Nat → R} {n : Nat} (h : sp_I cv el m E D S sd sb L n 64) : False := by
  obtain ⟨l, a, b, c, d⟩ := h
  omega
/-- the top of the stack -/
theorem sp_Itop {R : Type} [Lean.Grind.CommRing R] {cv : R → Int32} {el : Nat → R} {m : Nat} {E : List R} {D : Nat} {S : Nat → R} {sd sb : Nat → Nat} {L : Nat → R} {n st : Nat} (h : sp_I cv el m E (D + 1) S sd sb L n st) (hE : E.length ≤ 4) : ∃ G l, rt_N (fun j => S (5 * D + j)) (sd D) G ∧ 1 ≤ sd D ∧ sb D ≤ m ∧ sp_ag el m (sb D) G ∧ sp_K el m S sd sb D l ∧ E.Perm (sg_l L 0 n ++ (G ++ sp_fl l)) ∧ in_so cv L n ∧ st + (sd D * (m + 1 - sb D) + sp_mu m l) ≤ 24 ∧ D + n + 1 ≤ 4 := by
  obtain ⟨l, a, b, c, d⟩ := h
  have hl := b.length_eq
  have hk := sp_Kl l _ a
  rw [List.length_append, sg_len] at hl
  rcases l with _ | ⟨e, l⟩
  · have a' : D + 1 = 0 := a
    omega
  · obtain ⟨D', z, k1, k2, k3, k4, k5, k6, k7⟩ := a
    obtain rfl : D = D' := by omega
    refine ⟨e.1, l, k1, k2, by omega, by rw [k4]; exact k6, k7, b, c, ?_, by omega⟩
    have d' : st + (e.1.length * (m + 1 - e.2) + sp_mu m l) ≤ 24 := d
    rw [k1.2.1, ← k4] at d'
    exact d'
theorem sp_lin {R : Type} [Lean.Grind.CommRing R] [Lean.Grind.IsCharP R 2] {P : Nat → R} {G : List R} (h : rt_N P 1 G) : G = [P 0] := by
  obtain ⟨a, b, c, d, e⟩ := h
  rcases G with _ | ⟨r, _ | ⟨r', G⟩⟩
  · exact absurd b (by simp)
  · have q := e r (by simp)
    rw [ra_evX (n := 2) (by omega) P r (fun i x y => d i (by omega) y), ra_evS, ra_evS, ra_ev0, c, ra_p0, ra_p1] at q
    have : r = P 0 := by grind
    rw [this]
  · exact absurd b (by simp)
theorem sp_Iins {R : Type} [Lean.Grind.CommRing R] [Lean.Grind.IsCharP R 2] {cv : R → Int32} {el : Nat → R} {iv : R → R} {m N : Nat} (F : fq_F cv el iv m N) {E : List R} {D : Nat} {S : Nat → R} {sd sb : Nat → Nat} {L L' : Nat → R} {n st : Nat} (h : sp_I cv el m E (D + 1) S sd sb L n st) (hE : E.Nodup ∧ E.length ≤ 4) (h1 : sd D = 1) (hL : in_S cv L n (S (5 * D)) L') : sp_I cv el m E D S sd sb L' (n + 1) (st + 1) := by
  obtain ⟨G, l, k1, k2, k3, k4, k5, k6, k7, k8, k9⟩ := sp_Itop h hE.2
  rw [h1] at k1 k8
  have hG : G = [S (5 * D)] := sp_lin k1
  subst hG
  have q1 : (sg_l L 0 n ++ ([S (5 * D)] ++ sp_fl l)).Perm ((S (5 * D) :: sg_l L 0 n) ++ sp_fl l) := List.perm_middle
  refine ⟨l, k5, (k6.trans q1).trans ((in_perm hL).symm.append_right _), in_sort F.1 hL k7 ?_, by omega⟩
  have nd := (k6.trans q1).nodup_iff.mp hE.1
  rw [List.cons_append, List.nodup_cons] at nd
  exact fun z => nd.1 (List.mem_append.mpr (Or.inl z))
theorem sp_Iskip {R : Type} [Lean.Grind.CommRing R] [Lean.Grind.IsCharP R 2] {cv : R → Int32} {el : Nat → R} {iv : R → R} {m N : Nat} (F : fq_F cv el iv m N) {E : List R} {D : Nat} {S : Nat → R} {sd sb : Nat → Nat} {L : Nat → R} {n st : Nat} (h : sp_I cv el m E (D + 1) S sd sb L n st) (hE : E.Nodup ∧ E.length ≤ 4) (h1 : 2 ≤ sd D) (hb : m ≤ sb D) : False := by
  obtain ⟨G, l, k1, k2, k3, k4, k5, k6, k7, k8, k9⟩ := sp_Itop h hE.2
  have hl := k1.2.1
  have hn := k1.1
  rcases G with _ | ⟨r, _ | ⟨r', G⟩⟩
  · exact absurd hl (by simp; omega)
  · exact absurd hl (by simp; omega)
  · have e : r = r' := F.2.2.2.2.2.2.2.2.2.2.2.2 r r' (fun j hj => k4 r (by simp) r' (by simp) j (by omega))
    rw [e] at hn
    simp at hn
theorem sp_Ispl {R : Type} [Lean.Grind.CommRing R] [Lean.Grind.IsCharP R 2] {cv : R → Int32} {el : Nat → R} {m : Nat} {E : List R} {D D' : Nat} {S S' P : Nat → R} {sd sb sd' sb' : Nat → Nat} {L : Nat → R} {n st : Nat} (h : sp_I cv el m E (D + 1) S sd sb L n st) (hE : E.Nodup ∧ E.length ≤ 4) (h4 : sd D ≤ 4) (hb : sb D < m) (hP : ∀ j, j < 5 → S (5 * D + j) = P j) (hO : sp_O el m S sd sb P (sd D) (sb D) D D' S' sd' sb') : sp_I cv el m E D' S' sd' sb' L n (st + 1) := by
  obtain ⟨G, l, k1, k2, k3, k4, k5, k6, k7, k8, k9⟩ := sp_Itop h hE.2
  obtain ⟨l', q1, q2, q3⟩ := hO.2.2.2 G l (rt_Nc hP (by omega) k1) k4 (by omega) k5
  refine ⟨l', q1, k6.trans ((q2.symm).append_left _), k7, ?_⟩
  have e : sd D * (m + 1 - sb D) = sd D * (m - sb D) + sd D := by
    rw [show m + 1 - sb D = (m - sb D) + 1 by omega, Nat.mul_add, Nat.mul_one]
  omega
section
variable {f_bits f_words f_sides f_order f_result f_found f_polyDegree f_polyBasis f_depth : Int32} {a_exp a_log a_power a_members a_sizes a_sketches a_combined a_list a_syndromes a_locator a_previous a_saved a_poly a_residue a_wide a_left a_right a_quotient a_stackPoly a_stackDegree a_stackBasis : Nat → Int32}
theorem xw_loadTrace' {R : Type} [Lean.Grind.CommRing R] [Lean.Grind.IsCharP R 2] {cv : R → Int32} {el : Nat → R} {iv : R → R} {m N : Nat} (F : fq_F cv el iv m N) (T : fq_T cv iv N a_exp a_log) {post : SX → Prop} {P Q W L A : Nat → R} {b : R} {x : Int32} (hx : x = cv b) {dg : Nat} (h2 : 2 ≤ dg) (h4 : dg ≤ 4) (hp : ∀ Q' W' A', (∀ j, dg ≤ j → j < 5 → A' j = 0) → (P dg = 1 → ∀ r, ra_ev (dg + 1) P r = 0 → ra_ev 5 A' r = fq_tr m (b * r)) → post (nI m, f_words, f_sides, f_order, f_result, f_found, nI dg, f_polyBasis, f_depth, a_exp, a_log, a_power, a_members, a_sizes, a_sketches, a_combined, a_list, a_syndromes, a_locator, a_previous, a_saved, ra_cf cv P, ra_cf cv Q', ra_cf cv W', ra_cf cv (ra_fl L 0 5 P), ra_cf cv A', a_quotient, a_stackPoly, a_stackDegree, a_stackBasis)) : wpX_loadTrace post (nI m, f_words, f_sides, f_order, f_result, f_found, nI dg, f_polyBasis, f_depth, a_exp, a_log, a_power, a_members, a_sizes, a_sketches, a_combined, a_list, a_syndromes, a_locator, a_previous, a_saved, ra_cf cv P, ra_cf cv Q, ra_cf cv W, ra_cf cv L, ra_cf cv A, a_quotient, a_stackPoly, a_stackDegree, a_stackBasis) x := by
  subst hx
  exact xw_loadTrace F T h2 h4 hp
theorem xw_push__poly' {R : Type} {cv : R → Int32} {post : SX → Prop} {P S : Nat → R} {sd sb : Nat → Nat} {D x y : Nat} {x' y' : Int32} (hx : x' = nI x) (hy : y' = nI y) (hD : D < 8) (hp : post (f_bits, f_words, f_sides, f_order, f_result, f_found, f_polyDegree, f_polyBasis, nI (D + 1), a_exp, a_log, a_power, a_members, a_sizes, a_sketches, a_combined, a_list, a_syndromes, a_locator, a_previous, a_saved, ra_cf cv P, a_residue, a_wide, a_left, a_right, a_quotient, ra_cf cv (xw_sp S D 5 P), xw_nf (ra_ur sd D x), xw_nf (ra_ur sb D y))) : wpX_push__poly post (f_bits, f_words, f_sides, f_order, f_result, f_found, f_polyDegree, f_polyBasis, nI D, a_exp, a_log, a_power, a_members, a_sizes, a_sketches, a_combined, a_list, a_syndromes, a_locator, a_previous, a_saved, ra_cf cv P, a_residue, a_wide, a_left, a_right, a_quotient, ra_cf cv S, xw_nf sd, xw_nf sb) x' y' := by
  subst hx hy
  exact xw_push__poly hD hp
theorem xw_push__left' {R : Type} {cv : R → Int32} {post : SX → Prop} {P S : Nat → R} {sd sb : Nat → Nat} {D x y : Nat} {x' y' : Int32} (hx : x' = nI x) (hy : y' = nI y) (hD : D < 8) (hp : post (f_bits, f_words, f_sides, f_order, f_result, f_found, f_polyDegree, f_polyBasis, nI (D + 1), a_exp, a_log, a_power, a_members, a_sizes, a_sketches, a_combined, a_list, a_syndromes, a_locator, a_previous, a_saved, a_poly, a_residue, a_wide, ra_cf cv P, a_right, a_quotient, ra_cf cv (xw_sp S D 5 P), xw_nf (ra_ur sd D x), xw_nf (ra_ur sb D y))) : wpX_push__left post (f_bits, f_words, f_sides, f_order, f_result, f_found, f_polyDegree, f_polyBasis, nI D, a_exp, a_log, a_power, a_members, a_sizes, a_sketches, a_combined, a_list, a_syndromes, a_locator, a_previous, a_saved, a_poly, a_residue, a_wide, ra_cf cv P, a_right, a_quotient, ra_cf cv S, xw_nf sd, xw_nf sb) x' y' := by
  subst hx hy
  exact xw_push__left hD hp
theorem xw_push__quotient' {R : Type} {cv : R → Int32} {post : SX → Prop} {P S : Nat → R} {sd sb : Nat → Nat} {D x y : Nat} {x' y' : Int32} (hx : x' = nI x) (hy : y' = nI y) (hD : D < 8) (hp : post (f_bits, f_words, f_sides, f_order, f_result, f_found, f_polyDegree, f_polyBasis, nI (D + 1), a_exp, a_log, a_power, a_members, a_sizes, a_sketches, a_combined, a_list, a_syndromes, a_locator, a_previous, a_saved, a_poly, a_residue, a_wide, a_left, a_right, ra_cf cv P, ra_cf cv (xw_sp S D 5 P), xw_nf (ra_ur sd D x), xw_nf (ra_ur sb D y))) : wpX_push__quotient post (f_bits, f_words, f_sides, f_order, f_result, f_found, f_polyDegree, f_polyBasis, nI D, a_exp, a_log, a_power, a_members, a_sizes, a_sketches, a_combined, a_list, a_syndromes, a_locator, a_previous, a_saved, a_poly, a_residue, a_wide, a_left, a_right, ra_cf cv P, ra_cf cv S, xw_nf sd, xw_nf sb) x' y' := by
  subst hx hy
  exact xw_push__quotient hD hp
theorem xw_split36 {R : Type} [Lean.Grind.CommRing R] {cv : R → Int32} {el : Nat → R} {m : Nat} {post : SX → Prop} {P S : Nat → R} {sd sb : Nat → Nat} {dg b D : Nat} (h1 : 1 ≤ dg) (h4 : dg ≤ 4) (hb : b < m) (hD : D < 8) (hz : ∀ E, rt_N P dg E → ∃ z, ∀ r, r ∈ E → fq_tr m (el (2 ^ b) * r) = z) (hp : ∀ D' S' sd' sb', sp_O el m S sd sb P dg b D D' S' sd' sb' → post (f_bits, f_words, f_sides, f_order, f_result, f_found, nI dg, nI b, nI D', a_exp, a_log, a_power, a_members, a_sizes, a_sketches, a_combined, a_list, a_syndromes, a_locator, a_previous, a_saved, ra_cf cv P, a_residue, a_wide, a_left, a_right, a_quotient, ra_cf cv S', xw_nf sd', xw_nf sb')) : wX_splitByTrace_36 post f_bits f_words f_sides f_order f_result f_found (nI dg) (nI b) (nI D) a_exp a_log a_power a_members a_sizes a_sketches a_combined a_list a_syndromes a_locator a_previous a_saved (ra_cf cv P) a_residue a_wide a_left a_right a_quotient (ra_cf cv S) (xw_nf sd) (xw_nf sb) := by
  unfold wX_splitByTrace_36
  refine xw_push__poly' rfl (nI_1 b) hD ?_
  exact hp _ _ _ _ (sp_whole h1 h4 hb hD hz)
theorem xw_splitByTrace {R : Type} [Lean.Grind.CommRing R] [Lean.Grind.IsCharP R 2] [DecidableEq R] {cv : R → Int32} {el : Nat → R} {iv : R → R} {m N : Nat} (F : fq_F cv el iv m N) (T : fq_T cv iv N a_exp a_log) {post : SX → Prop} {P Q W L A U S : Nat → R} {sd sb : Nat → Nat} {dg b D : Nat} (h2 : 2 ≤ dg) (h4 : dg ≤ 4) (hb : b < m) (hD : D ≤ 7) (hp : ∀ (D' : Nat) (P' Q W L A U S' : Nat → R) (sd' sb' : Nat → Nat), sp_O el m S sd sb P dg b D D' S' sd' sb' → post (nI m, f_words, f_sides, nI N, f_result, f_found, nI dg, nI b, nI D', a_exp, a_log, a_power, a_members, a_sizes, a_sketches, a_combined, a_list, a_syndromes, a_locator, a_previous, a_saved, ra_cf cv P', ra_cf cv Q, ra_cf cv W, ra_cf cv L, ra_cf cv A, ra_cf cv U, ra_cf cv S', xw_nf sd', xw_nf sb')) : wpX_splitByTrace post (nI m, f_words, f_sides, nI N, f_result, f_found, nI dg, nI b, nI D, a_exp, a_log, a_power, a_members, a_sizes, a_sketches, a_combined, a_list, a_syndromes, a_locator, a_previous, a_saved, ra_cf cv P, ra_cf cv Q, ra_cf cv W, ra_cf cv L, ra_cf cv A, ra_cf cv U, ra_cf cv S, xw_nf sd, xw_nf sb) := by
  have hm := F.2.2.2.2.2.2.2.2.2.1
  have e1 : (1 : Int32) <<< (nI b &&& 31) = cv (el (2 ^ b)) := by
    have : 2 ^ b < 2 ^ m := Nat.pow_lt_pow_right (by decide) hb
    rw [xw_shl1 b (by omega), F.2.2.2.2.1 (2 ^ b) (by omega)]
  unfold wpX_splitByTrace
  refine xw_loadTrace' F T e1 h2 h4 (fun Q' W' A' hz hA => ?_)
  refine xw_reduceToDivisor F T (fun G B hB hG => ?_)
  refine xw_degreeOf__left F (fun x hx => ?_)
  rcases hx with ⟨rfl, z⟩ | ⟨p, p5, rfl, hp0, hpz⟩
  · exact br_t (by decide) (xw_split36 (el := el) (by omega) h4 hb (by omega) (fun E hE => sp_zero F h4 hA hB hG z hE) (fun D' S' sd' sb' hO => hp D' P Q' W' G B U S' sd' sb' hO))
  · by_cases c1 : p < 1
    · exact br_t (nI_lt (b := 1) c1 (by decide)) (xw_split36 (el := el) (by omega) h4 hb (by omega) (fun E hE => sp_noSplit F h4 hA hB hG p5 hp0 hpz (Or.inl c1) hE) (fun D' S' sd' sb' hO => hp D' P Q' W' G B U S' sd' sb' hO))
    · refine br_f (nI_nlt (b := 1) (by omega) (by omega)) ?_
      by_cases c2 : p < dg
      · refine br_t (nI_lt c2 (by omega)) ?_
        refine xw_makeMonic F T (by omega) ?_
        refine xw_divideByLeft F T (by omega) (by omega) h4 (fun P' U' hI => ?_)
        refine xw_push__left' rfl (nI_1 b) (by omega) ?_
        by_cases c3 : D = 7
        · subst c3
          exact xw_push__quotient_8 (hp 8 P' Q' W' _ B U' _ _ _ (sp_7 (by omega) (by omega) hb))
        · refine xw_push__quotient' (pk_sub (by omega)) (nI_1 b) (by omega) ?_
          exact hp (D + 2) P' Q' W' _ B U' _ _ _ (sp_two (by omega) c2 h4 hb (by omega) (fun E hE => sp_split F h4 hA hB hG p5 hp0 hpz (by omega) c2 hI hE))
      · exact br_f (nI_nlt (by omega) (by omega)) (xw_split36 (el := el) (by omega) h4 hb (by omega) (fun E hE => sp_noSplit F h4 hA hB hG p5 hp0 hpz (Or.inr (by omega)) hE) (fun D' S' sd' sb' hO => hp D' P Q' W' G B U S' sd' sb' hO))
end
end
section
/-! ===== separate, findRoots ===== -/
section
variable {f_bits f_words f_sides f_order f_result f_found f_polyDegree f_polyBasis f_depth : Int32} {a_exp a_log a_power a_members a_sizes a_sketches a_combined a_list a_syndromes a_locator a_previous a_saved a_poly a_residue a_wide a_left a_right a_quotient a_stackPoly a_stackDegree a_stackBasis : Nat → Int32}
theorem xw_sep27 {R : Type} [Lean.Grind.CommRing R] [Lean.Grind.IsCharP R 2] [DecidableEq R] {cv : R → Int32} {el : Nat → R} {iv : R → R} {m N : Nat} (F : fq_F cv el iv m N) (T : fq_T cv iv N a_exp a_log) {post : SX → Prop} {K : List R → Prop} (hK : ∀ E, K E → E.Nodup ∧ E.length ≤ 4) (hp : ∀ (n : Nat) (f_polyDegree f_polyBasis f_depth : Int32) (L P Q W Le A U S : Nat → R) (sd sb : Nat → Nat), n ≤ 4 → (∀ E, K E → E.Perm (sg_l L 0 n) ∧ in_so cv L n) → post (nI m, f_words, f_sides, nI N, f_result, nI n, f_polyDegree, f_polyBasis, f_depth, a_exp, a_log, a_power, a_members, a_sizes, a_sketches, a_combined, ra_cf cv L, a_syndromes, a_locator, a_previous, a_saved, ra_cf cv P, ra_cf cv Q, ra_cf cv W, ra_cf cv Le, ra_cf cv A, ra_cf cv U, ra_cf cv S, xw_nf sd, xw_nf sb)) : ∀ (d st : Nat) (f_polyDegree f_polyBasis : Int32) (D n : Nat) (L P Q W Le A U S : Nat → R) (sd sb : Nat → Nat), st + d = 64 → D ≤ 8 → n ≤ 4 → (∀ i, i < D → 1 ≤ sd i ∧ sd i ≤ 4 ∧ sb i ≤ m) → (∀ E, K E → sp_I cv el m E D S sd sb L n st) → wX_separate_27 post (d + 1) (nI st) (nI m) f_words f_sides (nI N) f_result (nI n) f_polyDegree f_polyBasis (nI D) a_exp a_log a_power a_members a_sizes a_sketches a_combined (ra_cf cv L) a_syndromes a_locator a_previous a_saved (ra_cf cv P) (ra_cf cv Q) (ra_cf cv W) (ra_cf cv Le) (ra_cf cv A) (ra_cf cv U) (ra_cf cv S) (xw_nf sd) (xw_nf sb) := by
  have hm := F.2.2.2.2.2.2.2.2.2.1
  intro d
  induction d with
  | zero =>
    intro st pd pb D n L P Q W Le A U S sd sb h hD hn hs hI
    obtain rfl : st = 64 := by omega
    exact br_t (nI_le (a := 64) (b := 64) (Nat.le_refl _) (by decide)) (hp n pd pb (nI D) L P Q W Le A U S sd sb hn (fun E hE => absurd (hI E hE) (fun z => sp_I64 z)))
  | succ d ih =>
    intro st pd pb D n L P Q W Le A U S sd sb h hD hn hs hI
    refine br_f (nI_ge (b := 64) (by omega) (by decide)) ?_
    rcases D with _ | D
    · exact br_t (nI_le (a := 0) (b := 0) (Nat.le_refl _) (by decide)) (hp n pd pb (nI 0) L P Q W Le A U S sd sb hn (fun E hE => sp_I0 (hI E hE)))
    · refine br_f (nI_nle (by omega) (by omega)) ?_
      obtain ⟨d1, d2, d3⟩ := hs D (by omega)
      refine xw_pop (by omega) ?_
      have e0 : ∀ j, j < 5 → ra_fl P 0 5 (fun j => S (5 * D + j)) j = S (5 * D + j) := fun j hj => ra_flI (by omega) hj
      refine pk_eq (sd D) 1 (fun c1 => ?_) (fun c1 => ?_)
      · have e1 : ra_cf cv (ra_fl P 0 5 (fun j => S (5 * D + j))) 0 = cv (S (5 * D)) := congrArg cv (e0 0 (by omega))
        by_cases c2 : n = 4
        · subst c2
          refine xw_insert_4 ?_
          refine nm_r (nI_1 st) (ih (st + 1) _ _ D 4 L _ Q W Le A U S sd sb (by omega) (by omega) hn (fun i hi => hs i (by omega)) (fun E hE => ?_))
          obtain ⟨_, _, _, _, _, _, _, _, _, _, k9⟩ := sp_Itop (hI E hE) (hK E hE).2
          omega
        · rw [e1]
          refine xw_insert (by omega) (fun L' hL' => ?_)
          exact nm_r (nI_1 st) (ih (st + 1) _ _ D (n + 1) L' _ Q W Le A U S sd sb (by omega) (by omega) (by omega) (fun i hi => hs i (by omega)) (fun E hE => sp_Iins F (hI E hE) (hK E hE) c1 hL'))
      · refine pk_le m (sb D) (fun c2 => ?_) (fun c2 => ?_)
        · exact nm_r (nI_1 st) (ih (st + 1) _ _ D n L _ Q W Le A U S sd sb (by omega) (by omega) hn (fun i hi => hs i (by omega)) (fun E hE => (sp_Iskip F (hI E hE) (hK E hE) (by omega) c2).elim))
        · refine xw_splitByTrace F T (by omega) d2 c2 (by omega) (fun D' P' Q' W' L' A' U' S' sd' sb' hO => ?_)
          refine nm_r (nI_1 st) (ih (st + 1) _ _ D' n L P' Q' W' L' A' U' S' sd' sb' (by omega) hO.2.1 hn (fun i hi => ?_) (fun E hE => sp_Ispl (hI E hE) (hK E hE) d2 c2 (fun j hj => (e0 j hj).symm) hO))
          refine hO.2.2.1 i hi ?_
          by_cases u : i < D
          · exact Or.inl (hs i (by omega))
          · exact Or.inr (by omega)
theorem xw_separate {R : Type} [Lean.Grind.CommRing R] [Lean.Grind.IsCharP R 2] [DecidableEq R] {cv : R → Int32} {el : Nat → R} {iv : R → R} {m N : Nat} (F : fq_F cv el iv m N) (T : fq_T cv iv N a_exp a_log) {post : SX → Prop} {L P Q W Le A U S : Nat → R} {sd sb : Nat → Nat} {dg : Nat} (h4 : dg ≤ 4) (hp : ∀ (n : Nat) (f_polyDegree f_polyBasis f_depth : Int32) (L P' Q W Le A U S : Nat → R) (sd sb : Nat → Nat), n ≤ 4 → (∀ E, rt_N P dg E → E.Perm (sg_l L 0 n) ∧ in_so cv L n) → post (nI m, f_words, f_sides, nI N, f_result, nI n, f_polyDegree, f_polyBasis, f_depth, a_exp, a_log, a_power, a_members, a_sizes, a_sketches, a_combined, ra_cf cv L, a_syndromes, a_locator, a_previous, a_saved, ra_cf cv P', ra_cf cv Q, ra_cf cv W, ra_cf cv Le, ra_cf cv A, ra_cf cv U, ra_cf cv S, xw_nf sd, xw_nf sb)) : wpX_separate post (nI m, f_words, f_sides, nI N, f_result, nI 0, nI dg, f_polyBasis, f_depth, a_exp, a_log, a_power, a_members, a_sizes, a_sketches, a_combined, ra_cf cv L, a_syndromes, a_locator, a_previous, a_saved, ra_cf cv P, ra_cf cv Q, ra_cf cv W, ra_cf cv Le, ra_cf cv A, ra_cf cv U, ra_cf cv S, xw_nf sd, xw_nf sb) := by
  have hm := F.2.2.2.2.2.2.2.2.2.1
  have hK : ∀ E, rt_N P dg E → E.Nodup ∧ E.length ≤ 4 := fun E hE => ⟨hE.1, by rw [hE.2.1]; exact h4⟩
  unfold wpX_separate
  refine pk_le dg 0 (fun c => ?_) (fun c => ?_)
  · refine ⟨65, ?_⟩
    refine xw_sep27 F T hK hp 64 0 (nI dg) f_polyBasis 0 0 L P Q W Le A U S sd sb (by omega) (by omega) (by omega) (fun i hi => by omega) (fun E hE => ?_)
    have e : E = [] := List.eq_nil_of_length_eq_zero (by rw [hE.2.1]; omega)
    subst e
    exact ⟨[], rfl, List.Perm.refl _, fun i j a b => by omega, by show 0 + 0 ≤ 24; omega⟩
  · refine xw_push__poly' (D := 0) (x := dg) (y := 0) rfl rfl (by omega) ?_
    refine ⟨65, ?_⟩
    refine xw_sep27 F T hK hp 64 0 (nI dg) f_polyBasis 1 0 L P Q W Le A U _ _ _ (by omega) (by omega) (by omega) (fun i hi => ?_) (fun E hE => ?_)
    · obtain rfl : i = 0 := by omega
      rw [ra_urs, ra_urs]
      omega
    · refine ⟨[(E, 0)], ⟨0, rfl, ?_, by rw [ra_urs]; omega, by rw [ra_urs]; exact h4, by rw [ra_urs], Nat.zero_le _, fun r _ r' _ j hj => absurd hj (Nat.not_lt_zero j), rfl⟩, ?_, fun i j a b => by omega, ?_⟩
      · rw [ra_urs]
        refine rt_Nc (fun j hj => ?_) (by omega) hE
        show P j = xw_sp S 0 5 P (5 * 0 + j)
        unfold xw_sp
        rw [if_pos (by omega), Nat.add_sub_cancel_left]
      · show E.Perm ([] ++ (E ++ []))
        rw [List.nil_append, List.append_nil]
      · show 0 + (E.length * (m + 1 - 0) + 0) ≤ 24
        rw [hE.2.1]
        have : dg * (m + 1 - 0) ≤ 4 * (5 + 1) := Nat.mul_le_mul h4 (by omega)
        omega
end
def rt_Q {R : Type} [Lean.Grind.CommRing R] (C : Nat → R) (L : Nat) (E : List R) : Prop := E.Nodup ∧ (∀ x, x ∈ E → x ≠ 0) ∧ L = E.length ∧ ∀ x, x ∈ E → bm_st L C x = 0
theorem rt_Qp {R : Type} [Lean.Grind.CommRing R] {C P0 : Nat → R} {L : Nat} (hL : L ≤ 4) (hC : C 0 = 1) {E : List R} (h : rt_Q C L E) : rt_N (ra_fl P0 0 5 (rt_rv L C)) L E := by
  obtain ⟨a, b, c, d⟩ := h
  refine ⟨a, c.symm, ?_, fun j x y => ?_, fun r hr => ?_⟩
  · rw [ra_flI (by omega) (by omega)]
    unfold rt_rv
    rw [if_pos (Nat.le_refl _), Nat.sub_self, hC]
  · rw [ra_flI (by omega) y]
    exact if_neg (by omega)
  · rw [ra_evC (Q := rt_rv L C) r (fun i hi => ra_flI (by omega) hi), ra_evX (n := L + 1) (by omega) (rt_rv L C) r (fun i x y => if_neg (by omega))]
    rw [ra_evC (n := L + 1) (P := rt_rv L C) (Q := fun i => C (L - i)) r (fun i hi => if_pos (by omega)), bm_rev]
    exact d r hr
theorem rt_N0 {R : Type} [Lean.Grind.CommRing R] [Lean.Grind.IsCharP R 2] (dm : ∀ a b : R, a * b = 0 → a = 0 ∨ b = 0) {P : Nat → R} {d : Nat} (hd : d ≤ 4) {E : List R} (h : rt_N P d E) (h0 : ∀ x, x ∈ E → x ≠ 0) : P 0 ≠ 0 := by
  intro z
  obtain ⟨a, b, c, e, f⟩ := h
  have k := ra_rc dm (d + 1) P (0 :: E) (List.nodup_cons.mpr ⟨fun q => h0 0 q rfl, a⟩) (by simp; omega) (fun r hr => ?_) d (by omega)
  · rw [c] at k
    exact ra_10 k
  · rcases List.mem_cons.mp hr with rfl | hr
    · rw [ra_evF, z, ra_0m, ra_0]
    · rw [← ra_evX (N := 5) (by omega) P r (fun i x y => e i (by omega) y)]
      exact f r hr
section
variable {f_bits f_words f_sides f_order f_result f_found f_polyDegree f_polyBasis f_depth : Int32} {a_exp a_log a_power a_members a_sizes a_sketches a_combined a_list a_syndromes a_locator a_previous a_saved a_poly a_residue a_wide a_left a_right a_quotient a_stackPoly a_stackDegree a_stackBasis : Nat → Int32}
theorem xw_findRoots {R : Type} [Lean.Grind.CommRing R] [Lean.Grind.IsCharP R 2] [DecidableEq R] {cv : R → Int32} {el : Nat → R} {iv : R → R} {m N : Nat} (F : fq_F cv el iv m N) (T : fq_T cv iv N a_exp a_log) {post : Int32 → SX → Prop} {C L P Q W Le A U S : Nat → R} {sd sb : Nat → Nat} {dg : Nat} (h4 : dg ≤ 4) (hC : C 0 = 1) (hp : ∀ (ok : Bool) (n : Nat) (f_polyDegree f_polyBasis f_depth : Int32) (L P Q W Le A U S : Nat → R) (sd sb : Nat → Nat), n ≤ 4 → (ok = true → n = dg) → (∀ E, rt_Q C dg E → ok = true ∧ E.Perm (sg_l L 0 n) ∧ in_so cv L n) → post (if ok then 1 else 0) (nI m, f_words, f_sides, nI N, f_result, nI n, f_polyDegree, f_polyBasis, f_depth, a_exp, a_log, a_power, a_members, a_sizes, a_sketches, a_combined, ra_cf cv L, a_syndromes, ra_cf cv C, a_previous, a_saved, ra_cf cv P, ra_cf cv Q, ra_cf cv W, ra_cf cv Le, ra_cf cv A, ra_cf cv U, ra_cf cv S, xw_nf sd, xw_nf sb)) : wpX_findRoots post (nI m, f_words, f_sides, nI N, f_result, nI 0, f_polyDegree, f_polyBasis, f_depth, a_exp, a_log, a_power, a_members, a_sizes, a_sketches, a_combined, ra_cf cv L, a_syndromes, ra_cf cv C, a_previous, a_saved, ra_cf cv P, ra_cf cv Q, ra_cf cv W, ra_cf cv Le, ra_cf cv A, ra_cf cv U, ra_cf cv S, xw_nf sd, xw_nf sb) (nI dg) := by
  have dm := F.2.2.2.2.2.2.1
  unfold wpX_findRoots
  refine xw_loadReversed F h4 ?_
  have hN : ∀ E, rt_Q C dg E → rt_N (ra_fl P 0 5 (rt_rv dg C)) dg E := fun E hE => rt_Qp h4 hC hE
  generalize ra_fl P 0 5 (rt_rv dg C) = P1 at hN
  by_cases c : P1 0 = 0
  · exact br_t ((fq_nz F).mpr c) (hp false 0 (nI dg) f_polyBasis f_depth L P1 Q W Le A U S sd sb (by omega) (fun z => absurd z (by decide)) (fun E hE => absurd c (rt_N0 dm h4 (hN E hE) hE.2.1)))
  · refine br_f (fun z => c ((fq_nz F).mp z)) ?_
    refine xw_splits F T h4 (fun b Q' W' hb => ?_)
    cases b with
    | false => exact br_t rfl (hp false 0 (nI dg) f_polyBasis f_depth L P1 Q' W' Le A U S sd sb (by omega) (fun z => absurd z (by decide)) (fun E hE => absurd (hb E (hN E hE)) (by decide)))
    | true =>
      refine br_f (by decide) ?_
      refine xw_separate F T h4 (fun n pd pb dp L' P' Q2 W2 Le2 A2 U2 S2 sd2 sb2 hn hs => ?_)
      refine pk_eq n dg (fun e => ?_) (fun e => ?_)
      · exact hp true n pd pb dp L' P' Q2 W2 Le2 A2 U2 S2 sd2 sb2 hn (fun _ => e) (fun E hE => ⟨rfl, hs E (hN E hE)⟩)
      · refine hp false n pd pb dp L' P' Q2 W2 Le2 A2 U2 S2 sd2 sb2 hn (fun z => absurd z (by decide)) (fun E hE => ?_)
        have q := (hs E (hN E hE)).1.length_eq
        rw [sg_len, (hN E hE).2.1] at q
        exact absurd q.symm e
end
end
section
/-! ===== matchesWords, decode ===== -/
def fq_P {R : Type} [Lean.Grind.CommRing R] (cv : R → Int32) (a_power : Nat → Int32) : Prop := ∀ (a : R) (i : Nat), i < 4 → vp_in (4 * cv a + nI i) 128 ∧ a_power (4 * cv a + nI i).toNatClampNeg = cv (a ^ (2 * i + 1))
theorem sg_ls {R : Type} [Lean.Grind.CommRing R] (L : Nat → R) (f : R → R) : ∀ k a, ra_ls (sg_l L a k) f = ra_sm k (fun j => f (L (a + j))) := by
  intro k
  induction k with
  | zero => intro a; rfl
  | succ k ih =>
    intro a
    rw [ra_first]
    show f (L a) + ra_ls (sg_l L (a + 1) k) f = _
    rw [ih (a + 1)]
    have e : ra_sm k (fun j => f (L (a + 1 + j))) = ra_sm k (fun j => f (L (a + (j + 1)))) := ra_cong (fun j _ => by rw [show a + 1 + j = a + (j + 1) by omega])
    rw [e]
    rfl
theorem sg_pw {R : Type} {cv : R → Int32} {L : Nat → R} : ∀ k a, (∀ i j, i < j → j < k → cv (L (a + i)) < cv (L (a + j))) → (sg_l L a k).Pairwise (fun x y => cv x < cv y) := by
  intro k
  induction k with
  | zero => intro a _; exact List.Pairwise.nil
  | succ k ih =>
    intro a h
    refine List.Pairwise.cons (fun y hy => ?_) (ih (a + 1) (fun i j x y => ?_))
    · obtain ⟨j, h1, h2⟩ := sg_of L k (a + 1) y hy
      rw [h2, show a + 1 + j = a + (j + 1) by omega]
      exact h 0 (j + 1) (by omega) (by omega)
    · rw [show a + 1 + i = a + (i + 1) by omega, show a + 1 + j = a + (j + 1) by omega]
      exact h (i + 1) (j + 1) (by omega) (by omega)
theorem sg_eq {R : Type} {cv : R → Int32} {l l' : List R} (h : l.Perm l') (h1 : l.Pairwise (fun x y => cv x < cv y)) (h2 : l'.Pairwise (fun x y => cv x < cv y)) : l = l' :=
  List.Perm.eq_of_pairwise (le := fun x y => cv x < cv y) (fun a b _ _ x y => (Int32.lt_irrefl (Int32.lt_trans x y)).elim) h1 h2 h
theorem ra_lsQ {R : Type} [Lean.Grind.CommRing R] [Lean.Grind.IsCharP R 2] (l : List R) (f : R → R) : ra_ls l f * ra_ls l f = ra_ls l (fun x => f x * f x) := by
  induction l with
  | nil => exact ra_m0 _
  | cons x l ih =>
    show (f x + ra_ls l f) * (f x + ra_ls l f) = f x * f x + ra_ls l (fun x => f x * f x)
    rw [← ih]
    grind
/-- the reference's answer: an ascending list of nonzero elements with the given words -/
def dc_N {R : Type} [Lean.Grind.CommRing R] (cv : R → Int32) (W : Nat → R) (k : Nat) (E : List R) : Prop := E.Nodup ∧ (∀ x, x ∈ E → x ≠ 0) ∧ E.length ≤ k ∧ (∀ i, i < k → ra_ls E (fun x => x ^ (2 * i + 1)) = W i) ∧ E.Pairwise (fun x y => cv x < cv y)
theorem dc_bm {R : Type} [Lean.Grind.CommRing R] [Lean.Grind.IsCharP R 2] {cv : R → Int32} {W S : Nat → R} {k : Nat} (hO : xw_SyO W S k) (hE : xw_SyE S (k + 1)) {E : List R} (h : dc_N cv W k E) : bm_Nc S k E := by
  refine ⟨h.1, h.2.1, h.2.2.1, ?_⟩
  have q : ∀ n j, j ≤ n → 1 ≤ j → j ≤ 2 * k → S j = ra_ls E (fun x => x ^ j) := by
    intro n
    induction n with
    | zero => intro j a b c; omega
    | succ n ih =>
      intro j a b c
      by_cases u : j % 2 = 0
      · obtain ⟨i, rfl⟩ : ∃ i, j = 2 * i := ⟨j / 2, by omega⟩
        rw [hE i (by omega) (by omega), ih i (by omega) (by omega) (by omega), ra_lsQ]
        refine ra_lsC (fun x _ => ?_)
        rw [← ra_pA, show i + i = 2 * i by omega]
      · obtain ⟨i, rfl⟩ : ∃ i, j = 2 * i + 1 := ⟨j / 2, by omega⟩
        rw [hO i (by omega), ← h.2.2.2.1 i (by omega)]
  exact fun j a b => q j j (Nat.le_refl _) a b
section
variable {f_bits f_words f_sides f_order f_result f_found f_polyDegree f_polyBasis f_depth : Int32} {a_exp a_log a_power a_members a_sizes a_sketches a_combined a_list a_syndromes a_locator a_previous a_saved a_poly a_residue a_wide a_left a_right a_quotient a_stackPoly a_stackDegree a_stackBasis : Nat → Int32}
theorem xw_mw12 {R : Type} [Lean.Grind.CommRing R] {cv : R → Int32} {el : Nat → R} {iv : R → R} {m N : Nat} (F : fq_F cv el iv m N) (hP : fq_P cv a_power) {post : Int32 → Prop} {J : Int32 → Prop} {W L : Nat → R} {x1 : Int32} {n i : Nat} (hn : n ≤ 4) (hi : i < 4) (hT : ra_sm n (fun j => L j ^ (2 * i + 1)) = W i → J (nI (i + 1))) (hF : ra_sm n (fun j => L j ^ (2 * i + 1)) ≠ W i → post 0) : ∀ (d j : Nat), j + d = n → wX_matchesWords_12 post J x1 (nI i) f_bits f_words f_sides f_order f_result (nI n) f_polyDegree f_polyBasis f_depth a_exp a_log a_power a_members a_sizes a_sketches (ra_cf cv W) (ra_cf cv L) a_syndromes a_locator a_previous a_saved a_poly a_residue a_wide a_left a_right a_quotient a_stackPoly a_stackDegree a_stackBasis (d + 1) (cv (ra_sm j (fun j => L j ^ (2 * i + 1)))) (nI j) := by
  intro d
  induction d with
  | zero =>
    intro j h
    obtain rfl : j = n := by omega
    refine br_t (nI_le (Nat.le_refl _) (by omega)) ⟨vp_in_nI hi (by decide), ?_⟩
    rw [nI_clamp (by omega)]
    refine br_c (fun z => nm_r (nI_1 i) (hT (F.1 _ _ z))) (fun z => hF (fun q => z (congrArg cv q)))
  | succ d ih =>
    intro j h
    refine br_f (nI_ge (by omega) (by omega)) ⟨vp_in_nI (by omega) (by decide), ?_⟩
    rw [nI_clamp (by omega)]
    obtain ⟨p1, p2⟩ := hP (L j) i hi
    refine And.intro p1 (nm_r (e' := cv (ra_sm (j + 1) (fun j => L j ^ (2 * i + 1)))) ?_ (nm_r (nI_1 j) (ih (j + 1) (by omega))))
    have p3 : a_power (4 * ra_cf cv L j + nI i).toNatClampNeg = cv (L j ^ (2 * i + 1)) := p2
    rw [p3, fq_xor F]
    rfl
theorem xw_mw2 {R : Type} [Lean.Grind.CommRing R] {cv : R → Int32} {el : Nat → R} {iv : R → R} {m N : Nat} (F : fq_F cv el iv m N) (hP : fq_P cv a_power) {post : Int32 → Prop} {W L : Nat → R} {n k : Nat} (hn : n ≤ 4) (hk : k ≤ 4) (hp : ∀ b : Bool, (b = true ↔ ∀ i, i < k → ra_sm n (fun j => L j ^ (2 * i + 1)) = W i) → post (if b then 1 else 0)) : ∀ (d i : Nat), i + d = k → (∀ i', i' < i → ra_sm n (fun j => L j ^ (2 * i' + 1)) = W i') → wX_matchesWords_2 post (nI k) f_bits f_words f_sides f_order f_result (nI n) f_polyDegree f_polyBasis f_depth a_exp a_log a_power a_members a_sizes a_sketches (ra_cf cv W) (ra_cf cv L) a_syndromes a_locator a_previous a_saved a_poly a_residue a_wide a_left a_right a_quotient a_stackPoly a_stackDegree a_stackBasis (d + 1) (nI i) := by
  intro d
  induction d with
  | zero =>
    intro i h hi
    obtain rfl : i = k := by omega
    exact br_t (nI_le (Nat.le_refl _) (by omega)) (hp true ⟨fun _ => hi, fun _ => rfl⟩)
  | succ d ih =>
    intro i h hi
    refine br_f (nI_ge (by omega) (by omega)) ⟨n + 1, ?_⟩
    have k1 := xw_mw12 (a_exp := a_exp) (a_log := a_log) (a_members := a_members) (a_sizes := a_sizes) (a_sketches := a_sketches) (a_syndromes := a_syndromes) (a_locator := a_locator) (a_previous := a_previous) (a_saved := a_saved) (a_poly := a_poly) (a_residue := a_residue) (a_wide := a_wide) (a_left := a_left) (a_right := a_right) (a_quotient := a_quotient) (a_stackPoly := a_stackPoly) (a_stackDegree := a_stackDegree) (a_stackBasis := a_stackBasis) (f_bits := f_bits) (f_words := f_words) (f_sides := f_sides) (f_order := f_order) (f_result := f_result) (f_polyDegree := f_polyDegree) (f_polyBasis := f_polyBasis) (f_depth := f_depth) F hP (post := post) (J := wX_matchesWords_2 post (nI k) f_bits f_words f_sides f_order f_result (nI n) f_polyDegree f_polyBasis f_depth a_exp a_log a_power a_members a_sizes a_sketches (ra_cf cv W) (ra_cf cv L) a_syndromes a_locator a_previous a_saved a_poly a_residue a_wide a_left a_right a_quotient a_stackPoly a_stackDegree a_stackBasis (d + 1)) (W := W) (L := L) (x1 := nI k) (i := i) hn (by omega) (fun e => ih (i + 1) (by omega) (fun i' hi' => ?_)) (fun e => hp false ⟨fun z => absurd z (by decide), fun z => absurd (z i (by omega)) e⟩) n 0 (by omega)
    · rw [ra_sm0, F.2.1] at k1
      exact k1
    · by_cases u : i' = i
      · rw [u]; exact e
      · exact hi i' (by omega)
theorem xw_matchesWords {R : Type} [Lean.Grind.CommRing R] {cv : R → Int32} {el : Nat → R} {iv : R → R} {m N : Nat} (F : fq_F cv el iv m N) (hP : fq_P cv a_power) {post : Int32 → Prop} {W L : Nat → R} {n k : Nat} (hn : n ≤ 4) (hk : k ≤ 4) (hp : ∀ b : Bool, (b = true ↔ ∀ i, i < k → ra_sm n (fun j => L j ^ (2 * i + 1)) = W i) → post (if b then 1 else 0)) : wpX_matchesWords post (f_bits, f_words, f_sides, f_order, f_result, nI n, f_polyDegree, f_polyBasis, f_depth, a_exp, a_log, a_power, a_members, a_sizes, a_sketches, ra_cf cv W, ra_cf cv L, a_syndromes, a_locator, a_previous, a_saved, a_poly, a_residue, a_wide, a_left, a_right, a_quotient, a_stackPoly, a_stackDegree, a_stackBasis) (nI k) :=
  ⟨_, xw_mw2 F hP hn hk hp k 0 (by omega) (fun i' hi' => by omega)⟩
theorem xw_decode {R : Type} [Lean.Grind.CommRing R] [Lean.Grind.IsCharP R 2] [DecidableEq R] {cv : R → Int32} {el : Nat → R} {iv : R → R} {m N : Nat} (F : fq_F cv el iv m N) (T : fq_T cv iv N a_exp a_log) (hP : fq_P cv a_power) {post : Int32 → SX → Prop} {Wo L Sy C B V P Q W Le A U S : Nat → R} {sd sb : Nat → Nat} {k t : Nat} (hk : 1 ≤ k) (hkt : k ≤ t) (ht : t ≤ 4) (hp : ∀ (ok : Bool) (n : Nat) (f_polyDegree f_polyBasis f_depth : Int32) (L Sy C B V P Q W Le A U S : Nat → R) (sd sb : Nat → Nat), n ≤ 4 → (ok = true → n ≤ k ∧ ∀ i, i < k → ra_ls (sg_l L 0 n) (fun x => x ^ (2 * i + 1)) = Wo i) → (∀ E, dc_N cv Wo k E → ok = true ∧ sg_l L 0 n = E) → post (if ok then nI n else 107) (nI m, nI t, f_sides, nI N, if ok then nI n else 107, nI n, f_polyDegree, f_polyBasis, f_depth, a_exp, a_log, a_power, a_members, a_sizes, a_sketches, ra_cf cv Wo, ra_cf cv L, ra_cf cv Sy, ra_cf cv C, ra_cf cv B, ra_cf cv V, ra_cf cv P, ra_cf cv Q, ra_cf cv W, ra_cf cv Le, ra_cf cv A, ra_cf cv U, ra_cf cv S, xw_nf sd, xw_nf sb)) : wpX_decode post (nI m, nI t, f_sides, nI N, f_result, f_found, f_polyDegree, f_polyBasis, f_depth, a_exp, a_log, a_power, a_members, a_sizes, a_sketches, ra_cf cv Wo, ra_cf cv L, ra_cf cv Sy, ra_cf cv C, ra_cf cv B, ra_cf cv V, ra_cf cv P, ra_cf cv Q, ra_cf cv W, ra_cf cv Le, ra_cf cv A, ra_cf cv U, ra_cf cv S, xw_nf sd, xw_nf sb) (nI k) := by
  have hsg : ∀ (L : Nat → R) (n i : Nat), ra_ls (sg_l L 0 n) (fun x => x ^ (2 * i + 1)) = ra_sm n (fun j => L j ^ (2 * i + 1)) := fun L n i => by
    rw [sg_ls]
    exact ra_cong (fun j _ => by rw [Nat.zero_add])
  unfold wpX_decode
  refine br_f (nI_nlt (b := 1) hk (by omega)) (br_t (nI_le hkt (by omega)) ?_)
  refine xw_loadSyndromes F T (by omega) (fun Sy' hO hE => ?_)
  refine xw_findLocator F T (by omega) (fun dg C' B' V' h1 hC hb => ?_)
  have hb' : ∀ E, dc_N cv Wo k E → rt_Q C' dg E := fun E h => ⟨h.1, h.2.1, hb E (dc_bm hO hE h)⟩
  by_cases c : k < dg
  · exact br_t (nI_lt c (by omega)) (hp false 0 f_polyDegree f_polyBasis f_depth L Sy' C' B' V' P Q W Le A U S sd sb (by omega) (fun z => absurd z (by decide)) (fun E h => by
      have q := (hb' E h).2.2.1
      have := h.2.2.1
      omega))
  · refine br_f (nI_nlt (by omega) (by omega)) ?_
    refine xw_findRoots F T (by omega) hC (fun ok n pd pb dp L' P' Q' W' Le' A' U' S' sd' sb' hn hok hs => ?_)
    cases ok with
    | false => exact br_t rfl (hp false n pd pb dp L' Sy' C' B' V' P' Q' W' Le' A' U' S' sd' sb' hn (fun z => absurd z (by decide)) (fun E h => absurd (hs E (hb' E h)).1 (by decide)))
    | true =>
      refine br_f (by decide) ?_
      refine xw_matchesWords F hP hn (by omega) (fun b hb2 => ?_)
      cases b with
      | false =>
        refine br_t rfl (hp false n pd pb dp L' Sy' C' B' V' P' Q' W' Le' A' U' S' sd' sb' hn (fun z => absurd z (by decide)) (fun E h => ?_))
        refine absurd (hb2.mpr (fun i hi => ?_)) (by decide)
        rw [← hsg, ← ra_lsP (hs E (hb' E h)).2.1]
        exact h.2.2.2.1 i hi
      | true =>
        refine br_f (by decide) (hp true n pd pb dp L' Sy' C' B' V' P' Q' W' Le' A' U' S' sd' sb' hn (fun _ => ⟨by have := hok rfl; omega, fun i hi => ?_⟩) (fun E h => ⟨rfl, ?_⟩))
        · rw [hsg]
          exact hb2.mp rfl i hi
        · obtain ⟨_, q1, q2⟩ := hs E (hb' E h)
          refine (sg_eq q1 h.2.2.2.2 (sg_pw n 0 (fun i j x y => ?_))).symm
          rw [Nat.zero_add, Nat.zero_add]
          exact q2 i j x y
end
end
section
/-! ===== the reference: walks ===== -/
def fq_Y {R : Type} [Lean.Grind.CommRing R] (cv : R → Int32) (f_m f_poly : Int32) : Prop := ∀ (post : Int32 → Prop) (a b : R) (f_t f_s f_n f_result : Int32) (a_member a_combined a_list : Nat → Int32), post (cv (a * b)) → wpY_product post (f_m, f_t, f_s, f_n, f_poly, f_result, a_member, a_combined, a_list) (cv a) (cv b)
def yw_mf (M : Nat → Bool) : Nat → Int32 := fun j => if M j then 1 else 0
theorem yw_mfT {M : Nat → Bool} {j : Nat} (h : M j = true) : ¬ yw_mf M j = 0 := by
  unfold yw_mf
  rw [h]
  decide
theorem yw_mfF {M : Nat → Bool} {j : Nat} (h : M j = false) : yw_mf M j = 0 := by
  unfold yw_mf
  rw [h]
  rfl
theorem yw_ix (s x : Nat) : nI s * 32 + nI x = nI (s * 32 + x) := by
  show nI s * nI 32 + nI x = _
  rw [pk_mul, nI_add]
/-- word i of the set M of a side, elements 1 .. c -/
def yw_ps {R : Type} [Lean.Grind.CommRing R] (el : Nat → R) (M : Nat → Bool) (s i c : Nat) : R := ra_sm c (fun x => if M (s * 32 + (x + 1)) then el (x + 1) ^ (2 * i + 1) else 0)
section
variable {f_m f_t f_s f_n f_poly f_result : Int32} {a_member a_combined a_list : Nat → Int32}
theorem yw_power {R : Type} [Lean.Grind.CommRing R] {cv : R → Int32} (Y : fq_Y cv f_m f_poly) {post : Int32 → Prop} {a : R} {e : Nat} {x y : Int32} (hx : x = cv a) (hy : y = nI e) (h1 : 1 ≤ e) (h2 : e < 100) (hp : post (cv (a ^ e))) : wpY_power post (f_m, f_t, f_s, f_n, f_poly, f_result, a_member, a_combined, a_list) x y := by
  subst hx hy
  have k : ∀ d j, j + d = e → 1 ≤ j → wY_power_5 post (cv a) (nI e) f_m f_t f_s f_n f_poly f_result a_member a_combined a_list (d + 1) (cv (a ^ j)) (nI j) := by
    intro d
    induction d with
    | zero =>
      intro j h _
      obtain rfl : j = e := by omega
      exact br_t (nI_le (Nat.le_refl _) (by omega)) hp
    | succ d ih =>
      intro j h hj
      refine br_f (nI_ge (by omega) (by omega)) ?_
      refine Y _ (a ^ j) a _ _ _ _ _ _ _ (nm_r (nI_1 j) ?_)
      rw [← ra_pS]
      exact ih (j + 1) (by omega) (by omega)
  have k1 := k (e - 1) 1 (by omega) (Nat.le_refl _)
  rw [ra_p1] at k1
  exact ⟨_, k1⟩
theorem yw_powerSum {R : Type} [Lean.Grind.CommRing R] {cv : R → Int32} {el : Nat → R} {iv : R → R} {m N : Nat} (F : fq_F cv el iv m N) (Y : fq_Y cv f_m f_poly) {post : Int32 → Prop} {M : Nat → Bool} {s i : Nat} (hs : s < 4) (hi : i < 4) (hp : post (cv (yw_ps el M s i N))) : wpY_powerSum post (f_m, f_t, f_s, nI N, f_poly, f_result, yw_mf M, a_combined, a_list) (nI s) (nI i) := by
  have hm := F.2.2.2.2.2.2.2.2.2.1
  have k : ∀ d c, c + d = N → wY_powerSum_5 post (nI s) (nI i) f_m f_t f_s (nI N) f_poly f_result (yw_mf M) a_combined a_list (d + 1) (cv (yw_ps el M s i c)) (nI (c + 1)) := by
    intro d
    induction d with
    | zero =>
      intro c h
      obtain rfl : c = N := by omega
      exact br_t (nI_lt (by omega) (by omega)) hp
    | succ d ih =>
      intro c h
      have e1 := yw_ix s (c + 1)
      refine br_f (nI_nlt (by omega) (by omega)) ⟨xw_in e1 (by omega) (by decide), ?_⟩
      rw [e1, nI_clamp (by omega)]
      cases hM : M (s * 32 + (c + 1)) with
      | false =>
        refine br_t (yw_mfF hM) (nm_r (nI_1 (c + 1)) ?_)
        have e2 : yw_ps el M s i (c + 1) = yw_ps el M s i c := by
          unfold yw_ps
          rw [ra_smS, hM]
          exact ra_0 _
        have q := ih (c + 1) (by omega)
        rw [e2] at q
        exact q
      | true =>
        refine br_f (yw_mfT hM) ?_
        refine yw_power Y (a := el (c + 1)) (e := 2 * i + 1) (F.2.2.2.2.1 (c + 1) (by omega)).symm (xw_2n1 i) (by omega) (by omega) (nm_r (e' := cv (yw_ps el M s i (c + 1))) ?_ (nm_r (nI_1 (c + 1)) (ih (c + 1) (by omega))))
        rw [fq_xor F]
        unfold yw_ps
        rw [ra_smS, hM]
        rfl
  have k1 := k N 0 (by omega)
  have e : yw_ps el M s i 0 = 0 := rfl
  rw [e, F.2.1] at k1
  exact ⟨_, k1⟩
theorem yw_fits {R : Type} [Lean.Grind.CommRing R] {cv : R → Int32} {el : Nat → R} {iv : R → R} {m N : Nat} (F : fq_F cv el iv m N) (Y : fq_Y cv f_m f_poly) {post : Int32 → Prop} {W : Nat → R} {p q u v : R} {x1 x2 x3 x4 : Int32} (h1 : x1 = cv p) (h2 : x2 = cv q) (h3 : x3 = cv u) (h4 : x4 = cv v) {k : Nat} (hk : k ≤ 4) (hp : ∀ b : Bool, (b = true ↔ ∀ i, i < k → p ^ (2 * i + 1) + q ^ (2 * i + 1) + u ^ (2 * i + 1) + v ^ (2 * i + 1) = W i) → post (if b then 1 else 0)) : wpY_fits post (f_m, f_t, f_s, f_n, f_poly, f_result, a_member, ra_cf cv W, a_list) x1 x2 x3 x4 (nI k) := by
  have key : ∀ d i, i + d = k → (∀ i', i' < i → p ^ (2 * i' + 1) + q ^ (2 * i' + 1) + u ^ (2 * i' + 1) + v ^ (2 * i' + 1) = W i') → wY_fits_3 post x1 x2 x3 x4 (nI k) f_m f_t f_s f_n f_poly f_result a_member (ra_cf cv W) a_list (d + 1) (nI i) := by
    intro d
    induction d with
    | zero =>
      intro i h hi
      obtain rfl : i = k := by omega
      exact br_t (nI_le (Nat.le_refl _) (by omega)) (hp true ⟨fun _ => hi, fun _ => rfl⟩)
    | succ d ih =>
      intro i h hi
      refine br_f (nI_ge (by omega) (by omega)) (nm_r (xw_2n1 i) ?_)
      refine yw_power Y h1 rfl (by omega) (by omega) ?_
      refine yw_power Y h2 rfl (by omega) (by omega) ?_
      refine yw_power Y h3 rfl (by omega) (by omega) ?_
      refine yw_power Y h4 rfl (by omega) (by omega) ?_
      refine nm_r (e' := cv (p ^ (2 * i + 1) + q ^ (2 * i + 1) + u ^ (2 * i + 1) + v ^ (2 * i + 1))) ?_ ⟨vp_in_nI (by omega) (by decide), ?_⟩
      · rw [fq_xor F, fq_xor F, fq_xor F]
      · rw [nI_clamp (by omega)]
        refine br_c (fun z => nm_r (nI_1 i) (ih (i + 1) (by omega) (fun i' hi' => ?_))) (fun z => hp false ⟨fun z => absurd z (by decide), fun w => absurd (congrArg cv (w i (by omega))) z⟩)
        by_cases e : i' = i
        · rw [e]
          exact F.1 _ _ z
        · exact hi i' (by omega)
  exact ⟨_, key k 0 (by omega) (fun i' hi' => by omega)⟩
theorem yw_append {R : Type} [Lean.Grind.CommRing R] [Lean.Grind.IsCharP R 2] [DecidableEq R] {cv : R → Int32} {el : Nat → R} {iv : R → R} {m N : Nat} (F : fq_F cv el iv m N) {post : SY → Prop} {a : R} {x : Int32} (hx : x = cv a) {L : Nat → R} {c : Nat} (hc : c < 4) (hp : ∀ (c' : Nat) (L' : Nat → R), c' ≤ c + 1 → sg_l L' 0 c' = sg_l L 0 c ++ (if a = 0 then [] else [a]) → post (f_m, f_t, f_s, f_n, f_poly, nI c', a_member, a_combined, ra_cf cv L')) : wpY_append post (f_m, f_t, f_s, f_n, f_poly, nI c, a_member, a_combined, ra_cf cv L) x := by
  subst hx
  by_cases z : a = 0
  · refine br_t ((fq_nz F).mpr z) (hp c L (by omega) ?_)
    rw [if_pos z, List.append_nil]
  · refine br_f (fun q => z ((fq_nz F).mp q)) (br_f (nI_pos (by omega)) (br_f (nI_ge (b := 4) hc (by decide)) ⟨vp_in_nI hc (by decide), nm_r (e' := ra_cf cv (ra_ur L c a)) ?_ (nm_r (nI_1 c) (hp (c + 1) _ (Nat.le_refl _) ?_))⟩))
    · rw [nI_clamp (by omega), ra_cfu]
    · rw [if_neg z, sg_app, sg_cong (L' := L) c 0 0 (fun i hi => ra_urn (by omega)), Nat.zero_add]
      show _ ++ [ra_ur L c a c] = _
      rw [ra_urs]
end
end
section
/-! ===== the reference's decode ===== -/
def yd_st (u : Nat) : Nat := if u = 0 then 0 else u + 1
def yd_F {R : Type} [Lean.Grind.CommRing R] (el : Nat → R) (W : Nat → R) (k p q u v : Nat) : Prop := ∀ i, i < k → el p ^ (2 * i + 1) + el q ^ (2 * i + 1) + el u ^ (2 * i + 1) + el v ^ (2 * i + 1) = W i
def yd_nz {R : Type} [Lean.Grind.CommRing R] [Lean.Grind.IsCharP R 2] [DecidableEq R] (l : List R) : List R := l.filter (fun a => decide (¬ a = 0))
theorem yd_nzc {R : Type} [Lean.Grind.CommRing R] [Lean.Grind.IsCharP R 2] [DecidableEq R] (a : R) (l : List R) : yd_nz (a :: l) = (if a = 0 then [] else [a]) ++ yd_nz l := by
  unfold yd_nz
  rw [List.filter_cons]
  by_cases h : a = 0
  · simp [h]
  · simp [h]
section
variable {f_m f_t f_s f_n f_poly f_result : Int32} {a_member a_combined a_list : Nat → Int32}
/-- what the search owes at a hit -/
def yd_S {R : Type} [Lean.Grind.CommRing R] [Lean.Grind.IsCharP R 2] [DecidableEq R] (cv : R → Int32) (el : Nat → R) (post : Int32 → SY → Prop) (f_m f_t f_s f_n f_poly : Int32) (a_member : Nat → Int32) (a_combined : Nat → Int32) (p q u v : Nat) : Prop :=
  ∀ (c : Nat) (L : Nat → R), c ≤ 4 → sg_l L 0 c = yd_nz [el p, el q, el u, el v] → post (nI c) (f_m, f_t, f_s, f_n, f_poly, nI c, a_member, a_combined, ra_cf cv L)
theorem yd_126 {R : Type} [Lean.Grind.CommRing R] [Lean.Grind.IsCharP R 2] [DecidableEq R] {cv : R → Int32} {el : Nat → R} {iv : R → R} {m N : Nat} (F : fq_F cv el iv m N) (Y : fq_Y cv f_m f_poly) {post : Int32 → SY → Prop} {J62 J83 J104 : Int32 → Prop} {W L : Nat → R} {x2 x3 x4 : Int32} {k p q u : Nat} (hk : k ≤ 4) (p1 : p ≤ N) (q1 : q ≤ N) (u1 : u ≤ N) : ∀ (d v0 : Nat), v0 + d = N + 1 → (∀ v, v0 ≤ v → v ≤ N → yd_F el W k p q u v → yd_S cv el post f_m f_t f_s (nI N) f_poly a_member (ra_cf cv W) p q u v) → ((∀ v, v0 ≤ v → v ≤ N → ¬ yd_F el W k p q u v) → J104 (nI (u + 1))) → wY_decode_126 post J62 J83 J104 (nI k) x2 x3 x4 (nI p) (nI q) (nI u) f_m f_t f_s (nI N) f_poly f_result a_member (ra_cf cv W) (ra_cf cv L) (d + 1) (nI v0) := by
  have hm := F.2.2.2.2.2.2.2.2.2.1
  have hc := F.2.2.2.2.1
  intro d
  induction d with
  | zero =>
    intro v0 h _ hF
    exact br_t (nI_lt (by omega) (by omega)) (nm_r (nI_1 u) (hF (fun v a b => by omega)))
  | succ d ih =>
    intro v0 h hS hF
    refine br_f (nI_nlt (by omega) (by omega)) ?_
    refine yw_fits F Y (hc p p1).symm (hc q q1).symm (hc u u1).symm (hc v0 (by omega)).symm hk (fun b hb => ?_)
    cases b with
    | false =>
      refine br_t rfl (nm_r (nI_1 v0) (ih (v0 + 1) (by omega) (fun v a c => hS v (by omega) c) (fun hn => hF (fun v a c z => ?_))))
      by_cases e : v = v0
      · subst e
        exact absurd (hb.mpr z) (by decide)
      · exact hn v (by omega) c z
    | true =>
      refine br_f (by decide) ?_
      have hS' := hS v0 (Nat.le_refl _) (by omega) (hb.mp rfl)
      refine yw_append F (hc p p1).symm (c := 0) (L := L) (by omega) (fun c1 L1 b1 e1 => ?_)
      refine yw_append F (hc q q1).symm (by omega) (fun c2 L2 b2 e2 => ?_)
      refine yw_append F (hc u u1).symm (by omega) (fun c3 L3 b3 e3 => ?_)
      refine yw_append F (hc v0 (by omega)).symm (by omega) (fun c4 L4 b4 e4 => ?_)
      refine hS' c4 L4 (by omega) ?_
      rw [e4, e3, e2, e1, yd_nzc, yd_nzc, yd_nzc, yd_nzc]
      show (([] ++ _) ++ _) ++ _ ++ _ = _ ++ (_ ++ (_ ++ (_ ++ [])))
      rw [List.nil_append, List.append_nil, List.append_assoc, List.append_assoc]
theorem yd_104 {R : Type} [Lean.Grind.CommRing R] [Lean.Grind.IsCharP R 2] [DecidableEq R] {cv : R → Int32} {el : Nat → R} {iv : R → R} {m N : Nat} (F : fq_F cv el iv m N) (Y : fq_Y cv f_m f_poly) {post : Int32 → SY → Prop} {J62 J83 : Int32 → Prop} {W L : Nat → R} {x2 x3 : Int32} {k p q uM : Nat} (hk : k ≤ 4) (p1 : p ≤ N) (q1 : q ≤ N) (hM : uM ≤ N) : ∀ (d u0 : Nat), u0 + d = uM + 1 → (∀ u v, u0 ≤ u → u ≤ uM → yd_st u ≤ v → v ≤ N → yd_F el W k p q u v → yd_S cv el post f_m f_t f_s (nI N) f_poly a_member (ra_cf cv W) p q u v) → ((∀ u v, u0 ≤ u → u ≤ uM → yd_st u ≤ v → v ≤ N → ¬ yd_F el W k p q u v) → J83 (nI (q + 1))) → wY_decode_104 post J62 J83 (nI k) x2 x3 (nI uM) (nI p) (nI q) f_m f_t f_s (nI N) f_poly f_result a_member (ra_cf cv W) (ra_cf cv L) (d + 1) (nI u0) := by
  have hm := F.2.2.2.2.2.2.2.2.2.1
  intro d
  induction d with
  | zero =>
    intro u0 h _ hF
    exact br_t (nI_lt (by omega) (by omega)) (nm_r (nI_1 q) (hF (fun u v a b => by omega)))
  | succ d ih =>
    intro u0 h hS hF
    refine br_f (nI_nlt (by omega) (by omega)) ?_
    have nx : (∀ v, yd_st u0 ≤ v → v ≤ N → ¬ yd_F el W k p q u0 v) → wY_decode_104 post J62 J83 (nI k) x2 x3 (nI uM) (nI p) (nI q) f_m f_t f_s (nI N) f_poly f_result a_member (ra_cf cv W) (ra_cf cv L) (d + 1) (nI (u0 + 1)) := fun hn =>
      ih (u0 + 1) (by omega) (fun u v a b c e => hS u v (by omega) b c e) (fun hn2 => hF (fun u v a b c e z => by
        by_cases w : u = u0
        · subst w
          exact hn v c e z
        · exact hn2 u v (by omega) b c e z))
    by_cases z : u0 = 0
    · subst z
      exact br_t rfl ⟨N + 2, yd_126 F Y hk p1 q1 (by omega) (N + 1) 0 (by omega) (fun v a b => hS 0 v (by omega) (by omega) a b) nx⟩
    · have e : yd_st u0 = u0 + 1 := if_neg z
      refine br_f (nI_ne0 (by omega) (by omega)) (nm_r (nI_1 u0) ⟨N - u0 + 1, yd_126 F Y hk p1 q1 (by omega) (N - u0) (u0 + 1) (by omega) (fun v a b => hS u0 v (by omega) (by omega) (by omega) b) (fun hn => nx (fun v a b => hn v (by omega) b))⟩)
theorem yd_83 {R : Type} [Lean.Grind.CommRing R] [Lean.Grind.IsCharP R 2] [DecidableEq R] {cv : R → Int32} {el : Nat → R} {iv : R → R} {m N : Nat} (F : fq_F cv el iv m N) (Y : fq_Y cv f_m f_poly) {post : Int32 → SY → Prop} {J62 : Int32 → Prop} {W L : Nat → R} {x2 : Int32} {k p qM uM : Nat} (hk : k ≤ 4) (p1 : p ≤ N) (hM : uM ≤ N) (hQ : qM ≤ N) : ∀ (d q0 : Nat), q0 + d = qM + 1 → (∀ q u v, q0 ≤ q → q ≤ qM → yd_st q ≤ u → u ≤ uM → yd_st u ≤ v → v ≤ N → yd_F el W k p q u v → yd_S cv el post f_m f_t f_s (nI N) f_poly a_member (ra_cf cv W) p q u v) → ((∀ q u v, q0 ≤ q → q ≤ qM → yd_st q ≤ u → u ≤ uM → yd_st u ≤ v → v ≤ N → ¬ yd_F el W k p q u v) → J62 (nI (p + 1))) → wY_decode_83 post J62 (nI k) x2 (nI qM) (nI uM) (nI p) f_m f_t f_s (nI N) f_poly f_result a_member (ra_cf cv W) (ra_cf cv L) (d + 1) (nI q0) := by
  have hm := F.2.2.2.2.2.2.2.2.2.1
  intro d
  induction d with
  | zero =>
    intro q0 h _ hF
    exact br_t (nI_lt (by omega) (by omega)) (nm_r (nI_1 p) (hF (fun q u v a b => by omega)))
  | succ d ih =>
    intro q0 h hS hF
    refine br_f (nI_nlt (by omega) (by omega)) ?_
    have nx : (∀ u v, yd_st q0 ≤ u → u ≤ uM → yd_st u ≤ v → v ≤ N → ¬ yd_F el W k p q0 u v) → wY_decode_83 post J62 (nI k) x2 (nI qM) (nI uM) (nI p) f_m f_t f_s (nI N) f_poly f_result a_member (ra_cf cv W) (ra_cf cv L) (d + 1) (nI (q0 + 1)) := fun hn =>
      ih (q0 + 1) (by omega) (fun q u v a b c e f g => hS q u v (by omega) b c e f g) (fun hn2 => hF (fun q u v a b c e f g z => by
        by_cases w : q = q0
        · subst w
          exact hn u v c e f g z
        · exact hn2 q u v (by omega) b c e f g z))
    by_cases z : q0 = 0
    · subst z
      exact br_t rfl ⟨uM + 2, yd_104 F Y hk p1 (by omega) hM (uM + 1) 0 (by omega) (fun u v a b => hS 0 u v (by omega) (by omega) a b) nx⟩
    · have e : yd_st q0 = q0 + 1 := if_neg z
      by_cases g : q0 + 1 ≤ uM + 1
      · refine br_f (nI_ne0 (by omega) (by omega)) (nm_r (nI_1 q0) ⟨uM - q0 + 1, yd_104 F Y hk p1 (by omega) hM (uM - q0) (q0 + 1) (by omega) (fun u v a b => hS q0 u v (by omega) (by omega) (by omega) b) (fun hn => nx (fun u v a b => hn u v (by omega) b))⟩)
      · refine br_f (nI_ne0 (by omega) (by omega)) (nm_r (nI_1 q0) ⟨1, ?_⟩)
        exact br_t (nI_lt (by omega) (by omega)) (nm_r (nI_1 q0) (nx (fun u v a b => by omega)))
theorem yd_62 {R : Type} [Lean.Grind.CommRing R] [Lean.Grind.IsCharP R 2] [DecidableEq R] {cv : R → Int32} {el : Nat → R} {iv : R → R} {m N : Nat} (F : fq_F cv el iv m N) (Y : fq_Y cv f_m f_poly) {post : Int32 → SY → Prop} {W L : Nat → R} {k pM qM uM : Nat} (hk : k ≤ 4) (hM : uM ≤ N) (hQ : qM ≤ N) (hP : pM ≤ N) : ∀ (d p0 : Nat), p0 + d = pM + 1 → (∀ p q u v, p0 ≤ p → p ≤ pM → yd_st p ≤ q → q ≤ qM → yd_st q ≤ u → u ≤ uM → yd_st u ≤ v → v ≤ N → yd_F el W k p q u v → yd_S cv el post f_m f_t f_s (nI N) f_poly a_member (ra_cf cv W) p q u v) → ((∀ p q u v, p0 ≤ p → p ≤ pM → yd_st p ≤ q → q ≤ qM → yd_st q ≤ u → u ≤ uM → yd_st u ≤ v → v ≤ N → ¬ yd_F el W k p q u v) → post 107 (f_m, f_t, f_s, nI N, f_poly, 107, a_member, ra_cf cv W, ra_cf cv L)) → wY_decode_62 post (nI k) (nI pM) (nI qM) (nI uM) f_m f_t f_s (nI N) f_poly f_result a_member (ra_cf cv W) (ra_cf cv L) (d + 1) (nI p0) := by
  have hm := F.2.2.2.2.2.2.2.2.2.1
  intro d
  induction d with
  | zero =>
    intro p0 h _ hF
    exact br_t (nI_lt (by omega) (by omega)) (hF (fun p q u v a b => by omega))
  | succ d ih =>
    intro p0 h hS hF
    refine br_f (nI_nlt (by omega) (by omega)) ?_
    have nx : (∀ q u v, yd_st p0 ≤ q → q ≤ qM → yd_st q ≤ u → u ≤ uM → yd_st u ≤ v → v ≤ N → ¬ yd_F el W k p0 q u v) → wY_decode_62 post (nI k) (nI pM) (nI qM) (nI uM) f_m f_t f_s (nI N) f_poly f_result a_member (ra_cf cv W) (ra_cf cv L) (d + 1) (nI (p0 + 1)) := fun hn =>
      ih (p0 + 1) (by omega) (fun p q u v a b c e f g i j => hS p q u v (by omega) b c e f g i j) (fun hn2 => hF (fun p q u v a b c e f g i j z => by
        by_cases w : p = p0
        · subst w
          exact hn q u v c e f g i j z
        · exact hn2 p q u v (by omega) b c e f g i j z))
    by_cases z : p0 = 0
    · subst z
      exact br_t rfl ⟨qM + 2, yd_83 F Y hk (by omega) hM hQ (qM + 1) 0 (by omega) (fun q u v a b => hS 0 q u v (by omega) (by omega) a b) nx⟩
    · have e : yd_st p0 = p0 + 1 := if_neg z
      by_cases g : p0 + 1 ≤ qM + 1
      · refine br_f (nI_ne0 (by omega) (by omega)) (nm_r (nI_1 p0) ⟨qM - p0 + 1, yd_83 F Y hk (by omega) hM hQ (qM - p0) (p0 + 1) (by omega) (fun q u v a b => hS p0 q u v (by omega) (by omega) (by omega) b) (fun hn => nx (fun q u v a b => hn q u v (by omega) b))⟩)
      · refine br_f (nI_ne0 (by omega) (by omega)) (nm_r (nI_1 p0) ⟨1, ?_⟩)
        exact br_t (nI_lt (by omega) (by omega)) (nm_r (nI_1 p0) (nx (fun q u v a b => by omega)))
def yd_M (N k c : Nat) : Nat := if k < c then 0 else N
def yd_V (N k p q u v : Nat) : Prop := p ≤ yd_M N k 4 ∧ yd_st p ≤ q ∧ q ≤ yd_M N k 3 ∧ yd_st q ≤ u ∧ u ≤ yd_M N k 2 ∧ yd_st u ≤ v ∧ v ≤ N
theorem yd_Ml (N k c : Nat) : yd_M N k c ≤ N := by
  unfold yd_M
  split
  · omega
  · omega
theorem yw_decode {R : Type} [Lean.Grind.CommRing R] [Lean.Grind.IsCharP R 2] [DecidableEq R] {cv : R → Int32} {el : Nat → R} {iv : R → R} {m N : Nat} (F : fq_F cv el iv m N) (Y : fq_Y cv f_m f_poly) {post : Int32 → SY → Prop} {W L : Nat → R} {k t : Nat} (hk : 1 ≤ k) (hkt : k ≤ t) (ht : t ≤ 4) (hS : ∀ p q u v, yd_V N k p q u v → yd_F el W k p q u v → yd_S cv el post f_m (nI t) f_s (nI N) f_poly a_member (ra_cf cv W) p q u v) (hF : (∀ p q u v, yd_V N k p q u v → ¬ yd_F el W k p q u v) → post 107 (f_m, nI t, f_s, nI N, f_poly, 107, a_member, ra_cf cv W, ra_cf cv L)) : wpY_decode post (f_m, nI t, f_s, nI N, f_poly, f_result, a_member, ra_cf cv W, ra_cf cv L) (nI k) := by
  have key : ∀ pM qM uM, pM = yd_M N k 4 → qM = yd_M N k 3 → uM = yd_M N k 2 → ∃ n, wY_decode_62 post (nI k) (nI pM) (nI qM) (nI uM) f_m (nI t) f_s (nI N) f_poly f_result a_member (ra_cf cv W) (ra_cf cv L) n 0 := by
    intro pM qM uM e1 e2 e3
    subst e1 e2 e3
    exact ⟨_, yd_62 F Y (by omega) (yd_Ml _ _ _) (yd_Ml _ _ _) (yd_Ml _ _ _) (yd_M N k 4 + 1) 0 (by omega) (fun p q u v _ a b c d e f g => hS p q u v ⟨a, b, c, d, e, f, g⟩) (fun hn => hF (fun p q u v h => hn p q u v (Nat.zero_le _) h.1 h.2.1 h.2.2.1 h.2.2.2.1 h.2.2.2.2.1 h.2.2.2.2.2.1 h.2.2.2.2.2.2))⟩
  have M4 : k < 4 → yd_M N k 4 = 0 := fun h => if_pos h
  have M4' : ¬ k < 4 → yd_M N k 4 = N := fun h => if_neg h
  have M3 : k < 3 → yd_M N k 3 = 0 := fun h => if_pos h
  have M3' : ¬ k < 3 → yd_M N k 3 = N := fun h => if_neg h
  have M2 : k < 2 → yd_M N k 2 = 0 := fun h => if_pos h
  have M2' : ¬ k < 2 → yd_M N k 2 = N := fun h => if_neg h
  have k43 : ∀ pM qM (x2 x3 : Int32), x2 = nI pM → x3 = nI qM → pM = yd_M N k 4 → qM = yd_M N k 3 → wY_decode_43 post (nI k) x2 x3 f_m (nI t) f_s (nI N) f_poly f_result a_member (ra_cf cv W) (ra_cf cv L) := by
    intro pM qM x2 x3 e1 e2 h1 h2
    subst e1 e2
    unfold wY_decode_43
    exact pk_lt k 2 (fun c => key pM qM 0 h1 h2 (M2 c).symm) (fun c => key pM qM N h1 h2 (M2' (by omega)).symm)
  have k29 : ∀ pM (x2 : Int32), x2 = nI pM → pM = yd_M N k 4 → wY_decode_29 post (nI k) x2 f_m (nI t) f_s (nI N) f_poly f_result a_member (ra_cf cv W) (ra_cf cv L) := by
    intro pM x2 e1 h1
    subst e1
    unfold wY_decode_29
    exact pk_lt k 3 (fun c => k43 pM 0 _ _ rfl rfl h1 (M3 c).symm) (fun c => k43 pM N _ _ rfl rfl h1 (M3' (by omega)).symm)
  refine br_f (nI_nlt (b := 1) hk (by omega)) (br_t (nI_le hkt (by omega)) ?_)
  exact pk_lt k 4 (fun c => k29 0 _ rfl (M4 c).symm) (fun c => k29 N _ rfl (M4' (by omega)).symm)
end
end
section
/-! ===== sets of at most four elements ===== -/
theorem fq_el0 {R : Type} [Lean.Grind.CommRing R] {cv : R → Int32} {el : Nat → R} {iv : R → R} {m N : Nat} (F : fq_F cv el iv m N) : el 0 = 0 := by
  apply F.1
  rw [F.2.2.2.2.1 0 (Nat.zero_le _), F.2.1]
  rfl
theorem fq_eln {R : Type} [Lean.Grind.CommRing R] {cv : R → Int32} {el : Nat → R} {iv : R → R} {m N : Nat} (F : fq_F cv el iv m N) {n : Nat} (hn : n ≤ N) (h : n ≠ 0) : el n ≠ 0 := by
  intro z
  have hm := F.2.2.2.2.2.2.2.2.2.1
  have e := F.2.2.2.2.1 n hn
  rw [z, F.2.1] at e
  exact nI_ne0 (n := n) (by omega) (by omega) e.symm
theorem fq_ell {R : Type} [Lean.Grind.CommRing R] {cv : R → Int32} {el : Nat → R} {iv : R → R} {m N : Nat} (F : fq_F cv el iv m N) {a b : Nat} (ha : a ≤ N) (hb : b ≤ N) : cv (el a) < cv (el b) ↔ a < b := by
  have hm := F.2.2.2.2.2.2.2.2.2.1
  rw [F.2.2.2.2.1 a ha, F.2.2.2.2.1 b hb]
  exact nI_ltI (by omega) (by omega)
theorem dc_nd {R : Type} {cv : R → Int32} {E : List R} (h : E.Pairwise (fun x y => cv x < cv y)) : E.Nodup :=
  h.imp (fun {a b} z e => by rw [e] at z; exact Int32.lt_irrefl z)
theorem dc_of {R : Type} [Lean.Grind.CommRing R] {cv : R → Int32} {el : Nat → R} {iv : R → R} {m N : Nat} (F : fq_F cv el iv m N) {W : Nat → R} {k : Nat} {l : List Nat} (h1 : l.Pairwise (fun a b => a < b)) (h2 : ∀ x, x ∈ l → 1 ≤ x ∧ x ≤ N) (h3 : l.length ≤ k) (h4 : ∀ i, i < k → ra_ls (l.map el) (fun x => x ^ (2 * i + 1)) = W i) : dc_N cv W k (l.map el) := by
  have pw : (l.map el).Pairwise (fun x y => cv x < cv y) := by
    rw [List.pairwise_map]
    exact h1.imp_of_mem (fun ha hb z => (fq_ell F (h2 _ ha).2 (h2 _ hb).2).mpr z)
  refine ⟨dc_nd pw, fun x hx => ?_, by rw [List.length_map]; exact h3, h4, pw⟩
  obtain ⟨n, hn, rfl⟩ := List.mem_map.mp hx
  exact fq_eln F (h2 n hn).2 (by have := (h2 n hn).1; omega)
theorem dc_tup {R : Type} [Lean.Grind.CommRing R] [Lean.Grind.IsCharP R 2] [DecidableEq R] {cv : R → Int32} {el : Nat → R} {iv : R → R} {m N : Nat} (F : fq_F cv el iv m N) {W : Nat → R} {k p q u v : Nat} (hk : 1 ≤ k) (hV : yd_V N k p q u v) (hF : yd_F el W k p q u v) : dc_N cv W k (yd_nz [el p, el q, el u, el v]) := by
  obtain ⟨v1, v2, v3, v4, v5, v6, v7⟩ := hV
  have e0 := fq_el0 F
  have z0 : ∀ i, (0 : R) ^ (2 * i + 1) = 0 := fun i => ra_p00 (2 * i)
  have hst : ∀ x, x ≠ 0 → yd_st x = x + 1 := fun x hx => if_neg hx
  have hM : ∀ c, k < c → yd_M N k c = 0 := fun c h => if_pos h
  have l4 := yd_Ml N k 4
  have l3 := yd_Ml N k 3
  have l2 := yd_Ml N k 2
  have nzl : ∀ a l, a ≤ N → a ≠ 0 → yd_nz (el a :: l) = el a :: yd_nz l := fun a l h1 h2 => by
    rw [yd_nzc, if_neg (fq_eln F h1 h2)]
    rfl
  have nz0 : ∀ l, yd_nz (el 0 :: l) = yd_nz l := fun l => by
    rw [yd_nzc, if_pos e0]
    rfl
  have nzn : yd_nz ([] : List R) = [] := rfl
  by_cases cp : p = 0
  · subst cp
    by_cases cq : q = 0
    · subst cq
      by_cases cu : u = 0
      · subst cu
        by_cases cv' : v = 0
        · subst cv'
          rw [nz0, nz0, nz0, nz0, nzn]
          refine dc_of F (l := []) List.Pairwise.nil (fun x hx => absurd hx (by simp)) (by simp) (fun i hi => ?_)
          rw [← hF i hi, e0, z0]
          show (0 : R) = _
          grind
        · rw [nz0, nz0, nz0, nzl v _ v7 cv', nzn]
          refine dc_of F (l := [v]) (by simp) (fun x hx => by simp at hx; omega) (by simp; omega) (fun i hi => ?_)
          rw [← hF i hi, e0, z0]
          show el v ^ (2 * i + 1) + 0 = _
          grind
      · have := hst u cu
        have k2 : ¬ k < 2 := fun z => by have := hM 2 z; omega
        rw [nz0, nz0, nzl u _ (by omega) cu, nzl v _ v7 (by omega), nzn]
        refine dc_of F (l := [u, v]) (by simp; omega) (fun x hx => by simp at hx; omega) (by simp; omega) (fun i hi => ?_)
        rw [← hF i hi, e0, z0]
        show el u ^ (2 * i + 1) + (el v ^ (2 * i + 1) + 0) = _
        grind
    · have := hst q cq
      have := hst u (by omega)
      have k2 : ¬ k < 3 := fun z => by have := hM 3 z; omega
      rw [nz0, nzl q _ (by omega) cq, nzl u _ (by omega) (by omega), nzl v _ v7 (by omega), nzn]
      refine dc_of F (l := [q, u, v]) (by simp; omega) (fun x hx => by simp at hx; omega) (by simp; omega) (fun i hi => ?_)
      rw [← hF i hi, e0, z0]
      show el q ^ (2 * i + 1) + (el u ^ (2 * i + 1) + (el v ^ (2 * i + 1) + 0)) = _
      grind
  · have := hst p cp
    have := hst q (by omega)
    have := hst u (by omega)
    have k2 : ¬ k < 4 := fun z => by have := hM 4 z; omega
    rw [nzl p _ (by omega) cp, nzl q _ (by omega) (by omega), nzl u _ (by omega) (by omega), nzl v _ v7 (by omega), nzn]
    refine dc_of F (l := [p, q, u, v]) (by simp; omega) (fun x hx => by simp at hx; omega) (by simp; omega) (fun i hi => ?_)
    rw [← hF i hi]
    show el p ^ (2 * i + 1) + (el q ^ (2 * i + 1) + (el u ^ (2 * i + 1) + (el v ^ (2 * i + 1) + 0))) = _
    grind
theorem dc_find {R : Type} [Lean.Grind.CommRing R] {cv : R → Int32} {el : Nat → R} {iv : R → R} {m N : Nat} (F : fq_F cv el iv m N) {W : Nat → R} {k : Nat} (hk : 1 ≤ k) (hk4 : k ≤ 4) {E : List R} (h : dc_N cv W k E) : ∃ p q u v, yd_V N k p q u v ∧ yd_F el W k p q u v := by
  obtain ⟨_, h0, hl, hs, hp⟩ := h
  have e0 := fq_el0 F
  have z0 : ∀ i, (0 : R) ^ (2 * i + 1) = 0 := fun i => ra_p00 (2 * i)
  have hst : ∀ x, x ≠ 0 → yd_st x = x + 1 := fun x hx => if_neg hx
  have hst0 : yd_st 0 = 0 := rfl
  have hM : ∀ c, ¬ k < c → yd_M N k c = N := fun c h => if_neg h
  have nn : ∀ a, a ∈ E → ∃ n, n ≤ N ∧ n ≠ 0 ∧ a = el n := fun a ha => by
    obtain ⟨n, a1, a2, _⟩ := fq_nat F a
    exact ⟨n, a1, fun z => h0 a ha (by rw [a2, z, e0]), a2⟩
  rcases E with _ | ⟨a, _ | ⟨b, _ | ⟨c, _ | ⟨d, _ | ⟨e, E⟩⟩⟩⟩⟩
  · refine ⟨0, 0, 0, 0, ⟨Nat.zero_le _, Nat.le_refl _, Nat.zero_le _, Nat.le_refl _, Nat.zero_le _, Nat.le_refl _, Nat.zero_le _⟩, fun i hi => ?_⟩
    rw [← hs i hi, e0, z0]
    show _ = (0 : R)
    grind
  · obtain ⟨v, v1, v2, rfl⟩ := nn a (by simp)
    refine ⟨0, 0, 0, v, ⟨Nat.zero_le _, Nat.le_refl _, Nat.zero_le _, Nat.le_refl _, Nat.zero_le _, Nat.zero_le _, v1⟩, fun i hi => ?_⟩
    rw [← hs i hi, e0, z0]
    show _ = el v ^ (2 * i + 1) + 0
    grind
  · obtain ⟨u, u1, u2, rfl⟩ := nn a (by simp)
    obtain ⟨v, v1, v2, rfl⟩ := nn b (by simp)
    simp at hl
    simp at hp
    rw [fq_ell F u1 v1] at hp
    have := hst u u2
    have := hM 2 (by omega)
    refine ⟨0, 0, u, v, ⟨Nat.zero_le _, Nat.le_refl _, Nat.zero_le _, Nat.zero_le _, by omega, by omega, v1⟩, fun i hi => ?_⟩
    rw [← hs i hi, e0, z0]
    show _ = el u ^ (2 * i + 1) + (el v ^ (2 * i + 1) + 0)
    grind
  · obtain ⟨q, q1, q2, rfl⟩ := nn a (by simp)
    obtain ⟨u, u1, u2, rfl⟩ := nn b (by simp)
    obtain ⟨v, v1, v2, rfl⟩ := nn c (by simp)
    simp at hl
    simp at hp
    rw [fq_ell F q1 u1, fq_ell F q1 v1, fq_ell F u1 v1] at hp
    have := hst u u2
    have := hst q q2
    have := hM 2 (by omega)
    have := hM 3 (by omega)
    refine ⟨0, q, u, v, ⟨Nat.zero_le _, Nat.zero_le _, by omega, by omega, by omega, by omega, v1⟩, fun i hi => ?_⟩
    rw [← hs i hi, e0, z0]
    show _ = el q ^ (2 * i + 1) + (el u ^ (2 * i + 1) + (el v ^ (2 * i + 1) + 0))
    grind
  · obtain ⟨p, p1, p2, rfl⟩ := nn a (by simp)
    obtain ⟨q, q1, q2, rfl⟩ := nn b (by simp)
    obtain ⟨u, u1, u2, rfl⟩ := nn c (by simp)
    obtain ⟨v, v1, v2, rfl⟩ := nn d (by simp)
    simp at hl
    simp at hp
    rw [fq_ell F p1 q1, fq_ell F p1 u1, fq_ell F p1 v1, fq_ell F q1 u1, fq_ell F q1 v1, fq_ell F u1 v1] at hp
    have := hst p p2
    have := hst u u2
    have := hst q q2
    have := hM 2 (by omega)
    have := hM 3 (by omega)
    have := hM 4 (by omega)
    refine ⟨p, q, u, v, ⟨by omega, by omega, by omega, by omega, by omega, by omega, v1⟩, fun i hi => ?_⟩
    rw [← hs i hi]
    show _ = el p ^ (2 * i + 1) + (el q ^ (2 * i + 1) + (el u ^ (2 * i + 1) + (el v ^ (2 * i + 1) + 0)))
    grind
  · simp at hl
    omega
/-! a list with repeats and zeros has the words of a set -/
theorem dc_ins {R : Type} {cv : R → Int32} (hi : ∀ a b, cv a = cv b → a = b) (x : R) : ∀ E : List R, x ∉ E → E.Pairwise (fun x y => cv x < cv y) → ∃ E' : List R, E'.Perm (x :: E) ∧ E'.Pairwise (fun x y => cv x < cv y) := by
  intro E
  induction E with
  | nil => intro _ _; exact ⟨[x], List.Perm.refl _, by simp⟩
  | cons y E ih =>
    intro hx hp
    rw [List.pairwise_cons] at hp
    by_cases c : cv x < cv y
    · refine ⟨x :: y :: E, List.Perm.refl _, ?_⟩
      rw [List.pairwise_cons, List.pairwise_cons]
      refine ⟨fun z hz => ?_, hp⟩
      rcases List.mem_cons.mp hz with rfl | hz
      · exact c
      · exact Int32.lt_trans c (hp.1 z hz)
    · have c2 : cv y < cv x := by
        rcases Int32.lt_or_eq_of_le (Int32.not_lt.mp c) with w | w
        · exact w
        · exact absurd (hi _ _ w) (fun e => hx (by rw [e]; exact List.mem_cons_self))
      obtain ⟨E', q1, q2⟩ := ih (fun z => hx (List.mem_cons_of_mem _ z)) hp.2
      refine ⟨y :: E', (q1.cons y).trans (List.Perm.swap x y E), ?_⟩
      rw [List.pairwise_cons]
      refine ⟨fun z hz => ?_, q2⟩
      rcases List.mem_cons.mp (q1.mem_iff.mp hz) with rfl | hz
      · exact c2
      · exact hp.1 z hz
theorem dc_red {R : Type} [Lean.Grind.CommRing R] [Lean.Grind.IsCharP R 2] [DecidableEq R] {cv : R → Int32} (hi : ∀ a b, cv a = cv b → a = b) : ∀ xs : List R, ∃ E : List R, (∀ x, x ∈ E → x ≠ 0) ∧ E.length ≤ xs.length ∧ (∀ i, ra_ls E (fun x => x ^ (2 * i + 1)) = ra_ls xs (fun x => x ^ (2 * i + 1))) ∧ E.Pairwise (fun x y => cv x < cv y) := by
  intro xs
  induction xs with
  | nil => exact ⟨[], fun x hx => absurd hx (by simp), Nat.le_refl _, fun i => rfl, List.Pairwise.nil⟩
  | cons x xs ih =>
    obtain ⟨E, h1, h2, h3, h4⟩ := ih
    have hl : (x :: xs).length = xs.length + 1 := rfl
    have hs : ∀ i, ra_ls (x :: xs) (fun x => x ^ (2 * i + 1)) = x ^ (2 * i + 1) + ra_ls xs (fun x => x ^ (2 * i + 1)) := fun i => rfl
    by_cases z : x = 0
    · refine ⟨E, h1, by omega, fun i => ?_, h4⟩
      rw [hs, h3 i, z, ra_p00, ra_z]
    · by_cases c : x ∈ E
      · have q := List.perm_cons_erase c
        have ql := q.length_eq
        refine ⟨E.erase x, fun y hy => h1 y (List.mem_of_mem_erase hy), ?_, fun i => ?_, h4.sublist (List.erase_sublist)⟩
        · have e : (x :: E.erase x).length = (E.erase x).length + 1 := rfl
          omega
        · rw [hs, ← h3 i, ra_lsP q]
          show _ = x ^ (2 * i + 1) + (x ^ (2 * i + 1) + ra_ls (E.erase x) (fun x => x ^ (2 * i + 1)))
          grind
      · obtain ⟨E', q1, q2⟩ := dc_ins hi x E c h4
        refine ⟨E', fun y hy => ?_, ?_, fun i => ?_, q2⟩
        · rcases List.mem_cons.mp (q1.mem_iff.mp hy) with rfl | hy
          · exact z
          · exact h1 y hy
        · rw [q1.length_eq]
          show E.length + 1 ≤ xs.length + 1
          omega
        · rw [ra_lsP q1, hs, ← h3 i]
          rfl
theorem dc_ex {R : Type} [Lean.Grind.CommRing R] [Lean.Grind.IsCharP R 2] [DecidableEq R] {cv : R → Int32} (hi : ∀ a b, cv a = cv b → a = b) {W : Nat → R} {k : Nat} {xs : List R} (h1 : xs.length ≤ k) (h2 : ∀ i, i < k → ra_ls xs (fun x => x ^ (2 * i + 1)) = W i) : ∃ E, dc_N cv W k E := by
  obtain ⟨E, a, b, c, d⟩ := dc_red hi xs
  exact ⟨E, dc_nd d, a, by omega, fun i hi => by rw [c i]; exact h2 i hi, d⟩
end
section
/-! ===== members, sizes, sketches ===== -/
theorem xw_b1 : ∀ i, i < 32 → bt 1 i = decide (i = 0) := by decide +kernel
theorem xw_bit (a : Int32) {x : Nat} (hx : x < 32) : ((a.toUInt32 >>> ((nI x).toUInt32 &&& Int32.toUInt32 31)).toInt32) &&& 1 = if bt a x then 1 else 0 := by
  apply b_ext
  intro i hi
  rw [b_and, b_ushr x hx, xw_b1 i hi]
  by_cases e : i = 0
  · subst e
    rw [Nat.add_zero]
    cases h : bt a x
    · rfl
    · rfl
  · rw [decide_eq_false e, Bool.and_false]
    cases h : bt a x
    · exact (b_0 i).symm
    · exact ((xw_b1 i hi).trans (decide_eq_false e)).symm
theorem xw_btg (a : Int32) {x y : Nat} (hx : x < 32) (hy : y < 32) : bt (a ^^^ ((1 : Int32) <<< (nI x &&& 31))) y = (bt a y ^^ decide (y = x)) := by
  rw [b_xor, b_shl x hx 1 hy]
  congr 1
  by_cases h : x ≤ y
  · rw [xw_b1 (y - x) (by omega), decide_eq_true h, Bool.true_and]
    exact decide_eq_decide.mpr (by omega)
  · rw [decide_eq_false h, Bool.false_and]
    exact (decide_eq_false (by omega)).symm
def rl_tg (M : Nat → Bool) (k : Nat) : Nat → Bool := fun j => if j = k then !M j else M j
theorem rl_tgs (M : Nat → Bool) (k : Nat) : rl_tg M k k = !M k := if_pos rfl
theorem rl_tgn {M : Nat → Bool} {k j : Nat} (h : j ≠ k) : rl_tg M k j = M j := if_neg h
def rl_cnt (M : Nat → Bool) (d : Nat) : Nat → Nat
  | 0 => 0
  | c + 1 => rl_cnt M d c + (if M (d * 32 + (c + 1)) then 1 else 0)
theorem rl_cntle (M : Nat → Bool) (d : Nat) : ∀ c, rl_cnt M d c ≤ c := by
  intro c
  induction c with
  | zero => exact Nat.le_refl _
  | succ c ih =>
    show rl_cnt M d c + (if M (d * 32 + (c + 1)) then 1 else 0) ≤ c + 1
    split <;> omega
theorem rl_cntc {M M' : Nat → Bool} {d : Nat} : ∀ c, (∀ x, 1 ≤ x → x ≤ c → M (d * 32 + x) = M' (d * 32 + x)) → rl_cnt M d c = rl_cnt M' d c := by
  intro c
  induction c with
  | zero => intro _; rfl
  | succ c ih =>
    intro h
    show rl_cnt M d c + (if M (d * 32 + (c + 1)) then 1 else 0) = rl_cnt M' d c + (if M' (d * 32 + (c + 1)) then 1 else 0)
    rw [ih (fun x a b => h x a (by omega)), h (c + 1) (by omega) (by omega)]
theorem rl_cntt (M : Nat → Bool) (d x : Nat) (hx : 1 ≤ x) : ∀ c, x ≤ c → (M (d * 32 + x) = true → rl_cnt M d c = rl_cnt (rl_tg M (d * 32 + x)) d c + 1) ∧ (M (d * 32 + x) = false → rl_cnt (rl_tg M (d * 32 + x)) d c = rl_cnt M d c + 1) := by
  intro c
  induction c with
  | zero => intro h; omega
  | succ c ih =>
    intro h
    show (_ → rl_cnt M d c + (if M (d * 32 + (c + 1)) then 1 else 0) = rl_cnt (rl_tg M (d * 32 + x)) d c + (if rl_tg M (d * 32 + x) (d * 32 + (c + 1)) then 1 else 0) + 1) ∧ (_ → rl_cnt (rl_tg M (d * 32 + x)) d c + (if rl_tg M (d * 32 + x) (d * 32 + (c + 1)) then 1 else 0) = rl_cnt M d c + (if M (d * 32 + (c + 1)) then 1 else 0) + 1)
    by_cases e : x = c + 1
    · subst e
      rw [← rl_cntc (M := M) (M' := rl_tg M (d * 32 + (c + 1))) c (fun x a b => (rl_tgn (by omega)).symm), rl_tgs]
      constructor
      · intro z
        rw [z]
        rfl
      · intro z
        rw [z]
        rfl
    · rw [rl_tgn (by omega)]
      obtain ⟨i1, i2⟩ := ih (by omega)
      constructor
      · intro z
        rw [i1 z]
        omega
      · intro z
        rw [i2 z]
        omega
theorem rl_psc {R : Type} [Lean.Grind.CommRing R] {el : Nat → R} {M M' : Nat → Bool} {d i c : Nat} (h : ∀ x, 1 ≤ x → x ≤ c → M (d * 32 + x) = M' (d * 32 + x)) : yw_ps el M d i c = yw_ps el M' d i c :=
  ra_cong (fun x hx => by rw [h (x + 1) (by omega) (by omega)])
theorem rl_pst {R : Type} [Lean.Grind.CommRing R] [Lean.Grind.IsCharP R 2] {el : Nat → R} {M : Nat → Bool} {d x i : Nat} (hx : 1 ≤ x) : ∀ c, x ≤ c → yw_ps el (rl_tg M (d * 32 + x)) d i c = yw_ps el M d i c + el x ^ (2 * i + 1) := by
  intro c
  induction c with
  | zero => intro h; omega
  | succ c ih =>
    intro h
    show yw_ps el (rl_tg M (d * 32 + x)) d i c + (if rl_tg M (d * 32 + x) (d * 32 + (c + 1)) then el (c + 1) ^ (2 * i + 1) else 0) = yw_ps el M d i c + (if M (d * 32 + (c + 1)) then el (c + 1) ^ (2 * i + 1) else 0) + el x ^ (2 * i + 1)
    by_cases e : x = c + 1
    · subst e
      rw [rl_psc (M := rl_tg M (d * 32 + (c + 1))) (M' := M) (fun x a b => rl_tgn (by omega)), rl_tgs]
      cases hM : M (d * 32 + (c + 1))
      · show _ + el (c + 1) ^ (2 * i + 1) = _ + 0 + _
        rw [ra_0]
      · show _ + 0 = _ + el (c + 1) ^ (2 * i + 1) + _
        grind
    · rw [rl_tgn (by omega), ih (by omega)]
      grind
def rl_mem (M : Nat → Bool) (s N : Nat) (a_members : Nat → Int32) : Prop := ∀ d, d < s → ∀ x, 1 ≤ x → x ≤ N → bt (a_members d) x = M (d * 32 + x)
def rl_siz (M : Nat → Bool) (s N : Nat) (a_sizes : Nat → Int32) : Prop := ∀ d, d < s → a_sizes d = nI (rl_cnt M d N)
def rl_ske {R : Type} [Lean.Grind.CommRing R] (cv : R → Int32) (el : Nat → R) (M : Nat → Bool) (s t N : Nat) (a_sketches : Nat → Int32) : Prop := ∀ d, d < s → ∀ i, i < t → a_sketches (4 * d + i) = cv (yw_ps el M d i N)
theorem xw_4nI (d i : Nat) : (4 : Int32) * nI d + nI i = nI (4 * d + i) := by rw [xw_4n, nI_add]
section
variable {f_bits f_words f_sides f_order f_result f_found f_polyDegree f_polyBasis f_depth : Int32} {a_exp a_log a_power a_members a_sizes a_sketches a_combined a_list a_syndromes a_locator a_previous a_saved a_poly a_residue a_wide a_left a_right a_quotient a_stackPoly a_stackDegree a_stackBasis : Nat → Int32}
theorem xw_holds {post : Int32 → Prop} {d x : Nat} (hd : d < 4) (hx : x < 32) (hT : bt (a_members d) x = true → post 1) (hF : bt (a_members d) x = false → post 0) : wpX_holds post (f_bits, f_words, f_sides, f_order, f_result, f_found, f_polyDegree, f_polyBasis, f_depth, a_exp, a_log, a_power, a_members, a_sizes, a_sketches, a_combined, a_list, a_syndromes, a_locator, a_previous, a_saved, a_poly, a_residue, a_wide, a_left, a_right, a_quotient, a_stackPoly, a_stackDegree, a_stackBasis) (nI d) (nI x) := by
  refine And.intro (vp_in_nI hd (by decide)) ?_
  rw [nI_clamp (by omega), xw_bit _ hx]
  cases h : bt (a_members d) x with
  | true => exact br_t rfl (hT h)
  | false => exact br_f (by decide) (hF h)
theorem xw_tg37 {R : Type} [Lean.Grind.CommRing R] [Lean.Grind.IsCharP R 2] {cv : R → Int32} {el : Nat → R} {iv : R → R} {m N : Nat} (F : fq_F cv el iv m N) (hP : fq_P cv a_power) {post : SX → Prop} {M : Nat → Bool} {s t d x : Nat} (hs : s ≤ 4) (ht : t ≤ 4) (hd : d < s) (h1 : 1 ≤ x) (h2 : x ≤ N) (hp : ∀ a_sketches, rl_ske cv el (rl_tg M (d * 32 + x)) s t N a_sketches → post (f_bits, nI t, f_sides, f_order, f_result, f_found, f_polyDegree, f_polyBasis, f_depth, a_exp, a_log, a_power, a_members, a_sizes, a_sketches, a_combined, a_list, a_syndromes, a_locator, a_previous, a_saved, a_poly, a_residue, a_wide, a_left, a_right, a_quotient, a_stackPoly, a_stackDegree, a_stackBasis)) : ∀ (c i : Nat) (a_sketches : Nat → Int32), i + c = t → (∀ d', d' < s → ∀ i', i' < t → a_sketches (4 * d' + i') = if d' = d ∧ i' < i then cv (yw_ps el (rl_tg M (d * 32 + x)) d i' N) else cv (yw_ps el M d' i' N)) → wX_toggle_37 post (nI d) (nI x) f_bits (nI t) f_sides f_order f_result f_found f_polyDegree f_polyBasis f_depth (c + 1) (nI i) a_exp a_log a_power a_members a_sizes a_sketches a_combined a_list a_syndromes a_locator a_previous a_saved a_poly a_residue a_wide a_left a_right a_quotient a_stackPoly a_stackDegree a_stackBasis := by
  have hm := F.2.2.2.2.2.2.2.2.2.1
  intro c
  induction c with
  | zero =>
    intro i sk h hk
    obtain rfl : i = t := by omega
    refine br_t (nI_le (Nat.le_refl _) (by omega)) (hp sk (fun d' a i' b => ?_))
    rw [hk d' a i' b]
    by_cases e : d' = d
    · subst e
      rw [if_pos ⟨rfl, b⟩]
    · rw [if_neg (fun z => e z.1)]
      exact congrArg cv (rl_psc (fun x a b => (rl_tgn (by omega)).symm))
  | succ c ih =>
    intro i sk h hk
    have e1 := xw_4nI d i
    obtain ⟨p1, p2⟩ := hP (el x) i (by omega)
    rw [F.2.2.2.2.1 x h2] at p1 p2
    refine br_f (nI_ge (by omega) (by omega)) ⟨xw_in e1 (by omega) (by decide), p1, xw_in e1 (by omega) (by decide), nm_r (e' := upd sk (4 * d + i) (cv (yw_ps el (rl_tg M (d * 32 + x)) d i N))) ?_ (nm_r (nI_1 i) (ih (i + 1) _ (by omega) (fun d' a i' b => ?_)))⟩
    · rw [e1, nI_clamp (by omega), p2, hk d hd i (by omega), if_neg (by omega), fq_xor F, rl_pst h1 N h2]
    · by_cases e : 4 * d' + i' = 4 * d + i
      · obtain rfl : d' = d := by omega
        obtain rfl : i' = i := by omega
        rw [pk_us, if_pos ⟨rfl, by omega⟩]
      · rw [pk_un e, hk d' a i' b]
        by_cases g : d' = d ∧ i' < i
        · rw [if_pos g, if_pos ⟨g.1, by omega⟩]
        · rw [if_neg g, if_neg (by omega)]
theorem xw_toggle {R : Type} [Lean.Grind.CommRing R] [Lean.Grind.IsCharP R 2] {cv : R → Int32} {el : Nat → R} {iv : R → R} {m N : Nat} (F : fq_F cv el iv m N) (hP : fq_P cv a_power) {post : SX → Prop} {M : Nat → Bool} {s t d x : Nat} (hs : s ≤ 4) (ht : t ≤ 4) (hd : d < s) (h1 : 1 ≤ x) (h2 : x ≤ N) (k1 : rl_mem M s N a_members) (k2 : rl_siz M s N a_sizes) (k3 : rl_ske cv el M s t N a_sketches) (hp : ∀ a_members a_sizes a_sketches, rl_mem (rl_tg M (d * 32 + x)) s N a_members → rl_siz (rl_tg M (d * 32 + x)) s N a_sizes → rl_ske cv el (rl_tg M (d * 32 + x)) s t N a_sketches → post (f_bits, nI t, f_sides, f_order, f_result, f_found, f_polyDegree, f_polyBasis, f_depth, a_exp, a_log, a_power, a_members, a_sizes, a_sketches, a_combined, a_list, a_syndromes, a_locator, a_previous, a_saved, a_poly, a_residue, a_wide, a_left, a_right, a_quotient, a_stackPoly, a_stackDegree, a_stackBasis)) : wpX_toggle post (f_bits, nI t, f_sides, f_order, f_result, f_found, f_polyDegree, f_polyBasis, f_depth, a_exp, a_log, a_power, a_members, a_sizes, a_sketches, a_combined, a_list, a_syndromes, a_locator, a_previous, a_saved, a_poly, a_residue, a_wide, a_left, a_right, a_quotient, a_stackPoly, a_stackDegree, a_stackBasis) (nI d) (nI x) := by
  have hm := F.2.2.2.2.2.2.2.2.2.1
  have hd4 : vp_in (nI d) 4 := vp_in_nI (by omega) (by decide)
  have cl := rl_cntt M d x h1 N h2
  have le1 := rl_cntle M d N
  have key : ∀ z0 : Int32, a_sizes d + z0 = nI (rl_cnt (rl_tg M (d * 32 + x)) d N) → wX_toggle_21 post (nI d) (nI x) z0 (a_sizes d) (nI d) f_bits (nI t) f_sides f_order f_result f_found f_polyDegree f_polyBasis f_depth a_exp a_log a_power a_members a_sizes a_sketches a_combined a_list a_syndromes a_locator a_previous a_saved a_poly a_residue a_wide a_left a_right a_quotient a_stackPoly a_stackDegree a_stackBasis := by
    intro z0 hz
    unfold wX_toggle_21
    refine And.intro hd4 (nm_r (e' := upd a_sizes d (nI (rl_cnt (rl_tg M (d * 32 + x)) d N))) (by rw [nI_clamp (by omega), hz]) ⟨hd4, hd4, nm_r (e' := upd a_members d (a_members d ^^^ ((1 : Int32) <<< (nI x &&& 31)))) (by rw [nI_clamp (by omega)]) ⟨t + 1, ?_⟩⟩)
    refine xw_tg37 F hP hs ht hd h1 h2 (fun sk hsk => hp _ _ sk (fun d' a y b c => ?_) (fun d' a => ?_) hsk) t 0 a_sketches (by omega) (fun d' a i' b => ?_)
    · by_cases e : d' = d
      · subst e
        rw [pk_us, xw_btg _ (by omega) (by omega), k1 d' a y b c]
        by_cases g : y = x
        · subst g
          rw [rl_tgs, decide_eq_true rfl, Bool.xor_true]
        · rw [rl_tgn (by omega), decide_eq_false g, Bool.xor_false]
      · rw [pk_un e, k1 d' a y b c, rl_tgn (by omega)]
    · by_cases e : d' = d
      · subst e
        rw [pk_us]
      · rw [pk_un e, k2 d' a]
        exact congrArg nI (rl_cntc N (fun y b c => (rl_tgn (by omega)).symm))
    · rw [if_neg (by omega)]
      exact k3 d' a i' b
  unfold wpX_toggle
  refine And.intro hd4 ?_
  refine xw_holds (by omega) (by omega) (fun hb => ?_) (fun hb => ?_)
  · refine br_f (by decide) ?_
    rw [nI_clamp (by omega)]
    refine key (-1) ?_
    rw [k1 d hd x h1 h2] at hb
    rw [k2 d hd, cl.1 hb, pk_m1]
  · refine br_t rfl ?_
    rw [nI_clamp (by omega)]
    refine key 1 ?_
    rw [k1 d hd x h1 h2] at hb
    rw [k2 d hd, cl.2 hb, nI_1]
end
end
section
/-! ===== the relation ===== -/
def rl_res {R : Type} [Lean.Grind.CommRing R] (el : Nat → R) (N : Nat) (f_result : Int32) (L : Nat → R) (b_list : Nat → Int32) : Prop :=
  f_result = 106 ∨ f_result = 107 ∨ ∃ (c : Nat) (g : Nat → Nat), c ≤ 4 ∧ f_result = nI c ∧ ∀ j, j < c → 1 ≤ g j ∧ g j ≤ N ∧ L j = el (g j) ∧ b_list j = nI (g j)
def rl_C {R : Type} [Lean.Grind.CommRing R] (cv : R → Int32) (el : Nat → R) (iv : R → R) (m N t s : Nat) (M : Nat → Bool) (W L : Nat → R) (f_result f_poly : Int32) (a_exp a_log a_power a_members a_sizes a_sketches b_list : Nat → Int32) : Prop :=
  fq_F cv el iv m N ∧ fq_T cv iv N a_exp a_log ∧ fq_P cv a_power ∧ fq_Y cv (nI m) f_poly ∧ 1 ≤ t ∧ t ≤ 4 ∧ 2 ≤ s ∧ s ≤ 4 ∧
    rl_mem M s N a_members ∧ rl_siz M s N a_sizes ∧ rl_ske cv el M s t N a_sketches ∧ (∀ i, t ≤ i → W i = 0) ∧ rl_res el N f_result L b_list
def i_Rel (_ : Nat) (u : SX) (v : SY) : Prop :=
  ∃ (R : Type) (i1 : Lean.Grind.CommRing R) (i2 : Lean.Grind.IsCharP R 2) (i3 : DecidableEq R) (cv : R → Int32) (el : Nat → R) (iv : R → R) (m : Nat) (N : Nat) (t : Nat) (s : Nat) (M : Nat → Bool) (W : Nat → R) (L : Nat → R) (Sy : Nat → R) (C : Nat → R) (B : Nat → R) (V : Nat → R) (P : Nat → R) (Q : Nat → R) (Wi : Nat → R) (Le : Nat → R) (A : Nat → R) (U : Nat → R) (S : Nat → R) (sd : Nat → Nat) (sb : Nat → Nat) (f_result : Int32) (f_found : Int32) (f_polyDegree : Int32) (f_polyBasis : Int32) (f_depth : Int32) (f_poly : Int32) (a_exp : Nat → Int32) (a_log : Nat → Int32) (a_power : Nat → Int32) (a_members : Nat → Int32) (a_sizes : Nat → Int32) (a_sketches : Nat → Int32) (Lb : Nat → R), rl_C cv el iv m N t s M W L f_result f_poly a_exp a_log a_power a_members a_sizes a_sketches (ra_cf cv Lb) ∧ u = (nI m, nI t, nI s, nI N, f_result, f_found, f_polyDegree, f_polyBasis, f_depth, a_exp, a_log, a_power, a_members, a_sizes, a_sketches, ra_cf cv W, ra_cf cv L, ra_cf cv Sy, ra_cf cv C, ra_cf cv B, ra_cf cv V, ra_cf cv P, ra_cf cv Q, ra_cf cv Wi, ra_cf cv Le, ra_cf cv A, ra_cf cv U, ra_cf cv S, xw_nf sd, xw_nf sb) ∧ v = (nI m, nI t, nI s, nI N, f_poly, f_result, yw_mf M, ra_cf cv W, ra_cf cv Lb)
theorem i_up {k : Nat} {u : SX} {v : SY} (h : i_Rel k u v) : i_Rel (k + 3) u v := h
theorem rl_el {k : Nat} {u : SX} {v : SY} {Z : SX → SY → Prop} (h : ∀ (R : Type) (i1 : Lean.Grind.CommRing R) (i2 : Lean.Grind.IsCharP R 2) (i3 : DecidableEq R) (cv : R → Int32) (el : Nat → R) (iv : R → R) (m : Nat) (N : Nat) (t : Nat) (s : Nat) (M : Nat → Bool) (W : Nat → R) (L : Nat → R) (Sy : Nat → R) (C : Nat → R) (B : Nat → R) (V : Nat → R) (P : Nat → R) (Q : Nat → R) (Wi : Nat → R) (Le : Nat → R) (A : Nat → R) (U : Nat → R) (S : Nat → R) (sd : Nat → Nat) (sb : Nat → Nat) (f_result : Int32) (f_found : Int32) (f_polyDegree : Int32) (f_polyBasis : Int32) (f_depth : Int32) (f_poly : Int32) (a_exp : Nat → Int32) (a_log : Nat → Int32) (a_power : Nat → Int32) (a_members : Nat → Int32) (a_sizes : Nat → Int32) (a_sketches : Nat → Int32) (Lb : Nat → R), rl_C cv el iv m N t s M W L f_result f_poly a_exp a_log a_power a_members a_sizes a_sketches (ra_cf cv Lb) → Z (nI m, nI t, nI s, nI N, f_result, f_found, f_polyDegree, f_polyBasis, f_depth, a_exp, a_log, a_power, a_members, a_sizes, a_sketches, ra_cf cv W, ra_cf cv L, ra_cf cv Sy, ra_cf cv C, ra_cf cv B, ra_cf cv V, ra_cf cv P, ra_cf cv Q, ra_cf cv Wi, ra_cf cv Le, ra_cf cv A, ra_cf cv U, ra_cf cv S, xw_nf sd, xw_nf sb) (nI m, nI t, nI s, nI N, f_poly, f_result, yw_mf M, ra_cf cv W, ra_cf cv Lb)) (I : i_Rel k u v) : Z u v :=
  Exists.elim I fun R I => Exists.elim I fun i1 I => Exists.elim I fun i2 I => Exists.elim I fun i3 I => Exists.elim I fun cv I => Exists.elim I fun el I => Exists.elim I fun iv I => Exists.elim I fun m I => Exists.elim I fun N I => Exists.elim I fun t I => Exists.elim I fun s I => Exists.elim I fun M I => Exists.elim I fun W I => Exists.elim I fun L I => Exists.elim I fun Sy I => Exists.elim I fun C I => Exists.elim I fun B I => Exists.elim I fun V I => Exists.elim I fun P I => Exists.elim I fun Q I => Exists.elim I fun Wi I => Exists.elim I fun Le I => Exists.elim I fun A I => Exists.elim I fun U I => Exists.elim I fun S I => Exists.elim I fun sd I => Exists.elim I fun sb I => Exists.elim I fun f_result I => Exists.elim I fun f_found I => Exists.elim I fun f_polyDegree I => Exists.elim I fun f_polyBasis I => Exists.elim I fun f_depth I => Exists.elim I fun f_poly I => Exists.elim I fun a_exp I => Exists.elim I fun a_log I => Exists.elim I fun a_power I => Exists.elim I fun a_members I => Exists.elim I fun a_sizes I => Exists.elim I fun a_sketches I => Exists.elim I fun Lb I => by
    obtain ⟨c, e1, e2⟩ := I
    subst e1 e2
    exact h R i1 i2 i3 cv el iv m N t s M W L Sy C B V P Q Wi Le A U S sd sb f_result f_found f_polyDegree f_polyBasis f_depth f_poly a_exp a_log a_power a_members a_sizes a_sketches Lb c
theorem rl_mk {k : Nat} {R : Type} [i1 : Lean.Grind.CommRing R] [i2 : Lean.Grind.IsCharP R 2] [i3 : DecidableEq R] {cv : R → Int32} {el : Nat → R} {iv : R → R} {m : Nat} {N : Nat} {t : Nat} {s : Nat} {M : Nat → Bool} {W : Nat → R} {L : Nat → R} {Sy : Nat → R} {C : Nat → R} {B : Nat → R} {V : Nat → R} {P : Nat → R} {Q : Nat → R} {Wi : Nat → R} {Le : Nat → R} {A : Nat → R} {U : Nat → R} {S : Nat → R} {sd : Nat → Nat} {sb : Nat → Nat} {f_result : Int32} {f_found : Int32} {f_polyDegree : Int32} {f_polyBasis : Int32} {f_depth : Int32} {f_poly : Int32} {a_exp : Nat → Int32} {a_log : Nat → Int32} {a_power : Nat → Int32} {a_members : Nat → Int32} {a_sizes : Nat → Int32} {a_sketches : Nat → Int32} {Lb : Nat → R} (h : rl_C cv el iv m N t s M W L f_result f_poly a_exp a_log a_power a_members a_sizes a_sketches (ra_cf cv Lb)) : i_Rel k (nI m, nI t, nI s, nI N, f_result, f_found, f_polyDegree, f_polyBasis, f_depth, a_exp, a_log, a_power, a_members, a_sizes, a_sketches, ra_cf cv W, ra_cf cv L, ra_cf cv Sy, ra_cf cv C, ra_cf cv B, ra_cf cv V, ra_cf cv P, ra_cf cv Q, ra_cf cv Wi, ra_cf cv Le, ra_cf cv A, ra_cf cv U, ra_cf cv S, xw_nf sd, xw_nf sb) (nI m, nI t, nI s, nI N, f_poly, f_result, yw_mf M, ra_cf cv W, ra_cf cv Lb) :=
  ⟨R, i1, i2, i3, cv, el, iv, m, N, t, s, M, W, L, Sy, C, B, V, P, Q, Wi, Le, A, U, S, sd, sb, f_result, f_found, f_polyDegree, f_polyBasis, f_depth, f_poly, a_exp, a_log, a_power, a_members, a_sizes, a_sketches, Lb, h, rfl, rfl⟩
end
section
/-! ===== the owed statements: add, remove, has, size, sketch, word, patch, count, item, multiply ===== -/
theorem rl_b1 {c c' A B : Prop} (h : c ∨ ¬ c') (a : A) : (c → A) ∧ (¬ c → ((c' → B) ∧ (¬ c' → A))) := ⟨fun _ => a, fun z => ⟨fun w => h.elim (fun q => absurd q z) (fun q => absurd w q), fun _ => a⟩⟩
theorem rl_g1 {c c' A B : Prop} (h : ¬ c) (h' : c') (b : B) : (c → A) ∧ (¬ c → ((c' → B) ∧ (¬ c' → A))) := br_f h (br_t h' b)
theorem rl_b2 {c c' A B : Prop} (h : c ∨ c') (a : A) : (c → A) ∧ (¬ c → ((c' → A) ∧ (¬ c' → B))) := ⟨fun _ => a, fun z => ⟨fun _ => a, fun w => h.elim (fun q => absurd q z) (fun q => absurd q w)⟩⟩
theorem rl_g2 {c c' A B : Prop} (h : ¬ c) (h' : ¬ c') (b : B) : (c → A) ∧ (¬ c → ((c' → A) ∧ (¬ c' → B))) := br_f h (br_f h' b)
theorem rl_ix (p : Int32) {n : Nat} (hn : n < 100) : (p < 0 ∨ nI n ≤ p) ∨ ∃ d, d < n ∧ p = nI d := by
  rcases pk_ix p (n := n) (by omega) with h | h | h
  · exact Or.inl (Or.inl h)
  · exact Or.inl (Or.inr h)
  · exact Or.inr h
theorem rl_iv (p : Int32) {n : Nat} (hn : n < 100) : (p < 0 ∨ nI n < p) ∨ ∃ d, d ≤ n ∧ p = nI d := by
  rcases pk_ix p (n := n + 1) (by omega) with h | h | ⟨d, h1, h2⟩
  · exact Or.inl (Or.inl h)
  · refine Or.inl (Or.inr (Int32.not_le.mp (fun z => ?_)))
    exact nI_ge (a := n) (b := n + 1) (by omega) (by omega) (Int32.le_trans h z)
  · exact Or.inr ⟨d, by omega, h2⟩
theorem rl_ie (p : Int32) {n : Nat} (hn : n < 100) : (p < 1 ∨ nI n < p) ∨ ∃ d, 1 ≤ d ∧ d ≤ n ∧ p = nI d := by
  rcases rl_iv p hn with (h | h) | ⟨d, h1, rfl⟩
  · exact Or.inl (Or.inl (Int32.lt_trans h (by decide)))
  · exact Or.inl (Or.inr h)
  · by_cases e : d = 0
    · subst e
      exact Or.inl (Or.inl (by decide))
    · exact Or.inr ⟨d, by omega, h1, rfl⟩
theorem rl_nl {p q : Int32} {c : Prop} (h : c ∨ q ≤ p) : c ∨ ¬ p < q := h.imp (fun z => z) (fun z => Int32.not_lt.mpr z)
theorem rl_nle {p q : Int32} {c : Prop} (h : c ∨ q < p) : c ∨ ¬ p ≤ q := h.imp (fun z => z) (fun z => Int32.not_le.mpr z)
theorem yw_set1 {M : Nat → Bool} {k : Nat} (h : M k = false) : upd (yw_mf M) k (vp_nar .boolean 1) = yw_mf (rl_tg M k) := by
  funext j
  unfold upd yw_mf rl_tg
  by_cases e : j = k
  · subst e
    rw [if_pos rfl, if_pos rfl, h]
    rfl
  · rw [if_neg e, if_neg e]
theorem yw_set0 {M : Nat → Bool} {k : Nat} (h : M k = true) : upd (yw_mf M) k (vp_nar .boolean 0) = yw_mf (rl_tg M k) := by
  funext j
  unfold upd yw_mf rl_tg
  by_cases e : j = k
  · subst e
    rw [if_pos rfl, if_pos rfl, h]
    rfl
  · rw [if_neg e, if_neg e]
section
variable {f_bits f_words f_sides f_order f_result f_found f_polyDegree f_polyBasis f_depth : Int32} {a_exp a_log a_power a_members a_sizes a_sketches a_combined a_list a_syndromes a_locator a_previous a_saved a_poly a_residue a_wide a_left a_right a_quotient a_stackPoly a_stackDegree a_stackBasis : Nat → Int32}
theorem xw_side0 {post : Int32 → Prop} {p : Int32} (h : p < 0 ∨ f_sides ≤ p) (hp : post 0) : wpX_isSide post (f_bits, f_words, f_sides, f_order, f_result, f_found, f_polyDegree, f_polyBasis, f_depth, a_exp, a_log, a_power, a_members, a_sizes, a_sketches, a_combined, a_list, a_syndromes, a_locator, a_previous, a_saved, a_poly, a_residue, a_wide, a_left, a_right, a_quotient, a_stackPoly, a_stackDegree, a_stackBasis) p := rl_b2 h hp
theorem xw_side1 {post : Int32 → Prop} {d s : Nat} (h : d < s) (hs : s ≤ 4) (hp : post 1) : wpX_isSide post (f_bits, f_words, nI s, f_order, f_result, f_found, f_polyDegree, f_polyBasis, f_depth, a_exp, a_log, a_power, a_members, a_sizes, a_sketches, a_combined, a_list, a_syndromes, a_locator, a_previous, a_saved, a_poly, a_residue, a_wide, a_left, a_right, a_quotient, a_stackPoly, a_stackDegree, a_stackBasis) (nI d) := rl_g2 (nI_pos (by omega)) (nI_ge h (by omega)) hp
theorem xw_word0 {post : Int32 → Prop} {p : Int32} (h : p < 0 ∨ f_words ≤ p) (hp : post 0) : wpX_isWord post (f_bits, f_words, f_sides, f_order, f_result, f_found, f_polyDegree, f_polyBasis, f_depth, a_exp, a_log, a_power, a_members, a_sizes, a_sketches, a_combined, a_list, a_syndromes, a_locator, a_previous, a_saved, a_poly, a_residue, a_wide, a_left, a_right, a_quotient, a_stackPoly, a_stackDegree, a_stackBasis) p := rl_b2 h hp
theorem xw_word1 {post : Int32 → Prop} {d t : Nat} (h : d < t) (hs : t ≤ 4) (hp : post 1) : wpX_isWord post (f_bits, nI t, f_sides, f_order, f_result, f_found, f_polyDegree, f_polyBasis, f_depth, a_exp, a_log, a_power, a_members, a_sizes, a_sketches, a_combined, a_list, a_syndromes, a_locator, a_previous, a_saved, a_poly, a_residue, a_wide, a_left, a_right, a_quotient, a_stackPoly, a_stackDegree, a_stackBasis) (nI d) := rl_g2 (nI_pos (by omega)) (nI_ge h (by omega)) hp
theorem xw_val0 {post : Int32 → Prop} {p : Int32} (h : p < 0 ∨ f_order < p) (hp : post 0) : wpX_isValue post (f_bits, f_words, f_sides, f_order, f_result, f_found, f_polyDegree, f_polyBasis, f_depth, a_exp, a_log, a_power, a_members, a_sizes, a_sketches, a_combined, a_list, a_syndromes, a_locator, a_previous, a_saved, a_poly, a_residue, a_wide, a_left, a_right, a_quotient, a_stackPoly, a_stackDegree, a_stackBasis) p := rl_b2 h hp
theorem xw_val1 {post : Int32 → Prop} {d N : Nat} (h : d ≤ N) (hs : N ≤ 31) (hp : post 1) : wpX_isValue post (f_bits, f_words, f_sides, nI N, f_result, f_found, f_polyDegree, f_polyBasis, f_depth, a_exp, a_log, a_power, a_members, a_sizes, a_sketches, a_combined, a_list, a_syndromes, a_locator, a_previous, a_saved, a_poly, a_residue, a_wide, a_left, a_right, a_quotient, a_stackPoly, a_stackDegree, a_stackBasis) (nI d) := rl_g2 (nI_pos (by omega)) (nI_nlt h (by omega)) hp
theorem xw_chk0 {post : Int32 → Prop} {p q : Int32} (h : p < 0 ∨ f_sides ≤ p) (hp : post 100) : wpX_checkElement post (f_bits, f_words, f_sides, f_order, f_result, f_found, f_polyDegree, f_polyBasis, f_depth, a_exp, a_log, a_power, a_members, a_sizes, a_sketches, a_combined, a_list, a_syndromes, a_locator, a_previous, a_saved, a_poly, a_residue, a_wide, a_left, a_right, a_quotient, a_stackPoly, a_stackDegree, a_stackBasis) p q := by
  unfold wpX_checkElement
  exact xw_side0 h (br_t rfl hp)
theorem xw_chk1 {post : Int32 → Prop} {d s : Nat} {q : Int32} (h : d < s) (hs : s ≤ 4) (h2 : q < 1 ∨ f_order < q) (hp : post 101) : wpX_checkElement post (f_bits, f_words, nI s, f_order, f_result, f_found, f_polyDegree, f_polyBasis, f_depth, a_exp, a_log, a_power, a_members, a_sizes, a_sketches, a_combined, a_list, a_syndromes, a_locator, a_previous, a_saved, a_poly, a_residue, a_wide, a_left, a_right, a_quotient, a_stackPoly, a_stackDegree, a_stackBasis) (nI d) q := by
  unfold wpX_checkElement
  exact xw_side1 h hs (br_f (by decide) (rl_b2 h2 hp))
theorem xw_chk2 {post : Int32 → Prop} {d s x N : Nat} (h : d < s) (hs : s ≤ 4) (h1 : 1 ≤ x) (h2 : x ≤ N) (h3 : N ≤ 31) (hp : post 0) : wpX_checkElement post (f_bits, f_words, nI s, nI N, f_result, f_found, f_polyDegree, f_polyBasis, f_depth, a_exp, a_log, a_power, a_members, a_sizes, a_sketches, a_combined, a_list, a_syndromes, a_locator, a_previous, a_saved, a_poly, a_residue, a_wide, a_left, a_right, a_quotient, a_stackPoly, a_stackDegree, a_stackBasis) (nI d) (nI x) := by
  unfold wpX_checkElement
  exact xw_side1 h hs (br_f (by decide) (rl_g2 (nI_nlt (b := 1) h1 (by omega)) (nI_nlt h2 (by omega)) hp))
end
theorem i_vc_add {k : Nat} {u : SX} {v : SY} (I : i_Rel k u v) (hk : k + 3 ≤ 1539) (v1 : Int32) (v2 : Int32) : wpX_add (fun r u' => wpY_add (fun r' v' => r' = r ∧ i_Rel (k + 3) u' v') v v1 v2) u v1 v2 := by
  refine rl_el (Z := fun u v => wpX_add (fun r u' => wpY_add (fun r' v' => r' = r ∧ i_Rel (k + 3) u' v') v v1 v2) u v1 v2) ?_ I
  intro R i1 i2 i3 cv el iv m N t s M W L Sy C B V P Q Wi Le A U S sd sb f_result f_found f_polyDegree f_polyBasis f_depth f_poly a_exp a_log a_power a_members a_sizes a_sketches Lb hC
  obtain ⟨F, T, hP, hY, t1, t4, s2, s4, k1, k2, k3, hW, hr⟩ := id hC
  have hm := F.2.2.2.2.2.2.2.2.2.1
  unfold wpX_add
  rcases rl_ix v1 (n := s) (by omega) with h | ⟨d, hd, rfl⟩
  · exact xw_chk0 h (br_f (by decide) (rl_b1 (rl_nl h) ⟨rfl, rl_mk hC⟩))
  rcases rl_ie v2 (n := N) (by omega) with h | ⟨x, x1, x2, rfl⟩
  · exact xw_chk1 hd s4 h (br_f (by decide) (rl_g1 (nI_pos (by omega)) (nI_lt hd (by omega)) (rl_b1 (rl_nle h) ⟨rfl, rl_mk hC⟩)))
  have e1 := yw_ix d x
  have hv : vp_in (nI d * 32 + nI x) 128 := xw_in e1 (by omega) (by decide)
  have hb := k1 d hd x x1 x2
  refine xw_chk2 hd s4 x1 x2 (by omega) (br_t rfl ?_)
  refine xw_holds (by omega) (by omega) (fun z => br_f (by decide) ?_) (fun z => br_t rfl ?_)
  · rw [hb] at z
    refine rl_g1 (nI_pos (by omega)) (nI_lt hd (by omega)) (rl_g1 (nI_nlt (b := 1) x1 (by omega)) (nI_le x2 (by omega)) ⟨hv, ?_⟩)
    rw [e1, nI_clamp (by omega)]
    exact br_f (yw_mfT z) ⟨rfl, rl_mk hC⟩
  · rw [hb] at z
    refine xw_toggle F hP s4 t4 hd x1 x2 k1 k2 k3 (fun am az ak q1 q2 q3 => ?_)
    refine rl_g1 (nI_pos (by omega)) (nI_lt hd (by omega)) (rl_g1 (nI_nlt (b := 1) x1 (by omega)) (nI_le x2 (by omega)) ⟨hv, ?_⟩)
    rw [e1, nI_clamp (by omega)]
    refine br_t (yw_mfF z) ⟨vp_in_nI (by omega) (by decide), nm_r (yw_set1 z) ⟨rfl, rl_mk ⟨F, T, hP, hY, t1, t4, s2, s4, q1, q2, q3, hW, hr⟩⟩⟩
theorem i_vc_remove {k : Nat} {u : SX} {v : SY} (I : i_Rel k u v) (hk : k + 3 ≤ 1539) (v1 : Int32) (v2 : Int32) : wpX_remove (fun r u' => wpY_remove (fun r' v' => r' = r ∧ i_Rel (k + 3) u' v') v v1 v2) u v1 v2 := by
  refine rl_el (Z := fun u v => wpX_remove (fun r u' => wpY_remove (fun r' v' => r' = r ∧ i_Rel (k + 3) u' v') v v1 v2) u v1 v2) ?_ I
  intro R i1 i2 i3 cv el iv m N t s M W L Sy C B V P Q Wi Le A U S sd sb f_result f_found f_polyDegree f_polyBasis f_depth f_poly a_exp a_log a_power a_members a_sizes a_sketches Lb hC
  obtain ⟨F, T, hP, hY, t1, t4, s2, s4, k1, k2, k3, hW, hr⟩ := id hC
  have hm := F.2.2.2.2.2.2.2.2.2.1
  unfold wpX_remove
  rcases rl_ix v1 (n := s) (by omega) with h | ⟨d, hd, rfl⟩
  · exact xw_chk0 h (br_f (by decide) (rl_b1 (rl_nl h) ⟨rfl, rl_mk hC⟩))
  rcases rl_ie v2 (n := N) (by omega) with h | ⟨x, x1, x2, rfl⟩
  · exact xw_chk1 hd s4 h (br_f (by decide) (rl_g1 (nI_pos (by omega)) (nI_lt hd (by omega)) (rl_b1 (rl_nle h) ⟨rfl, rl_mk hC⟩)))
  have e1 := yw_ix d x
  have hv : vp_in (nI d * 32 + nI x) 128 := xw_in e1 (by omega) (by decide)
  have hb := k1 d hd x x1 x2
  refine xw_chk2 hd s4 x1 x2 (by omega) (br_t rfl ?_)
  refine xw_holds (by omega) (by omega) (fun z => br_f (by decide) ?_) (fun z => br_t rfl ?_)
  · rw [hb] at z
    refine xw_toggle F hP s4 t4 hd x1 x2 k1 k2 k3 (fun am az ak q1 q2 q3 => ?_)
    refine rl_g1 (nI_pos (by omega)) (nI_lt hd (by omega)) (rl_g1 (nI_nlt (b := 1) x1 (by omega)) (nI_le x2 (by omega)) ⟨hv, ?_⟩)
    rw [e1, nI_clamp (by omega)]
    refine br_f (yw_mfT z) ⟨vp_in_nI (by omega) (by decide), nm_r (yw_set0 z) ⟨rfl, rl_mk ⟨F, T, hP, hY, t1, t4, s2, s4, q1, q2, q3, hW, hr⟩⟩⟩
  · rw [hb] at z
    refine rl_g1 (nI_pos (by omega)) (nI_lt hd (by omega)) (rl_g1 (nI_nlt (b := 1) x1 (by omega)) (nI_le x2 (by omega)) ⟨hv, ?_⟩)
    rw [e1, nI_clamp (by omega)]
    exact br_t (yw_mfF z) ⟨rfl, rl_mk hC⟩
theorem i_vc_has {k : Nat} {u : SX} {v : SY} (I : i_Rel k u v) (hk : k + 3 ≤ 1539) (v1 : Int32) (v2 : Int32) : wpX_has (fun r => wpY_has (fun r' => r' = r ∧ i_Rel (k + 3) u v) v v1 v2) u v1 v2 := by
  refine rl_el (Z := fun u v => wpX_has (fun r => wpY_has (fun r' => r' = r ∧ i_Rel (k + 3) u v) v v1 v2) u v1 v2) ?_ I
  intro R i1 i2 i3 cv el iv m N t s M W L Sy C B V P Q Wi Le A U S sd sb f_result f_found f_polyDegree f_polyBasis f_depth f_poly a_exp a_log a_power a_members a_sizes a_sketches Lb hC
  obtain ⟨F, T, hP, hY, t1, t4, s2, s4, k1, k2, k3, hW, hr⟩ := id hC
  have hm := F.2.2.2.2.2.2.2.2.2.1
  unfold wpX_has
  rcases rl_ix v1 (n := s) (by omega) with h | ⟨d, hd, rfl⟩
  · exact xw_chk0 h (br_f (by decide) (rl_b1 (rl_nl h) ⟨rfl, rl_mk hC⟩))
  rcases rl_ie v2 (n := N) (by omega) with h | ⟨x, x1, x2, rfl⟩
  · exact xw_chk1 hd s4 h (br_f (by decide) (rl_g1 (nI_pos (by omega)) (nI_lt hd (by omega)) (rl_b1 (rl_nle h) ⟨rfl, rl_mk hC⟩)))
  have e1 := yw_ix d x
  have hv : vp_in (nI d * 32 + nI x) 128 := xw_in e1 (by omega) (by decide)
  have hb := k1 d hd x x1 x2
  refine xw_chk2 hd s4 x1 x2 (by omega) (br_t rfl ?_)
  refine xw_holds (by omega) (by omega) (fun z => br_f (by decide) ?_) (fun z => br_t rfl ?_)
  · rw [hb] at z
    refine rl_g1 (nI_pos (by omega)) (nI_lt hd (by omega)) (rl_g1 (nI_nlt (b := 1) x1 (by omega)) (nI_le x2 (by omega)) ⟨hv, ?_⟩)
    rw [e1, nI_clamp (by omega)]
    exact br_f (yw_mfT z) ⟨rfl, rl_mk hC⟩
  · rw [hb] at z
    refine rl_g1 (nI_pos (by omega)) (nI_lt hd (by omega)) (rl_g1 (nI_nlt (b := 1) x1 (by omega)) (nI_le x2 (by omega)) ⟨hv, ?_⟩)
    rw [e1, nI_clamp (by omega)]
    exact br_t (yw_mfF z) ⟨rfl, rl_mk hC⟩
theorem yw_size {f_m f_t f_s f_poly f_result : Int32} {a_combined a_list : Nat → Int32} {post : Int32 → Prop} {M : Nat → Bool} {d N : Nat} (hd : d < 4) (hN : N ≤ 31) (hp : post (nI (rl_cnt M d N))) : ∃ n, wY_size_19 post (nI d) f_m f_t f_s (nI N) f_poly f_result (yw_mf M) a_combined a_list n 0 1 := by
  have k : ∀ e c, c + e = N → wY_size_19 post (nI d) f_m f_t f_s (nI N) f_poly f_result (yw_mf M) a_combined a_list (e + 1) (nI (rl_cnt M d c)) (nI (c + 1)) := by
    intro e
    induction e with
    | zero =>
      intro c h
      obtain rfl : c = N := by omega
      exact br_t (nI_lt (by omega) (by omega)) hp
    | succ e ih =>
      intro c h
      have e1 := yw_ix d (c + 1)
      have q := ih (c + 1) (by omega)
      refine br_f (nI_nlt (by omega) (by omega)) ⟨xw_in e1 (by omega) (by decide), ?_⟩
      rw [e1, nI_clamp (by omega)]
      have e2 : rl_cnt M d (c + 1) = rl_cnt M d c + (if M (d * 32 + (c + 1)) then 1 else 0) := rfl
      cases hM : M (d * 32 + (c + 1)) with
      | false =>
        rw [e2, hM] at q
        exact br_t (yw_mfF hM) (nm_r (nI_1 (c + 1)) q)
      | true =>
        rw [e2, hM] at q
        exact br_f (yw_mfT hM) (nm_r (nI_1 _) (nm_r (nI_1 (c + 1)) q))
  exact ⟨_, k N 0 (by omega)⟩
theorem i_vc_size {k : Nat} {u : SX} {v : SY} (I : i_Rel k u v) (hk : k + 3 ≤ 1539) (v1 : Int32) : wpX_size (fun r => wpY_size (fun r' => r' = r ∧ i_Rel (k + 3) u v) v v1) u v1 := by
  refine rl_el (Z := fun u v => wpX_size (fun r => wpY_size (fun r' => r' = r ∧ i_Rel (k + 3) u v) v v1) u v1) ?_ I
  intro R i1 i2 i3 cv el iv m N t s M W L Sy C B V P Q Wi Le A U S sd sb f_result f_found f_polyDegree f_polyBasis f_depth f_poly a_exp a_log a_power a_members a_sizes a_sketches Lb hC
  obtain ⟨F, T, hP, hY, t1, t4, s2, s4, k1, k2, k3, hW, hr⟩ := id hC
  have hm := F.2.2.2.2.2.2.2.2.2.1
  unfold wpX_size
  rcases rl_ix v1 (n := s) (by omega) with h | ⟨d, hd, rfl⟩
  · exact xw_side0 h (br_t rfl (rl_b1 (rl_nl h) ⟨rfl, rl_mk hC⟩))
  refine xw_side1 hd s4 (br_f (by decide) ⟨vp_in_nI (by omega) (by decide), ?_⟩)
  rw [nI_clamp (by omega), k2 d hd]
  exact rl_g1 (nI_pos (by omega)) (nI_lt hd (by omega)) (yw_size (by omega) (by omega) ⟨rfl, rl_mk hC⟩)
theorem i_vc_sketch {k : Nat} {u : SX} {v : SY} (I : i_Rel k u v) (hk : k + 3 ≤ 1539) (v1 : Int32) (v2 : Int32) : wpX_sketch (fun r => wpY_sketch (fun r' => r' = r ∧ i_Rel (k + 3) u v) v v1 v2) u v1 v2 := by
  refine rl_el (Z := fun u v => wpX_sketch (fun r => wpY_sketch (fun r' => r' = r ∧ i_Rel (k + 3) u v) v v1 v2) u v1 v2) ?_ I
  intro R i1 i2 i3 cv el iv m N t s M W L Sy C B V P Q Wi Le A U S sd sb f_result f_found f_polyDegree f_polyBasis f_depth f_poly a_exp a_log a_power a_members a_sizes a_sketches Lb hC
  obtain ⟨F, T, hP, hY, t1, t4, s2, s4, k1, k2, k3, hW, hr⟩ := id hC
  have hm := F.2.2.2.2.2.2.2.2.2.1
  unfold wpX_sketch
  rcases rl_ix v1 (n := s) (by omega) with h | ⟨d, hd, rfl⟩
  · exact xw_side0 h (br_t rfl (rl_b1 (rl_nl h) ⟨rfl, rl_mk hC⟩))
  refine xw_side1 hd s4 (br_f (by decide) ?_)
  rcases rl_ix v2 (n := t) (by omega) with h | ⟨i, hi, rfl⟩
  · exact xw_word0 h (br_t rfl (rl_g1 (nI_pos (by omega)) (nI_lt hd (by omega)) (rl_b1 (rl_nl h) ⟨rfl, rl_mk hC⟩)))
  have e1 := xw_4nI d i
  refine xw_word1 hi t4 (br_f (by decide) ⟨xw_in e1 (by omega) (by decide), ?_⟩)
  rw [e1, nI_clamp (by omega), k3 d hd i hi]
  refine rl_g1 (nI_pos (by omega)) (nI_lt hd (by omega)) (rl_g1 (nI_pos (by omega)) (nI_lt hi (by omega)) ?_)
  exact yw_powerSum F hY (by omega) (by omega) ⟨rfl, rl_mk hC⟩
theorem i_vc_patch {k : Nat} {u : SX} {v : SY} (I : i_Rel k u v) (hk : k + 3 ≤ 1539) (v1 : Int32) (v2 : Int32) : wpX_patch (fun r u' => wpY_patch (fun r' v' => r' = r ∧ i_Rel (k + 3) u' v') v v1 v2) u v1 v2 := by
  refine rl_el (Z := fun u v => wpX_patch (fun r u' => wpY_patch (fun r' v' => r' = r ∧ i_Rel (k + 3) u' v') v v1 v2) u v1 v2) ?_ I
  intro R i1 i2 i3 cv el iv m N t s M W L Sy C B V P Q Wi Le A U S sd sb f_result f_found f_polyDegree f_polyBasis f_depth f_poly a_exp a_log a_power a_members a_sizes a_sketches Lb hC
  obtain ⟨F, T, hP, hY, t1, t4, s2, s4, k1, k2, k3, hW, hr⟩ := id hC
  have hm := F.2.2.2.2.2.2.2.2.2.1
  unfold wpX_patch
  rcases rl_ix v1 (n := t) (by omega) with h | ⟨i, hi, rfl⟩
  · exact xw_word0 h (br_t rfl (rl_b1 (rl_nl h) ⟨rfl, rl_mk hC⟩))
  refine xw_word1 hi t4 (br_f (by decide) ?_)
  rcases rl_iv v2 (n := N) (by omega) with h | ⟨x, hx, rfl⟩
  · exact xw_val0 h (br_t rfl (rl_g1 (nI_pos (by omega)) (nI_lt hi (by omega)) (rl_b1 (rl_nle h) ⟨rfl, rl_mk hC⟩)))
  have e1 : upd (ra_cf cv W) (nI i).toNatClampNeg (ra_cf cv W (nI i).toNatClampNeg ^^^ nI x) = ra_cf cv (ra_ur W i (W i + el x)) := by
    rw [nI_clamp (by omega), ← F.2.2.2.2.1 x hx, ← ra_cfu, ← fq_xor F]
    rfl
  have hv : vp_in (nI i) 4 := vp_in_nI (by omega) (by decide)
  refine xw_val1 hx (by omega) (br_f (by decide) ⟨hv, hv, nm_r e1 ?_⟩)
  refine rl_g1 (nI_pos (by omega)) (nI_lt hi (by omega)) (rl_g1 (nI_pos (by omega)) (nI_le hx (by omega)) ⟨hv, hv, nm_r e1 ⟨rfl, rl_mk ⟨F, T, hP, hY, t1, t4, s2, s4, k1, k2, k3, fun j hj => ?_, Or.inl rfl⟩⟩⟩)
  rw [ra_urn (by omega)]
  exact hW j hj
theorem i_vc_word {k : Nat} {u : SX} {v : SY} (I : i_Rel k u v) (hk : k + 3 ≤ 1539) (v1 : Int32) : wpX_word (fun r => wpY_word (fun r' => r' = r ∧ i_Rel (k + 3) u v) v v1) u v1 := by
  refine rl_el (Z := fun u v => wpX_word (fun r => wpY_word (fun r' => r' = r ∧ i_Rel (k + 3) u v) v v1) u v1) ?_ I
  intro R i1 i2 i3 cv el iv m N t s M W L Sy C B V P Q Wi Le A U S sd sb f_result f_found f_polyDegree f_polyBasis f_depth f_poly a_exp a_log a_power a_members a_sizes a_sketches Lb hC
  obtain ⟨F, T, hP, hY, t1, t4, s2, s4, k1, k2, k3, hW, hr⟩ := id hC
  have hm := F.2.2.2.2.2.2.2.2.2.1
  unfold wpX_word
  rcases rl_ix v1 (n := t) (by omega) with h | ⟨i, hi, rfl⟩
  · exact xw_word0 h (br_t rfl (rl_b1 (rl_nl h) ⟨rfl, rl_mk hC⟩))
  have hv : vp_in (nI i) 4 := vp_in_nI (by omega) (by decide)
  exact xw_word1 hi t4 (br_f (by decide) ⟨hv, rl_g1 (nI_pos (by omega)) (nI_lt hi (by omega)) ⟨hv, rfl, rl_mk hC⟩⟩)
theorem i_vc_count {k : Nat} {u : SX} {v : SY} (I : i_Rel k u v) (hk : k + 3 ≤ 1539) : wpX_count (fun r => wpY_count (fun r' => r' = r ∧ i_Rel (k + 3) u v) v) u := by
  refine rl_el (Z := fun u v => wpX_count (fun r => wpY_count (fun r' => r' = r ∧ i_Rel (k + 3) u v) v) u) ?_ I
  intro R i1 i2 i3 cv el iv m N t s M W L Sy C B V P Q Wi Le A U S sd sb f_result f_found f_polyDegree f_polyBasis f_depth f_poly a_exp a_log a_power a_members a_sizes a_sketches Lb hC
  obtain ⟨F, T, hP, hY, t1, t4, s2, s4, k1, k2, k3, hW, hr⟩ := id hC
  have hm := F.2.2.2.2.2.2.2.2.2.1
  exact ⟨rfl, rl_mk hC⟩
theorem i_vc_item {k : Nat} {u : SX} {v : SY} (I : i_Rel k u v) (hk : k + 3 ≤ 1539) (v1 : Int32) : wpX_item (fun r => wpY_item (fun r' => r' = r ∧ i_Rel (k + 3) u v) v v1) u v1 := by
  refine rl_el (Z := fun u v => wpX_item (fun r => wpY_item (fun r' => r' = r ∧ i_Rel (k + 3) u v) v v1) u v1) ?_ I
  intro R i1 i2 i3 cv el iv m N t s M W L Sy C B V P Q Wi Le A U S sd sb f_result f_found f_polyDegree f_polyBasis f_depth f_poly a_exp a_log a_power a_members a_sizes a_sketches Lb hC
  obtain ⟨F, T, hP, hY, t1, t4, s2, s4, k1, k2, k3, hW, hr⟩ := id hC
  have hm := F.2.2.2.2.2.2.2.2.2.1
  rcases hr with h | h | ⟨c, g, c4, h, hg⟩
  · subst h
    exact br_f (by decide) (br_t rfl ⟨rfl, rl_mk hC⟩)
  · subst h
    exact br_f (by decide) (br_f (by decide) (br_t rfl ⟨rfl, rl_mk hC⟩))
  · subst h
    have n1 : ¬ nI c = 106 := fun z => absurd ((nI_eq (b := 106) (by omega) (by omega)).mp z) (by omega)
    have n2 : ¬ nI c = 107 := fun z => absurd ((nI_eq (b := 107) (by omega) (by omega)).mp z) (by omega)
    refine br_t (nI_lt (b := 100) (by omega) (by decide)) ?_
    rcases rl_ix v1 (n := c) (by omega) with h | ⟨i, hi, rfl⟩
    · exact rl_b1 (rl_nl h) (br_f n1 (br_f n2 (rl_b1 (rl_nl h) ⟨rfl, rl_mk hC⟩)))
    · have hv : vp_in (nI i) 4 := vp_in_nI (by omega) (by decide)
      obtain ⟨g1, g2, g3, g4⟩ := hg i hi
      refine rl_g1 (nI_pos (by omega)) (nI_lt hi (by omega)) ⟨hv, br_f n1 (br_f n2 (rl_g1 (nI_pos (by omega)) (nI_lt hi (by omega)) ⟨hv, ?_, rl_mk hC⟩))⟩
      rw [nI_clamp (by omega), g4]
      show _ = cv (L i)
      rw [g3, F.2.2.2.2.1 _ g2]
theorem i_vc_multiply {k : Nat} {u : SX} {v : SY} (I : i_Rel k u v) (hk : k + 3 ≤ 1539) (v1 : Int32) (v2 : Int32) : wpX_multiply (fun r => wpY_multiply (fun r' => r' = r ∧ i_Rel (k + 3) u v) v v1 v2) u v1 v2 := by
  refine rl_el (Z := fun u v => wpX_multiply (fun r => wpY_multiply (fun r' => r' = r ∧ i_Rel (k + 3) u v) v v1 v2) u v1 v2) ?_ I
  intro R i1 i2 i3 cv el iv m N t s M W L Sy C B V P Q Wi Le A U S sd sb f_result f_found f_polyDegree f_polyBasis f_depth f_poly a_exp a_log a_power a_members a_sizes a_sketches Lb hC
  obtain ⟨F, T, hP, hY, t1, t4, s2, s4, k1, k2, k3, hW, hr⟩ := id hC
  have hm := F.2.2.2.2.2.2.2.2.2.1
  unfold wpX_multiply
  rcases rl_iv v1 (n := N) (by omega) with h | ⟨x, hx, rfl⟩
  · exact xw_val0 h (br_t rfl (rl_b2 h ⟨rfl, rl_mk hC⟩))
  refine xw_val1 hx (by omega) (br_f (by decide) ?_)
  rcases rl_iv v2 (n := N) (by omega) with h | ⟨y, hy, rfl⟩
  · exact xw_val0 h (br_t rfl (rl_g2 (nI_pos (by omega)) (nI_nlt hx (by omega)) (rl_b1 (rl_nle h) ⟨rfl, rl_mk hC⟩)))
  refine xw_val1 hy (by omega) (br_f (by decide) ?_)
  rw [← F.2.2.2.2.1 x hx, ← F.2.2.2.2.1 y hy]
  refine xw_product F T (el x) (el y) ?_
  rw [F.2.2.2.2.1 x hx, F.2.2.2.2.1 y hy]
  refine rl_g2 (nI_pos (by omega)) (nI_nlt hx (by omega)) (rl_g1 (nI_pos (by omega)) (nI_le hy (by omega)) ?_)
  rw [← F.2.2.2.2.1 x hx, ← F.2.2.2.2.1 y hy]
  exact hY _ _ _ _ _ _ _ _ _ _ ⟨rfl, rl_mk hC⟩
end
section
/-! ===== the owed statements: difference, clear, combine, fold, apply, decode ===== -/
def rl_dn (f : Nat → Bool) : Nat → Nat
  | 0 => 0
  | c + 1 => rl_dn f c + (if f (c + 1) then 1 else 0)
theorem rl_dnc {f g : Nat → Bool} : ∀ c, (∀ x, 1 ≤ x → x ≤ c → f x = g x) → rl_dn f c = rl_dn g c := by
  intro c
  induction c with
  | zero => intro _; rfl
  | succ c ih =>
    intro h
    show rl_dn f c + (if f (c + 1) then 1 else 0) = rl_dn g c + (if g (c + 1) then 1 else 0)
    rw [ih (fun x a b => h x a (by omega)), h (c + 1) (by omega) (by omega)]
theorem yw_mfe {M : Nat → Bool} {i j : Nat} : yw_mf M i = yw_mf M j ↔ M i = M j := by
  unfold yw_mf
  cases M i <;> cases M j <;> simp
def rl_ch (M : Nat → Bool) (d : Nat) (g : Nat → Nat) : Nat → Nat → Bool
  | 0 => M
  | j + 1 => rl_tg (rl_ch M d g j) (d * 32 + g j)
section
variable {f_bits f_words f_sides f_order f_result f_found f_polyDegree f_polyBasis f_depth : Int32} {a_exp a_log a_power a_members a_sizes a_sketches a_combined a_list a_syndromes a_locator a_previous a_saved a_poly a_residue a_wide a_left a_right a_quotient a_stackPoly a_stackDegree a_stackBasis : Nat → Int32}
theorem xw_dif {post : Int32 → Prop} {x3 : Int32} {N : Nat} (hN : N ≤ 31) (hp : post (nI (rl_dn (bt x3) N))) : ∃ n, wX_difference_39 post x3 f_bits f_words f_sides (nI N) f_result f_found f_polyDegree f_polyBasis f_depth a_exp a_log a_power a_members a_sizes a_sketches a_combined a_list a_syndromes a_locator a_previous a_saved a_poly a_residue a_wide a_left a_right a_quotient a_stackPoly a_stackDegree a_stackBasis n 0 1 := by
  have k : ∀ e c, c + e = N → wX_difference_39 post x3 f_bits f_words f_sides (nI N) f_result f_found f_polyDegree f_polyBasis f_depth a_exp a_log a_power a_members a_sizes a_sketches a_combined a_list a_syndromes a_locator a_previous a_saved a_poly a_residue a_wide a_left a_right a_quotient a_stackPoly a_stackDegree a_stackBasis (e + 1) (nI (rl_dn (bt x3) c)) (nI (c + 1)) := by
    intro e
    induction e with
    | zero =>
      intro c h
      obtain rfl : c = N := by omega
      exact br_t (nI_lt (by omega) (by omega)) hp
    | succ e ih =>
      intro c h
      refine br_f (nI_nlt (by omega) (by omega)) (nm_r (e' := nI (rl_dn (bt x3) (c + 1))) ?_ (nm_r (nI_1 (c + 1)) (ih (c + 1) (by omega))))
      rw [xw_bit x3 (by omega)]
      show _ = nI (rl_dn (bt x3) c + (if bt x3 (c + 1) then 1 else 0))
      cases bt x3 (c + 1)
      · exact Int32.add_zero _
      · exact nI_1 _
  exact ⟨_, k N 0 (by omega)⟩
theorem xw_cl2 {R : Type} [Lean.Grind.CommRing R] {cv : R → Int32} {el : Nat → R} {iv : R → R} {m N : Nat} (F : fq_F cv el iv m N) {post : SX → Prop} : ∀ (d i : Nat) (W : Nat → R), i + d = 4 → post (f_bits, f_words, f_sides, f_order, 106, f_found, f_polyDegree, f_polyBasis, f_depth, a_exp, a_log, a_power, a_members, a_sizes, a_sketches, ra_cf cv (ra_fl W i 4 (fun _ => 0)), a_list, a_syndromes, a_locator, a_previous, a_saved, a_poly, a_residue, a_wide, a_left, a_right, a_quotient, a_stackPoly, a_stackDegree, a_stackBasis) → wX_clear_2 post f_bits f_words f_sides f_order f_result f_found f_polyDegree f_polyBasis f_depth (d + 1) (nI i) a_exp a_log a_power a_members a_sizes a_sketches (ra_cf cv W) a_list a_syndromes a_locator a_previous a_saved a_poly a_residue a_wide a_left a_right a_quotient a_stackPoly a_stackDegree a_stackBasis := by
  intro d
  induction d with
  | zero =>
    intro i W h hp
    obtain rfl : i = 4 := by omega
    rw [ra_fl0] at hp
    exact br_t (nI_le (a := 4) (b := 4) (Nat.le_refl _) (by decide)) hp
  | succ d ih =>
    intro i W h hp
    refine br_f (nI_ge (b := 4) (by omega) (by decide)) ⟨vp_in_nI (by omega) (by decide), nm_r (e' := ra_cf cv (ra_ur W i 0)) ?_ (nm_r (nI_1 i) (ih (i + 1) _ (by omega) ?_))⟩
    · rw [nI_clamp (by omega), ← ra_cfu, F.2.1]
    · rw [ra_flS W (fun _ => 0) (by omega)]
      exact hp
theorem xw_co21 {R : Type} [Lean.Grind.CommRing R] {cv : R → Int32} {el : Nat → R} {iv : R → R} {m N : Nat} (F : fq_F cv el iv m N) {post : Int32 → SX → Prop} {M : Nat → Bool} {s t a b : Nat} (s4 : s ≤ 4) (t4 : t ≤ 4) (ha : a < s) (hb : b < s) (k3 : rl_ske cv el M s t N a_sketches) : ∀ (d i : Nat) (W : Nat → R), i + d = t → post 0 (f_bits, nI t, f_sides, f_order, 106, f_found, f_polyDegree, f_polyBasis, f_depth, a_exp, a_log, a_power, a_members, a_sizes, a_sketches, ra_cf cv (ra_fl W i t (fun i => yw_ps el M a i N + yw_ps el M b i N)), a_list, a_syndromes, a_locator, a_previous, a_saved, a_poly, a_residue, a_wide, a_left, a_right, a_quotient, a_stackPoly, a_stackDegree, a_stackBasis) → wX_combine_21 post (nI a) (nI b) f_bits (nI t) f_sides f_order f_result f_found f_polyDegree f_polyBasis f_depth (d + 1) (nI i) a_exp a_log a_power a_members a_sizes a_sketches (ra_cf cv W) a_list a_syndromes a_locator a_previous a_saved a_poly a_residue a_wide a_left a_right a_quotient a_stackPoly a_stackDegree a_stackBasis := by
  intro d
  induction d with
  | zero =>
    intro i W h hp
    obtain rfl : i = t := by omega
    rw [ra_fl0] at hp
    exact br_t (nI_le (Nat.le_refl _) (by omega)) hp
  | succ d ih =>
    intro i W h hp
    have e1 := xw_4nI a i
    have e2 := xw_4nI b i
    refine br_f (nI_ge (by omega) (by omega)) ⟨xw_in e1 (by omega) (by decide), xw_in e2 (by omega) (by decide), vp_in_nI (by omega) (by decide), nm_r (e' := ra_cf cv (ra_ur W i ((fun i => yw_ps el M a i N + yw_ps el M b i N) i))) ?_ (nm_r (nI_1 i) (ih (i + 1) _ (by omega) ?_))⟩
    · rw [e1, e2, nI_clamp (by omega), nI_clamp (by omega), nI_clamp (by omega), k3 a ha i (by omega), k3 b hb i (by omega), fq_xor F, ra_cfu]
    · rw [ra_flS W (fun i => yw_ps el M a i N + yw_ps el M b i N) (by omega)]
      exact hp
theorem xw_fo13 {R : Type} [Lean.Grind.CommRing R] {cv : R → Int32} {el : Nat → R} {iv : R → R} {m N : Nat} (F : fq_F cv el iv m N) {post : Int32 → SX → Prop} {M : Nat → Bool} {W : Nat → R} {s t a : Nat} (s4 : s ≤ 4) (t4 : t ≤ 4) (ha : a < s) (k3 : rl_ske cv el M s t N a_sketches) (hp : post 0 (f_bits, nI t, f_sides, f_order, 106, f_found, f_polyDegree, f_polyBasis, f_depth, a_exp, a_log, a_power, a_members, a_sizes, a_sketches, ra_cf cv (ra_fl W 0 t (fun i => W i + yw_ps el M a i N)), a_list, a_syndromes, a_locator, a_previous, a_saved, a_poly, a_residue, a_wide, a_left, a_right, a_quotient, a_stackPoly, a_stackDegree, a_stackBasis)) : ∀ (d i : Nat), i + d = t → wX_fold_13 post (nI a) f_bits (nI t) f_sides f_order f_result f_found f_polyDegree f_polyBasis f_depth (d + 1) (nI i) a_exp a_log a_power a_members a_sizes a_sketches (ra_cf cv (ra_fl W 0 i (fun i => W i + yw_ps el M a i N))) a_list a_syndromes a_locator a_previous a_saved a_poly a_residue a_wide a_left a_right a_quotient a_stackPoly a_stackDegree a_stackBasis := by
  intro d
  induction d with
  | zero =>
    intro i h
    obtain rfl : i = t := by omega
    exact br_t (nI_le (Nat.le_refl _) (by omega)) hp
  | succ d ih =>
    intro i h
    have e1 := xw_4nI a i
    have hv : vp_in (nI i) 4 := vp_in_nI (by omega) (by decide)
    refine br_f (nI_ge (by omega) (by omega)) ⟨hv, xw_in e1 (by omega) (by decide), hv, nm_r (e' := ra_cf cv (ra_fl W 0 (i + 1) (fun i => W i + yw_ps el M a i N))) ?_ (nm_r (nI_1 i) (ih (i + 1) (by omega)))⟩
    rw [e1, nI_clamp (by omega), nI_clamp (by omega), k3 a ha i (by omega), ← ra_flP, ← ra_cfu, ← fq_xor F]
    have e : ra_cf cv (ra_fl W 0 i (fun i => W i + yw_ps el M a i N)) i = cv (W i) := congrArg cv (ra_flN (by omega))
    rw [e]
theorem xw_ap27 {R : Type} [Lean.Grind.CommRing R] [Lean.Grind.IsCharP R 2] {cv : R → Int32} {el : Nat → R} {iv : R → R} {m N : Nat} (F : fq_F cv el iv m N) (hP : fq_P cv a_power) {post : Int32 → SX → Prop} {M : Nat → Bool} {L : Nat → R} {g : Nat → Nat} {s t d c : Nat} (s4 : s ≤ 4) (t4 : t ≤ 4) (hd : d < s) (c4 : c ≤ 4) (hg : ∀ j, j < c → 1 ≤ g j ∧ g j ≤ N ∧ L j = el (g j)) (hp : ∀ a_members a_sizes a_sketches, rl_mem (rl_ch M d g c) s N a_members → rl_siz (rl_ch M d g c) s N a_sizes → rl_ske cv el (rl_ch M d g c) s t N a_sketches → post (nI c) (f_bits, nI t, f_sides, f_order, nI c, f_found, f_polyDegree, f_polyBasis, f_depth, a_exp, a_log, a_power, a_members, a_sizes, a_sketches, a_combined, ra_cf cv L, a_syndromes, a_locator, a_previous, a_saved, a_poly, a_residue, a_wide, a_left, a_right, a_quotient, a_stackPoly, a_stackDegree, a_stackBasis)) : ∀ (e j : Nat) (a_members a_sizes a_sketches : Nat → Int32), j + e = c → rl_mem (rl_ch M d g j) s N a_members → rl_siz (rl_ch M d g j) s N a_sizes → rl_ske cv el (rl_ch M d g j) s t N a_sketches → wX_apply_27 post (nI d) (e + 1) (nI j) f_bits (nI t) f_sides f_order (nI c) f_found f_polyDegree f_polyBasis f_depth a_exp a_log a_power a_members a_sizes a_sketches a_combined (ra_cf cv L) a_syndromes a_locator a_previous a_saved a_poly a_residue a_wide a_left a_right a_quotient a_stackPoly a_stackDegree a_stackBasis := by
  intro e
  induction e with
  | zero =>
    intro j am az ak h q1 q2 q3
    obtain rfl : j = c := by omega
    exact br_t (nI_le (Nat.le_refl _) (by omega)) (hp am az ak q1 q2 q3)
  | succ e ih =>
    intro j am az ak h q1 q2 q3
    obtain ⟨g1, g2, g3⟩ := hg j (by omega)
    refine br_f (nI_ge (by omega) (by omega)) ⟨vp_in_nI (by omega) (by decide), ?_⟩
    have e1 : ra_cf cv L (nI j).toNatClampNeg = nI (g j) := by
      rw [nI_clamp (by omega)]
      show cv (L j) = _
      rw [g3, F.2.2.2.2.1 _ g2]
    rw [e1]
    refine xw_toggle F hP s4 t4 hd g1 g2 q1 q2 q3 (fun am az ak r1 r2 r3 => ?_)
    exact nm_r (nI_1 j) (ih (j + 1) am az ak (by omega) r1 r2 r3)
end
section
variable {f_m f_t f_s f_n f_poly f_result : Int32} {a_member a_combined a_list : Nat → Int32}
theorem yw_dif {post : Int32 → Prop} {M : Nat → Bool} {a b N : Nat} (ha : a < 4) (hb : b < 4) (hN : N ≤ 31) (hp : post (nI (rl_dn (fun x => M (a * 32 + x) ^^ M (b * 32 + x)) N))) : ∃ n, wY_difference_32 post (nI a) (nI b) f_m f_t f_s (nI N) f_poly f_result (yw_mf M) a_combined a_list n 0 1 := by
  have k : ∀ e c, c + e = N → wY_difference_32 post (nI a) (nI b) f_m f_t f_s (nI N) f_poly f_result (yw_mf M) a_combined a_list (e + 1) (nI (rl_dn (fun x => M (a * 32 + x) ^^ M (b * 32 + x)) c)) (nI (c + 1)) := by
    intro e
    induction e with
    | zero =>
      intro c h
      obtain rfl : c = N := by omega
      exact br_t (nI_lt (by omega) (by omega)) hp
    | succ e ih =>
      intro c h
      have e1 := yw_ix a (c + 1)
      have e2 := yw_ix b (c + 1)
      have q := ih (c + 1) (by omega)
      refine br_f (nI_nlt (by omega) (by omega)) ⟨xw_in e1 (by omega) (by decide), xw_in e2 (by omega) (by decide), ?_⟩
      rw [e1, e2, nI_clamp (by omega), nI_clamp (by omega)]
      have e3 : rl_dn (fun x => M (a * 32 + x) ^^ M (b * 32 + x)) (c + 1) = rl_dn (fun x => M (a * 32 + x) ^^ M (b * 32 + x)) c + (if (M (a * 32 + (c + 1)) ^^ M (b * 32 + (c + 1))) then 1 else 0) := rfl
      by_cases z : M (a * 32 + (c + 1)) = M (b * 32 + (c + 1))
      · rw [e3, z, Bool.xor_self] at q
        exact br_t (yw_mfe.mpr z) (nm_r (nI_1 (c + 1)) q)
      · have w : (M (a * 32 + (c + 1)) ^^ M (b * 32 + (c + 1))) = true := by
          revert z
          cases M (a * 32 + (c + 1)) <;> cases M (b * 32 + (c + 1)) <;> simp
        rw [e3, w] at q
        exact br_f (fun y => z (yw_mfe.mp y)) (nm_r (nI_1 _) (nm_r (nI_1 (c + 1)) q))
  exact ⟨_, k N 0 (by omega)⟩
theorem yw_cl2 {R : Type} [Lean.Grind.CommRing R] {cv : R → Int32} {el : Nat → R} {iv : R → R} {m N : Nat} (F : fq_F cv el iv m N) {post : SY → Prop} {t : Nat} (t4 : t ≤ 4) : ∀ (d i : Nat) (W : Nat → R), i + d = t → post (f_m, nI t, f_s, f_n, f_poly, 106, a_member, ra_cf cv (ra_fl W i t (fun _ => 0)), a_list) → wY_clear_2 post f_m (nI t) f_s f_n f_poly f_result (d + 1) (nI i) a_member (ra_cf cv W) a_list := by
  intro d
  induction d with
  | zero =>
    intro i W h hp
    obtain rfl : i = t := by omega
    rw [ra_fl0] at hp
    exact br_t (nI_le (Nat.le_refl _) (by omega)) hp
  | succ d ih =>
    intro i W h hp
    refine br_f (nI_ge (by omega) (by omega)) ⟨vp_in_nI (by omega) (by decide), nm_r (e' := ra_cf cv (ra_ur W i 0)) ?_ (nm_r (nI_1 i) (ih (i + 1) _ (by omega) ?_))⟩
    · rw [nI_clamp (by omega), ← ra_cfu, F.2.1]
    · rw [ra_flS W (fun _ => 0) (by omega)]
      exact hp
theorem yw_co29 {R : Type} [Lean.Grind.CommRing R] {cv : R → Int32} {el : Nat → R} {iv : R → R} {m N : Nat} (F : fq_F cv el iv m N) (Y : fq_Y cv f_m f_poly) {post : Int32 → SY → Prop} {M : Nat → Bool} {t a b : Nat} (t4 : t ≤ 4) (ha : a < 4) (hb : b < 4) : ∀ (d i : Nat) (W : Nat → R), i + d = t → post 0 (f_m, nI t, f_s, nI N, f_poly, 106, yw_mf M, ra_cf cv (ra_fl W i t (fun i => yw_ps el M a i N + yw_ps el M b i N)), a_list) → wY_combine_29 post (nI a) (nI b) f_m (nI t) f_s (nI N) f_poly f_result (d + 1) (nI i) (yw_mf M) (ra_cf cv W) a_list := by
  intro d
  induction d with
  | zero =>
    intro i W h hp
    obtain rfl : i = t := by omega
    rw [ra_fl0] at hp
    exact br_t (nI_le (Nat.le_refl _) (by omega)) hp
  | succ d ih =>
    intro i W h hp
    refine br_f (nI_ge (by omega) (by omega)) ?_
    refine yw_powerSum F Y ha (by omega) ?_
    refine yw_powerSum F Y hb (by omega) ⟨vp_in_nI (by omega) (by decide), nm_r (e' := ra_cf cv (ra_ur W i ((fun i => yw_ps el M a i N + yw_ps el M b i N) i))) ?_ (nm_r (nI_1 i) (ih (i + 1) _ (by omega) ?_))⟩
    · rw [nI_clamp (by omega), fq_xor F, ra_cfu]
    · rw [ra_flS W (fun i => yw_ps el M a i N + yw_ps el M b i N) (by omega)]
      exact hp
theorem yw_fo17 {R : Type} [Lean.Grind.CommRing R] {cv : R → Int32} {el : Nat → R} {iv : R → R} {m N : Nat} (F : fq_F cv el iv m N) (Y : fq_Y cv f_m f_poly) {post : Int32 → SY → Prop} {M : Nat → Bool} {W : Nat → R} {t a : Nat} (t4 : t ≤ 4) (ha : a < 4) (hp : post 0 (f_m, nI t, f_s, nI N, f_poly, 106, yw_mf M, ra_cf cv (ra_fl W 0 t (fun i => W i + yw_ps el M a i N)), a_list)) : ∀ (d i : Nat), i + d = t → wY_fold_17 post (nI a) f_m (nI t) f_s (nI N) f_poly f_result (d + 1) (nI i) (yw_mf M) (ra_cf cv (ra_fl W 0 i (fun i => W i + yw_ps el M a i N))) a_list := by
  intro d
  induction d with
  | zero =>
    intro i h
    obtain rfl : i = t := by omega
    exact br_t (nI_le (Nat.le_refl _) (by omega)) hp
  | succ d ih =>
    intro i h
    have hv : vp_in (nI i) 4 := vp_in_nI (by omega) (by decide)
    refine br_f (nI_ge (by omega) (by omega)) ⟨hv, ?_⟩
    refine yw_powerSum F Y ha (by omega) ⟨hv, nm_r (e' := ra_cf cv (ra_fl W 0 (i + 1) (fun i => W i + yw_ps el M a i N))) ?_ (nm_r (nI_1 i) (ih (i + 1) (by omega)))⟩
    rw [nI_clamp (by omega), ← ra_flP, ← ra_cfu, ← fq_xor F]
    have e : ra_cf cv (ra_fl W 0 i (fun i => W i + yw_ps el M a i N)) i = cv (W i) := congrArg cv (ra_flN (by omega))
    rw [e]
theorem yw_ap40 {post : Int32 → SY → Prop} {M : Nat → Bool} {g : Nat → Nat} {d c N : Nat} (hd : d < 4) (c4 : c ≤ 4) (hN : N ≤ 31) (hg : ∀ j, j < c → g j ≤ N ∧ a_list j = nI (g j)) (hp : post (nI c) (f_m, f_t, f_s, f_n, f_poly, nI c, yw_mf (rl_ch M d g c), a_combined, a_list)) : ∀ (e j : Nat), j + e = c → wY_apply_40 post (nI d) f_m f_t f_s f_n f_poly (nI c) (e + 1) (nI j) (yw_mf (rl_ch M d g j)) a_combined a_list := by
  intro e
  induction e with
  | zero =>
    intro j h
    obtain rfl : j = c := by omega
    exact br_t (nI_le (Nat.le_refl _) (by omega)) hp
  | succ e ih =>
    intro j h
    obtain ⟨g1, g2⟩ := hg j (by omega)
    have hv : vp_in (nI (d * 32 + g j)) 128 := vp_in_nI (by omega) (by decide)
    refine br_f (nI_ge (by omega) (by omega)) ⟨vp_in_nI (by omega) (by decide), nm_r (e' := nI (d * 32 + g j)) ?_ ⟨hv, ?_⟩⟩
    · rw [nI_clamp (by omega), g2, yw_ix]
    · rw [nI_clamp (by omega)]
      cases hM : rl_ch M d g j (d * 32 + g j) with
      | false => exact br_t (yw_mfF hM) ⟨hv, nm_r (yw_set1 hM) (nm_r (nI_1 j) (ih (j + 1) (by omega)))⟩
      | true => exact br_f (yw_mfT hM) ⟨hv, nm_r (yw_set0 hM) (nm_r (nI_1 j) (ih (j + 1) (by omega)))⟩
end
theorem i_vc_difference {k : Nat} {u : SX} {v : SY} (I : i_Rel k u v) (hk : k + 3 ≤ 1539) (v1 : Int32) (v2 : Int32) : wpX_difference (fun r => wpY_difference (fun r' => r' = r ∧ i_Rel (k + 3) u v) v v1 v2) u v1 v2 := by
  refine rl_el (Z := fun u v => wpX_difference (fun r => wpY_difference (fun r' => r' = r ∧ i_Rel (k + 3) u v) v v1 v2) u v1 v2) ?_ I
  intro R i1 i2 i3 cv el iv m N t s M W L Sy C B V P Q Wi Le A U S sd sb f_result f_found f_polyDegree f_polyBasis f_depth f_poly a_exp a_log a_power a_members a_sizes a_sketches Lb hC
  obtain ⟨F, T, hP, hY, t1, t4, s2, s4, k1, k2, k3, hW, hr⟩ := id hC
  have hm := F.2.2.2.2.2.2.2.2.2.1
  unfold wpX_difference
  rcases rl_ix v1 (n := s) (by omega) with h | ⟨a, ha, rfl⟩
  · exact xw_side0 h (br_t rfl (rl_b2 h ⟨rfl, rl_mk hC⟩))
  refine xw_side1 ha s4 (br_f (by decide) ?_)
  rcases rl_ix v2 (n := s) (by omega) with h | ⟨b, hb, rfl⟩
  · exact xw_side0 h (br_t rfl (rl_g2 (nI_pos (by omega)) (nI_ge ha (by omega)) (rl_b1 (rl_nl h) ⟨rfl, rl_mk hC⟩)))
  refine xw_side1 hb s4 (br_f (by decide) ⟨vp_in_nI (by omega) (by decide), vp_in_nI (by omega) (by decide), nm_r (e' := a_members a ^^^ a_members b) ?_ (xw_dif (by omega) ?_)⟩)
  · rw [nI_clamp (by omega), nI_clamp (by omega)]
  · refine rl_g2 (nI_pos (by omega)) (nI_ge ha (by omega)) (rl_g1 (nI_pos (by omega)) (nI_lt hb (by omega)) (yw_dif (by omega) (by omega) (by omega) ⟨congrArg nI (rl_dnc N (fun x x1 x2 => ?_)), rl_mk hC⟩))
    rw [b_xor, k1 a ha x x1 x2, k1 b hb x x1 x2]
theorem i_vc_clear {k : Nat} {u : SX} {v : SY} (I : i_Rel k u v) (hk : k + 3 ≤ 1539) : wpX_clear (fun u' => wpY_clear (fun v' => i_Rel (k + 3) u' v') v) u := by
  refine rl_el (Z := fun u v => wpX_clear (fun u' => wpY_clear (fun v' => i_Rel (k + 3) u' v') v) u) ?_ I
  intro R i1 i2 i3 cv el iv m N t s M W L Sy C B V P Q Wi Le A U S sd sb f_result f_found f_polyDegree f_polyBasis f_depth f_poly a_exp a_log a_power a_members a_sizes a_sketches Lb hC
  obtain ⟨F, T, hP, hY, t1, t4, s2, s4, k1, k2, k3, hW, hr⟩ := id hC
  have hm := F.2.2.2.2.2.2.2.2.2.1
  have e : ra_fl W 0 4 (fun _ => 0) = ra_fl W 0 t (fun _ => 0) := by
    funext j
    by_cases c : j < t
    · rw [ra_flI (by omega) c, ra_flI (by omega) (by omega)]
    · rw [ra_flN (i := 0) (e := t) (by omega), hW j (by omega)]
      by_cases c4 : j < 4
      · rw [ra_flI (by omega) c4]
      · rw [ra_flN (by omega), hW j (by omega)]
  unfold wpX_clear
  refine ⟨5, xw_cl2 F 4 0 W rfl ?_⟩
  rw [e]
  refine ⟨t + 1, yw_cl2 F t4 t 0 W (by omega) (rl_mk ⟨F, T, hP, hY, t1, t4, s2, s4, k1, k2, k3, fun i hi => ?_, Or.inl rfl⟩)⟩
  rw [ra_flN (by omega)]
  exact hW i hi
theorem i_vc_combine {k : Nat} {u : SX} {v : SY} (I : i_Rel k u v) (hk : k + 3 ≤ 1539) (v1 : Int32) (v2 : Int32) : wpX_combine (fun r u' => wpY_combine (fun r' v' => r' = r ∧ i_Rel (k + 3) u' v') v v1 v2) u v1 v2 := by
  refine rl_el (Z := fun u v => wpX_combine (fun r u' => wpY_combine (fun r' v' => r' = r ∧ i_Rel (k + 3) u' v') v v1 v2) u v1 v2) ?_ I
  intro R i1 i2 i3 cv el iv m N t s M W L Sy C B V P Q Wi Le A U S sd sb f_result f_found f_polyDegree f_polyBasis f_depth f_poly a_exp a_log a_power a_members a_sizes a_sketches Lb hC
  obtain ⟨F, T, hP, hY, t1, t4, s2, s4, k1, k2, k3, hW, hr⟩ := id hC
  have hm := F.2.2.2.2.2.2.2.2.2.1
  unfold wpX_combine
  rcases rl_ix v1 (n := s) (by omega) with h | ⟨a, ha, rfl⟩
  · exact xw_side0 h (br_t rfl (rl_b2 h ⟨rfl, rl_mk hC⟩))
  refine xw_side1 ha s4 (br_f (by decide) ?_)
  rcases rl_ix v2 (n := s) (by omega) with h | ⟨b, hb, rfl⟩
  · exact xw_side0 h (br_t rfl (rl_g2 (nI_pos (by omega)) (nI_ge ha (by omega)) (rl_b1 (rl_nl h) ⟨rfl, rl_mk hC⟩)))
  refine xw_side1 hb s4 (br_f (by decide) ⟨t + 1, xw_co21 F s4 t4 ha hb k3 t 0 W (by omega) ?_⟩)
  refine rl_g2 (nI_pos (by omega)) (nI_ge ha (by omega)) (rl_g1 (nI_pos (by omega)) (nI_lt hb (by omega)) ⟨t + 1, yw_co29 F hY t4 (by omega) (by omega) t 0 W (by omega) ⟨rfl, rl_mk ⟨F, T, hP, hY, t1, t4, s2, s4, k1, k2, k3, fun i hi => ?_, Or.inl rfl⟩⟩⟩)
  rw [ra_flN (by omega)]
  exact hW i hi
theorem i_vc_fold {k : Nat} {u : SX} {v : SY} (I : i_Rel k u v) (hk : k + 3 ≤ 1539) (v1 : Int32) : wpX_fold (fun r u' => wpY_fold (fun r' v' => r' = r ∧ i_Rel (k + 3) u' v') v v1) u v1 := by
  refine rl_el (Z := fun u v => wpX_fold (fun r u' => wpY_fold (fun r' v' => r' = r ∧ i_Rel (k + 3) u' v') v v1) u v1) ?_ I
  intro R i1 i2 i3 cv el iv m N t s M W L Sy C B V P Q Wi Le A U S sd sb f_result f_found f_polyDegree f_polyBasis f_depth f_poly a_exp a_log a_power a_members a_sizes a_sketches Lb hC
  obtain ⟨F, T, hP, hY, t1, t4, s2, s4, k1, k2, k3, hW, hr⟩ := id hC
  have hm := F.2.2.2.2.2.2.2.2.2.1
  unfold wpX_fold
  rcases rl_ix v1 (n := s) (by omega) with h | ⟨a, ha, rfl⟩
  · exact xw_side0 h (br_t rfl (rl_b1 (rl_nl h) ⟨rfl, rl_mk hC⟩))
  refine xw_side1 ha s4 (br_f (by decide) ⟨t + 1, ?_⟩)
  have e0 : W = ra_fl W 0 0 (fun i => W i + yw_ps el M a i N) := (ra_fl0 W 0 _).symm
  have goalX := xw_fo13 (f_bits := nI m) (f_sides := nI s) (f_order := nI N) (f_result := f_result) (f_found := f_found) (f_polyDegree := f_polyDegree) (f_polyBasis := f_polyBasis) (f_depth := f_depth) (a_exp := a_exp) (a_log := a_log) (a_power := a_power) (a_members := a_members) (a_sizes := a_sizes) (a_list := ra_cf cv L) (a_syndromes := ra_cf cv Sy) (a_locator := ra_cf cv C) (a_previous := ra_cf cv B) (a_saved := ra_cf cv V) (a_poly := ra_cf cv P) (a_residue := ra_cf cv Q) (a_wide := ra_cf cv Wi) (a_left := ra_cf cv Le) (a_right := ra_cf cv A) (a_quotient := ra_cf cv U) (a_stackPoly := ra_cf cv S) (a_stackDegree := xw_nf sd) (a_stackBasis := xw_nf sb) F (post := fun r u' => wpY_fold (fun r' v' => r' = r ∧ i_Rel (k + 3) u' v') (nI m, nI t, nI s, nI N, f_poly, f_result, yw_mf M, ra_cf cv W, ra_cf cv Lb) (nI a)) (W := W) s4 t4 ha k3 ?_ t 0 (by omega)
  · rw [← e0] at goalX
    exact goalX
  · refine rl_g1 (nI_pos (by omega)) (nI_lt ha (by omega)) ⟨t + 1, ?_⟩
    have goalY := yw_fo17 (f_m := nI m) (f_s := nI s) (f_result := f_result) (a_list := ra_cf cv Lb) F hY (post := fun r' v' => r' = 0 ∧ i_Rel (k + 3) (nI m, nI t, nI s, nI N, 106, f_found, f_polyDegree, f_polyBasis, f_depth, a_exp, a_log, a_power, a_members, a_sizes, a_sketches, ra_cf cv (ra_fl W 0 t (fun i => W i + yw_ps el M a i N)), ra_cf cv L, ra_cf cv Sy, ra_cf cv C, ra_cf cv B, ra_cf cv V, ra_cf cv P, ra_cf cv Q, ra_cf cv Wi, ra_cf cv Le, ra_cf cv A, ra_cf cv U, ra_cf cv S, xw_nf sd, xw_nf sb) v') (M := M) (W := W) t4 (show a < 4 by omega) ⟨rfl, rl_mk ⟨F, T, hP, hY, t1, t4, s2, s4, k1, k2, k3, fun i hi => ?_, Or.inl rfl⟩⟩ t 0 (by omega)
    · rw [← e0] at goalY
      exact goalY
    · rw [ra_flN (by omega)]
      exact hW i hi
theorem i_vc_apply {k : Nat} {u : SX} {v : SY} (I : i_Rel k u v) (hk : k + 3 ≤ 1539) (v1 : Int32) : wpX_apply (fun r u' => wpY_apply (fun r' v' => r' = r ∧ i_Rel (k + 3) u' v') v v1) u v1 := by
  refine rl_el (Z := fun u v => wpX_apply (fun r u' => wpY_apply (fun r' v' => r' = r ∧ i_Rel (k + 3) u' v') v v1) u v1) ?_ I
  intro R i1 i2 i3 cv el iv m N t s M W L Sy C B V P Q Wi Le A U S sd sb f_result f_found f_polyDegree f_polyBasis f_depth f_poly a_exp a_log a_power a_members a_sizes a_sketches Lb hC
  obtain ⟨F, T, hP, hY, t1, t4, s2, s4, k1, k2, k3, hW, hr⟩ := id hC
  have hm := F.2.2.2.2.2.2.2.2.2.1
  unfold wpX_apply
  rcases rl_ix v1 (n := s) (by omega) with h | ⟨d, hd, rfl⟩
  · exact xw_side0 h (br_t rfl (rl_b1 (rl_nl h) ⟨rfl, rl_mk hC⟩))
  refine xw_side1 hd s4 (br_f (by decide) ?_)
  rcases hr with h | h | ⟨c, g, c4, h, hg⟩
  · subst h
    exact br_f (by decide) (rl_g1 (nI_pos (by omega)) (nI_lt hd (by omega)) (br_t rfl ⟨rfl, rl_mk hC⟩))
  · subst h
    exact br_f (by decide) (rl_g1 (nI_pos (by omega)) (nI_lt hd (by omega)) (br_f (by decide) (br_t rfl ⟨rfl, rl_mk hC⟩)))
  · subst h
    have n1 : ¬ nI c = 106 := fun z => absurd ((nI_eq (b := 106) (by omega) (by omega)).mp z) (by omega)
    have n2 : ¬ nI c = 107 := fun z => absurd ((nI_eq (b := 107) (by omega) (by omega)).mp z) (by omega)
    refine br_t (nI_lt (b := 100) (by omega) (by decide)) ⟨c + 1, xw_ap27 F hP (M := M) (g := g) s4 t4 hd c4 (fun j hj => ⟨(hg j hj).1, (hg j hj).2.1, (hg j hj).2.2.1⟩) (fun am az ak q1 q2 q3 => ?_) c 0 a_members a_sizes a_sketches (by omega) k1 k2 k3⟩
    exact rl_g1 (nI_pos (by omega)) (nI_lt hd (by omega)) (br_f n1 (br_f n2 ⟨c + 1, yw_ap40 (N := N) (M := M) (g := g) (by omega) c4 (by omega) (fun j hj => ⟨(hg j hj).2.1, (hg j hj).2.2.2⟩) ⟨rfl, rl_mk ⟨F, T, hP, hY, t1, t4, s2, s4, q1, q2, q3, hW, Or.inr (Or.inr ⟨c, g, c4, rfl, hg⟩)⟩⟩ c 0 (by omega)⟩))
theorem sg_inj {R : Type} {L L' : Nat → R} : ∀ k a, sg_l L a k = sg_l L' a k → ∀ j, j < k → L (a + j) = L' (a + j) := by
  intro k
  induction k with
  | zero => intro a _ j hj; omega
  | succ k ih =>
    intro a h j hj
    obtain ⟨h1, h2⟩ := List.cons.inj h
    rcases j with _ | j
    · exact h1
    · have := ih (a + 1) h2 j (by omega)
      rw [show a + 1 + j = a + (j + 1) by omega] at this
      exact this
theorem i_vc_decode {k : Nat} {u : SX} {v : SY} (I : i_Rel k u v) (hk : k + 3 ≤ 1539) (v1 : Int32) : wpX_decode (fun r u' => wpY_decode (fun r' v' => r' = r ∧ i_Rel (k + 3) u' v') v v1) u v1 := by
  refine rl_el (Z := fun u v => wpX_decode (fun r u' => wpY_decode (fun r' v' => r' = r ∧ i_Rel (k + 3) u' v') v v1) u v1) ?_ I
  intro R i1 i2 i3 cv el iv m N t s M W L Sy C B V P Q Wi Le A U S sd sb f_result f_found f_polyDegree f_polyBasis f_depth f_poly a_exp a_log a_power a_members a_sizes a_sketches Lb hC
  obtain ⟨F, T, hP, hY, t1, t4, s2, s4, k1, k2, k3, hW, hr⟩ := id hC
  have hm := F.2.2.2.2.2.2.2.2.2.1
  rcases rl_ie v1 (n := t) (by omega) with h | ⟨q, q1, q2, rfl⟩
  · exact rl_b1 (rl_nle h) (rl_b1 (rl_nle h) ⟨rfl, rl_mk hC⟩)
  refine xw_decode F T hP q1 q2 t4 (fun ok n pd pb dp L' Sy' C' B' V' P' Q' W' Le' A' U' S' sd' sb' hn hok hE => ?_)
  refine yw_decode F hY q1 q2 t4 (fun a b c d hV hF n2 L2 hn2 hs => ?_) (fun hno => ?_)
  · have hN := dc_tup F q1 hV hF
    obtain ⟨e1, e2⟩ := hE _ hN
    subst e1
    rw [← hs] at e2 hN
    have e3 : n = n2 := by
      have := congrArg List.length e2
      rw [sg_len, sg_len] at this
      exact this
    subst e3
    have e4 := sg_inj n 0 e2
    have hz : ∀ j, j < n → L2 j ≠ 0 := fun j hj => by
      refine hN.2.1 _ ?_
      have := sg_mem L2 n 0 j hj
      rw [Nat.zero_add] at this
      exact this
    obtain ⟨g, hg⟩ : ∃ g : Nat → Nat, ∀ j, g j ≤ N ∧ L2 j = el (g j) ∧ cv (L2 j) = nI (g j) := ⟨fun j => Classical.choose (fq_nat F (L2 j)), fun j => Classical.choose_spec (fq_nat F (L2 j))⟩
    refine ⟨rfl, rl_mk ⟨F, T, hP, hY, t1, t4, s2, s4, k1, k2, k3, hW, Or.inr (Or.inr ⟨n, g, hn, rfl, fun j hj => ?_⟩)⟩⟩
    obtain ⟨g1, g2, g3⟩ := hg j
    refine ⟨?_, g1, ?_, g3⟩
    · apply Classical.byContradiction
      intro w
      have w0 : g j = 0 := by omega
      exact hz j hj (by rw [g2, w0, fq_el0 F])
    · have := e4 j hj
      rw [Nat.zero_add] at this
      rw [this, g2]
  · cases ok with
    | false => exact ⟨rfl, rl_mk ⟨F, T, hP, hY, t1, t4, s2, s4, k1, k2, k3, hW, Or.inr (Or.inl rfl)⟩⟩
    | true =>
      obtain ⟨o1, o2⟩ := hok rfl
      obtain ⟨E, hE'⟩ := dc_ex F.1 (xs := sg_l L' 0 n) (by rw [sg_len]; exact o1) o2
      obtain ⟨a, b, c, d, hV, hF⟩ := dc_find F q1 (by omega) hE'
      exact absurd hF (hno a b c d hV)
end
section
/-! ===== the fields of 8, 16 and 32 elements, by tables of powers and logarithms ===== -/
def gf_at (T i : Nat) : Nat := (T >>> (5 * i)) % 32
def gf_mul (E L a b : Nat) : Nat := cond (Nat.beq a 0) 0 (cond (Nat.beq b 0) 0 (gf_at E (gf_at L a + gf_at L b)))
def gf_m (m E L a b : Nat) : Nat := gf_mul E L a b % 2 ^ m
def gf_iv (m E L a : Nat) : Nat := cond (Nat.beq a 0) 0 (gf_at E (2 ^ m - 1 - gf_at L a) % 2 ^ m)
def gf_all : Nat → (Nat → Bool) → Bool
  | 0, _ => true
  | n + 1, f => f n && gf_all n f
def gf_any : Nat → (Nat → Bool) → Bool
  | 0, _ => false
  | n + 1, f => f n || gf_any n f
theorem gf_allE {f : Nat → Bool} : ∀ {n : Nat}, gf_all n f = true → ∀ i, i < n → f i = true := by
  intro n
  induction n with
  | zero => intro _ i hi; omega
  | succ n ih =>
    intro h i hi
    rw [gf_all, Bool.and_eq_true] at h
    by_cases e : i = n
    · rw [e]; exact h.1
    · exact ih h.2 i (by omega)
theorem gf_anyE {f : Nat → Bool} : ∀ {n : Nat}, gf_any n f = true → ∃ i, i < n ∧ f i = true := by
  intro n
  induction n with
  | zero => intro h; exact absurd h Bool.false_ne_true
  | succ n ih =>
    intro h
    rw [gf_any, Bool.or_eq_true] at h
    rcases h with h | h
    · exact ⟨n, by omega, h⟩
    · obtain ⟨i, a, b⟩ := ih h
      exact ⟨i, by omega, b⟩
def gf_fr (m E L : Nat) : Nat → Nat → Nat
  | 0, a => a
  | n + 1, a => gf_m m E L (gf_fr m E L n a) (gf_fr m E L n a)
def gf_tr (m E L : Nat) : Nat → Nat → Nat
  | 0, _ => 0
  | n + 1, a => gf_tr m E L n a ^^^ gf_fr m E L n a
/-- the reference's product: full product, then the reduction from the top -/
def gf_y1 (a b : Nat) : Nat → Nat
  | 0 => 0
  | c + 1 => cond (Nat.beq (b / 2 ^ c % 2) 1) (gf_y1 a b c ^^^ (a * 2 ^ c)) (gf_y1 a b c)
def gf_y2 (m md : Nat) : Nat → Nat → Nat
  | 0, p => p
  | c + 1, p => gf_y2 m md c (cond (Nat.beq (p / 2 ^ (m + c) % 2) 1) (p ^^^ (md * 2 ^ c)) p)
def gf_cA (m E L : Nat) : Bool := gf_all (2 ^ m) (fun a => gf_all (2 ^ m) (fun b => gf_all (2 ^ m) (fun c => Nat.beq (gf_m m E L (gf_m m E L a b) c) (gf_m m E L a (gf_m m E L b c)))))
def gf_cC (m E L : Nat) : Bool := gf_all (2 ^ m) (fun a => gf_all (2 ^ m) (fun b => Nat.beq (gf_m m E L a b) (gf_m m E L b a)))
def gf_c1 (m E L : Nat) : Bool := gf_all (2 ^ m) (fun a => Nat.beq (gf_m m E L a 1) a)
def gf_cD (m E L : Nat) : Bool := gf_all (2 ^ m) (fun a => gf_all (2 ^ m) (fun b => gf_all (2 ^ m) (fun c => Nat.beq (gf_m m E L a (b ^^^ c)) (gf_m m E L a b ^^^ gf_m m E L a c))))
def gf_cZ (m E L : Nat) : Bool := gf_all (2 ^ m) (fun a => gf_all (2 ^ m) (fun b => Nat.beq a 0 || Nat.beq b 0 || !Nat.beq (gf_m m E L a b) 0))
def gf_cI (m E L : Nat) : Bool := gf_all (2 ^ m) (fun a => Nat.beq a 0 || Nat.beq (gf_m m E L a (gf_iv m E L a)) 1)
def gf_cF (m E L : Nat) : Bool := gf_all (2 ^ m) (fun a => Nat.beq (gf_fr m E L m a) a)
def gf_cT (m E L : Nat) : Bool := gf_all (2 ^ m) (fun a => Nat.beq (gf_tr m E L m a) 0 || Nat.beq (gf_tr m E L m a) 1)
def gf_cN (m E L : Nat) : Bool := gf_all (2 ^ m) (fun a => gf_all (2 ^ m) (fun b => Nat.beq a b || gf_any m (fun j => !Nat.beq (gf_tr m E L m (gf_m m E L (2 ^ j) a)) (gf_tr m E L m (gf_m m E L (2 ^ j) b)))))
def gf_c0 (m E L : Nat) : Bool := gf_all (2 ^ m) (fun a => Nat.beq (gf_m m E L a 0) 0)
/-- the table of powers: bounds, the step -/
def gf_cE (m E L md : Nat) : Bool := Nat.beq (gf_at E 0) 1 && gf_all (2 * (2 ^ m - 1)) (fun i => Nat.ble 1 (gf_at E i) && Nat.ble (gf_at E i) (2 ^ m - 1) && Nat.beq (gf_at E (i + 1)) (cond (Nat.ble (gf_at E i * 2) (2 ^ m - 1)) (gf_at E i * 2) ((gf_at E i * 2) ^^^ md)) && (Nat.ble (2 ^ m - 1) i || Nat.beq (gf_at L (gf_at E i)) i))
def gf_cL (m E L : Nat) : Bool := gf_all (2 ^ m) (fun a => Nat.beq a 0 || (Nat.ble (gf_at L a + 1) (2 ^ m - 1) && Nat.beq (gf_at E (gf_at L a)) a))
def gf_cY (m E L md : Nat) : Bool := gf_all (2 ^ m) (fun a => gf_all (2 ^ m) (fun b => Nat.beq (gf_y2 m md (m - 1) (gf_y1 a b m)) (gf_m m E L a b)))
def gf_E3 : Nat := 1373349205445070393409
def gf_L3 : Nat := 176297182208
def gf_E4 : Nat := 1847453170972169220321970791662802620699119681
def gf_L4 : Nat := 466820485889228829492224
def gf_E5 : Nat := 3279014710600346403213424140614038714999469127906257280895682759432647158494638500030085075009
def gf_L5 : Nat := 719976087585702537242947323940304841317326324736
theorem gf_cA3 : gf_cA 3 gf_E3 gf_L3 = true := by decide +kernel
theorem gf_cC3 : gf_cC 3 gf_E3 gf_L3 = true := by decide +kernel
theorem gf_c13 : gf_c1 3 gf_E3 gf_L3 = true := by decide +kernel
theorem gf_cD3 : gf_cD 3 gf_E3 gf_L3 = true := by decide +kernel
theorem gf_cZ3 : gf_cZ 3 gf_E3 gf_L3 = true := by decide +kernel
theorem gf_cI3 : gf_cI 3 gf_E3 gf_L3 = true := by decide +kernel
theorem gf_cF3 : gf_cF 3 gf_E3 gf_L3 = true := by decide +kernel
theorem gf_cT3 : gf_cT 3 gf_E3 gf_L3 = true := by decide +kernel
theorem gf_cN3 : gf_cN 3 gf_E3 gf_L3 = true := by decide +kernel
theorem gf_c03 : gf_c0 3 gf_E3 gf_L3 = true := by decide +kernel
theorem gf_cE3 : gf_cE 3 gf_E3 gf_L3 11 = true := by decide +kernel
theorem gf_cL3 : gf_cL 3 gf_E3 gf_L3 = true := by decide +kernel
theorem gf_cY3 : gf_cY 3 gf_E3 gf_L3 11 = true := by decide +kernel
theorem gf_cA4 : gf_cA 4 gf_E4 gf_L4 = true := by decide +kernel
theorem gf_cC4 : gf_cC 4 gf_E4 gf_L4 = true := by decide +kernel
theorem gf_c14 : gf_c1 4 gf_E4 gf_L4 = true := by decide +kernel
theorem gf_cD4 : gf_cD 4 gf_E4 gf_L4 = true := by decide +kernel
theorem gf_cZ4 : gf_cZ 4 gf_E4 gf_L4 = true := by decide +kernel
theorem gf_cI4 : gf_cI 4 gf_E4 gf_L4 = true := by decide +kernel
theorem gf_cF4 : gf_cF 4 gf_E4 gf_L4 = true := by decide +kernel
theorem gf_cT4 : gf_cT 4 gf_E4 gf_L4 = true := by decide +kernel
theorem gf_cN4 : gf_cN 4 gf_E4 gf_L4 = true := by decide +kernel
theorem gf_c04 : gf_c0 4 gf_E4 gf_L4 = true := by decide +kernel
theorem gf_cE4 : gf_cE 4 gf_E4 gf_L4 19 = true := by decide +kernel
theorem gf_cL4 : gf_cL 4 gf_E4 gf_L4 = true := by decide +kernel
theorem gf_cY4 : gf_cY 4 gf_E4 gf_L4 19 = true := by decide +kernel
theorem gf_cA5 : gf_cA 5 gf_E5 gf_L5 = true := by decide +kernel
theorem gf_cC5 : gf_cC 5 gf_E5 gf_L5 = true := by decide +kernel
theorem gf_c15 : gf_c1 5 gf_E5 gf_L5 = true := by decide +kernel
theorem gf_cD5 : gf_cD 5 gf_E5 gf_L5 = true := by decide +kernel
theorem gf_cZ5 : gf_cZ 5 gf_E5 gf_L5 = true := by decide +kernel
theorem gf_cI5 : gf_cI 5 gf_E5 gf_L5 = true := by decide +kernel
theorem gf_cF5 : gf_cF 5 gf_E5 gf_L5 = true := by decide +kernel
theorem gf_cT5 : gf_cT 5 gf_E5 gf_L5 = true := by decide +kernel
theorem gf_cN5 : gf_cN 5 gf_E5 gf_L5 = true := by decide +kernel
theorem gf_c05 : gf_c0 5 gf_E5 gf_L5 = true := by decide +kernel
theorem gf_cE5 : gf_cE 5 gf_E5 gf_L5 37 = true := by decide +kernel
theorem gf_cL5 : gf_cL 5 gf_E5 gf_L5 = true := by decide +kernel
theorem gf_cY5 : gf_cY 5 gf_E5 gf_L5 37 = true := by decide +kernel
end
section
/-! ===== the ring on the numbers below 2^m ===== -/
def gf_OK (m E L : Nat) : Prop := gf_cA m E L = true ∧ gf_cC m E L = true ∧ gf_c1 m E L = true ∧ gf_cD m E L = true ∧ gf_c0 m E L = true ∧ 3 ≤ m
def gf_K (m : Nat) : Type := { x : Nat // x < 2 ^ m }
def gf_cv (m : Nat) (a : gf_K m) : Int32 := nI a.1
def gf_el (m : Nat) (n : Nat) : gf_K m := ⟨n % 2 ^ m, Nat.mod_lt _ (Nat.two_pow_pos m)⟩
def gf_pl {m : Nat} (a b : gf_K m) : gf_K m := ⟨a.1 ^^^ b.1, Nat.xor_lt_two_pow a.2 b.2⟩
def gf_tm (E L : Nat) {m : Nat} (a b : gf_K m) : gf_K m := ⟨gf_m m E L a.1 b.1, Nat.mod_lt _ (Nat.two_pow_pos m)⟩
def gf_in (E L : Nat) {m : Nat} (a : gf_K m) : gf_K m := gf_el m (gf_iv m E L a.1)
def gf_n (m : Nat) (n : Nat) : gf_K m := if n % 2 = 0 then gf_el m 0 else gf_el m 1
def gf_pw (E L : Nat) {m : Nat} (a : gf_K m) : Nat → gf_K m
  | 0 => gf_n m 1
  | n + 1 => gf_tm E L (gf_pw E L a n) a
theorem gf_x {m : Nat} {a b : gf_K m} (h : a.1 = b.1) : a = b := Subtype.ext h
theorem gf_v0 (m : Nat) : (gf_el m 0).1 = 0 := Nat.zero_mod _
theorem gf_v1 {m : Nat} (hm : 3 ≤ m) : (gf_el m 1).1 = 1 := Nat.mod_eq_of_lt (Nat.one_lt_two_pow (by omega))
theorem gf_n0 {m n : Nat} (h : n % 2 = 0) : gf_n m n = gf_el m 0 := if_pos h
theorem gf_n1 {m n : Nat} (h : ¬ n % 2 = 0) : gf_n m n = gf_el m 1 := if_neg h
theorem gf_plc {m : Nat} (a b : gf_K m) : gf_pl a b = gf_pl b a := gf_x (Nat.xor_comm _ _)
theorem gf_pla {m : Nat} (a b c : gf_K m) : gf_pl (gf_pl a b) c = gf_pl a (gf_pl b c) := gf_x (Nat.xor_assoc _ _ _)
theorem gf_pl0 {m : Nat} (a : gf_K m) : gf_pl a (gf_el m 0) = a := gf_x (by show a.1 ^^^ (gf_el m 0).1 = a.1; rw [gf_v0]; exact Nat.xor_zero _)
theorem gf_pls {m : Nat} (a : gf_K m) : gf_pl a a = gf_el m 0 := gf_x (by show a.1 ^^^ a.1 = _; rw [gf_v0]; exact Nat.xor_self _)
theorem gf_tma {m E L : Nat} (h : gf_OK m E L) (a b c : gf_K m) : gf_tm E L (gf_tm E L a b) c = gf_tm E L a (gf_tm E L b c) := gf_x (Nat.eq_of_beq_eq_true (gf_allE (gf_allE (gf_allE h.1 a.1 a.2) b.1 b.2) c.1 c.2))
theorem gf_tmc {m E L : Nat} (h : gf_OK m E L) (a b : gf_K m) : gf_tm E L a b = gf_tm E L b a := gf_x (Nat.eq_of_beq_eq_true (gf_allE (gf_allE h.2.1 a.1 a.2) b.1 b.2))
theorem gf_tm1 {m E L : Nat} (h : gf_OK m E L) (a : gf_K m) : gf_tm E L a (gf_el m 1) = a := gf_x (by show gf_m m E L a.1 (gf_el m 1).1 = a.1; rw [gf_v1 h.2.2.2.2.2]; exact Nat.eq_of_beq_eq_true (gf_allE h.2.2.1 a.1 a.2))
theorem gf_tmd {m E L : Nat} (h : gf_OK m E L) (a b c : gf_K m) : gf_tm E L a (gf_pl b c) = gf_pl (gf_tm E L a b) (gf_tm E L a c) := gf_x (Nat.eq_of_beq_eq_true (gf_allE (gf_allE (gf_allE h.2.2.2.1 a.1 a.2) b.1 b.2) c.1 c.2))
theorem gf_tm0 {m E L : Nat} (h : gf_OK m E L) (a : gf_K m) : gf_tm E L a (gf_el m 0) = gf_el m 0 := gf_x (by show gf_m m E L a.1 (gf_el m 0).1 = (gf_el m 0).1; rw [gf_v0]; exact Nat.eq_of_beq_eq_true (gf_allE h.2.2.2.2.1 a.1 a.2))
theorem gf_nS {m : Nat} (n : Nat) : gf_n m (n + 1) = gf_pl (gf_n m n) (gf_n m 1) := by
  have e1 : gf_n m 1 = gf_el m 1 := rfl
  by_cases h : n % 2 = 0
  · rw [gf_n0 h, gf_n1 (by omega), e1, gf_plc, gf_pl0]
  · rw [gf_n1 h, gf_n0 (by omega), e1, gf_pls]
def gf_ring (m E L : Nat) (h : gf_OK m E L) : Lean.Grind.CommRing (gf_K m) :=
  { add := gf_pl
    mul := gf_tm E L
    natCast := ⟨gf_n m⟩
    ofNat := fun n => ⟨gf_n m n⟩
    nsmul := ⟨fun n a => gf_tm E L (gf_n m n) a⟩
    npow := ⟨fun a n => gf_pw E L a n⟩
    neg := fun a => a
    sub := gf_pl
    intCast := ⟨fun i => gf_n m i.natAbs⟩
    zsmul := ⟨fun i a => gf_tm E L (gf_n m i.natAbs) a⟩
    add_zero := fun a => gf_pl0 a
    add_comm := gf_plc
    add_assoc := gf_pla
    mul_assoc := gf_tma h
    mul_one := fun a => gf_tm1 h a
    one_mul := fun a => (gf_tmc h _ a).trans (gf_tm1 h a)
    left_distrib := gf_tmd h
    right_distrib := fun a b c => by
      show gf_tm E L (gf_pl a b) c = gf_pl (gf_tm E L a c) (gf_tm E L b c)
      rw [gf_tmc h, gf_tmd h, gf_tmc h c a, gf_tmc h c b]
    zero_mul := fun a => (gf_tmc h _ a).trans (gf_tm0 h a)
    mul_zero := fun a => gf_tm0 h a
    pow_zero := fun _ => rfl
    pow_succ := fun _ _ => rfl
    ofNat_succ := fun n => gf_nS n
    ofNat_eq_natCast := fun _ => rfl
    nsmul_eq_natCast_mul := fun _ _ => rfl
    neg_add_cancel := fun a => gf_pls a
    sub_eq_add_neg := fun _ _ => rfl
    neg_zsmul := fun i a => by
      show gf_tm E L (gf_n m (-i).natAbs) a = gf_tm E L (gf_n m i.natAbs) a
      rw [Int.natAbs_neg]
    zsmul_natCast_eq_nsmul := fun _ _ => rfl
    intCast_ofNat := fun _ => rfl
    intCast_neg := fun i => by
      show gf_n m (-i).natAbs = gf_n m i.natAbs
      rw [Int.natAbs_neg]
    mul_comm := gf_tmc h }
theorem gf_char (m E L : Nat) (h : gf_OK m E L) : @Lean.Grind.IsCharP (gf_K m) (gf_ring m E L h).toRing.toSemiring 2 :=
  @Lean.Grind.IsCharP.mk (gf_K m) (gf_ring m E L h).toRing.toSemiring 2 (fun {x y} => by
    show gf_n m x = gf_n m y ↔ x % 2 = y % 2
    have ne : gf_el m 0 ≠ gf_el m 1 := fun z => by
      have := congrArg Subtype.val z
      rw [gf_v0, gf_v1 h.2.2.2.2.2] at this
      omega
    by_cases hx : x % 2 = 0
    · by_cases hy : y % 2 = 0
      · rw [gf_n0 hx, gf_n0 hy, hx, hy]
        exact ⟨fun _ => rfl, fun _ => rfl⟩
      · rw [gf_n0 hx, gf_n1 hy]
        exact ⟨fun z => absurd z ne, fun z => absurd (z.symm.trans hx) hy⟩
    · by_cases hy : y % 2 = 0
      · rw [gf_n1 hx, gf_n0 hy]
        exact ⟨fun z => absurd z.symm ne, fun z => absurd (z.trans hy) hx⟩
      · rw [gf_n1 hx, gf_n1 hy]
        exact ⟨fun _ => by omega, fun _ => rfl⟩)
def gf_dec (m : Nat) : DecidableEq (gf_K m) := fun a b => decidable_of_iff (a.1 = b.1) ⟨gf_x, fun h => congrArg Subtype.val h⟩
end
section
/-! ===== the field's facts for the numbers below 2^m ===== -/
def gf_OK2 (m E L md : Nat) : Prop := gf_OK m E L ∧ gf_cZ m E L = true ∧ gf_cI m E L = true ∧ gf_cF m E L = true ∧ gf_cT m E L = true ∧ gf_cN m E L = true ∧ gf_cE m E L md = true ∧ gf_cL m E L = true ∧ gf_cY m E L md = true ∧ m ≤ 5 ∧ md < 64
theorem gf_ok3 : gf_OK2 3 gf_E3 gf_L3 11 := ⟨⟨gf_cA3, gf_cC3, gf_c13, gf_cD3, gf_c03, by omega⟩, gf_cZ3, gf_cI3, gf_cF3, gf_cT3, gf_cN3, gf_cE3, gf_cL3, gf_cY3, by omega, by omega⟩
theorem gf_ok4 : gf_OK2 4 gf_E4 gf_L4 19 := ⟨⟨gf_cA4, gf_cC4, gf_c14, gf_cD4, gf_c04, by omega⟩, gf_cZ4, gf_cI4, gf_cF4, gf_cT4, gf_cN4, gf_cE4, gf_cL4, gf_cY4, by omega, by omega⟩
theorem gf_ok5 : gf_OK2 5 gf_E5 gf_L5 37 := ⟨⟨gf_cA5, gf_cC5, gf_c15, gf_cD5, gf_c05, by omega⟩, gf_cZ5, gf_cI5, gf_cF5, gf_cT5, gf_cN5, gf_cE5, gf_cL5, gf_cY5, by omega, by omega⟩
theorem gf_pm {m : Nat} (h1 : 3 ≤ m) (h2 : m ≤ 5) : 8 ≤ 2 ^ m ∧ 2 ^ m ≤ 32 := by
  obtain rfl | rfl | rfl : m = 3 ∨ m = 4 ∨ m = 5 := by omega
  · decide
  · decide
  · decide
theorem gf_frv {m E L : Nat} (h : gf_OK m E L) : ∀ (n : Nat) (a : gf_K m), (@fq_fr (gf_K m) (gf_ring m E L h) n a).1 = gf_fr m E L n a.1 := by
  intro n
  induction n with
  | zero => intro a; rfl
  | succ n ih =>
    intro a
    show gf_m m E L (@fq_fr (gf_K m) (gf_ring m E L h) n a).1 (@fq_fr (gf_K m) (gf_ring m E L h) n a).1 = gf_m m E L (gf_fr m E L n a.1) (gf_fr m E L n a.1)
    rw [ih a]
theorem gf_trv {m E L : Nat} (h : gf_OK m E L) (a : gf_K m) : ∀ (n : Nat), (@ra_sm (gf_K m) (gf_ring m E L h) n (fun i => @fq_fr (gf_K m) (gf_ring m E L h) i a)).1 = gf_tr m E L n a.1 := by
  intro n
  induction n with
  | zero => exact gf_v0 m
  | succ n ih =>
    show (@ra_sm (gf_K m) (gf_ring m E L h) n (fun i => @fq_fr (gf_K m) (gf_ring m E L h) i a)).1 ^^^ (@fq_fr (gf_K m) (gf_ring m E L h) n a).1 = gf_tr m E L n a.1 ^^^ gf_fr m E L n a.1
    rw [ih, gf_frv h]
theorem gf_F {m E L md : Nat} (h : gf_OK2 m E L md) : @fq_F (gf_K m) (gf_ring m E L h.1) (gf_cv m) (gf_el m) (gf_in E L) m (2 ^ m - 1) := by
  obtain ⟨hr, hZ, hI, hF, hT, hN, hE, hL, hY, h5, hmd⟩ := h
  have h3 := hr.2.2.2.2.2
  obtain ⟨p1, p2⟩ := gf_pm h3 h5
  have v0 : (gf_el m 0).1 = 0 := gf_v0 m
  have v1 : (gf_el m 1).1 = 1 := gf_v1 h3
  refine ⟨fun a b z => ?_, ?_, ?_, fun a b => ?_, fun n hn => ?_, fun a => ?_, fun a b z => ?_, fun a z => ?_, ?_, ⟨h3, h5, by omega, by omega, by omega⟩, fun a => ?_, fun a => ?_, fun a b z => ?_⟩
  · have a2 := a.2
    have b2 := b.2
    exact gf_x ((nI_eq (by omega) (by omega)).mp z)
  · show nI (gf_el m 0).1 = 0
    rw [v0]
    rfl
  · show nI (gf_el m 1).1 = 1
    rw [v1]
    rfl
  · exact (nx_xor a.1 b.1).symm
  · show nI (n % 2 ^ m) = nI n
    rw [Nat.mod_eq_of_lt (by omega)]
  · have a2 := a.2
    exact ⟨a.1, by omega, gf_x (Nat.mod_eq_of_lt a.2).symm⟩
  · have z' : gf_m m E L a.1 b.1 = 0 := by
      have := congrArg Subtype.val z
      exact this.trans v0
    have q := gf_allE (gf_allE hZ a.1 a.2) b.1 b.2
    rw [z'] at q
    have q2 : (Nat.beq a.1 0 || Nat.beq b.1 0) = true := by
      simpa using q
    rw [Bool.or_eq_true] at q2
    rcases q2 with w | w
    · exact Or.inl (gf_x ((Nat.eq_of_beq_eq_true w).trans v0.symm))
    · exact Or.inr (gf_x ((Nat.eq_of_beq_eq_true w).trans v0.symm))
  · have q := gf_allE hI a.1 a.2
    rw [Bool.or_eq_true] at q
    rcases q with w | w
    · exact absurd (gf_x ((Nat.eq_of_beq_eq_true w).trans v0.symm)) z
    · have w' := Nat.eq_of_beq_eq_true w
      have hlt : gf_iv m E L a.1 < 2 ^ m := by
        unfold gf_iv
        cases Nat.beq a.1 0
        · exact Nat.mod_lt _ (by omega)
        · show 0 < 2 ^ m
          omega
      refine gf_x ?_
      show gf_m m E L a.1 (gf_iv m E L a.1 % 2 ^ m) = (gf_el m 1).1
      rw [Nat.mod_eq_of_lt hlt, w', v1]
  · refine gf_x ?_
    show gf_iv m E L (gf_el m 0).1 % 2 ^ m = (gf_el m 0).1
    rw [v0]
    exact Nat.zero_mod _
  · refine gf_x ?_
    rw [gf_frv hr]
    exact Nat.eq_of_beq_eq_true (gf_allE hF a.1 a.2)
  · have q := gf_allE hT a.1 a.2
    rw [Bool.or_eq_true] at q
    rcases q with w | w
    · refine Or.inl (gf_x ?_)
      exact (gf_trv hr a m).trans ((Nat.eq_of_beq_eq_true w).trans v0.symm)
    · refine Or.inr (gf_x ?_)
      exact (gf_trv hr a m).trans ((Nat.eq_of_beq_eq_true w).trans v1.symm)
  · have q := gf_allE (gf_allE hN a.1 a.2) b.1 b.2
    rw [Bool.or_eq_true] at q
    rcases q with w | w
    · exact gf_x (Nat.eq_of_beq_eq_true w)
    · obtain ⟨j, hj, w⟩ := gf_anyE w
      have z' := congrArg Subtype.val (z j hj)
      have hj2 : 2 ^ j < 2 ^ m := Nat.pow_lt_pow_right (by decide) hj
      have e : ∀ c : gf_K m, (@fq_tr (gf_K m) (gf_ring m E L hr) m (gf_tm E L (gf_el m (2 ^ j)) c)).1 = gf_tr m E L m (gf_m m E L (2 ^ j) c.1) := fun c => by
        refine (gf_trv hr _ m).trans ?_
        show gf_tr m E L m (gf_m m E L (2 ^ j % 2 ^ m) c.1) = _
        rw [Nat.mod_eq_of_lt hj2]
      have z2 := (e a).symm.trans (z'.trans (e b))
      rw [z2] at w
      exact absurd w (by simp)
/-! the tables in the program -/
theorem gf_Ef {m E L md : Nat} (h : gf_OK2 m E L md) : gf_at E 0 = 1 ∧ ∀ i, i < 2 * (2 ^ m - 1) → 1 ≤ gf_at E i ∧ gf_at E i ≤ 2 ^ m - 1 ∧ (gf_at E i * 2 ≤ 2 ^ m - 1 → gf_at E (i + 1) = gf_at E i * 2) ∧ (2 ^ m - 1 < gf_at E i * 2 → gf_at E (i + 1) = (gf_at E i * 2) ^^^ md) ∧ (i < 2 ^ m - 1 → gf_at L (gf_at E i) = i) := by
  obtain ⟨hr, hZ, hI, hF, hT, hN, hE, hL, hY, h5, hmd⟩ := h
  unfold gf_cE at hE
  rw [Bool.and_eq_true] at hE
  refine ⟨Nat.eq_of_beq_eq_true hE.1, fun i hi => ?_⟩
  have q := gf_allE hE.2 i hi
  rw [Bool.and_eq_true, Bool.and_eq_true, Bool.and_eq_true] at q
  obtain ⟨⟨⟨q1, q2⟩, q3⟩, q4⟩ := q
  have q3' := Nat.eq_of_beq_eq_true q3
  refine ⟨Nat.le_of_ble_eq_true q1, Nat.le_of_ble_eq_true q2, fun z => ?_, fun z => ?_, fun z => ?_⟩
  · rw [q3', Nat.ble_eq_true_of_le z]
    rfl
  · have w : Nat.ble (gf_at E i * 2) (2 ^ m - 1) = false := by
      cases hb : Nat.ble (gf_at E i * 2) (2 ^ m - 1)
      · rfl
      · have := Nat.le_of_ble_eq_true hb
        omega
    rw [q3', w]
    rfl
  · rw [Bool.or_eq_true] at q4
    rcases q4 with w | w
    · have := Nat.le_of_ble_eq_true w
      omega
    · exact Nat.eq_of_beq_eq_true w
theorem gf_Lf {m E L md : Nat} (h : gf_OK2 m E L md) {a : Nat} (h1 : 1 ≤ a) (h2 : a < 2 ^ m) : gf_at L a < 2 ^ m - 1 ∧ gf_at E (gf_at L a) = a := by
  obtain ⟨hr, hZ, hI, hF, hT, hN, hE, hL, hY, h5, hmd⟩ := h
  have q := gf_allE hL a h2
  rw [Bool.or_eq_true, Bool.and_eq_true] at q
  rcases q with w | ⟨w1, w2⟩
  · have := Nat.eq_of_beq_eq_true w
    omega
  · have := Nat.le_of_ble_eq_true w1
    exact ⟨by omega, Nat.eq_of_beq_eq_true w2⟩
theorem gf_T {m E L md : Nat} (h : gf_OK2 m E L md) {a_exp a_log : Nat → Int32} (hx : ∀ i, i < 2 * (2 ^ m - 1) → a_exp i = nI (gf_at E i)) (hl : ∀ a, 1 ≤ a → a < 2 ^ m → a_log a = nI (gf_at L a)) : @fq_T (gf_K m) (gf_ring m E L h.1) (gf_cv m) (gf_in E L) (2 ^ m - 1) a_exp a_log := by
  have h3 := h.1.2.2.2.2.2
  have h5 := h.2.2.2.2.2.2.2.2.2.1
  obtain ⟨p1, p2⟩ := gf_pm h3 h5
  have ef := gf_Ef h
  have nz : ∀ a : gf_K m, a ≠ gf_el m 0 → 1 ≤ a.1 := fun a z => by
    apply Classical.byContradiction
    intro w
    exact z (gf_x (by rw [gf_v0]; omega))
  have bz : ∀ a, 1 ≤ a → Nat.beq a 0 = false := fun a ha => by
    obtain ⟨b, rfl⟩ : ∃ b, a = b + 1 := ⟨a - 1, by omega⟩
    rfl
  constructor
  · intro a b za zb
    have a1 := nz a za
    have b1 := nz b zb
    have a2 := a.2
    have b2 := b.2
    obtain ⟨la, _⟩ := gf_Lf h a1 a2
    obtain ⟨lb, _⟩ := gf_Lf h b1 b2
    have e1 : a_log (gf_cv m a).toNatClampNeg = nI (gf_at L a.1) := by
      show a_log (nI a.1).toNatClampNeg = _
      rw [nI_clamp (by omega), hl a.1 a1 a2]
    have e2 : a_log (gf_cv m b).toNatClampNeg = nI (gf_at L b.1) := by
      show a_log (nI b.1).toNatClampNeg = _
      rw [nI_clamp (by omega), hl b.1 b1 b2]
    rw [e1, e2, nI_add, nI_clamp (by omega), hx _ (by omega)]
    refine ⟨vp_in_nI (by omega) (by decide), ?_⟩
    show nI _ = nI (gf_m m E L a.1 b.1)
    unfold gf_m gf_mul
    rw [bz a.1 a1, bz b.1 b1]
    have := (ef.2 (gf_at L a.1 + gf_at L b.1) (by omega)).2.1
    show nI _ = nI (gf_at E (gf_at L a.1 + gf_at L b.1) % 2 ^ m)
    rw [Nat.mod_eq_of_lt (by omega)]
  · intro a za
    have a1 := nz a za
    have a2 := a.2
    obtain ⟨la, _⟩ := gf_Lf h a1 a2
    have e1 : a_log (gf_cv m a).toNatClampNeg = nI (gf_at L a.1) := by
      show a_log (nI a.1).toNatClampNeg = _
      rw [nI_clamp (by omega), hl a.1 a1 a2]
    rw [e1, pk_sub (by omega), nI_clamp (by omega), hx _ (by omega)]
    refine ⟨vp_in_nI (by omega) (by decide), ?_⟩
    show nI _ = nI (gf_iv m E L a.1 % 2 ^ m)
    unfold gf_iv
    rw [bz a.1 a1]
    have := (ef.2 (2 ^ m - 1 - gf_at L a.1) (by omega)).2.1
    show nI _ = nI (gf_at E (2 ^ m - 1 - gf_at L a.1) % 2 ^ m % 2 ^ m)
    rw [Nat.mod_mod, Nat.mod_eq_of_lt (by omega)]
end
section
/-! ===== the reference's product; the tables' walks; the constructors ===== -/
theorem gf_bit {b c : Nat} (hb : b < 2 ^ 31) (hc : c < 32) : (nI b >>> (nI c &&& 31)) &&& 1 = nI (b / 2 ^ c % 2) := by
  have h2 : b / 2 ^ c ≤ b := Nat.div_le_self _ _
  rw [pk_shrN hb (nI c &&& 31) c (s_l c hc)]
  exact pk_andN (by omega) 1 (by decide)
theorem gf_sh {a c : Nat} (hc : c < 32) (h : a * 2 ^ c < 2 ^ 32) : nI a <<< (nI c &&& 31) = nI (a * 2 ^ c) := pk_shlN (nI c &&& 31) c (s_l c hc) h
theorem gf_x10 {a b : Nat} (ha : a < 1024) (hb : b < 1024) : a ^^^ b < 1024 := Nat.xor_lt_two_pow (n := 10) ha hb
theorem gf_pb : ∀ c, c < 5 → 2 ^ c ≤ 16 := by decide
theorem gf_y1b {a b : Nat} (ha : a < 32) : ∀ c, c ≤ 5 → gf_y1 a b c < 1024 := by
  intro c
  induction c with
  | zero =>
    intro _
    show 0 < 1024
    omega
  | succ c ih =>
    intro h
    have q := gf_pb c (by omega)
    have q2 : a * 2 ^ c ≤ 31 * 16 := Nat.mul_le_mul (by omega) q
    unfold gf_y1
    cases Nat.beq (b / 2 ^ c % 2) 1
    · exact ih (by omega)
    · exact gf_x10 (ih (by omega)) (by omega)
theorem gf_beq {a : Nat} (h : a ≠ 1) : Nat.beq a 1 = false := by
  cases e : Nat.beq a 1
  · rfl
  · exact absurd (Nat.eq_of_beq_eq_true e) h
section
variable {f_m f_t f_s f_n f_poly f_result : Int32} {a_member a_combined a_list : Nat → Int32}
theorem gf_47 {post : Int32 → Prop} {m md : Nat} (hm : 1 ≤ m) (h5 : m ≤ 5) (hmd : md < 64) : ∀ (c p : Nat), c ≤ 4 → p < 1024 → post (nI (gf_y2 m md c p)) → wY_product_47 post (nI m) f_t f_s f_n (nI md) f_result a_member a_combined a_list (c + 1) (nI p) (nI (m + c - 1)) := by
  intro c
  induction c with
  | zero =>
    intro p _ hp h
    exact br_t (nI_lt (by omega) (by omega)) h
  | succ c ih =>
    intro p hc hp h
    have q := gf_pb c (by omega)
    have q2 : md * 2 ^ c ≤ 63 * 8 := by
      have : 2 ^ c ≤ 8 := by
        have : 2 ^ c ≤ 2 ^ 3 := Nat.pow_le_pow_right (by decide) (by omega)
        exact this
      exact Nat.mul_le_mul (by omega) this
    have e1 : m + (c + 1) - 1 = m + c := by omega
    have e2 : nI (m + c) + (-1) = nI (m + c - 1) := xw_m1 (by omega)
    have e3 : nI (m + c) - nI m = nI c := by
      rw [pk_sub (by omega)]
      exact congrArg nI (by omega)
    rw [e1]
    refine br_f (nI_nlt (by omega) (by omega)) ?_
    rw [gf_bit (by omega) (by omega)]
    unfold gf_y2 at h
    refine pk_eq (p / 2 ^ (m + c) % 2) 1 (fun e => ?_) (fun e => ?_)
    · rw [e] at h
      refine nm_r (e' := nI (p ^^^ (md * 2 ^ c))) ?_ (nm_r e2 (ih _ (by omega) (gf_x10 hp (by omega)) h))
      rw [e3, gf_sh (by omega) (by omega), nx_xor]
    · rw [gf_beq e] at h
      exact nm_r e2 (ih _ (by omega) hp h)
theorem gf_5 {post : Int32 → Prop} {m md a b : Nat} (hm : 1 ≤ m) (h5 : m ≤ 5) (hmd : md < 64) (ha : a < 32) (hb : b < 32) (h : post (nI (gf_y2 m md (m - 1) (gf_y1 a b m)))) : ∀ (d c : Nat), c + d = m → wY_product_5 post (nI a) (nI b) (nI m) f_t f_s f_n (nI md) f_result a_member a_combined a_list (d + 1) (nI (gf_y1 a b c)) (nI c) := by
  intro d
  induction d with
  | zero =>
    intro c hc
    obtain rfl : c = m := by omega
    have e : (2 : Int32) * nI c - 2 = nI (c + (c - 1) - 1) := by
      rw [xw_2n]
      show nI (2 * c) - nI 2 = _
      rw [pk_sub (by omega)]
      exact congrArg nI (by omega)
    exact br_t (nI_le (Nat.le_refl _) (by omega)) (nm_r e ⟨c - 1 + 1, gf_47 hm h5 hmd (c - 1) _ (by omega) (gf_y1b ha c h5) h⟩)
  | succ d ih =>
    intro c hc
    have q := gf_pb c (by omega)
    have q2 : a * 2 ^ c ≤ 31 * 16 := Nat.mul_le_mul (by omega) q
    have k := ih (c + 1) (by omega)
    unfold gf_y1 at k
    refine br_f (nI_ge (by omega) (by omega)) ?_
    rw [gf_bit (by omega) (by omega)]
    refine pk_eq (b / 2 ^ c % 2) 1 (fun e => ?_) (fun e => ?_)
    · rw [e] at k
      refine nm_r (e' := nI (gf_y1 a b c ^^^ (a * 2 ^ c))) ?_ (nm_r (nI_1 c) k)
      rw [gf_sh (by omega) (by omega), nx_xor]
    · rw [gf_beq e] at k
      exact nm_r (nI_1 c) k
end
theorem gf_Y {m E L md : Nat} (h : gf_OK2 m E L md) : @fq_Y (gf_K m) (gf_ring m E L h.1) (gf_cv m) (nI m) (nI md) := by
  intro post a b f_t f_s f_n f_result a_member a_combined a_list hp
  obtain ⟨hr, hZ, hI, hF, hT, hN, hE, hL, hY, h5, hmd⟩ := h
  have h3 := hr.2.2.2.2.2
  obtain ⟨p1, p2⟩ := gf_pm h3 h5
  have a2 := a.2
  have b2 := b.2
  have q : gf_y2 m md (m - 1) (gf_y1 a.1 b.1 m) = gf_m m E L a.1 b.1 := Nat.eq_of_beq_eq_true (gf_allE (gf_allE hY a.1 a2) b.1 b2)
  have hp' : post (nI (gf_m m E L a.1 b.1)) := hp
  rw [← q] at hp'
  exact ⟨m + 1, gf_5 (by omega) h5 hmd (by omega) (by omega) hp' m 0 (by omega)⟩
section
variable {f_bits f_words f_sides f_order f_result f_found f_polyDegree f_polyBasis f_depth : Int32} {a_exp a_log a_power a_members a_sizes a_sketches a_combined a_list a_syndromes a_locator a_previous a_saved a_poly a_residue a_wide a_left a_right a_quotient a_stackPoly a_stackDegree a_stackBasis : Nat → Int32}
theorem gf_65 {post : SX → Prop} {J : Int32 → Int32 → (Nat → Int32) → (Nat → Int32) → (Nat → Int32) → (Nat → Int32) → (Nat → Int32) → (Nat → Int32) → (Nat → Int32) → (Nat → Int32) → (Nat → Int32) → (Nat → Int32) → (Nat → Int32) → (Nat → Int32) → (Nat → Int32) → (Nat → Int32) → (Nat → Int32) → (Nat → Int32) → (Nat → Int32) → (Nat → Int32) → (Nat → Int32) → (Nat → Int32) → (Nat → Int32) → Prop} {m E L md i : Nat} (h : gf_OK2 m E L md) (hi : i < 2 * (2 ^ m - 1)) (hp : J (nI (gf_at E (i + 1))) (nI (i + 1)) a_exp a_log a_power a_members a_sizes a_sketches a_combined a_list a_syndromes a_locator a_previous a_saved a_poly a_residue a_wide a_left a_right a_quotient a_stackPoly a_stackDegree a_stackBasis) : wX_buildLogarithms_65 post J (nI md) (nI (gf_at E i)) (nI i) f_bits f_words f_sides (nI (2 ^ m - 1)) f_result f_found f_polyDegree f_polyBasis f_depth a_exp a_log a_power a_members a_sizes a_sketches a_combined a_list a_syndromes a_locator a_previous a_saved a_poly a_residue a_wide a_left a_right a_quotient a_stackPoly a_stackDegree a_stackBasis := by
  obtain ⟨p1, p2⟩ := gf_pm h.1.2.2.2.2.2 h.2.2.2.2.2.2.2.2.2.1
  obtain ⟨e1, e2, e3, e4, e5⟩ := (gf_Ef h).2 i hi
  unfold wX_buildLogarithms_65
  refine nm_r (e' := nI (gf_at E i * 2)) (pk_shlN ((1 : Int32) &&& 31) 1 (by decide) (by omega)) ?_
  refine pk_le (gf_at E i * 2) (2 ^ m - 1) (fun c => ?_) (fun c => ?_)
  · rw [← e3 c]
    exact nm_r (nI_1 i) hp
  · refine nm_r (e' := nI (gf_at E (i + 1))) ?_ (nm_r (nI_1 i) hp)
    rw [nx_xor, e4 c]
theorem gf_33 {post : SX → Prop} {m E L md : Nat} (h : gf_OK2 m E L md) (hp : ∀ a_exp a_log, (∀ i, i < 2 * (2 ^ m - 1) → a_exp i = nI (gf_at E i)) → (∀ i, i < 2 ^ m - 1 → a_log (gf_at E i) = nI i) → post (f_bits, f_words, f_sides, nI (2 ^ m - 1), f_result, f_found, f_polyDegree, f_polyBasis, f_depth, a_exp, a_log, a_power, a_members, a_sizes, a_sketches, a_combined, a_list, a_syndromes, a_locator, a_previous, a_saved, a_poly, a_residue, a_wide, a_left, a_right, a_quotient, a_stackPoly, a_stackDegree, a_stackBasis)) : ∀ (d i : Nat) (a_exp a_log : Nat → Int32), i + d = 2 * (2 ^ m - 1) → (∀ j, j < i → a_exp j = nI (gf_at E j)) → (∀ j, j < i → j < 2 ^ m - 1 → a_log (gf_at E j) = nI j) → wX_buildLogarithms_33 post (nI md) f_bits f_words f_sides (nI (2 ^ m - 1)) f_result f_found f_polyDegree f_polyBasis f_depth (d + 1) (nI (gf_at E i)) (nI i) a_exp a_log a_power a_members a_sizes a_sketches a_combined a_list a_syndromes a_locator a_previous a_saved a_poly a_residue a_wide a_left a_right a_quotient a_stackPoly a_stackDegree a_stackBasis := by
  obtain ⟨p1, p2⟩ := gf_pm h.1.2.2.2.2.2 h.2.2.2.2.2.2.2.2.2.1
  intro d
  induction d with
  | zero =>
    intro i ae al hi hx hl
    refine br_t ?_ (hp ae al (fun j hj => hx j (by omega)) (fun j hj => hl j (by omega) hj))
    rw [xw_2n]
    exact nI_le (by omega) (by omega)
  | succ d ih =>
    intro i ae al hi hx hl
    obtain ⟨e1, e2, e3, e4, e5⟩ := (gf_Ef h).2 i (by omega)
    have hx' : ∀ j, j < i + 1 → upd ae i (nI (gf_at E i)) j = nI (gf_at E j) := fun j hj => by
      by_cases e : j = i
      · rw [e, pk_us]
      · rw [pk_un e]
        exact hx j (by omega)
    refine br_f ?_ ⟨vp_in_nI (by omega) (by decide), nm_r (e' := upd ae i (nI (gf_at E i))) (by rw [nI_clamp (by omega)]) ?_⟩
    · rw [xw_2n]
      exact nI_ge (by omega) (by omega)
    refine pk_le (2 ^ m - 1) i (fun c => ?_) (fun c => ?_)
    · exact gf_65 h (by omega) (ih (i + 1) _ al (by omega) hx' (fun j hj hj2 => hl j (by omega) hj2))
    · refine And.intro (vp_in_nI (by omega) (by decide)) (nm_r (e' := upd al (gf_at E i) (nI i)) (by rw [nI_clamp (by omega)]) (gf_65 h (by omega) (ih (i + 1) _ _ (by omega) hx' (fun j hj hj2 => ?_))))
      by_cases e : j = i
      · rw [e, pk_us]
      · have q := ((gf_Ef h).2 j (by omega)).2.2.2.2 hj2
        rw [pk_un (fun z => e (by rw [← q, z]; exact e5 c))]
        exact hl j (by omega) hj2
theorem gf_bl {post : SX → Prop} {m E L md : Nat} (h : gf_OK2 m E L md) (hmd : (m = 3 ∧ md = 11) ∨ (m = 4 ∧ md = 19) ∨ (m = 5 ∧ md = 37)) (hp : ∀ a_exp a_log, @fq_T (gf_K m) (gf_ring m E L h.1) (gf_cv m) (gf_in E L) (2 ^ m - 1) a_exp a_log → post (nI m, f_words, f_sides, nI (2 ^ m - 1), f_result, f_found, f_polyDegree, f_polyBasis, f_depth, a_exp, a_log, a_power, a_members, a_sizes, a_sketches, a_combined, a_list, a_syndromes, a_locator, a_previous, a_saved, a_poly, a_residue, a_wide, a_left, a_right, a_quotient, a_stackPoly, a_stackDegree, a_stackBasis)) : wpX_buildLogarithms post (nI m, f_words, f_sides, nI (2 ^ m - 1), f_result, f_found, f_polyDegree, f_polyBasis, f_depth, a_exp, a_log, a_power, a_members, a_sizes, a_sketches, a_combined, a_list, a_syndromes, a_locator, a_previous, a_saved, a_poly, a_residue, a_wide, a_left, a_right, a_quotient, a_stackPoly, a_stackDegree, a_stackBasis) := by
  have key : ∃ n, wX_buildLogarithms_33 post (nI md) (nI m) f_words f_sides (nI (2 ^ m - 1)) f_result f_found f_polyDegree f_polyBasis f_depth n 1 0 a_exp a_log a_power a_members a_sizes a_sketches a_combined a_list a_syndromes a_locator a_previous a_saved a_poly a_residue a_wide a_left a_right a_quotient a_stackPoly a_stackDegree a_stackBasis := by
    have k := gf_33 (post := post) (f_bits := nI m) h (fun ae al hx hl => hp ae al (gf_T h hx (fun a h1 h2 => ?_))) (2 * (2 ^ m - 1)) 0 a_exp a_log (by omega) (fun j hj => by omega) (fun j hj => by omega)
    · rw [(gf_Ef h).1] at k
      exact ⟨_, k⟩
    · obtain ⟨q1, q2⟩ := gf_Lf h h1 h2
      have q3 := hl _ q1
      rw [q2] at q3
      exact q3
  unfold wpX_buildLogarithms
  rcases hmd with ⟨rfl, rfl⟩ | ⟨rfl, rfl⟩ | ⟨rfl, rfl⟩
  · exact br_t rfl key
  · exact br_f (by decide) (br_t rfl key)
  · exact br_f (by decide) (br_f (by decide) key)
/-! the powers -/
theorem xw_bp22 {R : Type} [Lean.Grind.CommRing R] {cv : R → Int32} {el : Nat → R} {iv : R → R} {m N : Nat} (F : fq_F cv el iv m N) (T : fq_T cv iv N a_exp a_log) {post : SX → Prop} {J : Int32 → (Nat → Int32) → (Nat → Int32) → (Nat → Int32) → (Nat → Int32) → (Nat → Int32) → (Nat → Int32) → (Nat → Int32) → (Nat → Int32) → (Nat → Int32) → (Nat → Int32) → (Nat → Int32) → (Nat → Int32) → (Nat → Int32) → (Nat → Int32) → (Nat → Int32) → (Nat → Int32) → (Nat → Int32) → (Nat → Int32) → (Nat → Int32) → (Nat → Int32) → (Nat → Int32) → Prop} {x : Nat} (h1 : 1 ≤ x) (h2 : x ≤ N) (hp : ∀ a_power, (∀ y i, i < 4 → y ≤ x → a_power (4 * y + i) = cv (el y ^ (2 * i + 1))) → J (nI (x + 1)) a_exp a_log a_power a_members a_sizes a_sketches a_combined a_list a_syndromes a_locator a_previous a_saved a_poly a_residue a_wide a_left a_right a_quotient a_stackPoly a_stackDegree a_stackBasis) : ∀ (d i : Nat) (a_power : Nat → Int32), i + d = 4 → (∀ y i', i' < 4 → (y < x ∨ (y = x ∧ i' < i)) → a_power (4 * y + i') = cv (el y ^ (2 * i' + 1))) → wX_buildPowers_22 post J (nI x) (cv (el x * el x)) f_bits f_words f_sides f_order f_result f_found f_polyDegree f_polyBasis f_depth (d + 1) (cv (el x ^ (2 * i + 1))) (nI i) a_exp a_log a_power a_members a_sizes a_sketches a_combined a_list a_syndromes a_locator a_previous a_saved a_poly a_residue a_wide a_left a_right a_quotient a_stackPoly a_stackDegree a_stackBasis := by
  have hm := F.2.2.2.2.2.2.2.2.2.1
  intro d
  induction d with
  | zero =>
    intro i ap h hq
    obtain rfl : i = 4 := by omega
    exact br_t (nI_le (a := 4) (b := 4) (Nat.le_refl _) (by decide)) (nm_r (nI_1 x) (hp ap (fun y i hi hy => hq y i hi (by omega))))
  | succ d ih =>
    intro i ap h hq
    have e1 := xw_4nI x i
    refine br_f (nI_ge (b := 4) (by omega) (by decide)) ⟨xw_in e1 (by omega) (by decide), nm_r (e' := upd ap (4 * x + i) (cv (el x ^ (2 * i + 1)))) (by rw [e1, nI_clamp (by omega)]) ?_⟩
    refine xw_product F T (el x ^ (2 * i + 1)) (el x * el x) (nm_r (nI_1 i) ?_)
    have e2 : el x ^ (2 * i + 1) * (el x * el x) = el x ^ (2 * (i + 1) + 1) := by
      rw [show 2 * (i + 1) + 1 = (2 * i + 1) + 1 + 1 by omega, ra_pS (el x) (2 * i + 1 + 1), ra_pS (el x) (2 * i + 1)]
      exact (Lean.Grind.Semiring.mul_assoc _ _ _).symm
    rw [e2]
    refine ih (i + 1) _ (by omega) (fun y i' hi' hy => ?_)
    by_cases e : 4 * y + i' = 4 * x + i
    · obtain rfl : y = x := by omega
      obtain rfl : i' = i := by omega
      rw [pk_us]
    · rw [pk_un e]
      exact hq y i' hi' (by omega)
theorem xw_bp2 {R : Type} [Lean.Grind.CommRing R] {cv : R → Int32} {el : Nat → R} {iv : R → R} {m N : Nat} (F : fq_F cv el iv m N) (T : fq_T cv iv N a_exp a_log) {post : SX → Prop} (hp : ∀ a_power, fq_P cv a_power → post (f_bits, f_words, f_sides, nI N, f_result, f_found, f_polyDegree, f_polyBasis, f_depth, a_exp, a_log, a_power, a_members, a_sizes, a_sketches, a_combined, a_list, a_syndromes, a_locator, a_previous, a_saved, a_poly, a_residue, a_wide, a_left, a_right, a_quotient, a_stackPoly, a_stackDegree, a_stackBasis)) : ∀ (d c : Nat) (a_power : Nat → Int32), c + d = N → (∀ y i, i < 4 → y ≤ c → a_power (4 * y + i) = cv (el y ^ (2 * i + 1))) → wX_buildPowers_2 post f_bits f_words f_sides (nI N) f_result f_found f_polyDegree f_polyBasis f_depth (d + 1) (nI (c + 1)) a_exp a_log a_power a_members a_sizes a_sketches a_combined a_list a_syndromes a_locator a_previous a_saved a_poly a_residue a_wide a_left a_right a_quotient a_stackPoly a_stackDegree a_stackBasis := by
  have hm := F.2.2.2.2.2.2.2.2.2.1
  intro d
  induction d with
  | zero =>
    intro c ap h hq
    obtain rfl : c = N := by omega
    refine br_t (nI_lt (by omega) (by omega)) (hp ap (fun a i hi => ?_))
    obtain ⟨n, h1, h2, h3⟩ := fq_nat F a
    have e1 := xw_4nI n i
    rw [h3, e1, nI_clamp (by omega), hq n i hi h1, h2]
    exact ⟨vp_in_nI (by omega) (by decide), rfl⟩
  | succ d ih =>
    intro c ap h hq
    refine br_f (nI_nlt (by omega) (by omega)) ?_
    rw [← F.2.2.2.2.1 (c + 1) (by omega)]
    refine xw_product F T (el (c + 1)) (el (c + 1)) ⟨5, ?_⟩
    rw [F.2.2.2.2.1 (c + 1) (by omega)]
    have e0 : nI (c + 1) = cv (el (c + 1) ^ (2 * 0 + 1)) := by
      rw [show 2 * 0 + 1 = 1 from rfl, ra_p1, F.2.2.2.2.1 (c + 1) (by omega)]
    have k := xw_bp22 (f_bits := f_bits) (f_words := f_words) (f_sides := f_sides) (f_order := nI N) (f_result := f_result) (f_found := f_found) (f_polyDegree := f_polyDegree) (f_polyBasis := f_polyBasis) (f_depth := f_depth) F T (post := post) (J := wX_buildPowers_2 post f_bits f_words f_sides (nI N) f_result f_found f_polyDegree f_polyBasis f_depth (d + 1)) (x := c + 1) (by omega) (by omega) (fun ap hq => ih (c + 1) ap (by omega) hq) 4 0 ap rfl (fun y i' hi' hy => hq y i' hi' (by omega))
    rw [← e0] at k
    exact k
theorem xw_buildPowers {R : Type} [Lean.Grind.CommRing R] {cv : R → Int32} {el : Nat → R} {iv : R → R} {m N : Nat} (F : fq_F cv el iv m N) (T : fq_T cv iv N a_exp a_log) {post : SX → Prop} (hp : ∀ a_power, fq_P cv a_power → post (f_bits, f_words, f_sides, nI N, f_result, f_found, f_polyDegree, f_polyBasis, f_depth, a_exp, a_log, a_power, a_members, a_sizes, a_sketches, a_combined, a_list, a_syndromes, a_locator, a_previous, a_saved, a_poly, a_residue, a_wide, a_left, a_right, a_quotient, a_stackPoly, a_stackDegree, a_stackBasis)) (hz : ∀ i, i < 4 → a_power i = 0) : wpX_buildPowers post (f_bits, f_words, f_sides, nI N, f_result, f_found, f_polyDegree, f_polyBasis, f_depth, a_exp, a_log, a_power, a_members, a_sizes, a_sketches, a_combined, a_list, a_syndromes, a_locator, a_previous, a_saved, a_poly, a_residue, a_wide, a_left, a_right, a_quotient, a_stackPoly, a_stackDegree, a_stackBasis) := by
  have hm := F.2.2.2.2.2.2.2.2.2.1
  refine ⟨N + 1, xw_bp2 F T hp N 0 a_power (by omega) (fun y i hi hy => ?_)⟩
  obtain rfl : y = 0 := by omega
  rw [fq_el0 F, ra_p00, F.2.1, Nat.mul_zero, Nat.zero_add]
  exact hz i hi
end
/-! clamps -/
def in_cl (v lo hi : Int32) (Z : Int32 → Prop) : Prop := (lo ≤ v → ((v ≤ hi → Z v) ∧ (¬ v ≤ hi → Z hi))) ∧ (¬ lo ≤ v → Z lo)
theorem in_clamp (v : Int32) (lo hi : Nat) (h : lo ≤ hi) (h2 : hi < 100) : ∃ c, lo ≤ c ∧ c ≤ hi ∧ ∀ Z : Int32 → Prop, Z (nI c) → in_cl v (nI lo) (nI hi) Z := by
  by_cases a : nI lo ≤ v
  · by_cases b : v ≤ nI hi
    · obtain ⟨c, c1, rfl⟩ := nI_of2 (M := nI hi) (n := hi) (nI_toInt (by omega)) (fun z => by
        have := Int32.lt_of_le_of_lt a z
        exact nI_pos (by omega) this) b
      exact ⟨c, (nI_leI (by omega) (by omega)).mp a, c1, fun Z z => br_t a (br_t b z)⟩
    · exact ⟨hi, h, Nat.le_refl _, fun Z z => br_t a (br_f b z)⟩
  · exact ⟨lo, Nat.le_refl _, h, fun Z z => br_f a z⟩
theorem in_ord : ∀ m, m < 6 → 3 ≤ m → ((1 : Int32) <<< (nI m &&& 31)) - 1 = nI (2 ^ m - 1) := by decide +kernel
theorem in_cnt0 (d : Nat) : ∀ c, rl_cnt (fun _ => false) d c = 0 := by
  intro c
  induction c with
  | zero => rfl
  | succ c ih => show rl_cnt (fun _ => false) d c + 0 = 0; rw [ih]
theorem in_mk {k : Nat} {R : Type} [Lean.Grind.CommRing R] [Lean.Grind.IsCharP R 2] [DecidableEq R] {cv : R → Int32} {el : Nat → R} {iv : R → R} {m N t s : Nat} {f_poly : Int32} {a_exp a_log a_power z z2 z3 : Nat → Int32} (F : fq_F cv el iv m N) (T : fq_T cv iv N a_exp a_log) (hP : fq_P cv a_power) (hY : fq_Y cv (nI m) f_poly) (t1 : 1 ≤ t) (t4 : t ≤ 4) (s2 : 2 ≤ s) (s4 : s ≤ 4) (hz : z = ra_cf cv (fun _ => 0)) (hz2 : z2 = xw_nf (fun _ => 0)) (hz3 : z3 = yw_mf (fun _ => false)) : i_Rel k (nI m, nI t, nI s, nI N, 106, 0, 0, 0, 0, a_exp, a_log, a_power, (fun _ => 0), (fun _ => 0), (fun _ => 0), z, z, z, z, z, z, z, z, z, z, z, z, z, z2, z2) (nI m, nI t, nI s, nI N, f_poly, 106, z3, z, z) := by
  subst hz hz2 hz3
  refine rl_mk ⟨F, T, hP, hY, t1, t4, s2, s4, fun d _ x _ _ => b_0 x, fun d _ => ?_, fun d _ i _ => ?_, fun _ _ => rfl, Or.inl rfl⟩
  · rw [in_cnt0]
    rfl
  · have e : yw_ps el (fun _ => false) d i N = 0 := ra_zero (fun _ _ => rfl)
    rw [e, F.2.1]
theorem in_Y {post : SY → Prop} {k0 k1 k2 : Int32} {m t s md : Nat} (hmd : (m = 3 ∧ md = 11) ∨ (m = 4 ∧ md = 19) ∨ (m = 5 ∧ md = 37)) (c0 : ∀ Z : Int32 → Prop, Z (nI m) → in_cl k0 (nI 3) (nI 5) Z) (c1 : ∀ Z : Int32 → Prop, Z (nI t) → in_cl k1 (nI 1) (nI 4) Z) (c2 : ∀ Z : Int32 → Prop, Z (nI s) → in_cl k2 (nI 2) (nI 4) Z) (h : post (nI m, nI t, nI s, nI (2 ^ m - 1), nI md, 106, (fun _ => 0), (fun _ => 0), (fun _ => 0))) : wpY_init post k0 k1 k2 := by
  have h93 : wY_init_93 post (nI s) (nI m) (nI t) 0 0 0 0 (fun _ => 0) (fun _ => 0) (fun _ => 0) := by
    unfold wY_init_93
    refine nm_r (e' := nI (2 ^ m - 1)) (in_ord m (by omega) (by omega)) ?_
    rcases hmd with ⟨rfl, rfl⟩ | ⟨rfl, rfl⟩ | ⟨rfl, rfl⟩
    · exact br_t rfl h
    · exact br_f (by decide) (br_t rfl h)
    · exact br_f (by decide) (br_f (by decide) h)
  have h70 : wY_init_70 post k2 (nI t) (nI m) 0 0 0 0 0 (fun _ => 0) (fun _ => 0) (fun _ => 0) :=
    c2 (fun z => wY_init_93 post z (nI m) (nI t) 0 0 0 0 (fun _ => 0) (fun _ => 0) (fun _ => 0)) h93
  have h47 : wY_init_47 post k1 k2 (nI m) 0 0 0 0 0 0 (fun _ => 0) (fun _ => 0) (fun _ => 0) :=
    c1 (fun z => wY_init_70 post k2 z (nI m) 0 0 0 0 0 (fun _ => 0) (fun _ => 0) (fun _ => 0)) h70
  exact c0 (fun z => wY_init_47 post k1 k2 z 0 0 0 0 0 0 (fun _ => 0) (fun _ => 0) (fun _ => 0)) h47
section
variable {f_bits f_words f_sides f_order f_result f_found f_polyDegree f_polyBasis f_depth : Int32} {a_exp a_log a_power a_members a_sizes a_sketches a_combined a_list a_syndromes a_locator a_previous a_saved a_poly a_residue a_wide a_left a_right a_quotient a_stackPoly a_stackDegree a_stackBasis : Nat → Int32}
theorem xw_clamp {post : Int32 → Prop} {v : Int32} {lo hi c : Nat} (cm : ∀ Z : Int32 → Prop, Z (nI c) → in_cl v (nI lo) (nI hi) Z) (h : post (nI c)) : wpX_clamp post (f_bits, f_words, f_sides, f_order, f_result, f_found, f_polyDegree, f_polyBasis, f_depth, a_exp, a_log, a_power, a_members, a_sizes, a_sketches, a_combined, a_list, a_syndromes, a_locator, a_previous, a_saved, a_poly, a_residue, a_wide, a_left, a_right, a_quotient, a_stackPoly, a_stackDegree, a_stackBasis) v (nI lo) (nI hi) := cm post h
end
theorem i_vc0 (k0 : Int32) (k1 : Int32) (k2 : Int32) : wpX_init (fun u => wpY_init (fun v => i_Rel 3 u v) k0 k1 k2) k0 k1 k2 := by
  obtain ⟨m, m1, m2, c0⟩ := in_clamp k0 3 5 (by omega) (by omega)
  obtain ⟨t, t1, t4, c1⟩ := in_clamp k1 1 4 (by omega) (by omega)
  obtain ⟨s, s2, s4, c2⟩ := in_clamp k2 2 4 (by omega) (by omega)
  obtain ⟨E, L, md, ok, hmd⟩ : ∃ E L md, gf_OK2 m E L md ∧ ((m = 3 ∧ md = 11) ∨ (m = 4 ∧ md = 19) ∨ (m = 5 ∧ md = 37)) := by
    obtain rfl | rfl | rfl : m = 3 ∨ m = 4 ∨ m = 5 := by omega
    · exact ⟨_, _, 11, gf_ok3, Or.inl ⟨rfl, rfl⟩⟩
    · exact ⟨_, _, 19, gf_ok4, Or.inr (Or.inl ⟨rfl, rfl⟩)⟩
    · exact ⟨_, _, 37, gf_ok5, Or.inr (Or.inr ⟨rfl, rfl⟩)⟩
  unfold wpX_init
  refine xw_clamp c0 ?_
  refine xw_clamp c1 ?_
  refine xw_clamp c2 ?_
  refine nm_r (e' := nI (2 ^ m - 1)) (in_ord m (by omega) m1) ?_
  refine gf_bl ok hmd (fun ae al T => ?_)
  letI r1 := gf_ring m E L ok.1
  letI r2 := gf_char m E L ok.1
  letI r3 := gf_dec m
  have F := gf_F ok
  refine xw_buildPowers F T (fun ap hP => ?_) (fun i _ => rfl)
  refine in_Y hmd c0 c1 c2 ?_
  exact in_mk F T hP (gf_Y ok) t1 t4 s2 s4 (funext (fun _ => F.2.1.symm)) rfl rfl
end
