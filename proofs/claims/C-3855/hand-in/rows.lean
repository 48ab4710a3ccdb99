section
/-! pure rows to paste: stores, nI and lN arithmetic, masks, shifts, narrowing, branches by naturals (pk_le, pk_lt, pk_eq), loops (lp1 .. lp16: the measure of the state; rp1 ..: recursion), negatives. Take what you need -/
theorem pk_us {f : Nat → Int32} {k : Nat} {x : Int32} : upd f k x k = x := if_pos rfl
theorem pk_un {f : Nat → Int32} {k j : Nat} {x : Int32} (h : j ≠ k) : upd f k x j = f j := if_neg h
theorem pk_sub {a b : Nat} (h : b ≤ a) : nI a - nI b = nI (a - b) := by
  obtain ⟨c, rfl⟩ : ∃ c, a = c + b := ⟨a - b, by omega⟩
  rw [← nI_add, Int32.add_sub_cancel, Nat.add_sub_cancel]
theorem pk_m1 (n : Nat) : nI (n + 1) + (-1) = nI n := by
  rw [← nI_1, Int32.add_assoc, show (1 : Int32) + (-1) = 0 from rfl, Int32.add_zero]
theorem pk_mul (a b : Nat) : nI a * nI b = nI (a * b) := (Int32.ofNat_mul a b).symm
theorem pk_div {a d : Nat} (ha : a < 2 ^ 31) (h0 : 0 < d) (hd : d < 2 ^ 31) : nI a / nI d = nI (a / d) := by
  apply Int32.toInt_inj.mp
  rw [lg_idiv_nonneg (by rw [nI_toInt ha]; omega) (by rw [nI_toInt hd]; omega), nI_toInt ha, nI_toInt hd, nI_toInt (Nat.lt_of_le_of_lt (Nat.div_le_self a d) ha)]
  first | rfl | exact (Int.natCast_ediv _ _).symm
theorem pk_rem {a d : Nat} (ha : a < 2 ^ 31) (h0 : 0 < d) (hd : d < 2 ^ 31) : nI a - nI a / nI d * nI d = nI (a % d) := by
  rw [pk_div ha h0 hd, pk_mul, pk_sub (Nat.div_mul_le_self a d)]
  exact congrArg nI (by have := Nat.div_add_mod' a d; omega)
theorem pk_sub_toInt {a b : Nat} (ha : a < 2 ^ 30) (hb : b < 2 ^ 30) : (nI a - nI b).toInt = (a : Int) - b := by
  rw [Int32.toInt_sub, nI_toInt (by omega), nI_toInt (by omega)]
  exact Int.bmod_eq_of_le (by omega) (by omega)
theorem pk_sneg {a b : Nat} (hb : b < 2 ^ 30) (h : a < b) : nI a - nI b < 0 := by
  rw [Int32.lt_iff_toInt_lt, pk_sub_toInt (by omega) hb, show (0 : Int32).toInt = 0 from by decide]
  omega
theorem pk_ix (x : Int32) {n : Nat} (hn : n < 2 ^ 31) : x < 0 ∨ nI n ≤ x ∨ ∃ j : Nat, j < n ∧ x = nI j := by
  by_cases h : x < 0
  · exact Or.inl h
  · obtain ⟨j, hj, rfl⟩ := nI_of h
    by_cases h2 : j < n
    · exact Or.inr (Or.inr ⟨j, h2, rfl⟩)
    · exact Or.inr (Or.inl (nI_le (by omega) hj))
theorem pk_le {x y : Int32} {A B : Prop} (a b : Nat) (f : a ≤ b → A) (g : b < a → B) (hx : x = nI a := by rfl) (hy : y = nI b := by rfl) (ha : a < 2 ^ 31 := by omega) (hb : b < 2 ^ 31 := by omega) : (x ≤ y → A) ∧ (¬ x ≤ y → B) := by
  subst hx hy
  rw [nI_leI ha hb]
  exact ⟨f, fun z => g (by omega)⟩
theorem pk_lt {x y : Int32} {A B : Prop} (a b : Nat) (f : a < b → A) (g : b ≤ a → B) (hx : x = nI a := by rfl) (hy : y = nI b := by rfl) (ha : a < 2 ^ 31 := by omega) (hb : b < 2 ^ 31 := by omega) : (x < y → A) ∧ (¬ x < y → B) := by
  subst hx hy
  rw [nI_ltI ha hb]
  exact ⟨f, fun z => g (by omega)⟩
theorem pk_eq {x y : Int32} {A B : Prop} (a b : Nat) (f : a = b → A) (g : a ≠ b → B) (hx : x = nI a := by rfl) (hy : y = nI b := by rfl) (ha : a < 2 ^ 31 := by omega) (hb : b < 2 ^ 31 := by omega) : (x = y → A) ∧ (¬ x = y → B) := by
  subst hx hy
  rw [nI_eq ha hb]
  exact ⟨f, g⟩
theorem pk_in {x : Int32} (n N : Nat) (h : n < N) (hx : x = nI n := by rfl) (hN : N < 2 ^ 31 := by omega) : vp_in x N := by
  subst hx
  exact vp_in_nI h hN
theorem pk_cl {x : Int32} (n : Nat) (hx : x = nI n := by rfl) (h : n < 2 ^ 31 := by omega) : x.toNatClampNeg = n := by
  subst hx
  exact nI_clamp h
theorem pk_tn {n : Nat} (h : n < 2 ^ 32) : (nI n).toBitVec.toNat = n := Nat.mod_eq_of_lt h
theorem pk_and (x : Int32) {m : Int32} (k : Nat) (hm : m.toBitVec.toNat = 2 ^ k - 1) : x &&& m = nI (x.toBitVec.toNat % 2 ^ k) := by
  apply Int32.toBitVec_inj.mp
  apply BitVec.eq_of_toNat_eq
  rw [Int32.toBitVec_and, BitVec.toNat_and, hm, Nat.and_two_pow_sub_one_eq_mod]
  show _ = (BitVec.ofNat 32 _).toNat
  rw [BitVec.toNat_ofNat]
  exact (Nat.mod_eq_of_lt (Nat.lt_of_le_of_lt (Nat.mod_le _ _) x.toBitVec.isLt)).symm
theorem pk_andN {n : Nat} (h : n < 2 ^ 32) {m : Int32} (k : Nat) (hm : m.toBitVec.toNat = 2 ^ k - 1) : nI n &&& m = nI (n % 2 ^ k) := by
  rw [pk_and _ k hm, pk_tn h]
theorem pk_andE (x : Int32) {m : Int32} (k : Nat) (hm : m.toBitVec.toNat = 2 ^ k - 1) : ∃ j : Nat, j < 2 ^ k ∧ x &&& m = nI j := ⟨_, Nat.mod_lt _ (Nat.two_pow_pos k), pk_and x k hm⟩
theorem pk_andIn (x : Int32) {m : Int32} (k : Nat) (hm : m.toBitVec.toNat = 2 ^ k - 1) (hk : k ≤ 30) : vp_in (x &&& m) (2 ^ k) := by
  obtain ⟨j, hj, e⟩ := pk_andE x k hm
  rw [e]
  exact vp_in_nI hj (Nat.lt_of_le_of_lt (Nat.pow_le_pow_right (by decide) hk) (by decide))
theorem pk_shl (a s : Int32) (k : Nat) (hs : (s.toBitVec.smod 32).toNat = k) : (a <<< s).toBitVec.toNat = a.toBitVec.toNat * 2 ^ k % 2 ^ 32 := by
  show (a.toBitVec <<< (s.toBitVec.smod 32).toNat).toNat = _
  rw [hs, BitVec.toNat_shiftLeft, Nat.shiftLeft_eq]
theorem pk_shlN {n : Nat} (s : Int32) (k : Nat) (hs : (s.toBitVec.smod 32).toNat = k) (h : n * 2 ^ k < 2 ^ 32) : nI n <<< s = nI (n * 2 ^ k) := by
  apply Int32.toBitVec_inj.mp
  apply BitVec.eq_of_toNat_eq
  have hn : n < 2 ^ 32 := Nat.lt_of_le_of_lt (Nat.le_mul_of_pos_right n (Nat.two_pow_pos k)) h
  rw [pk_shl _ _ k hs, pk_tn hn, pk_tn h, Nat.mod_eq_of_lt h]
theorem pk_shr (a s : Int32) (k : Nat) (hs : (s.toBitVec.smod 32).toNat = k) : (a >>> s).toInt = a.toInt >>> k := by
  show (a.toBitVec.sshiftRight (s.toBitVec.smod 32).toNat).toInt = _
  rw [hs, BitVec.toInt_sshiftRight]
  rfl
theorem pk_shrN {n : Nat} (h : n < 2 ^ 31) (s : Int32) (k : Nat) (hs : (s.toBitVec.smod 32).toNat = k) : nI n >>> s = nI (n / 2 ^ k) := by
  apply Int32.toInt_inj.mp
  have h2 : n / 2 ^ k ≤ n := Nat.div_le_self _ _
  rw [pk_shr _ _ k hs, nI_toInt h, nI_toInt (by omega), Int.shiftRight_eq_div_pow]
  rfl
theorem sb_negT {w : Nat} (h : w < 2 ^ 31) : (-nI w).toInt = -(w : Int) := by
  rw [Int32.toInt_neg, nI_toInt h]
  exact Int.bmod_eq_of_le (by omega) (by omega)
end
section
/-! the field of 101 numbers, casts, sums -/
abbrev ra_F : Type := Fin 101
def ra_nf (n : Nat) : ra_F := ⟨n % 101, Nat.mod_lt _ (by decide)⟩
def ra_zi (z : Int) : ra_F := ⟨(z % 101).toNat, by omega⟩
def ra_ec (x : ra_F) : Int32 := nI x.val
theorem ra_g1 {R : Type} [Lean.Grind.CommRing R] (a b c d : R) : (a + b) + (c + d) = (a + c) + (b + d) := by grind
theorem ra_g2 {R : Type} [Lean.Grind.CommRing R] (a b c : R) : a * (b + c) = a * b + a * c := by grind
theorem ra_g3 {R : Type} [Lean.Grind.CommRing R] (a b : R) : a * b = b * a := by grind
theorem ra_g4 {R : Type} [Lean.Grind.CommRing R] (a b c : R) : a * b * c = a * (b * c) := by grind
theorem ra_fac (a b c d : ra_F) : (a + b) + (c + d) = (a + c) + (b + d) := ra_g1 a b c d
theorem ra_fd (a b c : ra_F) : a * (b + c) = a * b + a * c := ra_g2 a b c
theorem ra_fm (a b : ra_F) : a * b = b * a := ra_g3 a b
theorem ra_fma (a b c : ra_F) : a * b * c = a * (b * c) := ra_g4 a b c
theorem ra_fa (a b : ra_F) : a + b = b + a := Lean.Grind.Fin.add_comm a b
theorem ra_faa (a b c : ra_F) : a + b + c = a + (b + c) := Lean.Grind.Fin.add_assoc a b c
theorem ra_f0 (a : ra_F) : a + 0 = a := Lean.Grind.Fin.add_zero a
theorem ra_0f (a : ra_F) : 0 + a = a := by rw [ra_fa, ra_f0]
theorem ra_fz (a : ra_F) : 0 * a = 0 := Lean.Grind.Fin.zero_mul a
theorem ra_zf (a : ra_F) : a * 0 = 0 := by rw [ra_fm, ra_fz]
theorem ra_f1 (a : ra_F) : a * 1 = a := Lean.Grind.Fin.mul_one a
theorem ra_1f (a : ra_F) : 1 * a = a := by rw [ra_fm, ra_f1]
theorem ra_g5 {R : Type} [Lean.Grind.CommRing R] (a b : R) (h : a + b = 0) : b = -a := by grind
theorem ra_g6 {R : Type} [Lean.Grind.CommRing R] (a b : R) : (-a) * b = -(a * b) := by grind
theorem ra_g7 {R : Type} [Lean.Grind.CommRing R] (a b : R) : a - b = a + -b := by grind
theorem ra_g8 {R : Type} [Lean.Grind.CommRing R] (a : R) : -(-a) = a := by grind
theorem ra_g9 {R : Type} [Lean.Grind.CommRing R] (a : R) : a - a = 0 := by grind
theorem ra_fneg (a b : ra_F) (h : a + b = 0) : b = -a := ra_g5 a b h
theorem ra_fnm (a b : ra_F) : (-a) * b = -(a * b) := ra_g6 a b
theorem ra_fsn (a b : ra_F) : a - b = a + -b := ra_g7 a b
theorem ra_fnn (a : ra_F) : -(-a) = a := ra_g8 a
theorem ra_fss (a : ra_F) : a - a = 0 := ra_g9 a
theorem ra_fna (a : ra_F) : -a + a = 0 := Lean.Grind.Fin.neg_add_cancel a
theorem ra_n0 : -(0 : ra_F) = 0 := by decide
/-! casts -/
theorem ra_nf_self (x : ra_F) : ra_nf x.val = x := Fin.ext (Nat.mod_eq_of_lt x.isLt)
theorem ra_nf_add (a b : Nat) : ra_nf (a + b) = ra_nf a + ra_nf b := by
  apply Fin.ext
  rw [Fin.val_add]
  show (a + b) % 101 = (a % 101 + b % 101) % 101
  omega
theorem ra_nf_mul (a b : Nat) : ra_nf (a * b) = ra_nf a * ra_nf b := by
  apply Fin.ext
  rw [Fin.val_mul]
  exact Nat.mul_mod a b 101
theorem ra_nf_0 : ra_nf 0 = 0 := rfl
theorem ra_nf_1 : ra_nf 1 = 1 := rfl
theorem ra_nf_m (a : Nat) : ra_nf (a % 101) = ra_nf a := Fin.ext (Nat.mod_mod a 101)
theorem ra_nf_sub {x : ra_F} : ra_nf (101 - x.val) = -x := by
  apply ra_fneg
  have hx := x.isLt
  have e : ra_nf x.val + ra_nf (101 - x.val) = 0 := by
    rw [← ra_nf_add, show x.val + (101 - x.val) = 101 from by omega]
    rfl
  rw [ra_nf_self] at e
  exact e
theorem ra_zi_nat (n : Nat) : ra_zi (n : Int) = ra_nf n := by
  apply Fin.ext
  show (((n : Int) % 101)).toNat = n % 101
  omega
theorem ra_zi_add (a b : Int) : ra_zi (a + b) = ra_zi a + ra_zi b := by
  apply Fin.ext
  rw [Fin.val_add]
  show ((a + b) % 101).toNat = ((a % 101).toNat + (b % 101).toNat) % 101
  omega
theorem ra_zi_0 : ra_zi 0 = 0 := rfl
theorem ra_zi_neg (a : Int) : ra_zi (-a) = -ra_zi a := by
  apply ra_fneg
  rw [← ra_zi_add, show a + -a = 0 from by omega]
  rfl
theorem ra_zi_sub (a b : Int) : ra_zi (a - b) = ra_zi a - ra_zi b := by
  rw [show a - b = a + -b from by omega, ra_zi_add, ra_zi_neg, ra_fsn]
/-! the encoding -/
theorem ra_ec_lt (x : ra_F) : x.val < 101 := x.isLt
theorem ra_ec_inj {x y : ra_F} : ra_ec x = ra_ec y ↔ x = y := by
  have hx := x.isLt
  have hy := y.isLt
  show nI x.val = nI y.val ↔ _
  rw [nI_eq (by omega) (by omega)]
  exact ⟨fun h => Fin.ext h, fun h => by rw [h]⟩
theorem ra_ec_0 : ra_ec 0 = 0 := by decide +kernel
theorem ra_ec_1 : ra_ec 1 = 1 := by decide +kernel
theorem ra_ec_100 : ra_ec (-1) = 100 := by decide +kernel
theorem ra_ec_z {x : ra_F} : ra_ec x = 0 ↔ x = 0 := by rw [← ra_ec_0]; exact ra_ec_inj
theorem ra_ec_nf (n : Nat) : ra_ec (ra_nf n) = nI (n % 101) := rfl
theorem ra_101 : (101 : Int32) = nI 101 := by decide +kernel
theorem ra_101n : ¬ (101 : Int32) = 0 := by decide
theorem ra_rem {n : Nat} (h : n < 2 ^ 31) : nI n - nI n / 101 * 101 = ra_ec (ra_nf n) := by
  rw [ra_101, pk_rem h (by decide) (by decide)]
  rfl
theorem ra_mulrem (x y : ra_F) : ra_ec x * ra_ec y - ra_ec x * ra_ec y / 101 * 101 = ra_ec (x * y) := by
  have hx := x.isLt
  have hy := y.isLt
  have hb : x.val * y.val ≤ 100 * 100 := Nat.mul_le_mul (by omega) (by omega)
  rw [show ra_ec x * ra_ec y = nI (x.val * y.val) from pk_mul _ _, ra_rem (by omega), ra_nf_mul, ra_nf_self, ra_nf_self]
theorem ra_addrem (x y : ra_F) : (ra_ec x + ra_ec y) - (ra_ec x + ra_ec y) / 101 * 101 = ra_ec (x + y) := by
  have hx := x.isLt
  have hy := y.isLt
  rw [show ra_ec x + ra_ec y = nI (x.val + y.val) from nI_add _ _, ra_rem (by omega), ra_nf_add, ra_nf_self, ra_nf_self]
def ra_md (v : Int32) : ra_F := ra_zi v.toInt
theorem ra_md_nI {n : Nat} (h : n < 2 ^ 31) : ra_md (nI n) = ra_nf n := by
  rw [ra_md, nI_toInt h, ra_zi_nat]
theorem ra_md_ec (x : ra_F) : ra_md (ra_ec x) = x := by
  have hx := x.isLt
  rw [show ra_ec x = nI x.val from rfl, ra_md_nI (by omega), ra_nf_self]
theorem ra_md_am (x y : ra_F) {m : Nat} (hm : m < 1000) : ra_md (ra_ec x + nI m * ra_ec y) = x + ra_nf m * y := by
  have hx := x.isLt
  have hy := y.isLt
  have hb : m * y.val ≤ 1000 * 100 := Nat.mul_le_mul (by omega) (by omega)
  rw [show ra_ec x + nI m * ra_ec y = nI (x.val + m * y.val) from by
    rw [show nI m * ra_ec y = nI (m * y.val) from pk_mul _ _]; exact nI_add _ _,
    ra_md_nI (by omega), ra_nf_add, ra_nf_mul, ra_nf_self, ra_nf_self]
theorem ra_md_neg (x : ra_F) : ra_md (-(ra_ec x)) = -x := by
  have hx := x.isLt
  rw [ra_md, show ra_ec x = nI x.val from rfl, sb_negT (by omega), ra_zi_neg, ra_zi_nat, ra_nf_self]
theorem ra_md_sub (x y : ra_F) : ra_md (ra_ec x - ra_ec y) = x - y := by
  have hx := x.isLt
  have hy := y.isLt
  rw [ra_md, show ra_ec x - ra_ec y = nI x.val - nI y.val from rfl, pk_sub_toInt (by omega) (by omega), ra_zi_sub, ra_zi_nat, ra_zi_nat, ra_nf_self, ra_nf_self]
theorem ra_md_submul (x y z : ra_F) : ra_md (ra_ec x - ra_ec y * ra_ec z) = x - y * z := by
  have hx := x.isLt
  have hy := y.isLt
  have hz := z.isLt
  have hb : y.val * z.val ≤ 100 * 100 := Nat.mul_le_mul (by omega) (by omega)
  rw [ra_md, show ra_ec x - ra_ec y * ra_ec z = nI x.val - nI (y.val * z.val) from by
    rw [show ra_ec y * ra_ec z = nI (y.val * z.val) from pk_mul _ _]; rfl,
    pk_sub_toInt (by omega) (by omega), ra_zi_sub, ra_zi_nat, ra_zi_nat, ra_nf_mul, ra_nf_self, ra_nf_self, ra_nf_self]
/-- one step of a sum that is taken off: the value's int within bounds -/
theorem ra_md_run {v : Int32} (y z : ra_F) {B : Nat} (h1 : -(B : Int) ≤ v.toInt) (h2 : v.toInt ≤ 100) (hB : B ≤ 1000000) : ra_md (v - ra_ec y * ra_ec z) = ra_md v - y * z ∧ -((B + 10000 : Nat) : Int) ≤ (v - ra_ec y * ra_ec z).toInt ∧ (v - ra_ec y * ra_ec z).toInt ≤ 100 := by
  have hy := y.isLt
  have hz := z.isLt
  have hb : y.val * z.val ≤ 100 * 100 := Nat.mul_le_mul (by omega) (by omega)
  have e : (v - ra_ec y * ra_ec z).toInt = v.toInt - ((y.val * z.val : Nat) : Int) := by
    rw [show ra_ec y * ra_ec z = nI (y.val * z.val) from pk_mul _ _, Int32.toInt_sub, nI_toInt (by omega)]
    exact Int.bmod_eq_of_le (by omega) (by omega)
  refine ⟨?_, by rw [e]; omega, by rw [e]; omega⟩
  rw [ra_md, e, ra_zi_sub, ra_zi_nat, ra_nf_mul, ra_nf_self, ra_nf_self]
  rfl
/-! inverses -/
def ra_pw (x : ra_F) : Nat → ra_F
  | 0 => 1
  | n + 1 => ra_pw x n * x
def ra_iv (x : ra_F) : ra_F := ra_pw x 99
theorem ra_iv_all : ∀ x : ra_F, x ≠ 0 → x * ra_iv x = 1 := by decide +kernel
theorem ra_nzd {x y : ra_F} (h : x * y = 0) (hx : x ≠ 0) : y = 0 := by
  have e : ra_iv x * (x * y) = y := by
    rw [← ra_fma, ra_fm (ra_iv x) x, ra_iv_all x hx, ra_1f]
  rw [← e, h, ra_zf]
theorem ra_mne {x y : ra_F} (hx : x ≠ 0) (hy : y ≠ 0) : x * y ≠ 0 := fun h => hy (ra_nzd h hx)
theorem ra_iv_ne {x : ra_F} (hx : x ≠ 0) : ra_iv x ≠ 0 := by
  intro h
  have e := ra_iv_all x hx
  rw [h, ra_zf] at e
  exact absurd e (by decide)
theorem ra_half : ∀ x : ra_F, x = -x → x = 0 := by decide +kernel
theorem ra_10 : (1 : ra_F) ≠ 0 := by decide
theorem ra_m10 : (-1 : ra_F) ≠ 0 := by decide
/-! sums -/
def ra_sm : Nat → (Nat → ra_F) → ra_F
  | 0, _ => 0
  | n + 1, f => ra_sm n f + f n
theorem ra_sm_s (n : Nat) (f : Nat → ra_F) : ra_sm (n + 1) f = ra_sm n f + f n := rfl
theorem ra_sm_congr {n : Nat} {f g : Nat → ra_F} (h : ∀ i, i < n → f i = g i) : ra_sm n f = ra_sm n g := by
  induction n with
  | zero => rfl
  | succ n ih => rw [ra_sm_s, ra_sm_s, ih (fun i hi => h i (by omega)), h n (by omega)]
theorem ra_sm_zero {n : Nat} {f : Nat → ra_F} (h : ∀ i, i < n → f i = 0) : ra_sm n f = 0 := by
  induction n with
  | zero => rfl
  | succ n ih => rw [ra_sm_s, ih (fun i hi => h i (by omega)), h n (by omega), ra_f0]
theorem ra_sm_add (n : Nat) (f g : Nat → ra_F) : ra_sm n (fun i => f i + g i) = ra_sm n f + ra_sm n g := by
  induction n with
  | zero => exact (ra_f0 0).symm
  | succ n ih => rw [ra_sm_s, ra_sm_s, ra_sm_s, ih, ra_fac]
theorem ra_sm_mul (n : Nat) (c : ra_F) (f : Nat → ra_F) : ra_sm n (fun i => c * f i) = c * ra_sm n f := by
  induction n with
  | zero => exact (ra_zf c).symm
  | succ n ih => rw [ra_sm_s, ra_sm_s, ih, ra_fd]
theorem ra_sm_mulr (n : Nat) (c : ra_F) (f : Nat → ra_F) : ra_sm n (fun i => f i * c) = ra_sm n f * c := by
  rw [ra_fm, ← ra_sm_mul]
  exact ra_sm_congr fun i _ => ra_fm _ _
theorem ra_sm_neg (n : Nat) (f : Nat → ra_F) : ra_sm n (fun i => -f i) = -ra_sm n f := by
  apply ra_fneg
  rw [← ra_sm_add]
  exact ra_sm_zero fun i _ => by rw [ra_fa]; exact ra_fna _
theorem ra_sm_front (n : Nat) (f : Nat → ra_F) : ra_sm (n + 1) f = f 0 + ra_sm n (fun i => f (i + 1)) := by
  induction n with
  | zero => show 0 + f 0 = f 0 + 0; rw [ra_fa]
  | succ n ih => rw [ra_sm_s, ih, ra_sm_s n (fun i => f (i + 1)), ra_faa]
theorem ra_sm_rev (n : Nat) (f : Nat → ra_F) : ra_sm n f = ra_sm n (fun i => f (n - 1 - i)) := by
  induction n with
  | zero => rfl
  | succ n ih =>
    rw [ra_sm_front n (fun i => f (n + 1 - 1 - i)), ra_sm_s, ih, ra_fa]
    have e : ra_sm n (fun i => f (n - 1 - i)) = ra_sm n (fun i => f (n + 1 - 1 - (i + 1))) :=
      ra_sm_congr fun i _ => congrArg f (by omega)
    rw [e]
    rfl
theorem ra_sm_ext {m n : Nat} {f : Nat → ra_F} (h : m ≤ n) (hz : ∀ i, m ≤ i → i < n → f i = 0) : ra_sm n f = ra_sm m f := by
  induction n with
  | zero =>
    have : m = 0 := by omega
    rw [this]
  | succ n ih =>
    by_cases e : m = n + 1
    · rw [e]
    · rw [ra_sm_s, ih (by omega) (fun i a b => hz i a (by omega)), hz n (by omega) (by omega), ra_f0]
theorem ra_sm_one {n k : Nat} {f : Nat → ra_F} (hk : k < n) (hz : ∀ i, i < n → i ≠ k → f i = 0) : ra_sm n f = f k := by
  induction n with
  | zero => omega
  | succ n ih =>
    rw [ra_sm_s]
    by_cases e : k = n
    · subst e
      rw [ra_sm_zero (fun i hi => hz i (by omega) (by omega)), ra_0f]
    · rw [ih (by omega) (fun i a b => hz i (by omega) b), hz n (by omega) (fun h => e h.symm), ra_f0]
theorem ra_sm_swap (m n : Nat) (G : Nat → Nat → ra_F) : ra_sm m (fun i => ra_sm n (fun j => G i j)) = ra_sm n (fun j => ra_sm m (fun i => G i j)) := by
  induction m with
  | zero => exact (ra_sm_zero fun _ _ => rfl).symm
  | succ m ih =>
    rw [ra_sm_s, ih, ← ra_sm_add]
    rfl
end
section
/-! power series over the field: a commutative ring -/
abbrev ra_P : Type := Nat → ra_F
def ra_cv (f g : ra_P) : ra_P := fun n => ra_sm (n + 1) (fun i => f i * g (n - i))
def ra_add (f g : ra_P) : ra_P := fun n => f n + g n
def ra_neg (f : ra_P) : ra_P := fun n => -f n
def ra_sub (f g : ra_P) : ra_P := fun n => f n - g n
def ra_cst (c : ra_F) : ra_P := fun n => if n = 0 then c else 0
def ra_Z : ra_P := fun _ => 0
theorem ra_tri (G : Nat → Nat → ra_F) (n : Nat) : ra_sm (n + 1) (fun k => ra_sm (k + 1) (fun i => G i (k - i))) = ra_sm (n + 1) (fun i => ra_sm (n - i + 1) (fun j => G i j)) := by
  induction n with
  | zero => rfl
  | succ n ih =>
    rw [ra_sm_s, ih, ra_sm_s (n + 1) (fun i => ra_sm (n + 1 - i + 1) (fun j => G i j))]
    have e : ra_sm (n + 1) (fun i => ra_sm (n + 1 - i + 1) (fun j => G i j)) = ra_sm (n + 1) (fun i => ra_sm (n - i + 1) (fun j => G i j)) + ra_sm (n + 1) (fun i => G i (n + 1 - i)) := by
      rw [← ra_sm_add]
      refine ra_sm_congr fun i hi => ?_
      rw [show n + 1 - i = n - i + 1 from by omega, ra_sm_s]
    rw [e, ra_sm_s (n + 1) (fun i => G i (n + 1 - i)), ra_faa]
    congr 2
    rw [show n + 1 - (n + 1) = 0 from by omega]
    exact (ra_0f _).symm
theorem ra_cv_comm (f g : ra_P) : ra_cv f g = ra_cv g f := by
  funext n
  show ra_sm (n + 1) _ = ra_sm (n + 1) _
  rw [ra_sm_rev]
  refine ra_sm_congr fun i hi => ?_
  show f (n + 1 - 1 - i) * g (n - (n + 1 - 1 - i)) = g i * f (n - i)
  rw [show n - (n + 1 - 1 - i) = i from by omega, show n + 1 - 1 - i = n - i from by omega, ra_fm]
theorem ra_cv_assoc (f g h : ra_P) : ra_cv (ra_cv f g) h = ra_cv f (ra_cv g h) := by
  funext n
  have e := ra_tri (fun i j => f i * (g j * h (n - i - j))) n
  have l : ra_cv (ra_cv f g) h n = ra_sm (n + 1) (fun k => ra_sm (k + 1) (fun i => f i * (g (k - i) * h (n - i - (k - i))))) := by
    refine ra_sm_congr fun k hk => ?_
    show ra_sm (k + 1) (fun i => f i * g (k - i)) * h (n - k) = _
    rw [← ra_sm_mulr]
    refine ra_sm_congr fun i hi => ?_
    show f i * g (k - i) * h (n - k) = _
    rw [ra_fma, show n - i - (k - i) = n - k from by omega]
  rw [l, e]
  refine ra_sm_congr fun i hi => ?_
  show ra_sm (n - i + 1) _ = f i * ra_sm (n - i + 1) _
  rw [← ra_sm_mul]
theorem ra_cv_add (f g h : ra_P) : ra_cv f (ra_add g h) = ra_add (ra_cv f g) (ra_cv f h) := by
  funext n
  show ra_sm (n + 1) _ = ra_sm (n + 1) _ + ra_sm (n + 1) _
  rw [← ra_sm_add]
  exact ra_sm_congr fun i _ => ra_fd _ _ _
theorem ra_cv_cst (c : ra_F) (f : ra_P) : ra_cv (ra_cst c) f = fun n => c * f n := by
  funext n
  show ra_sm (n + 1) _ = _
  rw [ra_sm_one (k := 0) (by omega) (fun i _ hi => by rw [show ra_cst c i = 0 from if_neg hi, ra_fz])]
  show (if 0 = 0 then c else 0) * f (n - 0) = _
  rw [if_pos rfl]
  rfl
theorem ra_cv_1 (f : ra_P) : ra_cv f (ra_cst 1) = f := by
  rw [ra_cv_comm, ra_cv_cst]
  funext n
  exact ra_1f _
theorem ra_cv_0 (f : ra_P) : ra_cv (ra_cst 0) f = ra_cst 0 := by
  rw [ra_cv_cst]
  funext n
  rw [ra_fz]
  show 0 = if n = 0 then (0 : ra_F) else 0
  split <;> rfl
theorem ra_cst_0 : ra_cst 0 = ra_Z := by
  funext n
  show (if n = 0 then (0 : ra_F) else 0) = 0
  split <;> rfl
theorem ra_cv_Z (f : ra_P) : ra_cv f ra_Z = ra_Z := by
  rw [← ra_cst_0, ra_cv_comm, ra_cv_0]
theorem ra_cst_add (a b : ra_F) : ra_cst (a + b) = ra_add (ra_cst a) (ra_cst b) := by
  funext n
  show (if n = 0 then a + b else 0) = (if n = 0 then a else 0) + (if n = 0 then b else 0)
  split
  · rfl
  · rfl
theorem ra_cst_neg (a : ra_F) : ra_cst (-a) = ra_neg (ra_cst a) := by
  funext n
  show (if n = 0 then -a else 0) = -(if n = 0 then a else 0)
  split
  · rfl
  · rfl
def ra_ppw (f : ra_P) : Nat → ra_P
  | 0 => ra_cst (ra_nf 1)
  | n + 1 => ra_cv (ra_ppw f n) f
theorem ra_nf_s (a : Nat) : ra_nf (a + 1) = ra_nf a + ra_nf 1 := ra_nf_add a 1
def ra_ring : Lean.Grind.CommRing ra_P where
  add := ra_add
  mul := ra_cv
  natCast := ⟨fun n => ra_cst (ra_nf n)⟩
  ofNat := fun n => ⟨ra_cst (ra_nf n)⟩
  nsmul := ⟨fun n f => ra_cv (ra_cst (ra_nf n)) f⟩
  npow := ⟨fun f n => ra_ppw f n⟩
  neg := ra_neg
  sub := ra_sub
  intCast := ⟨fun i => ra_cst (ra_zi i)⟩
  zsmul := ⟨fun i f => ra_cv (ra_cst (ra_zi i)) f⟩
  add_zero := fun f => by
    show ra_add f (ra_cst (ra_nf 0)) = f
    rw [ra_nf_0, ra_cst_0]
    funext n
    exact ra_f0 _
  add_comm := fun f g => funext fun n => ra_fa _ _
  add_assoc := fun f g h => funext fun n => ra_faa _ _ _
  mul_assoc := ra_cv_assoc
  mul_comm := ra_cv_comm
  mul_one := fun f => ra_cv_1 f
  one_mul := fun f => by
    show ra_cv (ra_cst 1) f = f
    rw [ra_cv_comm, ra_cv_1]
  left_distrib := ra_cv_add
  right_distrib := fun f g h => by
    show ra_cv (ra_add f g) h = ra_add (ra_cv f h) (ra_cv g h)
    rw [ra_cv_comm, ra_cv_add, ra_cv_comm h f, ra_cv_comm h g]
  zero_mul := fun f => ra_cv_0 f
  mul_zero := fun f => by
    show ra_cv f (ra_cst 0) = ra_cst 0
    rw [ra_cv_comm, ra_cv_0]
  pow_zero := fun f => rfl
  pow_succ := fun f n => rfl
  ofNat_succ := fun a => by
    show ra_cst (ra_nf (a + 1)) = ra_add (ra_cst (ra_nf a)) (ra_cst (ra_nf 1))
    rw [ra_nf_s, ra_cst_add]
  ofNat_eq_natCast := fun n => rfl
  nsmul_eq_natCast_mul := fun n f => rfl
  neg_add_cancel := fun f => by
    show ra_add (ra_neg f) f = ra_cst (ra_nf 0)
    rw [ra_nf_0, ra_cst_0]
    funext n
    exact ra_fna _
  sub_eq_add_neg := fun f g => funext fun n => ra_fsn _ _
  neg_zsmul := fun i f => by
    show ra_cv (ra_cst (ra_zi (-i))) f = ra_neg (ra_cv (ra_cst (ra_zi i)) f)
    rw [ra_zi_neg, ra_cv_cst, ra_cv_cst]
    funext n
    exact ra_fnm _ _
  zsmul_natCast_eq_nsmul := fun n f => by
    show ra_cv (ra_cst (ra_zi (n : Int))) f = ra_cv (ra_cst (ra_nf n)) f
    rw [ra_zi_nat]
  intCast_ofNat := fun n => by
    show ra_cst (ra_zi ((n : Nat) : Int)) = ra_cst (ra_nf n)
    rw [ra_zi_nat]
  intCast_neg := fun i => by
    show ra_cst (ra_zi (-i)) = ra_neg (ra_cst (ra_zi i))
    rw [ra_zi_neg, ra_cst_neg]
/-! ring identities, first for any ring -/
theorem ra_h1 {R : Type} [Lean.Grind.CommRing R] (a b c : R) : a * (b * c) = b * (a * c) := by grind
theorem ra_h2 {R : Type} [Lean.Grind.CommRing R] (T B D E p q : R) (h : D * T = B * E) (hc : p * T + q * B = 1) : D = B * (p * E + q * D) := by
  have : D = D * (p * T + q * B) := by rw [hc]; grind
  grind
theorem ra_h3 {R : Type} [Lean.Grind.CommRing R] (T B D E p q : R) (h : D * T = B * E) (hc : p * T + q * B = 1) : E = T * (p * E + q * D) := by
  have : E = E * (p * T + q * B) := by rw [hc]; grind
  grind
theorem ra_p1 (a b c : ra_P) : ra_cv a (ra_cv b c) = ra_cv b (ra_cv a c) := @ra_h1 ra_P ra_ring a b c
theorem ra_p2 (T B D E p q : ra_P) (h : ra_cv D T = ra_cv B E) (hc : ra_add (ra_cv p T) (ra_cv q B) = ra_cst 1) : D = ra_cv B (ra_add (ra_cv p E) (ra_cv q D)) := @ra_h2 ra_P ra_ring T B D E p q h hc
theorem ra_p3 (T B D E p q : ra_P) (h : ra_cv D T = ra_cv B E) (hc : ra_add (ra_cv p T) (ra_cv q B) = ra_cst 1) : E = ra_cv T (ra_add (ra_cv p E) (ra_cv q D)) := @ra_h3 ra_P ra_ring T B D E p q h hc
end
section
/-! polynomials: power series with a bound -/
def ra_sp (n : Nat) (f : ra_P) : Prop := ∀ j, n ≤ j → f j = 0
def ra_poly (f : ra_P) : Prop := ∃ n, ra_sp n f
theorem ra_sp_le {m n : Nat} {f : ra_P} (h : ra_sp m f) (hl : m ≤ n) : ra_sp n f := fun j hj => h j (Nat.le_trans hl hj)
theorem ra_sp_add {n : Nat} {f g : ra_P} (hf : ra_sp n f) (hg : ra_sp n g) : ra_sp n (ra_add f g) := fun j hj => by
  show f j + g j = 0
  rw [hf j hj, hg j hj, ra_f0]
theorem ra_sp_sub {n : Nat} {f g : ra_P} (hf : ra_sp n f) (hg : ra_sp n g) : ra_sp n (ra_sub f g) := fun j hj => by
  show f j - g j = 0
  rw [hf j hj, hg j hj, ra_fss]
theorem ra_sp_cst (c : ra_F) : ra_sp 1 (ra_cst c) := fun j hj => if_neg (by omega)
theorem ra_sp_Z : ra_sp 0 ra_Z := fun _ _ => rfl
theorem ra_cv_z {m n : Nat} {f g : ra_P} (hf : ra_sp (m + 1) f) (hg : ra_sp (n + 1) g) : ra_sp (m + n + 1) (ra_cv f g) := fun j hj => by
  refine ra_sm_zero fun i hi => ?_
  show f i * g (j - i) = 0
  by_cases h : m + 1 ≤ i
  · rw [hf i h, ra_fz]
  · rw [hg (j - i) (by omega), ra_zf]
theorem ra_cv_top {m n : Nat} {f g : ra_P} (hf : ra_sp (m + 1) f) (hg : ra_sp (n + 1) g) : ra_cv f g (m + n) = f m * g n := by
  have e : ra_cv f g (m + n) = f m * g (m + n - m) := by
    refine ra_sm_one (k := m) (by omega) fun i hi hne => ?_
    show f i * g (m + n - i) = 0
    by_cases h : m + 1 ≤ i
    · rw [hf i h, ra_fz]
    · rw [hg (m + n - i) (by omega), ra_zf]
  rw [e, show m + n - m = n from by omega]
theorem ra_cv_at0 (f g : ra_P) : ra_cv f g 0 = f 0 * g 0 := by
  show 0 + f 0 * g (0 - 0) = _
  exact ra_0f _
theorem ra_poly_add {f g : ra_P} (hf : ra_poly f) (hg : ra_poly g) : ra_poly (ra_add f g) := by
  obtain ⟨m, hm⟩ := hf
  obtain ⟨n, hn⟩ := hg
  exact ⟨m + n, ra_sp_add (ra_sp_le hm (by omega)) (ra_sp_le hn (by omega))⟩
theorem ra_poly_sub {f g : ra_P} (hf : ra_poly f) (hg : ra_poly g) : ra_poly (ra_sub f g) := by
  obtain ⟨m, hm⟩ := hf
  obtain ⟨n, hn⟩ := hg
  exact ⟨m + n, ra_sp_sub (ra_sp_le hm (by omega)) (ra_sp_le hn (by omega))⟩
theorem ra_poly_cv {f g : ra_P} (hf : ra_poly f) (hg : ra_poly g) : ra_poly (ra_cv f g) := by
  obtain ⟨m, hm⟩ := hf
  obtain ⟨n, hn⟩ := hg
  exact ⟨m + n + 1, ra_cv_z (ra_sp_le hm (by omega)) (ra_sp_le hn (by omega))⟩
theorem ra_poly_cst (c : ra_F) : ra_poly (ra_cst c) := ⟨1, ra_sp_cst c⟩
theorem ra_sp0 {f : ra_P} (h : ra_sp 0 f) : f = ra_Z := funext fun j => h j (Nat.zero_le j)
theorem ra_top {f : ra_P} (hp : ra_poly f) (hn : f ≠ ra_Z) : ∃ d, f d ≠ 0 ∧ ra_sp (d + 1) f := by
  obtain ⟨n, h⟩ := hp
  induction n with
  | zero => exact absurd (ra_sp0 h) hn
  | succ n ih =>
    by_cases e : f n = 0
    · refine ih fun j hj => ?_
      by_cases q : j = n
      · rw [q, e]
      · exact h j (by omega)
    · exact ⟨n, e, h⟩
theorem ra_cancel {U f : ra_P} (hU : U 0 ≠ 0) (h : ra_cv U f = ra_Z) : f = ra_Z := by
  funext n
  show f n = 0
  induction n using Nat.strongRecOn with
  | ind n ih =>
    have e : ra_cv U f n = U 0 * f (n - 0) := by
      refine ra_sm_one (k := 0) (by omega) fun i hi hne => ?_
      show U i * f (n - i) = 0
      rw [ih (n - i) (by omega), ra_zf]
    rw [h] at e
    exact ra_nzd e.symm hU
theorem ra_h4 {R : Type} [Lean.Grind.CommRing R] (U f g : R) (h : U * f = U * g) : U * (f - g) = 0 := by grind
theorem ra_h5 {R : Type} [Lean.Grind.CommRing R] (f g : R) (h : f - g = 0) : f = g := by grind
theorem ra_sub0 {f g : ra_P} (h : ra_sub f g = ra_Z) : f = g := by
  rw [← ra_cst_0] at h
  exact @ra_h5 ra_P ra_ring f g h
theorem ra_canc {U f g : ra_P} (hU : U 0 ≠ 0) (h : ra_cv U f = ra_cv U g) : f = g := by
  refine ra_sub0 (ra_cancel hU ?_)
  rw [← ra_cst_0]
  exact @ra_h4 ra_P ra_ring U f g h
/-! the recurrence, and independence of the table's columns -/
theorem ra_rec {T B a : ra_P} {r : Nat} (hB : ra_cv B a = T) (B0 : B 0 = 1) (hT : ra_sp r T) (hBs : ra_sp (r + 1) B) (n : Nat) : a (n + r) = ra_sm r (fun j => (-B (r - j)) * a (n + j)) := by
  have e : ra_cv B a (n + r) = 0 := by rw [hB]; exact hT _ (by omega)
  have e1 : ra_cv B a (n + r) = ra_sm (r + 1) (fun i => B i * a (n + r - i)) :=
    ra_sm_ext (by omega) (fun i h1 h2 => by rw [hBs i h1, ra_fz])
  rw [e1, ra_sm_front] at e
  have e2 : ra_sm r (fun i => B (i + 1) * a (n + r - (i + 1))) = ra_sm r (fun j => B (r - j) * a (n + j)) := by
    rw [ra_sm_rev]
    refine ra_sm_congr fun j hj => ?_
    show B (r - 1 - j + 1) * a (n + r - (r - 1 - j + 1)) = _
    rw [show r - 1 - j + 1 = r - j from by omega, show n + r - (r - j) = n + j from by omega]
  rw [e2, B0, ra_1f, ra_fa] at e
  have e3 := ra_fneg _ _ e
  rw [← ra_sm_neg] at e3
  refine e3.trans (ra_sm_congr fun j hj => ?_)
  exact (ra_fnm _ _).symm
theorem ra_h6 {R : Type} [Lean.Grind.CommRing R] (a b c : R) : a * (-b * c) = -b * (a * c) := by grind
theorem ra_ind {T B a p q : ra_P} {r : Nat} (hp : ra_poly p) (hq : ra_poly q) (hB : ra_cv B a = T) (hc : ra_add (ra_cv p T) (ra_cv q B) = ra_cst 1) (B0 : B 0 = 1) (hT : ra_sp r T) (hBs : ra_sp (r + 1) B) (ht : r ≠ 0 → T (r - 1) ≠ 0 ∨ B r ≠ 0) (v : Nat → ra_F) (h : ∀ i, i < r → ra_sm r (fun j => v j * a (i + j)) = 0) : ∀ j, j < r → v j = 0 := by
  intro j0 hj0
  have hall : ∀ i, ra_sm r (fun j => v j * a (i + j)) = 0 := by
    intro i
    induction i using Nat.strongRecOn with
    | ind i ih =>
      by_cases hi : i < r
      · exact h i hi
      · obtain ⟨n, rfl⟩ : ∃ n, i = n + r := ⟨i - r, by omega⟩
        have e : ra_sm r (fun j => v j * a (n + r + j)) = ra_sm r (fun j => ra_sm r (fun k => (-B (r - k)) * (v j * a (n + k + j)))) := by
          refine ra_sm_congr fun j hj => ?_
          rw [show n + r + j = (n + j) + r from by omega, ra_rec hB B0 hT hBs (n + j), ← ra_sm_mul]
          refine ra_sm_congr fun k hk => ?_
          rw [show n + j + k = n + k + j from by omega]
          exact ra_h6 _ _ _
        rw [e, ra_sm_swap]
        refine ra_sm_zero fun k hk => ?_
        show ra_sm r (fun i => (-B (r - k)) * (v i * a (n + k + i))) = 0
        rw [ra_sm_mul, ih (n + k) (by omega), ra_zf]
  have hr : r ≠ 0 := by omega
  obtain ⟨D, hD⟩ : ∃ D : ra_P, D = fun k => if k < r then v (r - 1 - k) else 0 := ⟨_, rfl⟩
  have hDs : ra_sp r D := fun j hj => by
    rw [hD]
    show (if j < r then v (r - 1 - j) else 0) = 0
    exact if_neg (by omega)
  have hDv : ∀ j, j < r → D (r - 1 - j) = v j := fun j hj => by
    rw [hD]
    show (if r - 1 - j < r then v (r - 1 - (r - 1 - j)) else 0) = v j
    rw [if_pos (by omega), show r - 1 - (r - 1 - j) = j from by omega]
  have hE : ra_sp (r - 1) (ra_cv D a) := by
    intro n hn
    have e1 : ra_cv D a n = ra_sm r (fun i => D i * a (n - i)) :=
      ra_sm_ext (by omega) (fun i h1 h2 => by rw [hDs i h1, ra_fz])
    rw [e1, ra_sm_rev, ← hall (n - (r - 1))]
    refine ra_sm_congr fun j hj => ?_
    show D (r - 1 - j) * a (n - (r - 1 - j)) = v j * a (n - (r - 1) + j)
    rw [hDv j hj, show n - (r - 1 - j) = n - (r - 1) + j from by omega]
  have hDT : ra_cv D T = ra_cv B (ra_cv D a) := by
    rw [← hB]
    exact ra_p1 D B a
  have e1 := ra_p2 T B D (ra_cv D a) p q hDT hc
  have e2 := ra_p3 T B D (ra_cv D a) p q hDT hc
  have hpG : ra_poly (ra_add (ra_cv p (ra_cv D a)) (ra_cv q D)) :=
    ra_poly_add (ra_poly_cv hp ⟨_, hE⟩) (ra_poly_cv hq ⟨_, hDs⟩)
  generalize ra_add (ra_cv p (ra_cv D a)) (ra_cv q D) = G at e1 e2 hpG
  by_cases hG : G = ra_Z
  · rw [hG, ra_cv_Z] at e1
    rw [← hDv j0 hj0, e1]
    rfl
  · obtain ⟨g, hg, hgs⟩ := ra_top hpG hG
    rcases ht hr with h1 | h1
    · have hT' : ra_sp (r - 1 + 1) T := ra_sp_le hT (by omega)
      have := ra_cv_top hT' hgs
      rw [← e2, hE _ (by omega)] at this
      exact absurd this.symm (ra_mne h1 hg)
    · have := ra_cv_top hBs hgs
      rw [← e1, hDs _ (by omega)] at this
      exact absurd this.symm (ra_mne h1 hg)
/-! a quotient in lowest terms -/
def ra_good (T B a : ra_P) : Prop := B 0 = 1 ∧ ra_cv B a = T ∧ ∃ p q, ra_poly p ∧ ra_poly q ∧ ra_add (ra_cv p T) (ra_cv q B) = ra_cst 1
def ra_ord (r : Nat) (T B : ra_P) : Prop := ra_sp r T ∧ ra_sp (r + 1) B ∧ (r ≠ 0 → T (r - 1) ≠ 0 ∨ B r ≠ 0)
/-- what the table's reader needs of a sequence of order r: its factors, and that its columns are independent -/
theorem ra_kro {T B a : ra_P} {r : Nat} (hg : ra_good T B a) (ho : ra_ord r T B) : (∃ c : Nat → ra_F, ∀ n, a (n + r) = ra_sm r (fun j => c j * a (n + j))) ∧ (∀ v : Nat → ra_F, (∀ i, i < r → ra_sm r (fun j => v j * a (i + j)) = 0) → ∀ j, j < r → v j = 0) := by
  obtain ⟨B0, hB, p, q, hp, hq, hc⟩ := hg
  obtain ⟨h1, h2, h3⟩ := ho
  exact ⟨⟨fun j => -B (r - j), fun n => ra_rec hB B0 h1 h2 n⟩, fun v h => ra_ind hp hq hB hc B0 h1 h2 h3 v h⟩
theorem ra_h7 {R : Type} [Lean.Grind.CommRing R] (B B' G G' : R) (h1 : B' = B * G) (h2 : B = B' * G') : B * (G * G') = B * 1 := by grind
/-- lowest terms are unique -/
theorem ra_uni {T B a T' B' a' : ra_P} (hg : ra_good T B a) (hg' : ra_good T' B' a') (sT : ra_sp 8 T) (sB : ra_sp 9 B) (sT' : ra_sp 8 T') (sB' : ra_sp 9 B') (h : ∀ n, n < 32 → a n = a' n) : T = T' ∧ B = B' := by
  obtain ⟨B0, hB, p, q, hp, hq, hc⟩ := hg
  obtain ⟨B0', hB', p', q', hp', hq', hc'⟩ := hg'
  have key : ra_cv B' T = ra_cv B T' := by
    funext n
    by_cases hn : n < 32
    · rw [← hB, ← hB', ra_p1 B B' a', ← ra_cv_assoc, ← ra_cv_assoc]
      refine ra_sm_congr fun i hi => ?_
      rw [h (n - i) (by omega)]
    · rw [(ra_cv_z (m := 8) (n := 7) sB' sT) n (by omega), (ra_cv_z (m := 8) (n := 7) sB sT') n (by omega)]
  have e1 := ra_p2 T B B' T' p q key hc
  have e2 := ra_p3 T B B' T' p q key hc
  have e3 := ra_p2 T' B' B T p' q' key.symm hc'
  have hG : ra_poly (ra_add (ra_cv p T') (ra_cv q B')) := ra_poly_add (ra_poly_cv hp ⟨_, sT'⟩) (ra_poly_cv hq ⟨_, sB'⟩)
  have hG' : ra_poly (ra_add (ra_cv p' T) (ra_cv q' B)) := ra_poly_add (ra_poly_cv hp' ⟨_, sT⟩) (ra_poly_cv hq' ⟨_, sB⟩)
  generalize ra_add (ra_cv p T') (ra_cv q B') = G at e1 e2 hG
  generalize ra_add (ra_cv p' T) (ra_cv q' B) = G' at e3 hG'
  have e4 : ra_cv G G' = ra_cst 1 := ra_canc (U := B) (by rw [B0]; exact ra_10) (@ra_h7 ra_P ra_ring B B' G G' e1 e3)
  have n1 : G ≠ ra_Z := by
    intro z
    rw [z, ra_cv_comm, ra_cv_Z] at e4
    exact absurd (congrFun e4 0) (by decide)
  have n2 : G' ≠ ra_Z := by
    intro z
    rw [z, ra_cv_Z] at e4
    exact absurd (congrFun e4 0) (by decide)
  obtain ⟨g, hg, hgs⟩ := ra_top hG n1
  obtain ⟨g', hg', hgs'⟩ := ra_top hG' n2
  have e5 := ra_cv_top hgs hgs'
  rw [e4] at e5
  have z : g + g' = 0 := by
    refine Classical.byContradiction fun q => ?_
    rw [show ra_cst 1 (g + g') = 0 from if_neg q] at e5
    exact ra_mne hg hg' e5.symm
  have z0 : g = 0 := by omega
  subst z0
  have e6 : G 0 = 1 := by
    have := congrFun e1 0
    rw [ra_cv_at0, B0, B0', ra_1f] at this
    exact this.symm
  have e7 : G = ra_cst 1 := by
    funext n
    by_cases hn : n = 0
    · rw [hn, e6]
      rfl
    · rw [hgs n (by omega)]
      exact (if_neg hn).symm
  rw [e7, ra_cv_1] at e1 e2
  exact ⟨e2.symm, e1.symm⟩
/-! Euclid -/
def ra_eu (T B U V : ra_P) : Prop := (∃ p q, ra_poly p ∧ ra_poly q ∧ U = ra_add (ra_cv p T) (ra_cv q B)) ∧ (∃ p q, ra_poly p ∧ ra_poly q ∧ V = ra_add (ra_cv p T) (ra_cv q B)) ∧ (∃ p q, ra_poly p ∧ ra_poly q ∧ T = ra_add (ra_cv p U) (ra_cv q V)) ∧ (∃ p q, ra_poly p ∧ ra_poly q ∧ B = ra_add (ra_cv p U) (ra_cv q V))
theorem ra_h8 {R : Type} [Lean.Grind.CommRing R] (T B : R) : T = 1 * T + 0 * B := by grind
theorem ra_h9 {R : Type} [Lean.Grind.CommRing R] (T B : R) : B = 0 * T + 1 * B := by grind
theorem ra_eu_0 (T B : ra_P) : ra_eu T B T B := by
  have a : T = ra_add (ra_cv (ra_cst 1) T) (ra_cv (ra_cst 0) B) := @ra_h8 ra_P ra_ring T B
  have b : B = ra_add (ra_cv (ra_cst 0) T) (ra_cv (ra_cst 1) B) := @ra_h9 ra_P ra_ring T B
  exact ⟨⟨_, _, ra_poly_cst 1, ra_poly_cst 0, a⟩, ⟨_, _, ra_poly_cst 0, ra_poly_cst 1, b⟩, ⟨_, _, ra_poly_cst 1, ra_poly_cst 0, a⟩, ⟨_, _, ra_poly_cst 0, ra_poly_cst 1, b⟩⟩
theorem ra_i1 {R : Type} [Lean.Grind.CommRing R] (T B U V Q S p q p' q' : R) (h1 : U = p * T + q * B) (h2 : V = p' * T + q' * B) (h3 : U = Q * V + S) : S = (p - Q * p') * T + (q - Q * q') * B := by grind
theorem ra_i2 {R : Type} [Lean.Grind.CommRing R] (T U V Q S p q : R) (h1 : T = p * U + q * V) (h3 : U = Q * V + S) : T = (p * Q + q) * V + p * S := by grind
theorem ra_eu_s {T B U V Q S : ra_P} (h : ra_eu T B U V) (hQ : ra_poly Q) (hd : U = ra_add (ra_cv Q V) S) : ra_eu T B V S := by
  obtain ⟨⟨p1, q1, hp1, hq1, e1⟩, ⟨p2, q2, hp2, hq2, e2⟩, ⟨p3, q3, hp3, hq3, e3⟩, ⟨p4, q4, hp4, hq4, e4⟩⟩ := h
  refine ⟨⟨p2, q2, hp2, hq2, e2⟩, ⟨ra_sub p1 (ra_cv Q p2), ra_sub q1 (ra_cv Q q2), ra_poly_sub hp1 (ra_poly_cv hQ hp2), ra_poly_sub hq1 (ra_poly_cv hQ hq2), ?_⟩, ⟨ra_add (ra_cv p3 Q) q3, p3, ra_poly_add (ra_poly_cv hp3 hQ) hq3, hp3, ?_⟩, ⟨ra_add (ra_cv p4 Q) q4, p4, ra_poly_add (ra_poly_cv hp4 hQ) hq4, hp4, ?_⟩⟩
  · exact @ra_i1 ra_P ra_ring T B U V Q S p1 q1 p2 q2 e1 e2 hd
  · exact @ra_i2 ra_P ra_ring T U V Q S p3 q3 e3 hd
  · exact @ra_i2 ra_P ra_ring B U V Q S p4 q4 e4 hd
theorem ra_i3 {R : Type} [Lean.Grind.CommRing R] (p q U : R) : p * U + q * 0 = p * U := by grind
theorem ra_eu_e {T B U : ra_P} (h : ra_eu T B U ra_Z) : ∃ s t p q, ra_poly s ∧ ra_poly t ∧ ra_poly p ∧ ra_poly q ∧ T = ra_cv s U ∧ B = ra_cv t U ∧ U = ra_add (ra_cv p T) (ra_cv q B) := by
  obtain ⟨⟨p1, q1, hp1, hq1, e1⟩, _, ⟨p3, q3, hp3, hq3, e3⟩, ⟨p4, q4, hp4, hq4, e4⟩⟩ := h
  rw [← ra_cst_0] at e3 e4
  exact ⟨p3, p4, p1, q1, hp3, hp4, hp1, hq1, e3.trans (@ra_i3 ra_P ra_ring p3 q3 U), e4.trans (@ra_i3 ra_P ra_ring p4 q4 U), e1⟩
theorem ra_i4 {R : Type} [Lean.Grind.CommRing R] (s Q U S : R) (h : s * U = Q * U + S) : (s - Q) * U = S := by grind
theorem ra_divu {T U Q S s : ra_P} {d : Nat} (hT : T = ra_cv s U) (hd : T = ra_add (ra_cv Q U) S) (hs : ra_poly s) (hQ : ra_poly Q) (hUs : ra_sp (d + 1) U) (hU : U d ≠ 0) (hS : ra_sp d S) : Q = s := by
  have e : ra_cv (ra_sub s Q) U = S := @ra_i4 ra_P ra_ring s Q U S (hT.symm.trans hd)
  have hp : ra_poly (ra_sub s Q) := ra_poly_sub hs hQ
  by_cases z : ra_sub s Q = ra_Z
  · exact (ra_sub0 z).symm
  · obtain ⟨g, hg, hgs⟩ := ra_top hp z
    have e2 := ra_cv_top hgs hUs
    rw [e, hS _ (by omega)] at e2
    exact absurd e2.symm (ra_mne hg hU)
theorem ra_spq {T U Q : ra_P} {n d : Nat} (h : T = ra_cv Q U) (hQ : ra_poly Q) (hUs : ra_sp (d + 1) U) (hU : U d ≠ 0) (hT : ra_sp n T) : ra_sp n Q := by
  by_cases z : Q = ra_Z
  · rw [z]
    exact ra_sp_le ra_sp_Z (by omega)
  · obtain ⟨g, hg, hgs⟩ := ra_top hQ z
    have e2 := ra_cv_top hgs hUs
    rw [← h] at e2
    have : g + d < n := by
      refine Classical.byContradiction fun q => ?_
      rw [hT _ (by omega)] at e2
      exact ra_mne hg hU e2.symm
    exact ra_sp_le hgs (by omega)
theorem ra_i5 {R : Type} [Lean.Grind.CommRing R] (T B a U s t : R) (h1 : T = s * U) (h2 : B = t * U) (h3 : B * a = T) : U * (t * a) = U * s := by grind
theorem ra_i6 {R : Type} [Lean.Grind.CommRing R] (T B U s t p q : R) (h1 : T = s * U) (h2 : B = t * U) (h3 : U = p * T + q * B) : U * (p * s + q * t) = U * 1 := by grind
theorem ra_i7 {R : Type} [Lean.Grind.CommRing R] (c x p q s t : R) (h1 : c * x = 1) (h2 : p * s + q * t = 1) : (c * p) * (x * s) + (c * q) * (x * t) = 1 := by
  have : (c * p) * (x * s) + (c * q) * (x * t) = (c * x) * (p * s + q * t) := by grind
  rw [this, h1, h2]; grind
/-- what the reduction gives -/
theorem ra_red {T B a U Q1 S1 Q2 S2 : ra_P} {d : Nat} (eu : ra_eu T B U ra_Z) (hUs : ra_sp (d + 1) U) (hU : U d ≠ 0) (h1 : T = ra_add (ra_cv Q1 U) S1) (p1 : ra_poly Q1) (r1 : ra_sp d S1) (h2 : B = ra_add (ra_cv Q2 U) S2) (p2 : ra_poly Q2) (r2 : ra_sp d S2) (B0 : B 0 ≠ 0) (hB : ra_cv B a = T) : ra_good (fun n => Q1 n * ra_iv (Q2 0)) (fun n => Q2 n * ra_iv (Q2 0)) a ∧ (∀ n, ra_sp n T → ra_sp n (fun n => Q1 n * ra_iv (Q2 0))) ∧ (∀ n, ra_sp n B → ra_sp n (fun n => Q2 n * ra_iv (Q2 0))) := by
  obtain ⟨s, t, p, q, hs, ht, hp, hq, eT, eB, eU⟩ := ra_eu_e eu
  have c1 := ra_divu eT h1 hs p1 hUs hU r1
  have c2 := ra_divu eB h2 ht p2 hUs hU r2
  subst c1 c2
  have hb : Q2 0 * U 0 ≠ 0 := by
    rw [← ra_cv_at0, ← eB]
    exact B0
  have ht0 : Q2 0 ≠ 0 := fun z => hb (by rw [z, ra_fz])
  have hU0 : U 0 ≠ 0 := fun z => hb (by rw [z, ra_zf])
  have k1 : ra_cv Q2 a = Q1 := ra_canc hU0 (@ra_i5 ra_P ra_ring T B a U Q1 Q2 eT eB hB)
  have k2 : ra_add (ra_cv p Q1) (ra_cv q Q2) = ra_cst 1 := ra_canc hU0 (@ra_i6 ra_P ra_ring T B U Q1 Q2 p q eT eB eU)
  have f1 : (fun n => Q1 n * ra_iv (Q2 0)) = ra_cv (ra_cst (ra_iv (Q2 0))) Q1 := by
    rw [ra_cv_cst]
    funext n
    exact ra_fm _ _
  have f2 : (fun n => Q2 n * ra_iv (Q2 0)) = ra_cv (ra_cst (ra_iv (Q2 0))) Q2 := by
    rw [ra_cv_cst]
    funext n
    exact ra_fm _ _
  refine ⟨⟨ra_iv_all _ ht0, ?_, ra_cv (ra_cst (Q2 0)) p, ra_cv (ra_cst (Q2 0)) q, ra_poly_cv (ra_poly_cst _) hp, ra_poly_cv (ra_poly_cst _) hq, ?_⟩, ?_, ?_⟩
  · rw [f1, f2, ra_cv_assoc, k1]
  · rw [f1, f2]
    refine @ra_i7 ra_P ra_ring (ra_cst (Q2 0)) (ra_cst (ra_iv (Q2 0))) p q Q1 Q2 ?_ k2
    show ra_cv (ra_cst (Q2 0)) (ra_cst (ra_iv (Q2 0))) = ra_cst 1
    rw [ra_cv_cst]
    funext n
    show Q2 0 * (if n = 0 then ra_iv (Q2 0) else 0) = if n = 0 then 1 else 0
    by_cases z : n = 0
    · rw [if_pos z, if_pos z, ra_iv_all _ ht0]
    · rw [if_neg z, if_neg z, ra_zf]
  · intro n hn j hj
    show Q1 j * _ = 0
    rw [ra_spq eT p1 hUs hU hn j hj, ra_fz]
  · intro n hn j hj
    show Q2 j * _ = 0
    rw [ra_spq eB p2 hUs hU hn j hj, ra_fz]
end
section
/-! the index halved -/
def ra_mir (f : ra_P) : ra_P := fun n => if n % 2 = 1 then -f n else f n
theorem ra_fmn (a b : ra_F) : a * (-b) = -(a * b) := by rw [ra_fm, ra_fnm, ra_fm]
theorem ra_mir_mir (f : ra_P) : ra_mir (ra_mir f) = f := by
  funext n
  show (if n % 2 = 1 then -(if n % 2 = 1 then -f n else f n) else (if n % 2 = 1 then -f n else f n)) = f n
  by_cases h : n % 2 = 1
  · rw [if_pos h, if_pos h, ra_fnn]
  · rw [if_neg h, if_neg h]
theorem ra_mir_cv (f g : ra_P) : ra_cv (ra_mir f) (ra_mir g) = ra_mir (ra_cv f g) := by
  funext n
  by_cases hn : n % 2 = 1
  · rw [show ra_mir (ra_cv f g) n = -ra_cv f g n from if_pos hn]
    show ra_sm (n + 1) _ = -ra_sm (n + 1) _
    rw [← ra_sm_neg]
    refine ra_sm_congr fun i hi => ?_
    show (if i % 2 = 1 then -f i else f i) * (if (n - i) % 2 = 1 then -g (n - i) else g (n - i)) = -(f i * g (n - i))
    by_cases h : i % 2 = 1
    · rw [if_pos h, if_neg (by omega), ra_fnm]
    · rw [if_neg h, if_pos (by omega), ra_fmn]
  · rw [show ra_mir (ra_cv f g) n = ra_cv f g n from if_neg hn]
    refine ra_sm_congr fun i hi => ?_
    show (if i % 2 = 1 then -f i else f i) * (if (n - i) % 2 = 1 then -g (n - i) else g (n - i)) = f i * g (n - i)
    by_cases h : i % 2 = 1
    · rw [if_pos h, if_pos (by omega), ra_fnm, ra_fmn, ra_fnn]
    · rw [if_neg h, if_neg (by omega)]
theorem ra_odd0 (B : ra_P) {n : Nat} (h : n % 2 = 1) : ra_cv B (ra_mir B) n = 0 := by
  have e : ra_mir (ra_cv B (ra_mir B)) = ra_cv B (ra_mir B) := by rw [← ra_mir_cv, ra_mir_mir, ra_cv_comm]
  have e2 := congrFun e n
  rw [show ra_mir (ra_cv B (ra_mir B)) n = -ra_cv B (ra_mir B) n from if_pos h] at e2
  exact ra_half _ e2.symm
theorem ra_sm_even (m : Nat) (f : Nat → ra_F) (h : ∀ i, i % 2 = 1 → f i = 0) : ra_sm (2 * m) f = ra_sm m (fun j => f (2 * j)) := by
  induction m with
  | zero => rfl
  | succ m ih =>
    rw [show 2 * (m + 1) = 2 * m + 1 + 1 from by omega, ra_sm_s, ra_sm_s, ra_sm_s, ih, h (2 * m + 1) (by omega), ra_f0]
theorem ra_j1 {R : Type} [Lean.Grind.CommRing R] (B m a : R) : (B * m) * a = (B * a) * m := by grind
theorem ra_halve {T B a : ra_P} {o : Nat} (ho : o < 2) (hB : ra_cv B a = T) : ra_cv (fun i => ra_cv B (ra_mir B) (2 * i)) (fun i => a (2 * i + o)) = fun i => ra_cv T (ra_mir B) (2 * i + o) := by
  funext i
  have e0 : ra_cv (ra_cv B (ra_mir B)) a = ra_cv T (ra_mir B) := by
    rw [← hB]
    exact @ra_j1 ra_P ra_ring B (ra_mir B) a
  rw [← e0]
  have hS : ∀ n, n % 2 = 1 → ra_cv B (ra_mir B) n = 0 := fun n h => ra_odd0 B h
  generalize ra_cv B (ra_mir B) = S at hS
  show ra_sm (i + 1) (fun j => S (2 * j) * a (2 * (i - j) + o)) = ra_sm (2 * i + o + 1) (fun k => S k * a (2 * i + o - k))
  have e : ra_sm (2 * (i + 1)) (fun k => S k * a (2 * i + o - k)) = ra_sm (2 * i + o + 1) (fun k => S k * a (2 * i + o - k)) :=
    ra_sm_ext (by omega) (fun k h1 h2 => by rw [hS k (by omega), ra_fz])
  rw [← e, ra_sm_even _ _ (fun k hk => by rw [hS k hk, ra_fz])]
  refine ra_sm_congr fun j hj => ?_
  rw [show 2 * i + o - 2 * j = 2 * (i - j) + o from by omega]
/-! shifts -/
def ra_xk (k : Nat) : ra_P := fun n => if n = k then 1 else 0
def ra_sh (k : Nat) (f : ra_P) : ra_P := fun n => if k ≤ n then f (n - k) else 0
theorem ra_cv_xk (k : Nat) (f : ra_P) : ra_cv (ra_xk k) f = ra_sh k f := by
  funext n
  by_cases h : k ≤ n
  · rw [show ra_sh k f n = f (n - k) from if_pos h]
    have e : ra_cv (ra_xk k) f n = ra_xk k k * f (n - k) := by
      refine ra_sm_one (k := k) (by omega) fun i hi hne => ?_
      rw [show ra_xk k i = 0 from if_neg hne, ra_fz]
    rw [e, show ra_xk k k = 1 from if_pos rfl, ra_1f]
  · rw [show ra_sh k f n = 0 from if_neg h]
    refine ra_sm_zero fun i hi => ?_
    rw [show ra_xk k i = 0 from if_neg (by omega), ra_fz]
theorem ra_sh_0 (f : ra_P) : ra_sh 0 f = f := by
  funext n
  exact if_pos (Nat.zero_le n)
theorem ra_sh_cv (k : Nat) (f g : ra_P) : ra_cv f (ra_sh k g) = ra_sh k (ra_cv f g) := by
  rw [← ra_cv_xk, ← ra_cv_xk, ra_p1]
theorem ra_sp_sh {k n : Nat} {f : ra_P} (h : ra_sp n f) : ra_sp (n + k) (ra_sh k f) := fun j hj => by
  show (if k ≤ j then f (j - k) else 0) = 0
  rw [if_pos (by omega), h _ (by omega)]
/-- the product as it is gathered row by row -/
theorem ra_pcv {d : Nat} {f : ra_P} (g : ra_P) (hf : ra_sp d f) : (fun n => ra_sm d (fun j => f j * ra_sh j g n)) = ra_cv f g := by
  funext n
  have e1 : ra_sm (d + (n + 1)) (fun j => f j * ra_sh j g n) = ra_sm d (fun j => f j * ra_sh j g n) :=
    ra_sm_ext (by omega) (fun j h1 h2 => by rw [hf j h1, ra_fz])
  have e2 : ra_sm (d + (n + 1)) (fun j => f j * ra_sh j g n) = ra_sm (n + 1) (fun j => f j * ra_sh j g n) :=
    ra_sm_ext (by omega) (fun j h1 h2 => by rw [show ra_sh j g n = 0 from if_neg (by omega), ra_zf])
  rw [← e1, e2]
  refine ra_sm_congr fun j hj => ?_
  rw [show ra_sh j g n = g (n - j) from if_pos (by omega)]
/-! 1 - x -/
def ra_L : ra_P := fun n => if n = 0 then 1 else if n = 1 then -1 else 0
theorem ra_L_sp : ra_sp 2 ra_L := fun j hj => by
  show (if j = 0 then (1 : ra_F) else if j = 1 then -1 else 0) = 0
  rw [if_neg (by omega), if_neg (by omega)]
theorem ra_cvL (f : ra_P) (n : Nat) : ra_cv ra_L f n = if n = 0 then f 0 else f n - f (n - 1) := by
  by_cases h : n = 0
  · rw [if_pos h, h, ra_cv_at0]
    exact ra_1f _
  · rw [if_neg h]
    have e : ra_cv ra_L f n = ra_sm 2 (fun i => ra_L i * f (n - i)) :=
      ra_sm_ext (by omega) (fun i h1 h2 => by rw [ra_L_sp i h1, ra_fz])
    rw [e]
    show 0 + 1 * f (n - 0) + (-1) * f (n - 1) = _
    rw [ra_0f, ra_1f, ra_fnm, ra_1f, ra_fsn]
    rfl
def ra_acc (a : ra_P) : ra_P := fun n => ra_sm (n + 1) a
theorem ra_j2 {R : Type} [Lean.Grind.CommRing R] (x y : R) : x + y - x = y := by grind
theorem ra_acc_L (a : ra_P) : ra_cv ra_L (ra_acc a) = a := by
  funext n
  rw [ra_cvL]
  by_cases h : n = 0
  · rw [if_pos h, h]
    exact ra_0f _
  · rw [if_neg h]
    obtain ⟨m, rfl⟩ : ∃ m, n = m + 1 := ⟨n - 1, by omega⟩
    show ra_sm (m + 1) a + a (m + 1) - ra_sm (m + 1 - 1 + 1) a = a (m + 1)
    exact ra_j2 _ _
theorem ra_seq_acc {T B a : ra_P} (hB : ra_cv B a = T) : ra_cv (ra_cv B ra_L) (ra_acc a) = T := by
  rw [ra_cv_assoc, ra_acc_L, hB]
theorem ra_seq_dif {T B a : ra_P} (hB : ra_cv B a = T) : ra_cv B (ra_cv ra_L a) = ra_cv T ra_L := by
  rw [ra_p1, hB, ra_cv_comm]
theorem ra_j3 {R : Type} [Lean.Grind.CommRing R] (B B' T T' a a' : R) (h : B * a = T) (h' : B' * a' = T') : (B * B') * (a + a') = T * B' + T' * B := by grind
theorem ra_seq_add {T B a T' B' a' : ra_P} (h : ra_cv B a = T) (h' : ra_cv B' a' = T') : ra_cv (ra_cv B B') (ra_add a a') = ra_add (ra_cv T B') (ra_cv T' B) := @ra_j3 ra_P ra_ring B B' T T' a a' h h'
theorem ra_seq_scale {T B a : ra_P} (c : ra_F) (h : ra_cv B a = T) : ra_cv B (fun n => a n * c) = fun n => T n * c := by
  have e : ∀ f : ra_P, (fun n => f n * c) = ra_cv (ra_cst c) f := fun f => by
    rw [ra_cv_cst]
    funext n
    exact ra_fm _ _
  rw [e, e, ra_p1, h]
def ra_pre (c : ra_F) (a : ra_P) : ra_P := fun n => if n = 0 then c else a (n - 1)
theorem ra_pre_eq (c : ra_F) (a : ra_P) : ra_pre c a = ra_add (ra_cst c) (ra_sh 1 a) := by
  funext n
  show (if n = 0 then c else a (n - 1)) = (if n = 0 then c else 0) + (if 1 ≤ n then a (n - 1) else 0)
  by_cases h : n = 0
  · rw [if_pos h, if_pos h, if_neg (by omega), ra_f0]
  · rw [if_neg h, if_neg h, if_pos (by omega), ra_0f]
theorem ra_seq_pre {T B a : ra_P} (c : ra_F) (h : ra_cv B a = T) : ra_cv B (ra_pre c a) = ra_add (ra_cv (ra_cst c) B) (ra_sh 1 T) := by
  rw [ra_pre_eq, ra_cv_add, ra_sh_cv, h, ra_cv_comm]
def ra_adv (a : ra_P) : ra_P := fun n => a (n + 1)
theorem ra_adv_pre (a : ra_P) : ra_pre (a 0) (ra_adv a) = a := by
  funext n
  show (if n = 0 then a 0 else a (n - 1 + 1)) = a n
  by_cases h : n = 0
  · rw [if_pos h, h]
  · rw [if_neg h, show n - 1 + 1 = n from by omega]
theorem ra_j4 {R : Type} [Lean.Grind.CommRing R] (x y t : R) (h : t = x + y) : y = t - x := by grind
theorem ra_seq_adv {T B a : ra_P} (B0 : B 0 = 1) (h : ra_cv B a = T) : ra_cv B (ra_adv a) = fun n => T (n + 1) - T 0 * B (n + 1) := by
  have e := ra_seq_pre (a 0) (rfl : ra_cv B (ra_adv a) = ra_cv B (ra_adv a))
  rw [ra_adv_pre, h, ra_cv_cst] at e
  have t0 : T 0 = a 0 := by rw [← h, ra_cv_at0, B0, ra_1f]
  funext n
  have e2 := congrFun e (n + 1)
  have e3 : ra_sh 1 (ra_cv B (ra_adv a)) (n + 1) = ra_cv B (ra_adv a) n := if_pos (by omega)
  rw [t0]
  rw [← e3]
  exact ra_j4 _ _ _ e2
/-! a quotient as a sequence -/
def ra_quoP (B T : ra_P) : Nat → ra_P
  | 0 => fun _ => 0
  | n + 1 => fun j => if j = n then T n - ra_sm n (fun i => B (i + 1) * ra_quoP B T n (n - 1 - i)) else ra_quoP B T n j
def ra_quo (B T : ra_P) : ra_P := fun n => ra_quoP B T (n + 1) n
theorem ra_quoP_st (B T : ra_P) (j : Nat) : ∀ d, ra_quoP B T (j + 1 + d) j = ra_quo B T j := by
  intro d
  induction d with
  | zero => rfl
  | succ d ih =>
    rw [← ih]
    show (if j = j + 1 + d then _ else ra_quoP B T (j + 1 + d) j) = _
    rw [if_neg (by omega)]
theorem ra_quo_eq (B T : ra_P) (n : Nat) : ra_quo B T n = T n - ra_sm n (fun i => B (i + 1) * ra_quo B T (n - 1 - i)) := by
  have e : ra_quo B T n = T n - ra_sm n (fun i => B (i + 1) * ra_quoP B T n (n - 1 - i)) := if_pos rfl
  rw [e]
  congr 1
  refine ra_sm_congr fun i hi => ?_
  rw [← ra_quoP_st B T (n - 1 - i) i, show n - 1 - i + 1 + i = n from by omega]
theorem ra_j5 {R : Type} [Lean.Grind.CommRing R] (x y : R) : 1 * (x - y) + y = x := by grind
theorem ra_quo_cv {B : ra_P} (B0 : B 0 = 1) (T : ra_P) : ra_cv B (ra_quo B T) = T := by
  funext n
  show ra_sm (n + 1) _ = T n
  rw [ra_sm_front, B0, show n - 0 = n from rfl, ra_quo_eq]
  have e : ra_sm n (fun i => B (i + 1) * ra_quo B T (n - (i + 1))) = ra_sm n (fun i => B (i + 1) * ra_quo B T (n - 1 - i)) :=
    ra_sm_congr fun i hi => by rw [show n - (i + 1) = n - 1 - i from by omega]
  rw [e]
  exact ra_j5 _ _
theorem ra_cv_at {B a T : ra_P} (B0 : B 0 = 1) (h : ra_cv B a = T) (n : Nat) : a n = T n - ra_sm n (fun i => B (i + 1) * a (n - 1 - i)) := by
  have e := congrFun h n
  rw [show ra_cv B a n = ra_sm (n + 1) (fun i => B i * a (n - i)) from rfl, ra_sm_front, B0] at e
  have e2 : ra_sm n (fun i => B (i + 1) * a (n - (i + 1))) = ra_sm n (fun i => B (i + 1) * a (n - 1 - i)) :=
    ra_sm_congr fun i hi => by rw [show n - (i + 1) = n - 1 - i from by omega]
  rw [e2, show n - 0 = n from rfl, ra_1f, ra_fa] at e
  exact ra_j4 _ _ _ e.symm
end
section
/-! arrays as pictures of functions into the field -/
def ra_bk (w : Nat) (P : Nat → ra_P) : Nat → Int32 := fun j => ra_ec (P (j / w) (j % w))
def ra_ar (f : ra_P) : Nat → Int32 := fun j => ra_ec (f j)
def ra_st (P : Nat → ra_P) (k : Nat) (f : ra_P) : Nat → ra_P := fun j => if j = k then f else P j
def ra_mx (i : Nat) (f g : ra_P) : ra_P := fun j => if j < i then f j else g j
theorem ra_st_s {P : Nat → ra_P} {k : Nat} {f : ra_P} : ra_st P k f k = f := if_pos rfl
theorem ra_st_n {P : Nat → ra_P} {k j : Nat} {f : ra_P} (h : j ≠ k) : ra_st P k f j = P j := if_neg h
theorem ra_st_id (P : Nat → ra_P) (k : Nat) : ra_st P k (P k) = P := by
  funext j
  by_cases h : j = k
  · rw [h, ra_st_s]
  · rw [ra_st_n h]
theorem ra_st_st (P : Nat → ra_P) (k : Nat) (f g : ra_P) : ra_st (ra_st P k f) k g = ra_st P k g := by
  funext j
  by_cases h : j = k
  · rw [h, ra_st_s, ra_st_s]
  · rw [ra_st_n h, ra_st_n h, ra_st_n h]
theorem ra_mx_0 (f g : ra_P) : ra_mx 0 f g = g := rfl
theorem ra_mx_i (i : Nat) (f g : ra_P) : ra_mx i f g i = g i := if_neg (by omega)
theorem ra_mx_u (i : Nat) (f g : ra_P) : (fun j => if j = i then f i else ra_mx i f g j) = ra_mx (i + 1) f g := by
  funext j
  show (if j = i then f i else if j < i then f j else g j) = if j < i + 1 then f j else g j
  by_cases h : j = i
  · rw [if_pos h, if_pos (by omega), h]
  · rw [if_neg h]
    by_cases h2 : j < i
    · rw [if_pos h2, if_pos (by omega)]
    · rw [if_neg h2, if_neg (by omega)]
theorem ra_dv {w k i : Nat} (h : i < w) : (k * w + i) / w = k := by
  rw [Nat.add_comm, Nat.add_mul_div_right _ _ (by omega), Nat.div_eq_of_lt h, Nat.zero_add]
theorem ra_dm {w k i : Nat} (h : i < w) : (k * w + i) % w = i := by
  rw [Nat.add_comm, Nat.add_mul_mod_self_right, Nat.mod_eq_of_lt h]
theorem ra_bk_rd {w k i : Nat} (P : Nat → ra_P) (h : i < w) : ra_bk w P (k * w + i) = ra_ec (P k i) := by
  show ra_ec (P ((k * w + i) / w) ((k * w + i) % w)) = _
  rw [ra_dv h, ra_dm h]
theorem ra_bk_ext {w : Nat} (hw : 0 < w) {P P' : Nat → ra_P} (h : ∀ k i, i < w → P k i = P' k i) : ra_bk w P = ra_bk w P' :=
  funext fun j => congrArg ra_ec (h _ _ (Nat.mod_lt _ hw))
theorem ra_bk_wr {w k i : Nat} (P : Nat → ra_P) (x : ra_F) (h : i < w) : upd (ra_bk w P) (k * w + i) (ra_ec x) = ra_bk w (ra_st P k (fun j => if j = i then x else P k j)) := by
  funext j
  show (if j = k * w + i then ra_ec x else ra_ec (P (j / w) (j % w))) = ra_ec ((if j / w = k then (fun j => if j = i then x else P k j) else P (j / w)) (j % w))
  by_cases hj : j = k * w + i
  · subst hj
    rw [if_pos rfl, ra_dv h, ra_dm h, if_pos rfl]
    show ra_ec x = ra_ec (if i = i then x else P k i)
    rw [if_pos rfl]
  · rw [if_neg hj]
    by_cases hk : j / w = k
    · rw [if_pos hk]
      show _ = ra_ec (if j % w = i then x else P k (j % w))
      have hne : ¬ j % w = i := by
        intro e
        apply hj
        have := Nat.div_add_mod j w
        rw [hk, e, Nat.mul_comm] at this
        exact this.symm
      rw [if_neg hne, hk]
    · rw [if_neg hk]
theorem ra_bk_mx {w k i : Nat} (P : Nat → ra_P) (f g : ra_P) (h : i < w) : upd (ra_bk w (ra_st P k (ra_mx i f g))) (k * w + i) (ra_ec (f i)) = ra_bk w (ra_st P k (ra_mx (i + 1) f g)) := by
  rw [ra_bk_wr _ _ h, ra_st_st, ra_st_s, ra_mx_u]
theorem ra_bk_end {w k : Nat} (hw : 0 < w) (P : Nat → ra_P) (f g : ra_P) : ra_bk w (ra_st P k (ra_mx w f g)) = ra_bk w (ra_st P k f) :=
  ra_bk_ext hw fun k' i hi => by
    by_cases h : k' = k
    · rw [h, ra_st_s, ra_st_s]
      exact if_pos hi
    · rw [ra_st_n h, ra_st_n h]
theorem ra_bk_beg {w k : Nat} (P : Nat → ra_P) (f : ra_P) : ra_bk w (ra_st P k (ra_mx 0 f (P k))) = ra_bk w P := by
  rw [ra_mx_0, ra_st_id]
theorem ra_ar_wr (f : ra_P) (i : Nat) (x : ra_F) : upd (ra_ar f) i (ra_ec x) = ra_ar (fun j => if j = i then x else f j) := by
  funext j
  show (if j = i then ra_ec x else ra_ec (f j)) = ra_ec (if j = i then x else f j)
  by_cases h : j = i
  · rw [if_pos h, if_pos h]
  · rw [if_neg h, if_neg h]
theorem ra_ar_mx (i : Nat) (f g : ra_P) : upd (ra_ar (ra_mx i f g)) i (ra_ec (f i)) = ra_ar (ra_mx (i + 1) f g) := by
  rw [ra_ar_wr, ra_mx_u]
/-! loops -/
theorem ra_lp (W : Nat → Nat → Prop) (e : Nat) (hx : ∀ n, W (n + 1) e) (hs : ∀ n i, i < e → W n (i + 1) → W (n + 1) i) : ∀ m i n, i + m = e → m < n → W n i := by
  intro m
  induction m with
  | zero =>
    intro i n hi hn
    obtain ⟨n, rfl⟩ : ∃ k, n = k + 1 := ⟨n - 1, by omega⟩
    have : i = e := by omega
    subst this
    exact hx n
  | succ m ih =>
    intro i n hi hn
    obtain ⟨n, rfl⟩ : ∃ k, n = k + 1 := ⟨n - 1, by omega⟩
    exact hs n i (by omega) (ih (i + 1) n (by omega) (by omega))
theorem ra_n24 : (24 : Int32) = nI 24 := by decide +kernel
theorem ra_nle {b i : Nat} {c : Int32} (hc : c = nI b) (h : i < b) (hb : b < 2 ^ 31) : ¬ c ≤ nI i := by
  rw [hc]
  exact nI_ge h hb
theorem ra_le {b i : Nat} {c : Int32} (hc : c = nI b) (h : b ≤ i) (hb : i < 2 ^ 31) : c ≤ nI i := by
  rw [hc]
  exact nI_le h hb
/-! numbers -/
theorem ra_rem_zi (v : Int) : (0 ≤ v.tmod 101 → ((ra_zi v).val : Int) = v.tmod 101) ∧ (¬ 0 ≤ v.tmod 101 → ((ra_zi v).val : Int) = v.tmod 101 + 101) := by
  have h1 := Int.mul_tdiv_add_tmod v 101
  have h2 := tmod_bounds (a := v) (M := 101) (by decide)
  show (0 ≤ v.tmod 101 → (((v % 101).toNat : Nat) : Int) = v.tmod 101) ∧ (¬ 0 ≤ v.tmod 101 → (((v % 101).toNat : Nat) : Int) = v.tmod 101 + 101)
  generalize v.tmod 101 = t at h1 h2
  generalize v.tdiv 101 = q at h1
  omega
theorem ra_remv (v : Int32) : (0 ≤ v - v / 101 * 101 → v - v / 101 * 101 = ra_ec (ra_md v)) ∧ (¬ 0 ≤ v - v / 101 * 101 → v - v / 101 * 101 + 101 = ra_ec (ra_md v)) := by
  have t : (v - v / 101 * 101).toInt = v.toInt.tmod 101 := rem_toInt v 101
  have h2 := tmod_bounds (a := v.toInt) (M := 101) (by decide)
  have h3 := ra_rem_zi v.toInt
  have h4 := (ra_md v).isLt
  have e : (ra_ec (ra_md v)).toInt = ((ra_zi v.toInt).val : Int) := nI_toInt (by omega)
  have hz : (0 : Int32).toInt = 0 := by decide
  have hc : (101 : Int32).toInt = 101 := by decide
  generalize v - v / 101 * 101 = r at t
  rw [Int32.le_iff_toInt_le, hz, t]
  refine ⟨fun h => ?_, fun h => ?_⟩
  · apply Int32.toInt_inj.mp
    rw [e, t, h3.1 h]
  · apply Int32.toInt_inj.mp
    rw [e, Jvm.Kit.i32_add (by rw [hc, t]; omega) (by rw [hc, t]; omega), hc, t, h3.2 h]
theorem rx_mod {post : Int32 → Prop} {v : Int32} (h : post (ra_ec (ra_md v))) : wpX_mod post v := by
  have k := ra_remv v
  refine And.intro ra_101n ?_
  intro x ex
  rw [ex]
  exact ⟨fun a => by rw [k.1 a]; exact h, fun a => by rw [k.2 a]; exact h⟩
theorem rx_inv {post : Int32 → Prop} {x : ra_F} (h : post (ra_ec (ra_iv x))) : wpX_inverse post (ra_ec x) := by
  have L := ra_lp (fun n i => wX_inverse_4 post (ra_ec x) n (ra_ec (ra_pw x i)) (nI i)) 99
    (fun n => br_t (ra_le (b := 99) (by decide +kernel) (Nat.le_refl _) (by decide)) h)
    (fun n i hi IH => by
      refine br_f (ra_nle (b := 99) (by decide +kernel) hi (by decide)) (And.intro ra_101n ?_)
      intro y ey z ez
      rw [ey, ez, ra_mulrem, nI_1]
      exact IH) 99 0 100 rfl (by decide)
  refine Exists.intro 100 ?_
  rw [show ra_ec (ra_pw x 0) = 1 from ra_ec_1] at L
  exact L
/-! polynomials in the bank -/
theorem rx_ix (k i : Nat) : nI k * 24 + nI i = nI (k * 24 + i) := by
  rw [ra_n24, pk_mul, nI_add]
theorem rx_in {k i : Nat} (hk : k < 13) (hi : i < 24) : vp_in (nI k * 24 + nI i) 312 := by
  rw [rx_ix]
  exact vp_in_nI (by omega) (by decide)
theorem rx_cl {k i : Nat} (hk : k < 13) (hi : i < 24) : (nI k * 24 + nI i).toNatClampNeg = k * 24 + i := by
  rw [rx_ix]
  exact nI_clamp (by omega)
theorem rx_24 {n : Nat} (h : n < 24) : ¬ (24 : Int32) ≤ nI n := ra_nle ra_n24 h (by decide)
theorem rx_24e : (24 : Int32) ≤ nI 24 := ra_le ra_n24 (Nat.le_refl _) (by decide)
theorem rx_clear {post : SX → Prop} {P : Nat → ra_P} {rc : Nat → Int32} {k : Nat} (hk : k < 13) (h : post (ra_bk 24 (ra_st P k ra_Z), rc)) : wpX_clearPoly post (ra_bk 24 P, rc) (nI k) := by
  have L := ra_lp (fun n i => wX_clearPoly_2 post (nI k) n (nI i) (ra_bk 24 (ra_st P k (ra_mx i ra_Z (P k)))) rc) 24
    (fun n => br_t rx_24e (by rw [ra_bk_end (by decide)]; exact h))
    (fun n i hi IH => by
      refine br_f (rx_24 hi) (And.intro (rx_in hk hi) ?_)
      intro b eb y ey
      rw [ey, eb, nI_1, rx_cl hk hi, ← ra_ec_0]
      rw [show upd _ (k * 24 + i) (ra_ec 0) = _ from ra_bk_mx P ra_Z (P k) hi]
      exact IH) 24 0 25 rfl (by decide)
  refine Exists.intro 25 ?_
  rw [ra_bk_beg] at L
  exact L
theorem rx_copy {post : SX → Prop} {P : Nat → ra_P} {rc : Nat → Int32} {k l : Nat} (hk : k < 13) (hl : l < 13) (hne : l ≠ k) (h : post (ra_bk 24 (ra_st P k (P l)), rc)) : wpX_copyPoly post (ra_bk 24 P, rc) (nI k) (nI l) := by
  have L := ra_lp (fun n i => wX_copyPoly_2 post (nI k) (nI l) n (nI i) (ra_bk 24 (ra_st P k (ra_mx i (P l) (P k)))) rc) 24
    (fun n => br_t rx_24e (by rw [ra_bk_end (by decide)]; exact h))
    (fun n i hi IH => by
      refine br_f (rx_24 hi) (And.intro (rx_in hl hi) (And.intro (rx_in hk hi) ?_))
      intro b eb y ey
      rw [ey, eb, nI_1, rx_cl hk hi, rx_cl hl hi, ra_bk_rd _ hi, ra_st_n hne, ra_bk_mx P (P l) (P k) hi]
      exact IH) 24 0 25 rfl (by decide)
  refine Exists.intro 25 ?_
  rw [ra_bk_beg] at L
  exact L
theorem rx_scale {post : SX → Prop} {P : Nat → ra_P} {rc : Nat → Int32} {k : Nat} {x : ra_F} (hk : k < 13) (h : post (ra_bk 24 (ra_st P k (fun j => P k j * x)), rc)) : wpX_scalePoly post (ra_bk 24 P, rc) (nI k) (ra_ec x) := by
  have L := ra_lp (fun n i => wX_scalePoly_2 post (nI k) (ra_ec x) n (nI i) (ra_bk 24 (ra_st P k (ra_mx i (fun j => P k j * x) (P k)))) rc) 24
    (fun n => br_t rx_24e (by rw [ra_bk_end (by decide)]; exact h))
    (fun n i hi IH => by
      refine br_f (rx_24 hi) (And.intro (rx_in hk hi) (And.intro ra_101n (And.intro (rx_in hk hi) ?_)))
      intro b eb y ey
      rw [ey, eb, nI_1, rx_cl hk hi, ra_bk_rd _ hi, ra_st_s, ra_mx_i, ra_mulrem]
      rw [show upd _ (k * 24 + i) (ra_ec (P k i * x)) = _ from ra_bk_mx P (fun j => P k j * x) (P k) hi]
      exact IH) 24 0 25 rfl (by decide)
  refine Exists.intro 25 ?_
  rw [ra_bk_beg] at L
  exact L
theorem rx_addt {post : SX → Prop} {P : Nat → ra_P} {rc : Nat → Int32} {k l m pl : Nat} (hk : k < 13) (hl : l < 13) (hne : l ≠ k) (hm : m < 1000) (hp : pl ≤ 24) (h : post (ra_bk 24 (ra_st P k (fun j => P k j + ra_nf m * ra_sh pl (P l) j)), rc)) : wpX_addTimes post (ra_bk 24 P, rc) (nI k) (nI l) (nI m) (nI pl) := by
  have L := ra_lp (fun n i => pl ≤ i → wX_addTimes_4 post (nI k) (nI l) (nI m) (nI pl) n (nI i) (ra_bk 24 (ra_st P k (ra_mx i (fun j => P k j + ra_nf m * ra_sh pl (P l) j) (P k)))) rc) 24
    (fun n _ => br_t rx_24e (by rw [ra_bk_end (by decide)]; exact h))
    (fun n i hi IH hpi => by
      have ix : nI l * 24 + nI i - nI pl = nI (l * 24 + (i - pl)) := by
        rw [rx_ix, pk_sub (by omega)]
        exact congrArg nI (by omega)
      refine br_f (rx_24 hi) (And.intro (rx_in hk hi) (And.intro (by rw [ix]; exact vp_in_nI (by omega) (by decide)) ?_))
      refine rx_mod (And.intro (rx_in hk hi) ?_)
      intro b eb y ey
      rw [ey, eb, nI_1, rx_cl hk hi, ix, nI_clamp (by omega), ra_bk_rd _ hi, ra_bk_rd _ (by omega), ra_st_s, ra_mx_i, ra_st_n hne, ra_md_am _ _ hm]
      have e := ra_bk_mx (k := k) P (fun j => P k j + ra_nf m * ra_sh pl (P l) j) (P k) hi
      rw [show ra_sh pl (P l) i = P l (i - pl) from if_pos hpi] at e
      rw [e]
      exact IH (by omega)) (24 - pl) pl 25 (by omega) (by omega) (Nat.le_refl _)
  refine Exists.intro 25 ?_
  have e : ra_mx pl (fun j => P k j + ra_nf m * ra_sh pl (P l) j) (P k) = P k := by
    funext j
    show (if j < pl then P k j + ra_nf m * (if pl ≤ j then P l (j - pl) else 0) else P k j) = P k j
    by_cases hj : j < pl
    · rw [if_pos hj, if_neg (by omega), ra_zf, ra_f0]
    · rw [if_neg hj]
  rw [e, ra_st_id] at L
  exact L
/-- a degree, with one added -/
def ra_dg (d : Nat) (f : ra_P) : Prop := ra_sp d f ∧ (d ≠ 0 → f (d - 1) ≠ 0)
theorem rx_deg {post : Int32 → Prop} {P : Nat → ra_P} {rc : Nat → Int32} {k : Nat} (hk : k < 13) (hs : ra_sp 24 (P k)) (h : ∀ d, d ≤ 24 → ra_dg d (P k) → post (nI d + (-1))) : wpX_degree post (ra_bk 24 P, rc) (nI k) := by
  have L : ∀ e n, e < n → e ≤ 24 → ra_sp e (P k) → wX_degree_3 post (nI k) (ra_bk 24 P) rc n (nI e + (-1)) := by
    intro e
    induction e with
    | zero =>
      intro n hn he hz
      obtain ⟨n, rfl⟩ : ∃ q, n = q + 1 := ⟨n - 1, by omega⟩
      exact br_t (by decide +kernel) (h 0 (by omega) ⟨hz, fun q => absurd rfl q⟩)
    | succ e ih =>
      intro n hn he hz
      obtain ⟨n, rfl⟩ : ∃ q, n = q + 1 := ⟨n - 1, by omega⟩
      have h1 := h (e + 1) he
      rw [pk_m1] at h1 ⊢
      refine br_f (nI_pos (by omega)) (And.intro (rx_in hk (by omega)) ?_)
      rw [rx_cl hk (by omega), ra_bk_rd _ (by omega), ra_ec_z]
      refine br_c (fun z => ?_) (fun z => h1 ⟨hz, fun _ => z⟩)
      intro y ey
      rw [ey]
      refine ih n (by omega) (by omega) fun j hj => ?_
      by_cases q : j = e
      · rw [q, z]
      · exact hz j (by omega)
  have L2 := L 24 25 (by decide) (by decide) hs
  refine Exists.intro 25 ?_
  rw [pk_m1] at L2
  exact L2
end
section
/-! product, division, Euclid, lowest terms -/
theorem rx_dlt {d i : Nat} (hd : d < 2 ^ 30) (hi : i < 2 ^ 30) : nI d + (-1) < nI i ↔ d ≤ i := by
  cases d with
  | zero =>
    have : nI 0 + (-1) < nI i := by
      rw [Int32.lt_iff_toInt_lt, show (nI 0 + (-1)).toInt = -1 from by decide +kernel, nI_toInt (by omega)]
      omega
    exact ⟨fun _ => Nat.zero_le _, fun _ => this⟩
  | succ d =>
    rw [pk_m1, nI_ltI (by omega) (by omega)]
    exact Iff.rfl
theorem rx_mul {post : SX → Prop} {P : Nat → ra_P} {rc : Nat → Int32} {t a b : Nat} (ht : t < 13) (ha : a < 13) (hb : b < 13) (h4t : t ≠ 4) (h4a : a ≠ 4) (h4b : b ≠ 4) (hs : ra_sp 24 (P a)) (h : post (ra_bk 24 (ra_st (ra_st P 4 (ra_cv (P a) (P b))) t (ra_cv (P a) (P b))), rc)) : wpX_multiply post (ra_bk 24 P, rc) (nI t) (nI a) (nI b) := by
  unfold wpX_multiply
  dsimp only
  refine rx_clear (k := 4) (by decide) ?_
  refine rx_deg ha (by rw [ra_st_n h4a]; exact hs) fun d hd hdg => ?_
  rw [ra_st_n h4a] at hdg
  have L := ra_lp (fun n i => wX_multiply_15 post (nI t) (nI a) (nI b) (nI d + (-1)) n (nI i) (ra_bk 24 (ra_st P 4 (fun x => ra_sm i (fun j => P a j * ra_sh j (P b) x)))) rc) d
    (fun n => by
      refine br_t ((rx_dlt (by omega) (by omega)).mpr (Nat.le_refl _)) ?_
      refine rx_copy ht (l := 4) (by decide) (fun q => h4t q.symm) ?_
      rw [ra_st_s, ra_pcv _ hdg.1]
      exact h)
    (fun n i hi IH => by
      have hi24 : i < 24 := by omega
      refine br_f (fun q => absurd ((rx_dlt (by omega) (by omega)).mp q) (by omega)) (And.intro (rx_in ha hi24) ?_)
      rw [rx_cl ha hi24, ra_bk_rd _ hi24, ra_st_n h4a]
      have hv := (P a i).isLt
      refine rx_addt (k := 4) (m := (P a i).val) (by decide) hb h4b (by omega) (by omega) ?_
      intro y ey
      rw [ey, nI_1, ra_st_st, ra_st_s, ra_st_n h4b, ra_nf_self]
      exact IH) d 0 (d + 1) (by omega) (by omega)
  exact Exists.intro (d + 1) L
theorem ra_st_c {P : Nat → ra_P} {k l : Nat} {f g : ra_P} (h : k ≠ l) : ra_st (ra_st P k f) l g = ra_st (ra_st P l g) k f := by
  funext j
  by_cases h1 : j = k
  · rw [h1, ra_st_n h, ra_st_s, ra_st_s]
  · by_cases h2 : j = l
    · rw [h2, ra_st_s, ra_st_n (fun q => h q.symm), ra_st_s]
    · rw [ra_st_n h2, ra_st_n h1, ra_st_n h1, ra_st_n h2]
theorem ra_k1 {R : Type} [Lean.Grind.CommRing R] (A Q B S c k : R) (h : A = Q * B + S) : A = (Q + c * k) * B + (S - c * (k * B)) := by grind
/-- one step of the division -/
theorem ra_divs {A B Q S : ra_P} {d e : Nat} (hd : ra_sp (d + 1) B) (hB : B d ≠ 0) (he : d ≤ e) (he24 : e < 24) (hA : A = ra_add (ra_cv Q B) S) (hS : ra_sp (e + 1) S) (hQ : ra_sp 24 Q) (hQ0 : ∀ j, j < e + 1 - d → Q j = 0) (Q' S' : ra_P) (x : ra_F) (ex : x = S e * ra_iv (B d)) (eQ : Q' = fun j => if j = e - d then x else Q j) (eS : S' = fun j => S j + -x * ra_sh (e - d) B j) : A = ra_add (ra_cv Q' B) S' ∧ ra_sp e S' ∧ ra_sp 24 Q' ∧ (∀ j, j < e - d → Q' j = 0) := by
  have fQ : Q' = ra_add Q (ra_cv (ra_cst x) (ra_xk (e - d))) := by
    rw [eQ, ra_cv_cst]
    funext j
    show (if j = e - d then x else Q j) = Q j + x * (if j = e - d then 1 else 0)
    by_cases h : j = e - d
    · rw [if_pos h, if_pos h, hQ0 j (by omega), ra_0f, ra_f1]
    · rw [if_neg h, if_neg h, ra_zf, ra_f0]
  have fS : S' = ra_sub S (ra_cv (ra_cst x) (ra_cv (ra_xk (e - d)) B)) := by
    rw [eS, ra_cv_cst, ra_cv_xk]
    funext j
    show S j + -x * ra_sh (e - d) B j = S j - x * ra_sh (e - d) B j
    rw [ra_fsn, ra_fnm]
  refine ⟨?_, ?_, ?_, ?_⟩
  · rw [fQ, fS]
    exact @ra_k1 ra_P ra_ring A Q B S (ra_cst x) (ra_xk (e - d)) hA
  · intro j hj
    rw [eS]
    show S j + -x * (if e - d ≤ j then B (j - (e - d)) else 0) = 0
    rw [if_pos (by omega)]
    by_cases q : j = e
    · rw [q, show e - (e - d) = d from by omega, ex, ra_fnm, ra_fma, ra_fm (ra_iv (B d)), ra_iv_all _ hB, ra_f1, ra_fa, ra_fna]
    · rw [hS j (by omega), hd _ (by omega), ra_zf, ra_f0]
  · intro j hj
    rw [eQ]
    show (if j = e - d then x else Q j) = 0
    rw [if_neg (by omega), hQ j hj]
  · intro j hj
    rw [eQ]
    show (if j = e - d then x else Q j) = 0
    rw [if_neg (by omega), hQ0 j (by omega)]
theorem rx_divl {post : SX → Prop} {P : Nat → ra_P} {rc : Nat → Int32} {a b d : Nat} (ha : a < 13) (hb : b < 13) (h4a : a ≠ 4) (h4b : b ≠ 4) (hab : a ≠ b) (hd : ra_sp (d + 1) (P b)) (hB : P b d ≠ 0) (h : ∀ Q S, P a = ra_add (ra_cv Q (P b)) S → ra_sp 24 Q → ra_sp d S → post (ra_bk 24 (ra_st (ra_st P 4 Q) a S), rc)) :
    ∀ m n Q S, d + m ≤ 24 → m < n → P a = ra_add (ra_cv Q (P b)) S → ra_sp (d + m) S → ra_sp 24 Q → (∀ j, j < m → Q j = 0) → wX_divide_36 post (nI a) (nI b) (nI d) (ra_ec (ra_iv (P b d))) n (nI (d + m) + (-1)) (ra_bk 24 (ra_st (ra_st P 4 Q) a S)) rc := by
  intro m
  induction m with
  | zero =>
    intro n Q S hm hn hA hS hQ _
    obtain ⟨n, rfl⟩ : ∃ q, n = q + 1 := ⟨n - 1, by omega⟩
    exact br_t ((rx_dlt (by omega) (by omega)).mpr (Nat.le_refl _)) (h Q S hA hQ hS)
  | succ m ih =>
    intro n Q S hm hn hA hS hQ hQ0
    obtain ⟨n, rfl⟩ : ∃ q, n = q + 1 := ⟨n - 1, by omega⟩
    have he : d + m < 24 := by omega
    obtain ⟨x, ex⟩ : ∃ x, x = S (d + m) * ra_iv (P b d) := ⟨_, rfl⟩
    have hx := x.isLt
    have key := ra_divs (e := d + m) hd hB (by omega) he hA hS hQ (fun j hj => hQ0 j (by omega)) _ _ x ex rfl rfl
    rw [show d + m - d = m from by omega] at key
    obtain ⟨k1, k2, k3, k4⟩ := key
    have ix : 96 + nI (d + m) - nI d = nI (4 * 24 + m) := by
      rw [show (96 : Int32) = nI 96 from by decide +kernel, nI_add, pk_sub (by omega)]
      exact congrArg nI (by omega)
    rw [show d + (m + 1) = d + m + 1 from by omega, pk_m1]
    refine br_f (nI_nlt (by omega) (by omega)) (And.intro (rx_in ha he) (And.intro ra_101n ?_))
    intro x6 ex6
    rw [rx_cl ha he, ra_bk_rd _ he, ra_st_s, ra_mulrem, ← ex] at ex6
    rw [ex6]
    refine And.intro (by rw [ix]; exact vp_in_nI (by omega) (by decide)) ?_
    intro bk eb
    rw [ix, nI_clamp (by omega), ra_bk_wr _ _ (by omega), ra_st_n (fun q => h4a q.symm), ra_st_s, ra_st_c h4a, ra_st_st] at eb
    rw [eb, show (101 : Int32) - ra_ec x = nI (101 - x.val) from by
      rw [ra_101]; exact pk_sub (by omega), pk_sub (by omega), show d + m - d = m from by omega]
    refine rx_addt ha hb (fun q => hab q.symm) (by omega) (by omega) ?_
    intro y ey
    rw [ey, ra_st_st, ra_st_s, ra_st_n (fun q => hab q.symm), ra_st_n h4b, ra_nf_sub]
    exact ih n _ _ (by omega) (by omega) k1 k2 k3 k4
theorem rx_div {post : SX → Prop} {P : Nat → ra_P} {rc : Nat → Int32} {a b : Nat} (ha : a < 13) (hb : b < 13) (h4a : a ≠ 4) (h4b : b ≠ 4) (hab : a ≠ b) (hsa : ra_sp 24 (P a)) (hsb : ra_sp 24 (P b)) (hb0 : P b ≠ ra_Z) (h : ∀ d Q S, ra_sp (d + 1) (P b) → P b d ≠ 0 → P a = ra_add (ra_cv Q (P b)) S → ra_sp 24 Q → ra_sp d S → post (ra_bk 24 (ra_st (ra_st P 4 Q) a S), rc)) : wpX_divide post (ra_bk 24 P, rc) (nI a) (nI b) := by
  unfold wpX_divide
  dsimp only
  refine rx_clear (k := 4) (by decide) ?_
  refine rx_deg hb (by rw [ra_st_n h4b]; exact hsb) fun d hd hdg => ?_
  rw [ra_st_n h4b] at hdg
  obtain ⟨g1, g2⟩ := hdg
  cases d with
  | zero => exact absurd (ra_sp0 g1) hb0
  | succ d =>
    have g2 : P b d ≠ 0 := g2 (by omega)
    rw [pk_m1]
    refine br_t (nI_pos' (by omega)) (And.intro (rx_in hb (by omega)) ?_)
    dsimp only
    rw [rx_cl hb (by omega), ra_bk_rd _ (by omega), ra_st_n h4b]
    refine rx_inv ?_
    refine Exists.intro 25 ?_
    have e0 : P a = ra_add (ra_cv ra_Z (P b)) (P a) := by
      rw [ra_cv_comm, ra_cv_Z]
      funext j
      exact (ra_0f _).symm
    have L := rx_divl (post := post) (rc := rc) ha hb h4a h4b hab g1 g2 (fun Q S => h d Q S g1 g2) (24 - d) 25 ra_Z (P a) (by omega) (by omega) e0 (by rw [show d + (24 - d) = 24 from by omega]; exact hsa) (fun _ _ => rfl) (fun _ _ => rfl)
    rw [show d + (24 - d) = 23 + 1 from by omega, pk_m1, show ra_st (ra_st P 4 ra_Z) a (P a) = ra_st P 4 ra_Z from by
      rw [ra_st_c (fun q => h4a q.symm), ra_st_id]] at L
    exact L
theorem ra_dg_le {d e : Nat} {f : ra_P} (h : ra_dg d f) (hs : ra_sp e f) : d ≤ e := by
  refine Classical.byContradiction fun q => ?_
  exact h.2 (by omega) (hs _ (by omega))
/-- Euclid's way -/
theorem rx_cfl {post : SX → Prop} {P : Nat → ra_P} {rc : Nat → Int32} {T B : ra_P} (h : ∀ P', ra_eu T B (P' 2) ra_Z → ra_sp 24 (P' 2) → (∀ k, k ≠ 2 → k ≠ 3 → k ≠ 4 → P' k = P k) → post (ra_bk 24 P', rc)) :
    ∀ m i n d P', d ≤ m → i + m ≤ 17 → m < n → ra_dg d (P' 3) → ra_sp 24 (P' 2) → ra_eu T B (P' 2) (P' 3) → (∀ k, k ≠ 2 → k ≠ 3 → k ≠ 4 → P' k = P k) → wX_commonFactor_20 post n (nI d + (-1)) (nI i) (ra_bk 24 P') rc := by
  intro m
  induction m with
  | zero =>
    intro i n d P' hd hi hn hdg hs he hk
    obtain ⟨n, rfl⟩ : ∃ q, n = q + 1 := ⟨n - 1, by omega⟩
    have z : d = 0 := by omega
    subst z
    rw [ra_sp0 hdg.1] at he
    exact br_f (rx_24 (by omega)) (br_t (by decide +kernel) (h P' he hs hk))
  | succ m ih =>
    intro i n d P' hd hi hn hdg hs he hk
    obtain ⟨n, rfl⟩ : ∃ q, n = q + 1 := ⟨n - 1, by omega⟩
    cases d with
    | zero =>
      rw [ra_sp0 hdg.1] at he
      exact br_f (rx_24 (by omega)) (br_t (by decide +kernel) (h P' he hs hk))
    | succ d =>
      have g2 : P' 3 d ≠ 0 := hdg.2 (by omega)
      rw [pk_m1]
      refine br_f (rx_24 (by omega)) (br_f (nI_pos (by omega)) ?_)
      refine rx_div (a := 2) (b := 3) (by decide) (by decide) (by decide) (by decide) (by decide) hs (ra_sp_le hdg.1 (by omega)) (fun q => g2 (by rw [q]; rfl)) ?_
      intro e Q S h1 h2 h3 h4 h5
      have hed : e ≤ d := by
        refine Classical.byContradiction fun q => ?_
        exact h2 (hdg.1 e (by omega))
      refine rx_copy (k := 4) (l := 2) (by decide) (by decide) (by decide) ?_
      refine rx_copy (k := 2) (l := 3) (by decide) (by decide) (by decide) ?_
      refine rx_copy (k := 3) (l := 4) (by decide) (by decide) (by decide) ?_
      have f3 : ∀ X, ra_st (ra_st (ra_st (ra_st (ra_st P' 4 Q) 2 S) 4 S) 2 X) 3 S 3 = S := fun X => ra_st_s
      have key : ra_st (ra_st (ra_st (ra_st (ra_st P' 4 Q) 2 S) 4 (ra_st (ra_st P' 4 Q) 2 S 2)) 2 (ra_st (ra_st (ra_st P' 4 Q) 2 S) 4 (ra_st (ra_st P' 4 Q) 2 S 2) 3)) 3 (ra_st (ra_st (ra_st (ra_st P' 4 Q) 2 S) 4 (ra_st (ra_st P' 4 Q) 2 S 2)) 2 (ra_st (ra_st (ra_st P' 4 Q) 2 S) 4 (ra_st (ra_st P' 4 Q) 2 S 2) 3) 4) = ra_st (ra_st (ra_st P' 4 S) 2 (P' 3)) 3 S := by
        funext j
        by_cases j3 : j = 3
        · subst j3
          rfl
        · by_cases j2 : j = 2
          · subst j2
            rfl
          · by_cases j4 : j = 4
            · subst j4
              rfl
            · rw [ra_st_n j3, ra_st_n j2, ra_st_n j4, ra_st_n j2, ra_st_n j4, ra_st_n j3, ra_st_n j2, ra_st_n j4]
      rw [key]
      refine rx_deg (k := 3) (by decide) (by rw [ra_st_s]; exact ra_sp_le h5 (by omega)) fun d2 hd2 hdg2 => ?_
      intro y ey
      rw [ey, nI_1]
      rw [ra_st_s] at hdg2
      refine ih (i + 1) n d2 _ ?_ (by omega) (by omega) (by rw [ra_st_s]; exact hdg2) ?_ ?_ ?_
      · have := ra_dg_le hdg2 h5
        omega
      · rw [ra_st_n (by decide), ra_st_s]
        exact ra_sp_le hdg.1 (by omega)
      · rw [ra_st_n (by decide), ra_st_s, ra_st_s]
        exact ra_eu_s he ⟨_, h4⟩ h3
      · intro k k2 k3 k4
        rw [ra_st_n k3, ra_st_n k2, ra_st_n k4, hk k k2 k3 k4]
theorem rx_cf {post : SX → Prop} {P : Nat → ra_P} {rc : Nat → Int32} (s0 : ra_sp 24 (P 0)) (s1 : ra_sp 17 (P 1)) (h : ∀ P', ra_eu (P 0) (P 1) (P' 2) ra_Z → ra_sp 24 (P' 2) → (∀ k, k ≠ 2 → k ≠ 3 → k ≠ 4 → P' k = P k) → post (ra_bk 24 P', rc)) : wpX_commonFactor post (ra_bk 24 P, rc) := by
  unfold wpX_commonFactor
  dsimp only
  refine rx_copy (k := 2) (l := 0) (by decide) (by decide) (by decide) ?_
  refine rx_copy (k := 3) (l := 1) (by decide) (by decide) (by decide) ?_
  rw [ra_st_n (show 1 ≠ 2 by decide)]
  refine rx_deg (k := 3) (by decide) (by rw [ra_st_s]; exact ra_sp_le s1 (by omega)) fun d hd hdg => ?_
  refine Exists.intro 18 ?_
  have hdg' := hdg
  rw [ra_st_s] at hdg'
  refine rx_cfl h 17 0 18 d _ (ra_dg_le hdg' s1) (by omega) (by omega) hdg ?_ ?_ ?_
  · rw [ra_st_n (by decide), ra_st_s]
    exact s0
  · rw [ra_st_n (by decide), ra_st_s, ra_st_s]
    exact ra_eu_0 _ _
  · intro k k2 k3 k4
    rw [ra_st_n k3, ra_st_n k2]
/-- lowest terms -/
theorem rx_red {post : SX → Prop} {P : Nat → ra_P} {rc : Nat → Int32} {a : ra_P} (s0 : ra_sp 16 (P 0)) (s1 : ra_sp 17 (P 1)) (b0 : P 1 0 ≠ 0) (hB : ra_cv (P 1) a = P 0) (h : ∀ P', ra_good (P' 0) (P' 1) a → (∀ n, ra_sp n (P 0) → ra_sp n (P' 0)) → (∀ n, ra_sp n (P 1) → ra_sp n (P' 1)) → (∀ k, 5 ≤ k → P' k = P k) → post (ra_bk 24 P', rc)) : wpX_reduce post (ra_bk 24 P, rc) := by
  unfold wpX_reduce
  dsimp only
  refine rx_cf (ra_sp_le s0 (by omega)) s1 fun P1 eu s2 hk => ?_
  have e0 : P1 0 = P 0 := hk 0 (by decide) (by decide) (by decide)
  have e1 : P1 1 = P 1 := hk 1 (by decide) (by decide) (by decide)
  have u0 : P1 2 ≠ ra_Z := by
    intro z
    obtain ⟨s, t, p, q, _, _, _, _, _, eB, _⟩ := ra_eu_e eu
    rw [z, ra_cv_Z] at eB
    exact b0 (by rw [eB]; rfl)
  refine rx_copy (k := 3) (l := 0) (by decide) (by decide) (by decide) ?_
  refine rx_div (a := 3) (b := 2) (by decide) (by decide) (by decide) (by decide) (by decide) ?_ ?_ ?_ ?_
  · rw [ra_st_s, e0]
    exact ra_sp_le s0 (by omega)
  · rw [ra_st_n (by decide)]
    exact s2
  · rw [ra_st_n (by decide)]
    exact u0
  intro d1 Q1 S1 x1 x2 x3 x4 x5
  rw [ra_st_n (show 2 ≠ 3 by decide)] at x1 x2 x3
  rw [ra_st_s, e0] at x3
  refine rx_copy (k := 0) (l := 4) (by decide) (by decide) (by decide) ?_
  refine rx_copy (k := 3) (l := 1) (by decide) (by decide) (by decide) ?_
  generalize eP2 : ra_st (ra_st (ra_st (ra_st (ra_st P1 3 (P1 0)) 4 Q1) 3 S1) 0 (ra_st (ra_st (ra_st P1 3 (P1 0)) 4 Q1) 3 S1 4)) 3 (ra_st (ra_st (ra_st (ra_st P1 3 (P1 0)) 4 Q1) 3 S1) 0 (ra_st (ra_st (ra_st P1 3 (P1 0)) 4 Q1) 3 S1 4) 1) = P2
  have q0 : P2 0 = Q1 := by rw [← eP2]; rfl
  have q2 : P2 2 = P1 2 := by rw [← eP2]; rfl
  have q3 : P2 3 = P1 1 := by rw [← eP2]; rfl
  have qk : ∀ k, 5 ≤ k → P2 k = P k := by
    intro k hk5
    rw [← eP2, ra_st_n (by omega), ra_st_n (by omega), ra_st_n (by omega), ra_st_n (by omega), ra_st_n (by omega)]
    exact hk k (by omega) (by omega) (by omega)
  clear eP2
  refine rx_div (a := 3) (b := 2) (by decide) (by decide) (by decide) (by decide) (by decide) ?_ ?_ ?_ ?_
  · rw [q3, e1]
    exact ra_sp_le s1 (by omega)
  · rw [q2]
    exact s2
  · rw [q2]
    exact u0
  intro d2 Q2 S2 y1 y2 y3 y4 y5
  rw [q2] at y1 y2 y3
  rw [q3, e1] at y3
  have hd : d1 = d2 := by
    have i1 : ¬ d1 + 1 ≤ d2 := fun q => y2 (x1 _ q)
    have i2 : ¬ d2 + 1 ≤ d1 := fun q => x2 (y1 _ q)
    omega
  subst hd
  have R := ra_red eu x1 x2 x3 ⟨_, x4⟩ x5 y3 ⟨_, y4⟩ y5 b0 hB
  refine rx_copy (k := 1) (l := 4) (by decide) (by decide) (by decide) ?_
  generalize eP3 : ra_st (ra_st (ra_st P2 4 Q2) 3 S2) 1 (ra_st (ra_st P2 4 Q2) 3 S2 4) = P3
  have r0 : P3 0 = Q1 := by rw [← eP3, ← q0]; rfl
  have r1 : P3 1 = Q2 := by rw [← eP3]; rfl
  have rk : ∀ k, 5 ≤ k → P3 k = P k := by
    intro k hk5
    rw [← eP3, ra_st_n (by omega), ra_st_n (by omega), ra_st_n (by omega)]
    exact qk k hk5
  clear eP3
  dsimp only
  rw [show ra_bk 24 P3 24 = ra_ec (Q2 0) from by rw [← r1]; exact ra_bk_rd (k := 1) (i := 0) P3 (by decide)]
  refine rx_inv ?_
  refine rx_scale (k := 0) (by decide) ?_
  refine rx_scale (k := 1) (by decide) ?_
  rw [r0, ra_st_n (show 1 ≠ 0 by decide), r1]
  refine h _ ?_ ?_ ?_ ?_
  · rw [ra_st_n (show 0 ≠ 1 by decide), ra_st_s, ra_st_s]
    exact R.1
  · rw [ra_st_n (show 0 ≠ 1 by decide), ra_st_s]
    exact R.2.1
  · rw [ra_st_s]
    exact R.2.2
  · intro k hk5
    rw [ra_st_n (by omega), ra_st_n (by omega)]
    exact rk k hk5
theorem rx_ord {post : Int32 → Prop} {P : Nat → ra_P} {rc : Nat → Int32} {a b : Nat} (ha : a < 13) (hb : b < 13) (sa : ra_sp 24 (P a)) (sb : ra_sp 24 (P b)) (b0 : P b 0 ≠ 0) (h : ∀ r, r ≤ 24 → ra_ord r (P a) (P b) → post (nI r)) : wpX_orderOf post (ra_bk 24 P, rc) (nI a) (nI b) := by
  unfold wpX_orderOf
  dsimp only
  refine rx_deg ha sa fun d hd hdg => ?_
  intro y ey
  rw [Int32.add_assoc, show (-1 : Int32) + 1 = 0 from rfl, Int32.add_zero] at ey
  rw [ey]
  refine rx_deg hb sb fun e he heg => ?_
  cases e with
  | zero => exact absurd (heg.1 0 (Nat.le_refl _)) b0
  | succ e =>
    have e2 : P b e ≠ 0 := heg.2 (by omega)
    rw [pk_m1]
    refine pk_le d e (fun q => h e (by omega) ⟨ra_sp_le hdg.1 q, heg.1, fun _ => Or.inr e2⟩) (fun q => h d (by omega) ⟨hdg.1, ra_sp_le heg.1 (by omega), fun w => Or.inl (hdg.2 w)⟩)
theorem rx_t (s : Nat) : (5 : Int32) + 2 * nI s = nI (5 + 2 * s) := by
  rw [show (5 : Int32) = nI 5 from by decide +kernel, show (2 : Int32) = nI 2 from by decide +kernel, pk_mul, nI_add]
theorem rx_b (s : Nat) : (5 : Int32) + 2 * nI s + 1 = nI (6 + 2 * s) := by
  rw [rx_t, nI_1]
  exact congrArg nI (by omega)
theorem rx_b' (s : Nat) : nI (5 + 2 * s) + 1 = nI (6 + 2 * s) := by
  rw [nI_1]
  exact congrArg nI (by omega)
theorem rx_keep {post : Int32 → SX → Prop} {P : Nat → ra_P} {rc : Nat → Int32} {s : Nat} {a : ra_P} (hs : s < 4) (s0 : ra_sp 16 (P 0)) (s1 : ra_sp 17 (P 1)) (b0 : P 1 0 ≠ 0) (hB : ra_cv (P 1) a = P 0) (h : ∀ r T B P', ra_good T B a → ra_ord r T B → (∀ n, ra_sp n (P 0) → ra_sp (n + 1) (P 1) → r ≤ n) → (r ≤ 8 → (∀ k, 5 ≤ k → P' k = ra_st (ra_st P (5 + 2 * s) T) (6 + 2 * s) B k) → post (nI r) (ra_bk 24 P', rc)) ∧ (8 < r → (∀ k, 5 ≤ k → P' k = P k) → post (-3) (ra_bk 24 P', rc))) : wpX_keep post (ra_bk 24 P, rc) (nI s) := by
  unfold wpX_keep
  dsimp only
  refine rx_red s0 s1 b0 hB fun P1 hg t0 t1 hk => ?_
  refine rx_ord (a := 0) (b := 1) (by decide) (by decide) (ra_sp_le (t0 _ s0) (by omega)) (ra_sp_le (t1 _ s1) (by omega)) (by rw [hg.1]; exact ra_10) fun r hr ho => ?_
  have r16 : ∀ n, ra_sp n (P 0) → ra_sp (n + 1) (P 1) → r ≤ n := by
    intro n n0 n1
    refine Classical.byContradiction fun q => ?_
    rcases ho.2.2 (by omega) with w | w
    · exact w (t0 _ n0 _ (by omega))
    · exact w (t1 _ n1 _ (by omega))
  refine pk_le r 8 (fun q => ?_) (fun q => ?_)
  · show wpX_copyPoly _ (ra_bk 24 P1, rc) (5 + 2 * nI s) 0
    rw [rx_t]
    refine rx_copy (l := 0) (by omega) (by decide) (by omega) ?_
    show wpX_copyPoly _ (ra_bk 24 (ra_st P1 (5 + 2 * s) (P1 0)), rc) (nI (5 + 2 * s) + 1) 1
    rw [rx_b']
    refine rx_copy (l := 1) (by omega) (by decide) (by omega) ?_
    refine (h r _ _ _ hg ho r16).1 q fun k hk5 => ?_
    rw [ra_st_n (show 1 ≠ 5 + 2 * s by omega)]
    by_cases k6 : k = 6 + 2 * s
    · rw [k6, ra_st_s, ra_st_s]
    · rw [ra_st_n k6, ra_st_n k6]
      by_cases k5 : k = 5 + 2 * s
      · rw [k5, ra_st_s, ra_st_s]
      · rw [ra_st_n k5, ra_st_n k5, hk k hk5]
  · exact (h r _ _ _ hg ho r16).2 q hk
theorem rx_load {post : SX → Prop} {P : Nat → ra_P} {rc : Nat → Int32} {s : Nat} (hs : s < 4) (h : post (ra_bk 24 (ra_st (ra_st P 0 (P (5 + 2 * s))) 1 (P (6 + 2 * s))), rc)) : wpX_load post (ra_bk 24 P, rc) (nI s) := by
  show wpX_copyPoly _ (ra_bk 24 P, rc) 0 (5 + 2 * nI s)
  rw [rx_t]
  refine rx_copy (k := 0) (by decide) (by omega) (by omega) ?_
  show wpX_copyPoly _ (ra_bk 24 (ra_st P 0 (P (5 + 2 * s))), rc) 1 (nI (5 + 2 * s) + 1)
  rw [rx_b']
  refine rx_copy (k := 1) (by decide) (by omega) (by omega) ?_
  rw [ra_st_n (show 6 + 2 * s ≠ 0 by omega)]
  exact h
end
section
/-! 1 - x, the mirror, halves, the far term -/
theorem rx_step {post : SX → Prop} {P : Nat → ra_P} {rc : Nat → Int32} (h : post (ra_bk 24 (ra_st P 3 ra_L), rc)) : wpX_loadStep post (ra_bk 24 P, rc) := by
  unfold wpX_loadStep
  dsimp only
  refine rx_clear (k := 3) (by decide) ?_
  intro b eb c ec
  dsimp only at eb
  have e1 : upd (ra_bk 24 (ra_st P 3 ra_Z)) 72 1 = ra_bk 24 (ra_st (ra_st P 3 ra_Z) 3 (fun j => if j = 0 then 1 else ra_st P 3 ra_Z 3 j)) := by
    rw [← ra_ec_1]
    exact ra_bk_wr (k := 3) (i := 0) _ 1 (by decide)
  rw [e1, ra_st_st, ra_st_s] at eb
  have e2 : upd b 73 100 = ra_bk 24 (ra_st (ra_st P 3 (fun j => if j = 0 then 1 else ra_Z j)) 3 (fun j => if j = 1 then -1 else ra_st P 3 (fun j => if j = 0 then 1 else ra_Z j) 3 j)) := by
    rw [eb, ← ra_ec_100]
    exact ra_bk_wr (k := 3) (i := 1) _ (-1) (by decide)
  rw [e2, ra_st_st, ra_st_s] at ec
  have e3 : (fun j => if j = 1 then (-1 : ra_F) else if j = 0 then 1 else ra_Z j) = ra_L := by
    funext j
    show (if j = 1 then (-1 : ra_F) else if j = 0 then 1 else 0) = if j = 0 then 1 else if j = 1 then -1 else 0
    by_cases h1 : j = 1
    · rw [if_pos h1, if_neg (by omega), if_pos h1]
    · rw [if_neg h1, if_neg h1]
  rw [e3] at ec
  rw [ec]
  exact h
theorem rx_i1 (i : Nat) : (24 : Int32) + nI i = nI (1 * 24 + i) := by
  rw [ra_n24, nI_add]
theorem rx_i2 (i : Nat) : (48 : Int32) + nI i = nI (2 * 24 + i) := by
  rw [show (48 : Int32) = nI 48 from by decide +kernel, nI_add]
theorem rx_mir {post : SX → Prop} {P : Nat → ra_P} {rc : Nat → Int32} (h : post (ra_bk 24 (ra_st P 2 (ra_mir (P 1))), rc)) : wpX_loadMirror post (ra_bk 24 P, rc) := by
  have L := ra_lp (fun n i => wX_loadMirror_2 post n (nI i) (ra_bk 24 (ra_st P 2 (ra_mx i (ra_mir (P 1)) (P 2)))) rc) 24
    (fun n => br_t rx_24e (by rw [ra_bk_end (by decide)]; exact h))
    (fun n i hi IH => by
      have v1 : vp_in (24 + nI i) 312 := by rw [rx_i1]; exact vp_in_nI (by omega) (by decide)
      have v2 : vp_in (48 + nI i) 312 := by rw [rx_i2]; exact vp_in_nI (by omega) (by decide)
      have c1 : (24 + nI i).toNatClampNeg = 1 * 24 + i := by rw [rx_i1]; exact nI_clamp (by omega)
      have c2 : (48 + nI i).toNatClampNeg = 2 * 24 + i := by rw [rx_i2]; exact nI_clamp (by omega)
      have e := ra_bk_mx (k := 2) P (ra_mir (P 1)) (P 2) hi
      refine br_f (rx_24 hi) (And.intro v1 ?_)
      intro x ex
      rw [c1, ra_bk_rd _ hi, ra_st_n (by decide)] at ex
      rw [ex, pk_andN (by omega) 1 (by decide)]
      refine pk_eq (i % 2) 1 (fun q => ?_) (fun q => ?_)
      · refine rx_mod (And.intro v2 ?_)
        intro b eb y ey
        rw [show ra_mir (P 1) i = -P 1 i from if_pos q] at e
        rw [ey, eb, nI_1, c2, ra_md_neg, e]
        exact IH
      · refine And.intro v2 ?_
        intro b eb y ey
        rw [show ra_mir (P 1) i = P 1 i from if_neg q] at e
        rw [ey, eb, nI_1, c2, e]
        exact IH) 24 0 25 rfl (by decide)
  refine Exists.intro 25 ?_
  rw [ra_bk_beg] at L
  exact L
theorem rx_half {post : SX → Prop} {P : Nat → ra_P} {rc : Nat → Int32} {k o : Nat} (hk : k < 13) (ho : o < 2) (hs : ra_sp 24 (P k)) (h : post (ra_bk 24 (ra_st P k (fun i => P k (2 * i + o))), rc)) : wpX_keepHalf post (ra_bk 24 P, rc) (nI k) (nI o) := by
  have L := ra_lp (fun n i => wX_keepHalf_2 post (nI k) (nI o) n (nI i) (ra_bk 24 (ra_st P k (ra_mx i (fun i => P k (2 * i + o)) (P k)))) rc) 24
    (fun n => br_t rx_24e (by rw [ra_bk_end (by decide)]; exact h))
    (fun n i hi IH => by
      have e := ra_bk_mx (k := k) P (fun i => P k (2 * i + o)) (P k) hi
      refine br_f (rx_24 hi) ?_
      intro x ex
      rw [show (2 : Int32) * nI i + nI o = nI (2 * i + o) from by
        rw [show (2 : Int32) = nI 2 from by decide +kernel, pk_mul, nI_add]] at ex
      rw [ex]
      refine pk_le 24 (2 * i + o) (fun q => ?_) (fun q => ?_)
      · refine And.intro (rx_in hk hi) ?_
        intro b eb y ey
        rw [show P k (2 * i + o) = 0 from hs _ q, ra_ec_0] at e
        rw [ey, eb, nI_1, rx_cl hk hi, e]
        exact IH
      · refine And.intro (rx_in hk q) (And.intro (rx_in hk hi) ?_)
        intro b eb y ey
        rw [ey, eb, nI_1, rx_cl hk hi, rx_cl hk q, ra_bk_rd _ q, ra_st_s, show ra_mx i (fun i => P k (2 * i + o)) (P k) (2 * i + o) = P k (2 * i + o) from if_neg (by omega), e]
        exact IH) 24 0 25 rfl (by decide)
  refine Exists.intro 25 ?_
  rw [ra_bk_beg] at L
  exact L
theorem rx_farl {post : Int32 → SX → Prop} {P : Nat → ra_P} {rc : Nat → Int32} {v : ra_F} (h : ∀ P', (∀ k, 5 ≤ k → P' k = P k) → post (ra_ec v) (ra_bk 24 P', rc)) :
    ∀ m i n l P' a, i + m = 10 → m < n → l < 2 ^ m → ra_sp 9 (P' 0) → ra_sp 10 (P' 1) → P' 1 0 = 1 → ra_cv (P' 1) a = P' 0 → a l = v → (∀ k, 5 ≤ k → P' k = P k) → wX_farTerm_4 post n (nI l) (nI i) (ra_bk 24 P') rc := by
  have fin : ∀ P' a, P' 1 0 = 1 → ra_cv (P' 1) a = P' 0 → a 0 = v → (∀ k, 5 ≤ k → P' k = P k) → post (ra_bk 24 P' 0) (ra_bk 24 P', rc) := by
    intro P' a b0 hB hv hk
    have e : P' 0 0 = v := by rw [← hB, ra_cv_at0, b0, ra_1f, hv]
    rw [show ra_bk 24 P' 0 = ra_ec v from by rw [← e]; exact ra_bk_rd (k := 0) (i := 0) P' (by decide)]
    exact h P' hk
  intro m
  induction m with
  | zero =>
    intro i n l P' a hi hn hl s0 s1 b0 hB hv hk
    obtain ⟨n, rfl⟩ : ∃ q, n = q + 1 := ⟨n - 1, by omega⟩
    have z : l = 0 := by omega
    subst z
    exact br_t (ra_le (b := 10) (by decide +kernel) (by omega) (by omega)) (fin P' a b0 hB hv hk)
  | succ m ih =>
    intro i n l P' a hi hn hl s0 s1 b0 hB hv hk
    obtain ⟨n, rfl⟩ : ∃ q, n = q + 1 := ⟨n - 1, by omega⟩
    have hp : 2 ^ (m + 1) ≤ 2 ^ 10 := Nat.pow_le_pow_right (by decide) (by omega)
    have hp2 : 2 ^ (m + 1) = 2 * 2 ^ m := by rw [Nat.pow_succ, Nat.mul_comm]
    refine br_f (ra_nle (b := 10) (by decide +kernel) (by omega) (by omega)) ?_
    by_cases z : l = 0
    · subst z
      exact br_t (by decide +kernel) (fin P' a b0 hB hv hk)
    · refine br_f (nI_nle (by omega) (by omega)) ?_
      refine rx_mir ?_
      refine rx_mul (t := 0) (a := 0) (b := 2) (by decide) (by decide) (by decide) (by decide) (by decide) (by decide) (by rw [ra_st_n (by decide)]; exact ra_sp_le s0 (by omega)) ?_
      refine rx_mul (t := 1) (a := 1) (b := 2) (by decide) (by decide) (by decide) (by decide) (by decide) (by decide) (by
        rw [ra_st_n (by decide), ra_st_n (by decide), ra_st_n (by decide)]; exact ra_sp_le s1 (by omega)) ?_
      generalize eP : ra_st (ra_st (ra_st (ra_st (ra_st P' 2 (ra_mir (P' 1))) 4 (ra_cv (ra_st P' 2 (ra_mir (P' 1)) 0) (ra_st P' 2 (ra_mir (P' 1)) 2))) 0 (ra_cv (ra_st P' 2 (ra_mir (P' 1)) 0) (ra_st P' 2 (ra_mir (P' 1)) 2))) 4 (ra_cv (ra_st (ra_st (ra_st P' 2 (ra_mir (P' 1))) 4 (ra_cv (ra_st P' 2 (ra_mir (P' 1)) 0) (ra_st P' 2 (ra_mir (P' 1)) 2))) 0 (ra_cv (ra_st P' 2 (ra_mir (P' 1)) 0) (ra_st P' 2 (ra_mir (P' 1)) 2)) 1) (ra_st (ra_st (ra_st P' 2 (ra_mir (P' 1))) 4 (ra_cv (ra_st P' 2 (ra_mir (P' 1)) 0) (ra_st P' 2 (ra_mir (P' 1)) 2))) 0 (ra_cv (ra_st P' 2 (ra_mir (P' 1)) 0) (ra_st P' 2 (ra_mir (P' 1)) 2)) 2))) 1 (ra_cv (ra_st (ra_st (ra_st P' 2 (ra_mir (P' 1))) 4 (ra_cv (ra_st P' 2 (ra_mir (P' 1)) 0) (ra_st P' 2 (ra_mir (P' 1)) 2))) 0 (ra_cv (ra_st P' 2 (ra_mir (P' 1)) 0) (ra_st P' 2 (ra_mir (P' 1)) 2)) 1) (ra_st (ra_st (ra_st P' 2 (ra_mir (P' 1))) 4 (ra_cv (ra_st P' 2 (ra_mir (P' 1)) 0) (ra_st P' 2 (ra_mir (P' 1)) 2))) 0 (ra_cv (ra_st P' 2 (ra_mir (P' 1)) 0) (ra_st P' 2 (ra_mir (P' 1)) 2)) 2)) = P1
      have q0 : P1 0 = ra_cv (P' 0) (ra_mir (P' 1)) := by rw [← eP]; rfl
      have q1 : P1 1 = ra_cv (P' 1) (ra_mir (P' 1)) := by rw [← eP]; rfl
      have qk : ∀ k, 5 ≤ k → P1 k = P k := by
        intro k hk5
        rw [← eP, ra_st_n (by omega), ra_st_n (by omega), ra_st_n (by omega), ra_st_n (by omega), ra_st_n (by omega)]
        exact hk k hk5
      clear eP
      have sm : ra_sp 10 (ra_mir (P' 1)) := fun j hj => by
        show (if j % 2 = 1 then -P' 1 j else P' 1 j) = 0
        rw [s1 j hj]
        split
        · exact ra_n0
        · rfl
      have t0 : ra_sp 18 (P1 0) := by rw [q0]; exact ra_cv_z (m := 8) (n := 9) s0 sm
      have t1 : ra_sp 19 (P1 1) := by rw [q1]; exact ra_cv_z (m := 9) (n := 9) s1 sm
      rw [pk_andN (by omega) 1 (by decide)]
      refine rx_half (k := 0) (o := l % 2 ^ 1) (by decide) (by omega) (ra_sp_le t0 (by omega)) ?_
      refine rx_half (k := 1) (o := 0) (by decide) (by decide) (by rw [ra_st_n (by decide)]; exact ra_sp_le t1 (by omega)) ?_
      intro y ey z ez
      rw [pk_shrN (by omega) _ 1 (by decide)] at ey
      rw [ey, ez, nI_1]
      have H := ra_halve (o := l % 2 ^ 1) (by omega) hB
      refine ih (i + 1) n (l / 2 ^ 1) _ (fun j => a (2 * j + l % 2 ^ 1)) (by omega) (by omega) (by omega) ?_ ?_ ?_ ?_ ?_ ?_
      · rw [ra_st_n (by decide), ra_st_s]
        intro j hj
        exact t0 _ (by omega)
      · rw [ra_st_s, ra_st_n (by decide)]
        intro j hj
        exact t1 _ (by omega)
      · rw [ra_st_s, ra_st_n (by decide), q1]
        show ra_cv (P' 1) (ra_mir (P' 1)) 0 = 1
        rw [ra_cv_at0, show ra_mir (P' 1) 0 = P' 1 0 from rfl, b0, ra_f1]
      · rw [ra_st_s, ra_st_n (show 1 ≠ 0 by decide), ra_st_n (show 0 ≠ 1 by decide), ra_st_s, q0, q1]
        exact H
      · show a (2 * (l / 2 ^ 1) + l % 2 ^ 1) = v
        rw [← hv]
        exact congrArg a (by omega)
      · intro k hk5
        rw [ra_st_n (by omega), ra_st_n (by omega)]
        exact qk k hk5
theorem rx_far {post : Int32 → SX → Prop} {P : Nat → ra_P} {rc : Nat → Int32} {a : ra_P} {n : Nat} (hn : n ≤ 400) (s0 : ra_sp 9 (P 0)) (s1 : ra_sp 10 (P 1)) (b0 : P 1 0 = 1) (hB : ra_cv (P 1) a = P 0) (h : ∀ P', (∀ k, 5 ≤ k → P' k = P k) → post (ra_ec (a n)) (ra_bk 24 P', rc)) : wpX_farTerm post (ra_bk 24 P, rc) (nI n) := by
  refine Exists.intro 11 ?_
  exact rx_farl h 10 0 11 n P a rfl (by decide) (by omega) s0 s1 b0 hB rfl (fun _ _ => rfl)
end
section
/-! loops of X's own calls -/
theorem rx_i0 (i : Nat) : (0 : Int32) + nI i = nI (0 * 24 + i) := by
  rw [Int32.zero_add, show 0 * 24 + i = i from by omega]
theorem rx_advl {post : Int32 → SX → Prop} {P : Nat → ra_P} {rc : Nat → Int32} {x : Int32} (hs : ra_sp 24 (P 0)) (h : wpX_keep post (ra_bk 24 (ra_st P 0 (fun j => P 0 (j + 1))), rc) x) : ∃ n, wX_advance_34 post x n 0 (ra_bk 24 P) rc := by
  have L := ra_lp (fun n i => wX_advance_34 post x n (nI i) (ra_bk 24 (ra_st P 0 (ra_mx i (fun j => P 0 (j + 1)) (P 0)))) rc) 23
    (fun n => by
      have e := ra_bk_mx (k := 0) (i := 23) P (fun j => P 0 (j + 1)) (P 0) (show 23 < 24 by decide)
      rw [show P 0 (23 + 1) = 0 from hs _ (by omega), ra_ec_0, show 0 * 24 + 23 = 23 from rfl, ra_bk_end (by decide)] at e
      refine br_t (by rw [nI_1]; exact rx_24e) ?_
      intro b eb
      rw [eb, e]
      exact h)
    (fun n i hi IH => by
      have v1 : (0 : Int32) + nI i + 1 = nI (0 * 24 + (i + 1)) := by rw [rx_i0, nI_1]; rfl
      refine br_f (by rw [nI_1]; exact rx_24 (by omega)) (And.intro (by rw [v1]; exact vp_in_nI (by omega) (by decide)) (And.intro (by rw [rx_i0]; exact vp_in_nI (by omega) (by decide)) ?_))
      intro b eb y ey
      rw [ey, eb, v1, rx_i0, nI_1, nI_clamp (by omega), nI_clamp (by omega), ra_bk_rd _ (by omega), ra_st_s, show ra_mx i (fun j => P 0 (j + 1)) (P 0) (i + 1) = P 0 (i + 1) from if_neg (by omega)]
      rw [show upd _ (0 * 24 + i) (ra_ec (P 0 (i + 1))) = _ from ra_bk_mx P (fun j => P 0 (j + 1)) (P 0) (show i < 24 by omega)]
      exact IH) 23 0 24 rfl (by decide)
  refine Exists.intro 24 ?_
  rw [ra_bk_beg] at L
  exact L
/-! define -/
theorem rx_def2 {post : Int32 → SX → Prop} {P : Nat → ra_P} {rc : Nat → Int32} {x : Int32} {k : Nat} (hk : k ≤ 24) (h : wpX_keep (fun _ u => post 0 u) (ra_bk 24 (ra_st P 0 (fun j => if j < k then P 0 j else 0)), rc) x) : ∃ n, wX_define_128 post x n (nI k) (ra_bk 24 P) rc := by
  have L := ra_lp (fun n i => k ≤ i → wX_define_128 post x n (nI i) (ra_bk 24 (ra_st P 0 (ra_mx i (fun j => if j < k then P 0 j else 0) (P 0)))) rc) 24
    (fun n _ => br_t rx_24e (by rw [ra_bk_end (by decide)]; exact h))
    (fun n i hi IH hki => by
      have e := ra_bk_mx (k := 0) P (fun j => if j < k then P 0 j else 0) (P 0) hi
      rw [if_neg (by omega), ra_ec_0] at e
      refine br_f (rx_24 hi) (And.intro (by rw [rx_i0]; exact vp_in_nI (by omega) (by decide)) ?_)
      intro b eb y ey
      rw [ey, eb, rx_i0, nI_1, nI_clamp (by omega), e]
      exact IH (by omega)) (24 - k) k 25 (by omega) (by omega) (Nat.le_refl _)
  refine Exists.intro 25 ?_
  have e : ra_mx k (fun j => if j < k then P 0 j else 0) (P 0) = P 0 := by
    funext j
    show (if j < k then (if j < k then P 0 j else 0) else P 0 j) = P 0 j
    by_cases hj : j < k
    · rw [if_pos hj, if_pos hj]
    · rw [if_neg hj]
  rw [e, ra_st_id] at L
  exact L
def ra_dc (m j : Nat) : ra_F := ra_nf (m / 101 ^ j)
def ra_Bd (m i : Nat) : ra_P := fun j => if j = 0 then 1 else if j ≤ i then -ra_dc m (j - 1) else 0
def ra_Ud (m i : Nat) : ra_P := fun j => if j < i then ra_dc m j else 0
theorem ra_Bd_s (m i : Nat) : (fun j => if j = i + 1 then -ra_dc m i else ra_Bd m i j) = ra_Bd m (i + 1) := by
  funext j
  show (if j = i + 1 then -ra_dc m i else if j = 0 then 1 else if j ≤ i then -ra_dc m (j - 1) else 0) = if j = 0 then 1 else if j ≤ i + 1 then -ra_dc m (j - 1) else 0
  by_cases h : j = i + 1
  · subst h
    rw [if_pos rfl, if_neg (by omega), if_pos (by omega), show i + 1 - 1 = i from rfl]
  · rw [if_neg h]
    by_cases h0 : j = 0
    · rw [if_pos h0, if_pos h0]
    · rw [if_neg h0, if_neg h0]
      by_cases h1 : j ≤ i
      · rw [if_pos h1, if_pos (by omega)]
      · rw [if_neg h1, if_neg (by omega)]
theorem ra_Ud_s (m i : Nat) : (fun j => if j = i then ra_dc m i else ra_Ud m i j) = ra_Ud m (i + 1) := by
  funext j
  show (if j = i then ra_dc m i else if j < i then ra_dc m j else 0) = if j < i + 1 then ra_dc m j else 0
  by_cases h : j = i
  · rw [if_pos h, if_pos (by omega), h]
  · rw [if_neg h]
    by_cases h1 : j < i
    · rw [if_pos h1, if_pos (by omega)]
    · rw [if_neg h1, if_neg (by omega)]
theorem ra_dd (m i : Nat) : m / 101 ^ i / 101 = m / 101 ^ (i + 1) := by
  rw [Nat.div_div_eq_div_mul, Nat.pow_succ]
theorem rx_def1 {post : Int32 → SX → Prop} {P : Nat → ra_P} {rc : Nat → Int32} {x : Int32} {k mc mb : Nat} (hk : k ≤ 4) (hc : mc < 2 ^ 31) (hb : mb < 2 ^ 31) (h : ∀ P', (∀ j, 5 ≤ j → P' j = P j) → P' 0 = (fun j => if j < k then ra_cv (ra_Ud mb k) (ra_Bd mc k) j else 0) → P' 1 = ra_Bd mc k → wpX_keep (fun _ u => post 0 u) (ra_bk 24 P', rc) x) : ∃ n, wX_define_56 post x (nI k) n (nI mc) (nI mb) 1 (ra_bk 24 (ra_st (ra_st P 1 (ra_Bd mc 0)) 2 (ra_Ud mb 0))) rc := by
  have L := ra_lp (fun n i => wX_define_56 post x (nI k) n (nI (mc / 101 ^ i)) (nI (mb / 101 ^ i)) (nI (i + 1)) (ra_bk 24 (ra_st (ra_st P 1 (ra_Bd mc i)) 2 (ra_Ud mb i))) rc) k
    (fun n => by
      refine br_t (nI_lt (by omega) (by omega)) ?_
      refine rx_mul (t := 0) (a := 2) (b := 1) (by decide) (by decide) (by decide) (by decide) (by decide) (by decide) (by
        rw [ra_st_s]
        intro j hj
        exact if_neg (by omega)) ?_
      refine rx_def2 (by omega) ?_
      refine h _ ?_ ?_ ?_
      · intro j hj
        rw [ra_st_n (by omega), ra_st_n (by omega), ra_st_n (by omega), ra_st_n (by omega), ra_st_n (by omega)]
      · rfl
      · rfl)
    (fun n i hi IH => by
      have l1 : mc / 101 ^ i < 2 ^ 31 := Nat.lt_of_le_of_lt (Nat.div_le_self _ _) hc
      have l2 : mb / 101 ^ i < 2 ^ 31 := Nat.lt_of_le_of_lt (Nat.div_le_self _ _) hb
      have ix : (48 : Int32) + nI (i + 1) - 1 = nI (2 * 24 + i) := by
        rw [rx_i2, show 2 * 24 + (i + 1) = 2 * 24 + i + 1 from rfl, nI_pred]
      refine br_f (nI_nlt (by omega) (by omega)) (And.intro ra_101n ?_)
      refine rx_mod (And.intro (by rw [rx_i1]; exact vp_in_nI (by omega) (by decide)) ?_)
      intro b1 eb1
      rw [rx_i1, nI_clamp (by omega), ra_rem l1, ra_md_neg, ra_bk_wr _ _ (by omega), ra_st_n (show 1 ≠ 2 by decide), ra_st_s, ra_st_c (show 2 ≠ 1 by decide), ra_st_st, show ra_nf (mc / 101 ^ i) = ra_dc mc i from rfl, ra_Bd_s] at eb1
      refine And.intro ra_101n (And.intro (by rw [ix]; exact vp_in_nI (by omega) (by decide)) ?_)
      intro b2 eb2
      rw [ix, nI_clamp (by omega), eb1, ra_rem l2, ra_bk_wr _ _ (by omega), ra_st_st, ra_st_s, show ra_nf (mb / 101 ^ i) = ra_dc mb i from rfl, ra_Ud_s] at eb2
      refine And.intro ra_101n ?_
      intro c ec
      refine And.intro ra_101n ?_
      intro d ed y ey
      rw [ra_101, pk_div l1 (by decide) (by decide), ra_dd] at ec
      rw [ra_101, pk_div l2 (by decide) (by decide), ra_dd] at ed
      rw [ey, nI_1, ec, ed, eb2]
      exact IH) k 0 (k + 1) (by omega) (by omega)
  refine Exists.intro (k + 1) ?_
  rw [show mc / 101 ^ 0 = mc from Nat.div_one mc, show mb / 101 ^ 0 = mb from Nat.div_one mb] at L
  exact L
/-! the next term from the eight before it, and find -/
def ra_hist (a : ra_P) (n : Nat) (rc : Nat → Int32) : Prop := ∀ j, j < n → n ≤ j + 8 → rc (j % 8) = ra_ec (a j)
theorem ra_hist_s {a : ra_P} {n : Nat} {rc : Nat → Int32} (h : ra_hist a n rc) : ra_hist a (n + 1) (upd rc (n % 8) (ra_ec (a n))) := by
  intro j hj hj8
  by_cases q : j = n
  · rw [q]
    exact pk_us
  · rw [pk_un (by omega)]
    exact h j (by omega) (by omega)
theorem ra_l1 {R : Type} [Lean.Grind.CommRing R] (t s x : R) : t - s - x = t - (s + x) := by grind
theorem rx_nextl {post : Int32 → Prop} {P : Nat → ra_P} {rc : Nat → Int32} {s n : Nat} {a : ra_P} (hs : s < 4) (hn : n ≤ 400) (s1 : ra_sp 9 (P (6 + 2 * s))) (b0 : P (6 + 2 * s) 0 = 1) (hB : ra_cv (P (6 + 2 * s)) a = P (5 + 2 * s)) (hh : ra_hist a n rc) (h : post (ra_ec (a n))) :
    ∀ m i f v, i + m = 8 → m < f → i ≤ n → ra_md v = P (5 + 2 * s) n - ra_sm i (fun j => P (6 + 2 * s) (j + 1) * a (n - 1 - j)) → -((10000 * i : Nat) : Int) ≤ v.toInt → v.toInt ≤ 100 → wX_nextTerm_28 post (nI s) (nI n) (ra_bk 24 P) rc f v (nI (i + 1)) := by
  have an := ra_cv_at b0 hB n
  have fin : ∀ v i, i ≤ n → (i = n ∨ 8 ≤ i) → ra_md v = P (5 + 2 * s) n - ra_sm i (fun j => P (6 + 2 * s) (j + 1) * a (n - 1 - j)) → wX_nextTerm_78 post v (ra_bk 24 P) rc := by
    intro v i hin hi hv
    refine rx_mod ?_
    have e : ra_sm n (fun j => P (6 + 2 * s) (j + 1) * a (n - 1 - j)) = ra_sm i (fun j => P (6 + 2 * s) (j + 1) * a (n - 1 - j)) := by
      refine ra_sm_ext hin fun j h1 h2 => ?_
      rw [s1 (j + 1) (by omega), ra_fz]
    rw [hv, ← e, ← an]
    exact h
  intro m
  induction m with
  | zero =>
    intro i f v hi hf hin hv h1 h2
    obtain ⟨f, rfl⟩ : ∃ q, f = q + 1 := ⟨f - 1, by omega⟩
    exact br_t (nI_lt (a := 8) (by omega) (by omega)) (fin v i hin (Or.inr (by omega)) hv)
  | succ m ih =>
    intro i f v hi hf hin hv h1 h2
    obtain ⟨f, rfl⟩ : ∃ q, f = q + 1 := ⟨f - 1, by omega⟩
    refine br_f (nI_nlt (b := i + 1) (a := 8) (by omega) (by omega)) ?_
    by_cases q : i = n
    · exact br_t (nI_lt (by omega) (by omega)) (fin v i hin (Or.inl q) hv)
    · refine br_f (nI_nlt (by omega) (by omega)) ?_
      show vp_in ((5 + 2 * nI s + 1) * 24 + nI (i + 1)) 312 ∧ _
      have am : (nI n - nI (i + 1)) &&& 7 = nI ((n - 1 - i) % 8) := by
        rw [pk_sub (by omega), pk_andN (by omega) 3 (by decide)]
        exact congrArg (fun z => nI (z % 8)) (by omega)
      rw [rx_b, am]
      refine And.intro (rx_in (by omega) (by omega)) (And.intro (vp_in_nI (by omega) (by decide)) ?_)
      intro w ew y ey
      rw [rx_cl (by omega) (by omega), ra_bk_rd _ (by omega), nI_clamp (by omega), hh (n - 1 - i) (by omega) (by omega)] at ew
      obtain ⟨k1, k2, k3⟩ := ra_md_run (v := v) (P (6 + 2 * s) (i + 1)) (a (n - 1 - i)) h1 h2 (by omega)
      rw [ey, nI_1]
      rw [← ew] at k1 k2 k3
      refine ih (i + 1) f w (by omega) (by omega) (by omega) ?_ ?_ k3
      · rw [k1, hv]
        exact ra_l1 _ _ _
      · rw [show 10000 * (i + 1) = 10000 * i + 10000 from by omega]
        exact k2
theorem rx_next {post : Int32 → Prop} {P : Nat → ra_P} {rc : Nat → Int32} {s n : Nat} {a : ra_P} (hs : s < 4) (hn : n ≤ 400) (s0 : ra_sp 24 (P (5 + 2 * s))) (s1 : ra_sp 9 (P (6 + 2 * s))) (b0 : P (6 + 2 * s) 0 = 1) (hB : ra_cv (P (6 + 2 * s)) a = P (5 + 2 * s)) (hh : ra_hist a n rc) (h : post (ra_ec (a n))) : wpX_nextTerm post (ra_bk 24 P, rc) (nI s) (nI n) := by
  have L : ∃ f, wX_nextTerm_28 post (nI s) (nI n) (ra_bk 24 P) rc f (ra_ec (P (5 + 2 * s) n)) 1 := by
    refine Exists.intro 9 ?_
    have hv := (P (5 + 2 * s) n).isLt
    have e : (ra_ec (P (5 + 2 * s) n)).toInt = ((P (5 + 2 * s) n).val : Int) := nI_toInt (by omega)
    refine rx_nextl hs hn s1 b0 hB hh h 8 0 9 _ rfl (by decide) (by omega) ?_ (by rw [e]; omega) (by rw [e]; omega)
    rw [ra_md_ec]
    show _ = P (5 + 2 * s) n - 0
    rw [ra_fsn, ra_n0, ra_f0]
  refine pk_le 24 n (fun q => ?_) (fun q => ?_)
  · rw [s0 n q, ra_ec_0] at L
    exact L
  · show vp_in ((5 + 2 * nI s) * 24 + nI n) 312 ∧ _
    rw [rx_t]
    refine And.intro (rx_in (by omega) q) ?_
    intro x ex
    rw [rx_cl (by omega) q, ra_bk_rd _ q] at ex
    rw [ex]
    exact L
def ra_fnd (a : ra_P) (w : ra_F) (r : Int32) : Prop := (∃ n, n ≤ 400 ∧ r = nI n ∧ a n = w ∧ ∀ m, m < n → a m ≠ w) ∨ (r = -4 ∧ ∀ n, n ≤ 400 → a n ≠ w)
theorem ra_fnd_u {a : ra_P} {w : ra_F} {r r' : Int32} (h : ra_fnd a w r) (h' : ra_fnd a w r') : r' = r := by
  rcases h with ⟨n, hn, rfl, e, l⟩ | ⟨rfl, l⟩
  · rcases h' with ⟨n', hn', rfl, e', l'⟩ | ⟨rfl, l'⟩
    · have : n = n' := by
        have i1 : ¬ n < n' := fun q => l' n q e
        have i2 : ¬ n' < n := fun q => l n' q e'
        omega
      rw [this]
    · exact absurd e (l' n hn)
  · rcases h' with ⟨n', hn', rfl, e', l'⟩ | ⟨rfl, l'⟩
    · exact absurd e' (l n' hn')
    · rfl
theorem rx_find {post : Int32 → SX → Prop} {P : Nat → ra_P} {rc : Nat → Int32} {s : Nat} {a : ra_P} {w : ra_F} (hs : s < 4) (s0 : ra_sp 24 (P (5 + 2 * s))) (s1 : ra_sp 9 (P (6 + 2 * s))) (b0 : P (6 + 2 * s) 0 = 1) (hB : ra_cv (P (6 + 2 * s)) a = P (5 + 2 * s)) (h : ∀ r rc', ra_fnd a w r → post r (ra_bk 24 P, rc')) : ∃ n, wX_find_17 post (nI s) (ra_ec w) n 0 (ra_bk 24 P) rc := by
  have L := ra_lp (fun f n => ∀ rc, ra_hist a n rc → (∀ m, m < n → a m ≠ w) → wX_find_17 post (nI s) (ra_ec w) f (nI n) (ra_bk 24 P) rc) 401
    (fun f rc hh hm => br_t (nI_lt (a := 400) (by omega) (by omega)) (h _ _ (Or.inr ⟨rfl, fun n hn => hm n (by omega)⟩)))
    (fun f n hn IH rc hh hm => by
      refine br_f (nI_nlt (b := n) (a := 400) (by omega) (by omega)) ?_
      refine rx_next hs (by omega) s0 s1 b0 hB hh ?_
      rw [ra_ec_inj]
      refine br_c (fun q => h _ _ (Or.inl ⟨n, by omega, rfl, q, hm⟩)) (fun q => ?_)
      rw [pk_andN (by omega) 3 (by decide)]
      refine And.intro (vp_in_nI (by omega) (by decide)) ?_
      intro b eb y ey
      rw [ey, nI_1, eb, nI_clamp (by omega)]
      refine IH _ (ra_hist_s hh) fun m hm2 => ?_
      by_cases z : m = n
      · rw [z]
        exact q
      · exact hm m (by omega)) 401 0 402 rfl (by decide) rc (fun j hj => by omega) (fun m hm => by omega)
  exact Exists.intro 402 L
/-! equality -/
theorem rx_eq {post : Int32 → Prop} {P : Nat → ra_P} {rc : Nat → Int32} {s t : Nat} (hs : s < 4) (ht : t < 4) (h1 : (∀ i, i < 48 → ra_bk 24 P ((5 + 2 * s) * 24 + i) = ra_bk 24 P ((5 + 2 * t) * 24 + i)) → post 1) (h0 : (∃ i, i < 48 ∧ ra_bk 24 P ((5 + 2 * s) * 24 + i) ≠ ra_bk 24 P ((5 + 2 * t) * 24 + i)) → post 0) : ∃ n, wX_equal_18 post (nI s) (nI t) (ra_bk 24 P) rc n 0 := by
  have L := ra_lp (fun f i => (∀ j, j < i → ra_bk 24 P ((5 + 2 * s) * 24 + j) = ra_bk 24 P ((5 + 2 * t) * 24 + j)) → wX_equal_18 post (nI s) (nI t) (ra_bk 24 P) rc f (nI i)) 48
    (fun f hj => br_t (ra_le (b := 48) (by decide +kernel) (Nat.le_refl _) (by decide)) (h1 hj))
    (fun f i hi IH hj => by
      refine br_f (ra_nle (b := 48) (by decide +kernel) hi (by decide)) ?_
      show vp_in ((5 + 2 * nI s) * 24 + nI i) 312 ∧ vp_in ((5 + 2 * nI t) * 24 + nI i) 312 ∧ _
      rw [rx_t, rx_t, rx_ix, rx_ix, nI_clamp (by omega), nI_clamp (by omega)]
      refine And.intro (vp_in_nI (by omega) (by decide)) (And.intro (vp_in_nI (by omega) (by decide)) ?_)
      refine br_c (fun q => ?_) (fun q => h0 ⟨i, hi, q⟩)
      intro y ey
      rw [ey, nI_1]
      refine IH fun j hj2 => ?_
      by_cases z : j = i
      · rw [z]
        exact q
      · exact hj j (by omega)) 48 0 49 rfl (by decide) (fun j hj => by omega)
  exact Exists.intro 49 L
end
section
/-! the reference: numbers, rows of terms, the table -/
theorem ry_mod {post : Int32 → Prop} {u : SY} {v : Int32} (h : post (ra_ec (ra_md v))) : wpY_mod post u v := by
  obtain ⟨a, b, c, d⟩ := u
  have k := ra_remv v
  refine And.intro ra_101n ?_
  intro x ex
  rw [ex]
  exact ⟨fun a => by rw [k.1 a]; exact h, fun a => by rw [k.2 a]; exact h⟩
theorem ry_inv {post : Int32 → Prop} {u : SY} {x : ra_F} (hx : x ≠ 0) (h : ∀ y, x * y = 1 → post (ra_ec y)) : wpY_inverse post u (ra_ec x) := by
  obtain ⟨a, b, c, d⟩ := u
  have hy := ra_iv_all x hx
  generalize ra_iv x = y at hy
  have hl := y.isLt
  have L := ra_lp (fun n i => 1 ≤ i → i ≤ y.val → wY_inverse_2 post (ra_ec x) a b c d n (nI i)) 101
    (fun n _ q => by omega)
    (fun n i hi IH h1 hv => by
      have e : nI i = ra_ec ⟨i, hi⟩ := rfl
      refine br_f (ra_nle (b := 101) ra_101 hi (by decide)) (And.intro ra_101n ?_)
      rw [e, ra_mulrem, ← ra_ec_1, ra_ec_inj]
      refine br_c (fun q => h _ q) (fun q => ?_)
      intro z ez
      rw [ez, ra_ec_1, ← e, nI_1]
      refine IH (by omega) ?_
      have hne : y.val ≠ i := by
        intro w
        apply q
        have : (⟨i, hi⟩ : ra_F) = y := Fin.ext w.symm
        rw [this]
        exact hy
      omega) 100 1 101 (by decide) (by decide) (Nat.le_refl _) (by
        refine Nat.one_le_iff_ne_zero.mpr fun q => ?_
        have : y = 0 := Fin.ext q
        rw [this, ra_zf] at hy
        exact absurd hy (by decide))
  exact Exists.intro 101 L
theorem ry_ix32 (k i : Nat) : nI k * 32 + nI i = nI (k * 32 + i) := by
  rw [show (32 : Int32) = nI 32 from by decide +kernel, pk_mul, nI_add]
theorem ry_in32 {k i : Nat} (hk : k < 4) (hi : i < 32) : vp_in (nI k * 32 + nI i) 128 := by
  rw [ry_ix32]
  exact vp_in_nI (by omega) (by decide)
theorem ry_cl32 {k i : Nat} (hk : k < 4) (hi : i < 32) : (nI k * 32 + nI i).toNatClampNeg = k * 32 + i := by
  rw [ry_ix32]
  exact nI_clamp (by omega)
theorem ry_32 {n : Nat} (h : n < 32) : ¬ (32 : Int32) ≤ nI n := ra_nle (b := 32) (by decide +kernel) h (by decide)
theorem ry_32e : (32 : Int32) ≤ nI 32 := ra_le (b := 32) (by decide +kernel) (Nat.le_refl _) (by decide)
theorem ry_w {n : Nat} (h : n < 402) : vp_in (nI n) 402 := vp_in_nI h (by decide)
theorem ry_load {post : SY → Prop} {A : Nat → ra_P} {W : ra_P} {tb fc : Nat → Int32} {s : Nat} (hs : s < 4) (h : post (ra_bk 32 A, ra_ar (ra_mx 32 (A s) W), tb, fc)) : wpY_load post (ra_bk 32 A, ra_ar W, tb, fc) (nI s) := by
  have L := ra_lp (fun n i => wY_load_2 post (nI s) n (nI i) (ra_bk 32 A) (ra_ar (ra_mx i (A s) W)) tb fc) 32
    (fun n => br_t ry_32e h)
    (fun n i hi IH => by
      refine br_f (ry_32 hi) (And.intro (ry_in32 hs hi) (And.intro (ry_w (by omega)) ?_))
      intro b eb y ey
      rw [ey, eb, nI_1, ry_cl32 hs hi, nI_clamp (by omega), ra_bk_rd _ hi, ra_ar_mx]
      exact IH) 32 0 33 rfl (by decide)
  exact Exists.intro 33 L
theorem ry_store {post : SY → Prop} {A : Nat → ra_P} {W : ra_P} {tb fc : Nat → Int32} {s : Nat} (hs : s < 4) (h : post (ra_bk 32 (ra_st A s W), ra_ar W, tb, fc)) : wpY_store post (ra_bk 32 A, ra_ar W, tb, fc) (nI s) := by
  have L := ra_lp (fun n i => wY_store_2 post (nI s) n (nI i) (ra_bk 32 (ra_st A s (ra_mx i W (A s)))) (ra_ar W) tb fc) 32
    (fun n => br_t ry_32e (by rw [ra_bk_end (by decide)]; exact h))
    (fun n i hi IH => by
      refine br_f (ry_32 hi) (And.intro (ry_w (by omega)) (And.intro (ry_in32 hs hi) ?_))
      intro b eb y ey
      rw [ey, eb, nI_1, ry_cl32 hs hi, nI_clamp (by omega)]
      rw [show upd _ (s * 32 + i) (ra_ar W i) = _ from ra_bk_mx A W (A s) hi]
      exact IH) 32 0 33 rfl (by decide)
  refine Exists.intro 33 ?_
  rw [ra_bk_beg] at L
  exact L
/-! the table -/
theorem ry_ix (k i : Nat) : nI k * 17 + nI i = nI (k * 17 + i) := by
  rw [show (17 : Int32) = nI 17 from by decide +kernel, pk_mul, nI_add]
theorem ry_in {k i : Nat} (hk : k < 16) (hi : i < 17) : vp_in (nI k * 17 + nI i) 272 := by
  rw [ry_ix]
  exact vp_in_nI (by omega) (by decide)
theorem ry_cl {k i : Nat} (hk : k < 16) (hi : i < 17) : (nI k * 17 + nI i).toNatClampNeg = k * 17 + i := by
  rw [ry_ix]
  exact nI_clamp (by omega)
theorem ry_17 {n : Nat} (h : n < 17) : ¬ (17 : Int32) ≤ nI n := ra_nle (b := 17) (by decide +kernel) h (by decide)
theorem ry_17e : (17 : Int32) ≤ nI 17 := ra_le (b := 17) (by decide +kernel) (Nat.le_refl _) (by decide)
theorem ry_pivot {post : Int32 → Prop} {M : Nat → ra_P} {tm wk fc : Nat → Int32} {f z c : Nat} (hz : z ≤ 16) (hc : c < 17) (hf : f ≤ z) (h1 : ∀ r, f ≤ r → r < z → M r c ≠ 0 → post (nI r)) (h2 : (∀ r, f ≤ r → r < z → M r c = 0) → post (-1)) : wpY_pivot post (tm, wk, ra_bk 17 M, fc) (nI f) (nI z) (nI c) := by
  have L := ra_lp (fun n i => f ≤ i → (∀ r, f ≤ r → r < i → M r c = 0) → wY_pivot_3 post (nI z) (nI c) tm wk (ra_bk 17 M) fc n (nI i)) z
    (fun n _ hr => br_t (nI_le (Nat.le_refl _) (by omega)) (h2 hr))
    (fun n i hi IH hfi hr => by
      refine br_f (nI_ge hi (by omega)) (And.intro (ry_in (by omega) hc) ?_)
      rw [ry_cl (by omega) hc, ra_bk_rd _ hc, ra_ec_z]
      refine br_c (fun q => ?_) (fun q => h1 i hfi hi q)
      intro y ey
      rw [ey, nI_1]
      refine IH (by omega) fun r a b => ?_
      by_cases e : r = i
      · rw [e, q]
      · exact hr r a (by omega)) (z - f) f (z + 1) (by omega) (by omega) (Nat.le_refl _) (fun r a b => by omega)
  exact Exists.intro (z + 1) L
theorem ra_bk_same {w k i : Nat} (M : Nat → ra_P) (h : i < w) : upd (ra_bk w M) (k * w + i) (ra_ec (M k i)) = ra_bk w M := by
  rw [ra_bk_wr _ _ h]
  have e : (fun j => if j = i then M k i else M k j) = M k := by
    funext j
    by_cases q : j = i
    · rw [if_pos q, q]
    · rw [if_neg q]
  rw [e, ra_st_id]
def ra_xch (M : Nat → ra_P) (a b : Nat) : Nat → ra_P := fun i => if i = a then M b else if i = b then M a else M i
theorem ry_exch {post : SY → Prop} {M : Nat → ra_P} {tm wk fc : Nat → Int32} {a b : Nat} (ha : a < 16) (hb : b < 16) (h : post (tm, wk, ra_bk 17 (ra_xch M a b), fc)) : wpY_exchange post (tm, wk, ra_bk 17 M, fc) (nI a) (nI b) := by
  by_cases hab : a = b
  · subst hab
    have ex : ra_xch M a a = M := by
      funext i
      show (if i = a then M a else if i = a then M a else M i) = M i
      by_cases q : i = a
      · rw [if_pos q, q]
      · rw [if_neg q, if_neg q]
    rw [ex] at h
    have L := ra_lp (fun n i => wY_exchange_2 post (nI a) (nI a) n (nI i) tm wk (ra_bk 17 M) fc) 17
      (fun n => br_t ry_17e h)
      (fun n i hi IH => by
        have v := ry_in ha hi
        refine br_f (ry_17 hi) (And.intro v ?_)
        intro x ex
        refine And.intro v (And.intro v ?_)
        intro t1 e1
        refine And.intro v ?_
        intro t2 e2 y ey
        rw [ry_cl ha hi, ra_bk_rd _ hi] at ex e1
        rw [ra_bk_same _ hi] at e1
        rw [ry_cl ha hi, e1, ex, ra_bk_same _ hi] at e2
        rw [ey, nI_1, e2]
        exact IH) 17 0 18 rfl (by decide)
    exact Exists.intro 18 L
  · have L := ra_lp (fun n i => wY_exchange_2 post (nI a) (nI b) n (nI i) tm wk (ra_bk 17 (ra_st (ra_st M a (ra_mx i (M b) (M a))) b (ra_mx i (M a) (M b)))) fc) 17
      (fun n => by
        refine br_t ry_17e ?_
        rw [ra_bk_end (by decide), ra_st_c hab, ra_bk_end (by decide), ← ra_st_c hab]
        have e : ra_st (ra_st M a (M b)) b (M a) = ra_xch M a b := by
          funext i
          show (if i = b then M a else if i = a then M b else M i) = if i = a then M b else if i = b then M a else M i
          by_cases q : i = b
          · rw [if_pos q, if_neg (fun z => hab (z.symm.trans q)), if_pos q]
          · rw [if_neg q, if_neg q]
        rw [e]
        exact h)
      (fun n i hi IH => by
        have hba : b ≠ a := fun q => hab q.symm
        have va := ry_in ha hi
        have vb := ry_in hb hi
        refine br_f (ry_17 hi) (And.intro va ?_)
        intro x ex
        refine And.intro vb (And.intro va ?_)
        intro t1 e1
        refine And.intro vb ?_
        intro t2 e2 y ey
        rw [ry_cl ha hi, ra_bk_rd _ hi, ra_st_n hab, ra_st_s, ra_mx_i] at ex
        rw [ry_cl ha hi, ry_cl hb hi, ra_bk_rd _ hi, ra_st_s, ra_mx_i, ra_st_c hab, ra_bk_mx _ _ _ hi, ← ra_st_c hab] at e1
        rw [ry_cl hb hi, e1, ex, ra_bk_mx _ _ _ hi] at e2
        rw [ey, nI_1, e2]
        exact IH) 17 0 18 rfl (by decide)
    refine Exists.intro 18 ?_
    rw [ra_mx_0, ra_mx_0, ra_st_id, ra_st_id] at L
    exact L
/-- a column cleared -/
def ra_clr (M : Nat → ra_P) (row z c : Nat) (R : ra_P) : Nat → ra_P := fun i => if i = row then R else if i < z then (fun j => M i j - M i c * R j) else M i
theorem ry_clr {post : SY → Prop} {M : Nat → ra_P} {tm wk fc : Nat → Int32} {row z c : Nat} (hr : row < 16) (hz : z ≤ 16) (hc : c < 17) (hx : M row c ≠ 0) (h : ∀ y, M row c * y = 1 → post (tm, wk, ra_bk 17 (ra_clr M row z c (fun j => M row j * y)), fc)) : wpY_clearColumn post (tm, wk, ra_bk 17 M, fc) (nI row) (nI z) (nI c) := by
  refine And.intro (ry_in hr hc) ?_
  show wpY_inverse _ (tm, wk, ra_bk 17 M, fc) (ra_bk 17 M (nI row * 17 + nI c).toNatClampNeg)
  rw [ry_cl hr hc, ra_bk_rd _ hc]
  refine ry_inv hx fun y hy => ?_
  obtain ⟨R, eR⟩ : ∃ R : ra_P, R = fun j => M row j * y := ⟨_, rfl⟩
  have H := h y hy
  rw [← eR] at H
  have inner : ∀ (J : Int32 → (Nat → Int32) → (Nat → Int32) → (Nat → Int32) → (Nat → Int32) → Prop) o, o < z → J (nI (o + 1)) tm wk (ra_bk 17 (ra_clr M row (o + 1) c R)) fc → wY_clearColumn_89 post J (nI row) (nI z) (nI c) (nI o) (ra_bk 17 (ra_clr M row o c R) (o * 17 + c)) 18 0 tm wk (ra_bk 17 (ra_clr M row o c R)) fc := by
    intro J o ho hJ
    by_cases q : o = row
    · have e : ra_clr M row (o + 1) c R = ra_clr M row o c R := by
        funext i
        show (if i = row then R else if i < o + 1 then (fun j => M i j - M i c * R j) else M i) = if i = row then R else if i < o then (fun j => M i j - M i c * R j) else M i
        by_cases w : i = row
        · rw [if_pos w, if_pos w]
        · rw [if_neg w, if_neg w]
          by_cases w2 : i < o
          · rw [if_pos w2, if_pos (by omega)]
          · rw [if_neg w2, if_neg (by omega)]
      rw [e] at hJ
      have L := ra_lp (fun n i => wY_clearColumn_89 post J (nI row) (nI z) (nI c) (nI o) (ra_bk 17 (ra_clr M row o c R) (o * 17 + c)) n (nI i) tm wk (ra_bk 17 (ra_clr M row o c R)) fc) 17
        (fun n => by
          refine br_t ry_17e ?_
          intro y ey
          rw [ey, nI_1]
          exact hJ)
        (fun n i hi IH => by
          refine br_f (ry_17 hi) (br_t (by rw [q]) ?_)
          intro y ey
          rw [ey, nI_1]
          exact IH) 17 0 18 rfl (by decide)
      exact L
    · have eo : ra_clr M row o c R o = M o := by
        show (if o = row then R else if o < o then (fun j => M o j - M o c * R j) else M o) = M o
        rw [if_neg q, if_neg (by omega)]
      have er : ra_clr M row o c R row = R := if_pos rfl
      have e : ra_clr M row (o + 1) c R = ra_st (ra_clr M row o c R) o (fun j => M o j - M o c * R j) := by
        funext i
        show (if i = row then R else if i < o + 1 then (fun j => M i j - M i c * R j) else M i) = if i = o then (fun j => M o j - M o c * R j) else if i = row then R else if i < o then (fun j => M i j - M i c * R j) else M i
        by_cases w : i = o
        · rw [if_pos w, w, if_neg q, if_pos (by omega)]
        · rw [if_neg w]
          by_cases w1 : i = row
          · rw [if_pos w1, if_pos w1]
          · rw [if_neg w1, if_neg w1]
            by_cases w2 : i < o
            · rw [if_pos w2, if_pos (by omega)]
            · rw [if_neg w2, if_neg (by omega)]
      rw [e] at hJ
      rw [ra_bk_rd _ hc, eo]
      have L := ra_lp (fun n i => wY_clearColumn_89 post J (nI row) (nI z) (nI c) (nI o) (ra_ec (M o c)) n (nI i) tm wk (ra_bk 17 (ra_st (ra_clr M row o c R) o (ra_mx i (fun j => M o j - M o c * R j) (ra_clr M row o c R o)))) fc) 17
        (fun n => by
          refine br_t ry_17e ?_
          intro y ey
          rw [ey, nI_1, ra_bk_end (by decide)]
          exact hJ)
        (fun n i hi IH => by
          have vo := ry_in (k := o) (by omega) hi
          refine br_f (ry_17 hi) (br_f (fun w => q ((nI_eq (by omega) (by omega)).mp w)) (And.intro vo (And.intro (ry_in hr hi) ?_)))
          refine ry_mod (And.intro vo ?_)
          intro t et y ey
          rw [ry_cl (by omega) hi, ry_cl hr hi, ra_bk_rd _ hi, ra_bk_rd _ hi, ra_st_s, ra_mx_i, ra_st_n (fun w => q w.symm), er, eo, ra_md_submul] at et
          rw [ey, nI_1, et]
          have e2 := ra_bk_mx (k := o) (ra_clr M row o c R) (fun j => M o j - M o c * R j) (M o) hi
          rw [eo] at IH
          rw [e2]
          exact IH) 17 0 18 rfl (by decide)
      rw [ra_bk_beg] at L
      exact L
  have outer : ∃ n, wY_clearColumn_66 post (nI row) (nI z) (nI c) n 0 tm wk (ra_bk 17 (ra_clr M row 0 c R)) fc := by
    have L := ra_lp (fun n o => wY_clearColumn_66 post (nI row) (nI z) (nI c) n (nI o) tm wk (ra_bk 17 (ra_clr M row o c R)) fc) z
      (fun n => br_t (nI_le (Nat.le_refl _) (by omega)) H)
      (fun n o ho IH => by
        refine br_f (nI_ge ho (by omega)) (And.intro (ry_in (by omega) hc) ?_)
        intro x ex
        rw [ry_cl (by omega) hc] at ex
        rw [ex]
        exact Exists.intro 18 (inner _ o ho IH)) z 0 (z + 1) (by omega) (by omega)
    exact Exists.intro _ L
  have e0 : ra_clr M row 0 c R = ra_st M row R := by
    funext i
    show (if i = row then R else if i < 0 then (fun j => M i j - M i c * R j) else M i) = if i = row then R else M i
    by_cases w : i = row
    · rw [if_pos w, if_pos w]
    · rw [if_neg w, if_neg w, if_neg (by omega)]
  rw [e0] at outer
  have L := ra_lp (fun n i => wY_clearColumn_20 post (nI row) (nI z) (nI c) (ra_ec y) n (nI i) tm wk (ra_bk 17 (ra_st M row (ra_mx i R (M row)))) fc) 17
    (fun n => br_t ry_17e (by rw [ra_bk_end (by decide)]; exact outer))
    (fun n i hi IH => by
      have v := ry_in hr hi
      refine br_f (ry_17 hi) (And.intro v (And.intro ra_101n (And.intro v ?_)))
      intro t et w ew
      rw [ry_cl hr hi, ra_bk_rd _ hi, ra_st_s, ra_mx_i, ra_mulrem, show M row i * y = R i from by rw [eR], ra_bk_mx _ _ _ hi] at et
      rw [ew, nI_1, et]
      exact IH) 17 0 18 rfl (by decide)
  rw [ra_bk_beg] at L
  exact Exists.intro 18 L
end
section
/-! elimination: the null space stays, the first columns become unit columns -/
def ra_ns (z : Nat) (M : Nat → ra_P) (v : ra_P) : Prop := ∀ i, i < z → ra_sm 17 (fun j => v j * M i j) = 0
theorem ra_ns_xch {z a b : Nat} {M : Nat → ra_P} (ha : a < z) (hb : b < z) (v : ra_P) : ra_ns z M v ↔ ra_ns z (ra_xch M a b) v := by
  constructor
  · intro h i hi
    show ra_sm 17 (fun j => v j * (if i = a then M b else if i = b then M a else M i) j) = 0
    by_cases q : i = a
    · rw [if_pos q]
      exact h b hb
    · rw [if_neg q]
      by_cases w : i = b
      · rw [if_pos w]
        exact h a ha
      · rw [if_neg w]
        exact h i hi
  · intro h i hi
    by_cases q : i = a
    · by_cases hab : b = a
      · have := h a ha
        rw [show ra_xch M a b a = M b from if_pos rfl, hab] at this
        rw [q]
        exact this
      · have := h b hb
        rw [show ra_xch M a b b = M a from by
          show (if b = a then M b else if b = b then M a else M b) = M a
          rw [if_neg hab, if_pos rfl]] at this
        rw [q]
        exact this
    · by_cases w : i = b
      · have := h a ha
        rw [show ra_xch M a b a = M b from if_pos rfl] at this
        rw [w]
        exact this
      · have := h i hi
        rw [show ra_xch M a b i = M i from by
          show (if i = a then M b else if i = b then M a else M i) = M i
          rw [if_neg q, if_neg w]] at this
        exact this
theorem ra_m1 {R : Type} [Lean.Grind.CommRing R] (v m t r : R) : v * (m - t * r) = v * m + (-t) * (v * r) := by grind
theorem ra_sm_row (v m R : ra_P) (t : ra_F) : ra_sm 17 (fun j => v j * (m j - t * R j)) = ra_sm 17 (fun j => v j * m j) + (-t) * ra_sm 17 (fun j => v j * R j) := by
  rw [← ra_sm_mul, ← ra_sm_add]
  exact ra_sm_congr fun j _ => ra_m1 _ _ _ _
theorem ra_sm_scl (v m : ra_P) (y : ra_F) : ra_sm 17 (fun j => v j * (m j * y)) = ra_sm 17 (fun j => v j * m j) * y := by
  rw [← ra_sm_mulr]
  exact ra_sm_congr fun j _ => (ra_fma _ _ _).symm
theorem ra_ns_clr {z row c : Nat} {M : Nat → ra_P} {y : ra_F} (hr : row < z) (hy : M row c * y = 1) (v : ra_P) : ra_ns z M v ↔ ra_ns z (ra_clr M row z c (fun j => M row j * y)) v := by
  have y0 : y ≠ 0 := by
    intro q
    rw [q, ra_zf] at hy
    exact absurd hy (by decide)
  have e1 : ra_clr M row z c (fun j => M row j * y) row = fun j => M row j * y := if_pos rfl
  have e2 : ∀ i, i < z → i ≠ row → ra_clr M row z c (fun j => M row j * y) i = fun j => M i j - M i c * (M row j * y) := by
    intro i hi hne
    show (if i = row then (fun j => M row j * y) else if i < z then (fun j => M i j - M i c * (M row j * y)) else M i) = _
    rw [if_neg hne, if_pos hi]
  constructor
  · intro h i hi
    have hrow := h row hr
    by_cases q : i = row
    · rw [q, e1]
      show ra_sm 17 (fun j => v j * (M row j * y)) = 0
      rw [ra_sm_scl, hrow, ra_fz]
    · rw [e2 i hi q]
      show ra_sm 17 (fun j => v j * (M i j - M i c * ((fun j => M row j * y) j))) = 0
      rw [ra_sm_row, h i hi]
      show 0 + (-M i c) * ra_sm 17 (fun j => v j * (M row j * y)) = 0
      rw [ra_sm_scl, hrow, ra_fz, ra_zf, ra_f0]
  · intro h i hi
    have hrow := h row hr
    rw [e1] at hrow
    have hrow' : ra_sm 17 (fun j => v j * (M row j * y)) = 0 := hrow
    have hrow2 := hrow'
    rw [ra_sm_scl, ra_fm] at hrow2
    have hm := ra_nzd hrow2 y0
    by_cases q : i = row
    · rw [q]
      exact hm
    · have := h i hi
      rw [e2 i hi q] at this
      have t2 : ra_sm 17 (fun j => v j * (M i j - M i c * ((fun j => M row j * y) j))) = 0 := this
      rw [ra_sm_row] at t2
      have t3 : ra_sm 17 (fun j => v j * M i j) + (-M i c) * ra_sm 17 (fun j => v j * (M row j * y)) = 0 := t2
      rw [hrow', ra_zf, ra_f0] at t3
      exact t3
def ra_unit (z k : Nat) (M : Nat → ra_P) : Prop := ∀ i, i < z → ∀ j, j < k → M i j = if i = j then 1 else 0
/-- a vector on the first columns and one further column -/
def ra_vec (r c : Nat) (w : ra_P) : ra_P := fun j => if j < r then w j else if j = c then -1 else 0
theorem ra_vec_sm {r c : Nat} (hrc : r ≤ c) (hc : c < 17) (w f : ra_P) : ra_sm 17 (fun j => ra_vec r c w j * f j) = ra_sm r (fun j => w j * f j) + -f c := by
  have e : ra_sm 17 (fun j => ra_vec r c w j * f j) = ra_sm 17 (fun j => (if j < r then w j * f j else 0) + (if j = c then -f c else 0)) := by
    refine ra_sm_congr fun j _ => ?_
    show (if j < r then w j else if j = c then -1 else 0) * f j = _
    by_cases h1 : j < r
    · rw [if_pos h1, if_pos h1, if_neg (by omega), ra_f0]
    · rw [if_neg h1, if_neg h1, ra_0f]
      by_cases h2 : j = c
      · rw [if_pos h2, if_pos h2, h2, ra_fnm, ra_1f]
      · rw [if_neg h2, if_neg h2, ra_fz]
  rw [e, ra_sm_add]
  have e1 : ra_sm 17 (fun j => if j < r then w j * f j else 0) = ra_sm r (fun j => w j * f j) := by
    rw [ra_sm_ext (m := r) (by omega) (fun j a b => if_neg (by omega))]
    exact ra_sm_congr fun j hj => if_pos hj
  have e2 : ra_sm 17 (fun j => if j = c then -f c else 0) = -f c := by
    rw [ra_sm_one (k := c) hc (fun j _ hne => if_neg hne)]
    exact if_pos rfl
  rw [e1, e2]
theorem ra_unit_sm {r i : Nat} (w : ra_P) {f : ra_P} (h : ∀ j, j < r → f j = if i = j then 1 else 0) : ra_sm r (fun j => w j * f j) = if i < r then w i else 0 := by
  by_cases q : i < r
  · rw [if_pos q, ra_sm_one (k := i) q (fun j hj hne => by
      rw [h j hj, if_neg (fun z => hne z.symm), ra_zf])]
    rw [h i q, if_pos rfl, ra_f1]
  · rw [if_neg q]
    exact ra_sm_zero fun j hj => by rw [h j hj, if_neg (by omega), ra_zf]
/-- the step of the elimination at a column that gives a pivot -/
theorem ra_piv {z c p : Nat} {M : Nat → ra_P} (hz : z ≤ 16) (hcp : c ≤ p) (hp : p < z) (hu : ra_unit z c M) {y : ra_F} (hy : M p c * y = 1) (M1 : Nat → ra_P) (e1 : M1 = ra_xch M c p) : ra_unit z (c + 1) (ra_clr M1 c z c (fun j => M1 c j * y)) := by
  have f1 : M1 c = M p := by rw [e1]; exact if_pos rfl
  have u1 : ra_unit z c M1 := by
    intro i hi j hj
    rw [e1]
    show (if i = c then M p else if i = p then M c else M i) j = _
    by_cases q : i = c
    · rw [if_pos q, hu p hp j hj, if_neg (by omega), if_neg (by omega)]
    · rw [if_neg q]
      by_cases w : i = p
      · rw [if_pos w, hu c (by omega) j hj, if_neg (by omega), if_neg (by omega)]
      · rw [if_neg w, hu i hi j hj]
  rw [← f1] at hy
  intro i hi j hj
  show (if i = c then (fun j => M1 c j * y) else if i < z then (fun j => M1 i j - M1 i c * (M1 c j * y)) else M1 i) j = _
  by_cases q : i = c
  · rw [if_pos q]
    show M1 c j * y = _
    by_cases w : j = c
    · rw [w, hy, if_pos q]
    · rw [u1 c (by omega) j (by omega), if_neg (by omega), ra_fz, if_neg (by omega)]
  · rw [if_neg q, if_pos hi]
    show M1 i j - M1 i c * (M1 c j * y) = _
    by_cases w : j = c
    · rw [w, hy, ra_f1, ra_fss, if_neg q]
    · rw [u1 c (by omega) j (by omega), if_neg (by omega), ra_fz, ra_zf, u1 i hi j (by omega), ra_fsn, ra_n0, ra_f0]
theorem ry_elim {post : Int32 → SY → Prop} {M0 : Nat → ra_P} {tm wk fc : Nat → Int32} {z r : Nat} (hz : z ≤ 16) (hr : r ≤ z)
    (hind : ∀ c w, c < r → ra_ns z M0 (ra_vec c c w) → False)
    (hdep : ∀ c, r ≤ c → c < z → ∃ w, ra_ns z M0 (ra_vec r c w))
    (h : ∀ M, (∀ v, ra_ns z M0 v ↔ ra_ns z M v) → ra_unit z r M → post (nI r) (tm, wk, ra_bk 17 M, fc)) : wpY_eliminate post (tm, wk, ra_bk 17 M0, fc) (nI z) := by
  have L := ra_lp (fun n c => ∀ k M, (c ≤ r → k = c) → (r ≤ c → k = r) → (∀ v, ra_ns z M0 v ↔ ra_ns z M v) → ra_unit z k M → wY_eliminate_4 post (nI z) n (nI k) (nI c) tm wk (ra_bk 17 M) fc) z
    (fun n k M _ k2 hns hu => by
      have e := k2 hr
      subst e
      exact br_t (nI_le (Nat.le_refl _) (by omega)) (h M hns hu))
    (fun n c hc IH k M k1 k2 hns hu => by
      refine br_f (nI_ge hc (by omega)) ?_
      by_cases q : c < r
      · have e := k1 (by omega)
        subst e
        refine ry_pivot hz (by omega) (by omega) (fun p p1 p2 p3 => ?_) (fun hno => ?_)
        · refine br_f (nI_pos (by omega)) ?_
          refine ry_exch (by omega) (by omega) ?_
          have f1 : ra_xch M k p k = M p := if_pos rfl
          refine ry_clr (by omega) hz (by omega) (by rw [f1]; exact p3) fun y hy => ?_
          intro y1 e1 y2 e2
          rw [e1, e2, nI_1]
          refine IH (k + 1) _ (fun _ => rfl) (fun _ => by omega) (fun v => ?_) (ra_piv hz p1 p2 hu (by rw [f1] at hy; exact hy) _ rfl)
          exact (hns v).trans ((ra_ns_xch (by omega) p2 v).trans (ra_ns_clr (by omega) hy v))
        · refine absurd ((hns (ra_vec k k (fun j => M j k))).mpr fun i hi => ?_) (hind k _ q)
          rw [ra_vec_sm (Nat.le_refl _) (by omega), ra_unit_sm _ (hu i hi)]
          by_cases w : i < k
          · rw [if_pos w, ra_fa, ra_fna]
          · rw [if_neg w, hno i (by omega) hi, ra_n0, ra_f0]
      · have e := k2 (by omega)
        subst e
        have hzero : ∀ i, k ≤ i → i < z → M i c = 0 := by
          intro i hi1 hi2
          obtain ⟨w, hw⟩ := hdep c (by omega) hc
          have := (hns _).mp hw i hi2
          rw [ra_vec_sm (by omega) (by omega), ra_unit_sm _ (hu i hi2), if_neg (by omega), ra_0f] at this
          rw [← ra_fnn (M i c), this, ra_n0]
        refine ry_pivot hz (by omega) hr (fun p p1 p2 p3 => absurd (hzero p p1 p2) p3) (fun _ => ?_)
        refine br_t (by decide) ?_
        intro y ey
        rw [ey, nI_1]
        exact IH k M (fun _ => by omega) (fun _ => rfl) hns hu) z 0 (z + 1) (by omega) (by omega) 0 M0 (fun _ => rfl) (fun _ => by omega) (fun v => Iff.rfl) (fun i _ j hj => by omega)
  exact Exists.intro (z + 1) L
/-! what the table of a sequence of order r gives -/
def ra_lin (r : Nat) (a : ra_P) : Prop := (∃ c : Nat → ra_F, ∀ n, a (n + r) = ra_sm r (fun j => c j * a (n + j))) ∧ (∀ v : Nat → ra_F, (∀ i, i < r → ra_sm r (fun j => v j * a (i + j)) = 0) → ∀ j, j < r → v j = 0)
/-- every column is a sum of the first r ones -/
theorem ra_cols {r : Nat} {a : ra_P} {c : Nat → ra_F} (h : ∀ n, a (n + r) = ra_sm r (fun j => c j * a (n + j))) : ∀ k, ∃ w : Nat → ra_F, ∀ i, a (i + k) = ra_sm r (fun j => w j * a (i + j)) := by
  cases r with
  | zero => exact fun k => ⟨fun _ => 0, fun i => h (i + k)⟩
  | succ q =>
    intro k
    induction k with
    | zero =>
      refine ⟨fun j => if j = 0 then 1 else 0, fun i => ?_⟩
      show a (i + 0) = ra_sm (q + 1) (fun j => (if j = 0 then 1 else 0) * a (i + j))
      rw [ra_sm_one (k := 0) (by omega) (fun j _ hne => by rw [if_neg hne, ra_fz]), if_pos rfl, ra_1f]
    | succ k ih =>
      obtain ⟨w, hw⟩ := ih
      refine ⟨fun j => (if j = 0 then 0 else w (j - 1)) + w q * c j, fun i => ?_⟩
      have e : ra_sm (q + 1) (fun j => ((if j = 0 then 0 else w (j - 1)) + w q * c j) * a (i + j)) = ra_sm (q + 1) (fun j => (if j = 0 then 0 else w (j - 1)) * a (i + j)) + w q * ra_sm (q + 1) (fun j => c j * a (i + j)) := by
        rw [← ra_sm_mul, ← ra_sm_add]
        refine ra_sm_congr fun j _ => ?_
        rw [ra_fm, ra_fd, ra_fm, ra_fm _ (w q * c j), ra_fma]
      rw [e, ← h i, ra_sm_front, if_pos rfl, ra_fz, ra_0f, show i + (k + 1) = (i + 1) + k from by omega, hw (i + 1), ra_sm_s, show i + 1 + q = i + (q + 1) from by omega]
      congr 1
      refine ra_sm_congr fun j _ => ?_
      rw [if_neg (by omega), show j + 1 - 1 = j from rfl, show i + 1 + j = i + (j + 1) from by omega]
theorem ra_n1 {R : Type} [Lean.Grind.CommRing R] (x : R) : x + -x = 0 := by grind
theorem ra_neg_inj {x y : ra_F} (h : x + -y = 0) : y = x := by
  have := ra_fneg _ _ h
  rw [← ra_fnn y, this, ra_fnn]
/-- the columns' independence, for vectors on the first c + 1 < r + 1 columns -/
theorem ra_ind_vec {r c : Nat} {a : ra_P} (h : ra_lin r a) (hc : c < r) (w : ra_P) (hz : ∀ i, i < r → ra_sm c (fun j => w j * a (i + j)) + -a (i + c) = 0) : False := by
  have := h.2 (fun j => if j < c then w j else if j = c then -1 else 0) (fun i hi => by
    refine Eq.trans ?_ (hz i hi)
    rw [ra_sm_ext (m := c + 1) (by omega) (fun j a1 b1 => by rw [if_neg (by omega), if_neg (by omega), ra_fz]), ra_sm_s, if_neg (by omega), if_pos rfl, ra_fnm, ra_1f]
    congr 1
    exact ra_sm_congr fun j hj => by rw [if_pos hj]) c hc
  rw [if_neg (by omega), if_pos rfl] at this
  exact ra_m10 this
end
section
/-! the order, and the terms behind the first 32 -/
def ra_H (a : ra_P) : Nat → ra_P := fun i j => if j < 16 then a (i + j) else 0
def ra_rows (i : Nat) (H M : Nat → ra_P) : Nat → ra_P := fun k => if k < i then H k else M k
theorem ra_rows_s (i : Nat) (H M : Nat → ra_P) : ra_st (ra_rows i H M) i (H i) = ra_rows (i + 1) H M := by
  funext k
  show (if k = i then H i else if k < i then H k else M k) = if k < i + 1 then H k else M k
  by_cases q : k = i
  · rw [if_pos q, q, if_pos (by omega)]
  · rw [if_neg q]
    by_cases w : k < i
    · rw [if_pos w, if_pos (by omega)]
    · rw [if_neg w, if_neg (by omega)]
theorem ra_rows_0 (H M : Nat → ra_P) : ra_rows 0 H M = M := rfl
theorem ra_rows_i (i : Nat) (H M : Nat → ra_P) : ra_rows i H M i = M i := if_neg (by omega)
theorem ry_16 {n : Nat} (h : n < 16) : ¬ (16 : Int32) ≤ nI n := ra_nle (b := 16) (by decide +kernel) h (by decide)
theorem ry_16e : (16 : Int32) ≤ nI 16 := ra_le (b := 16) (by decide +kernel) (Nat.le_refl _) (by decide)
theorem ry_c16 {i : Nat} : nI i * 17 + 16 = nI (i * 17 + 16) := ry_ix i 16
theorem ry_rank {post : Int32 → SY → Prop} {W a : ra_P} {M : Nat → ra_P} {tm fc : Nat → Int32} {r : Nat} (hr : r ≤ 16) (hl : ra_lin r a) (hw : ∀ n, n < 32 → W n = a n) (h : ∀ M, post (nI r) (tm, ra_ar W, ra_bk 17 M, fc)) : wpY_rank post (tm, ra_ar W, ra_bk 17 M, fc) := by
  have he : wpY_eliminate post (tm, ra_ar W, ra_bk 17 (ra_rows 16 (ra_H a) M), fc) (nI 16) := by
    have hH : ∀ i j, i < 16 → j < 16 → ra_rows 16 (ra_H a) M i j = a (i + j) := by
      intro i j hi hj
      rw [show ra_rows 16 (ra_H a) M i = ra_H a i from if_pos hi]
      exact if_pos hj
    refine ry_elim (Nat.le_refl _) hr ?_ ?_ fun M' _ _ => h M'
    · intro c w hc hns
      refine ra_ind_vec hl hc w fun i hi => ?_
      have := hns i (by omega)
      rw [ra_vec_sm (Nat.le_refl _) (by omega), hH i c (by omega) (by omega)] at this
      rw [← this]
      congr 1
      exact ra_sm_congr fun j hj => by rw [hH i j (by omega) (by omega)]
    · intro c hc hc2
      obtain ⟨cc, hcc⟩ := hl.1
      obtain ⟨w, hw⟩ := ra_cols hcc c
      refine ⟨w, fun i hi => ?_⟩
      rw [ra_vec_sm hc (by omega), hH i c hi hc2, hw i]
      rw [show ra_sm r (fun j => w j * ra_rows 16 (ra_H a) M i j) = ra_sm r (fun j => w j * a (i + j)) from
        ra_sm_congr fun j hj => by rw [hH i j hi (by omega)]]
      exact ra_n1 _
  have L := ra_lp (fun n i => wY_rank_2 post n (nI i) tm (ra_ar W) (ra_bk 17 (ra_rows i (ra_H a) M)) fc) 16
    (fun n => br_t ry_16e he)
    (fun n i hi IH => by
      refine br_f (ry_16 hi) ?_
      have L := ra_lp (fun n' j => wY_rank_10 post (wY_rank_2 post n) (nI i) n' (nI j) tm (ra_ar W) (ra_bk 17 (ra_st (ra_rows i (ra_H a) M) i (ra_mx j (ra_H a i) (ra_rows i (ra_H a) M i)))) fc) 16
        (fun n' => by
          refine br_t ry_16e (And.intro (by rw [ry_c16]; exact vp_in_nI (by omega) (by decide)) ?_)
          intro t et y ey
          have e := ra_bk_mx (k := i) (i := 16) (ra_rows i (ra_H a) M) (ra_H a i) (ra_rows i (ra_H a) M i) (show 16 < 17 by decide)
          rw [show ra_H a i 16 = 0 from if_neg (by omega), ra_ec_0, ra_bk_end (by decide), ra_rows_s] at e
          rw [ry_c16, nI_clamp (by omega), e] at et
          rw [ey, nI_1, et]
          exact IH)
        (fun n' j hj IH' => by
          refine br_f (ry_16 hj) (And.intro (by rw [nI_add]; exact ry_w (by omega)) (And.intro (ry_in hi (by omega)) ?_))
          intro t et y ey
          have e := ra_bk_mx (k := i) (ra_rows i (ra_H a) M) (ra_H a i) (ra_rows i (ra_H a) M i) (show j < 17 by omega)
          rw [nI_add, nI_clamp (by omega), ry_cl hi (by omega), show ra_ar W (i + j) = ra_ec (ra_H a i j) from by
            rw [show ra_H a i j = a (i + j) from if_pos hj, ← hw (i + j) (by omega)]; rfl, e] at et
          rw [ey, nI_1, et]
          exact IH') 16 0 17 rfl (by decide)
      rw [ra_bk_beg] at L
      exact Exists.intro 17 L) 16 0 17 rfl (by decide)
  exact Exists.intro 17 L
/-- the rows that give the factors -/
def ra_G (r : Nat) (a : ra_P) : Nat → ra_P := fun i j => if j = 16 then a (i + r) else if j < r then a (i + j) else 0
theorem ry_ext3 {post : SY → Prop} {W a : ra_P} {tb tm fc : Nat → Int32} {r last : Nat} {c : Nat → ra_F} (hr : r ≤ 8) (hlast : last ≤ 400) (hc : ∀ n, a (n + r) = ra_sm r (fun j => c j * a (n + j))) (hf : ∀ j, j < r → fc j = ra_ec (c j)) (hw : ∀ n, n < 32 → W n = a n) (h : ∀ W', (∀ n, n < 32 ∨ n ≤ last → W' n = a n) → post (tm, ra_ar W', tb, fc)) : ∃ n, wY_extend_125 post (nI last) (nI r) n 32 tm (ra_ar W) tb fc := by
  obtain ⟨e, he1, he2, he3⟩ : ∃ e, last < e ∧ 32 ≤ e ∧ ∀ n, 32 ≤ n → n < e → n ≤ last := by
    by_cases q : last < 32
    · exact ⟨32, q, Nat.le_refl _, fun n a b => by omega⟩
    · exact ⟨last + 1, by omega, by omega, fun n a b => by omega⟩
  by_cases he4 : e ≤ 401
  · have L := ra_lp (fun f n => ∀ W, 32 ≤ n → (∀ k, k < n → W k = a k) → wY_extend_125 post (nI last) (nI r) f (nI n) tm (ra_ar W) tb fc) e
      (fun f W _ hW => br_t (nI_lt he1 (by omega)) (h W fun n hn => hW n (by omega)))
      (fun f n hn IH W h32 hW => by
        have hnl := he3 n h32 hn
        refine br_f (nI_nlt hnl (by omega)) ?_
        have L := ra_lp (fun f' i => ∀ N, N ≤ 10000 * i → ra_nf N = ra_sm i (fun j => c j * a (n - r + j)) → wY_extend_136 post (wY_extend_125 post (nI last) (nI r) f) (nI last) (nI r) (nI n) tm (ra_ar W) tb fc f' (nI N) (nI i)) r
          (fun f' N hN eN => by
            refine br_t (nI_le (Nat.le_refl _) (by omega)) (And.intro ra_101n (And.intro (ry_w (by omega)) ?_))
            intro w ew y ey
            have ea : ra_nf N = a n := by
              rw [eN, ← hc]
              exact congrArg a (by omega)
            rw [nI_clamp (by omega), ra_rem (by omega), ea, ra_ar_wr] at ew
            rw [ey, nI_1, ew]
            refine IH _ (by omega) fun k hk => ?_
            by_cases q : k = n
            · rw [if_pos q, q]
            · rw [if_neg q]
              exact hW k (by omega))
          (fun f' i hi IH' N hN eN => by
            have ix : nI n - nI r + nI i = nI (n - r + i) := by rw [pk_sub (by omega), nI_add]
            refine br_f (nI_ge hi (by omega)) (And.intro (vp_in_nI (by omega) (by decide)) (And.intro (by rw [ix]; exact ry_w (by omega)) ?_))
            intro x ex y ey
            have hv1 := (c i).isLt
            have hv2 := (a (n - r + i)).isLt
            have hb : (c i).val * (a (n - r + i)).val ≤ 100 * 100 := Nat.mul_le_mul (by omega) (by omega)
            rw [ix, nI_clamp (by omega), nI_clamp (by omega), hf i hi, show ra_ar W (n - r + i) = ra_ec (a (n - r + i)) from by
              rw [← hW (n - r + i) (by omega)]; rfl, show ra_ec (c i) * ra_ec (a (n - r + i)) = nI ((c i).val * (a (n - r + i)).val) from pk_mul _ _, nI_add] at ex
            rw [ex, ey, nI_1]
            refine IH' _ (by omega) ?_
            rw [ra_nf_add, eN, ra_nf_mul, ra_nf_self, ra_nf_self]
            rfl) r 0 (r + 1) (by omega) (by omega) 0 (by omega) rfl
        exact Exists.intro _ L) (e - 32) 32 (e + 1) (by omega) (by omega) W (Nat.le_refl _) hw
    exact Exists.intro _ L
  · have := he3 401 (by omega) (by omega)
    omega
theorem ry_ext {post : SY → Prop} {W a : ra_P} {M : Nat → ra_P} {tm fc : Nat → Int32} {r last : Nat} (hr : r ≤ 8) (hl : ra_lin r a) (hlast : last ≤ 400) (hw : ∀ n, n < 32 → W n = a n) (h : ∀ W' M' fc', (∀ n, n < 32 ∨ n ≤ last → W' n = a n) → post (tm, ra_ar W', ra_bk 17 M', fc')) : wpY_extend post (tm, ra_ar W, ra_bk 17 M, fc) (nI last) := by
  unfold wpY_extend
  dsimp only
  refine ry_rank (by omega) hl hw fun M1 => ?_
  dsimp only
  obtain ⟨c, hc⟩ := hl.1
  have he : ∀ f, wY_extend_7 post (nI last) (nI r) (f + 1) (nI r) tm (ra_ar W) (ra_bk 17 (ra_rows r (ra_G r a) M1)) fc := by
    intro f
    refine br_t (nI_le (Nat.le_refl _) (by omega)) ?_
    have hG : ∀ i j, i < r → j < r → ra_rows r (ra_G r a) M1 i j = a (i + j) := by
      intro i j hi hj
      rw [show ra_rows r (ra_G r a) M1 i = ra_G r a i from if_pos hi]
      show (if j = 16 then a (i + r) else if j < r then a (i + j) else 0) = _
      rw [if_neg (by omega), if_pos hj]
    have hG16 : ∀ i, i < r → ra_rows r (ra_G r a) M1 i 16 = a (i + r) := by
      intro i hi
      rw [show ra_rows r (ra_G r a) M1 i = ra_G r a i from if_pos hi]
      exact if_pos rfl
    refine ry_elim (by omega) (Nat.le_refl r) ?_ (fun c h1 h2 => by omega) fun M' hns hu => ?_
    · intro k w hk hns
      refine ra_ind_vec hl hk w fun i hi => ?_
      have := hns i hi
      rw [ra_vec_sm (Nat.le_refl _) (by omega), hG i k hi hk] at this
      rw [← this]
      congr 1
      exact ra_sm_congr fun j hj => by rw [hG i j hi (by omega)]
    · have hcol : ∀ i, i < r → M' i 16 = c i := by
        intro i hi
        have h0 : ra_ns r (ra_rows r (ra_G r a) M1) (ra_vec r 16 c) := by
          intro i hi
          rw [ra_vec_sm (by omega) (by decide), hG16 i hi, hc i]
          rw [show ra_sm r (fun j => c j * ra_rows r (ra_G r a) M1 i j) = ra_sm r (fun j => c j * a (i + j)) from
            ra_sm_congr fun j hj => by rw [hG i j hi hj]]
          exact ra_n1 _
        have h1 := (hns _).mp h0 i hi
        rw [ra_vec_sm (by omega) (by decide), ra_unit_sm _ (hu i hi), if_pos hi] at h1
        exact ra_neg_inj h1
      have L := ra_lp (fun f i => ∀ fc', (∀ j, j < i → fc' j = ra_ec (c j)) → wY_extend_93 post (nI last) (nI r) f (nI i) tm (ra_ar W) (ra_bk 17 M') fc') r
        (fun f fc' hf => br_t (nI_le (Nat.le_refl _) (by omega)) (ry_ext3 hr hlast hc hf hw fun W' hW' => h W' M' fc' hW'))
        (fun f i hi IH fc' hf => by
          refine br_f (nI_ge hi (by omega)) (And.intro (by rw [ry_c16]; exact vp_in_nI (by omega) (by decide)) (And.intro (vp_in_nI (by omega) (by decide)) ?_))
          intro t et y ey
          rw [ry_c16, nI_clamp (by omega), nI_clamp (by omega), ra_bk_rd _ (by decide), hcol i hi] at et
          rw [ey, nI_1]
          refine IH t fun j hj => ?_
          rw [et]
          by_cases q : j = i
          · rw [q]
            exact pk_us
          · rw [pk_un q]
            exact hf j (by omega)) r 0 (r + 1) (by omega) (by omega) fc (fun j hj => by omega)
      exact Exists.intro _ L
  have L := ra_lp (fun f i => wY_extend_7 post (nI last) (nI r) f (nI i) tm (ra_ar W) (ra_bk 17 (ra_rows i (ra_G r a) M1)) fc) r he
    (fun f i hi IH => by
      refine br_f (nI_ge hi (by omega)) ?_
      have L := ra_lp (fun f' j => wY_extend_15 post (wY_extend_7 post (nI last) (nI r) f) (nI last) (nI r) (nI i) f' (nI j) tm (ra_ar W) (ra_bk 17 (ra_st (ra_rows i (ra_G r a) M1) i (ra_mx j (fun j => if j < r then a (i + j) else 0) (ra_rows i (ra_G r a) M1 i)))) fc) 17
        (fun f' => by
          refine br_t ry_17e (And.intro (by rw [nI_add]; exact ry_w (by omega)) (And.intro (by rw [ry_c16]; exact vp_in_nI (by omega) (by decide)) ?_))
          intro t et y ey
          have e3 : (fun j => if j = 16 then a (i + r) else if j < r then a (i + j) else 0) = ra_G r a i := rfl
          rw [ra_bk_end (by decide), ry_c16, nI_clamp (by omega), nI_add, nI_clamp (by omega), show ra_ar W (i + r) = ra_ec (a (i + r)) from by
            rw [← hw (i + r) (by omega)]; rfl, ra_bk_wr _ _ (by decide), ra_st_st, ra_st_s, e3, ra_rows_s] at et
          rw [ey, nI_1, et]
          exact IH)
        (fun f' j hj IH' => by
          have e := ra_bk_mx (k := i) (ra_rows i (ra_G r a) M1) (fun j => if j < r then a (i + j) else 0) (ra_rows i (ra_G r a) M1 i) hj
          refine br_f (ry_17 hj) (pk_le r j (fun q => ?_) (fun q => ?_))
          · refine And.intro (ry_in (by omega) hj) ?_
            intro t et y ey
            rw [if_neg (by omega), ra_ec_0] at e
            rw [ry_cl (by omega) hj, e] at et
            rw [ey, nI_1, et]
            exact IH'
          · refine And.intro (by rw [nI_add]; exact ry_w (by omega)) (And.intro (ry_in (by omega) hj) ?_)
            intro t et y ey
            rw [if_pos q] at e
            rw [nI_add, nI_clamp (by omega), ry_cl (by omega) hj, show ra_ar W (i + j) = ra_ec (a (i + j)) from by
              rw [← hw (i + j) (by omega)]; rfl, e] at et
            rw [ey, nI_1, et]
            exact IH') 17 0 18 rfl (by decide)
      rw [ra_bk_beg] at L
      exact Exists.intro 18 L) r 0 (r + 1) (by omega) (by omega)
  exact Exists.intro (r + 1) L
theorem ry_settle {post : Int32 → SY → Prop} {A : Nat → ra_P} {W a : ra_P} {M : Nat → ra_P} {fc : Nat → Int32} {r s : Nat} (hs : s < 4) (hr : r ≤ 16) (hl : ra_lin r a) (hw : ∀ n, n < 32 → W n = a n) (h8 : r ≤ 8 → ∀ M', post (nI r) (ra_bk 32 (ra_st A s a), ra_ar W, ra_bk 17 M', fc)) (hf : 8 < r → ∀ M', post (-3) (ra_bk 32 A, ra_ar W, ra_bk 17 M', fc)) : wpY_settle post (ra_bk 32 A, ra_ar W, ra_bk 17 M, fc) (nI s) := by
  unfold wpY_settle
  dsimp only
  refine ry_rank hr hl hw fun M1 => ?_
  dsimp only
  refine pk_le r 8 (fun q => ?_) (fun q => hf q M1)
  refine ry_store hs ?_
  have e : ra_bk 32 (ra_st A s W) = ra_bk 32 (ra_st A s a) := ra_bk_ext (by decide) fun k i hi => by
    by_cases z : k = s
    · rw [z, ra_st_s, ra_st_s, hw i hi]
    · rw [ra_st_n z, ra_st_n z]
  rw [e]
  exact h8 q M1
end
section
/-! loops of the reference's calls -/
theorem ry_dig {post : Int32 → Prop} {u : SY} {x : Int32} {m p : Nat} (hx : x &&& 2147483647 = nI m) (hm : m < 2 ^ 31) (hp : p < 100) (h : post (ra_ec (ra_dc m p))) : wpY_digit post u x (nI p) := by
  obtain ⟨a, b, c, d⟩ := u
  show ∀ y, y = x &&& 2147483647 → _
  intro y ey
  rw [ey, hx]
  have L := ra_lp (fun n i => wY_digit_8 post (nI p) a b c d n (nI (m / 101 ^ i)) (nI i)) p
    (fun n => by
      have l1 : m / 101 ^ p < 2 ^ 31 := Nat.lt_of_le_of_lt (Nat.div_le_self _ _) hm
      refine br_t (nI_le (Nat.le_refl _) (by omega)) (And.intro ra_101n ?_)
      rw [ra_rem l1]
      exact h)
    (fun n i hi IH => by
      have l1 : m / 101 ^ i < 2 ^ 31 := Nat.lt_of_le_of_lt (Nat.div_le_self _ _) hm
      refine br_f (nI_ge hi (by omega)) (And.intro ra_101n ?_)
      intro y ey z ez
      rw [ra_101, pk_div l1 (by decide) (by decide), ra_dd] at ey
      rw [ey, ez, nI_1]
      exact IH) p 0 (p + 1) (by omega) (by omega)
  rw [show m / 101 ^ 0 = m from Nat.div_one m] at L
  exact Exists.intro _ L
theorem ry_def {post : Int32 → SY → Prop} {A : Nat → ra_P} {W a : ra_P} {tb fc : Nat → Int32} {s k mc mb : Nat} {xc xb : Int32} (hs : s < 4) (hk : 1 ≤ k) (hk4 : k ≤ 4) (hxc : xc &&& 2147483647 = nI mc) (hxb : xb &&& 2147483647 = nI mb) (hmc : mc < 2 ^ 31) (hmb : mb < 2 ^ 31) (ha1 : ∀ n, n < k → a n = ra_dc mb n) (ha2 : ∀ n, k ≤ n → a n = ra_sm k (fun j => ra_dc mc j * a (n - 1 - j))) (h : ∀ W', post 0 (ra_bk 32 (ra_st A s a), ra_ar W', tb, fc)) : ∃ n, wY_define_26 post (nI s) (nI k) xc xb n 0 (ra_bk 32 A) (ra_ar W) tb fc := by
  have fin : ∀ (J : Int32 → (Nat → Int32) → (Nat → Int32) → (Nat → Int32) → (Nat → Int32) → Prop) n W N f, n < 32 → N < 2 ^ 31 → ra_nf N = a n → J (nI (n + 1)) (ra_bk 32 A) (ra_ar (fun j => if j = n then a n else W j)) tb fc → wY_define_56 post J (nI s) (nI k) xc xb (nI n) (ra_bk 32 A) (ra_ar W) tb fc (f + 1) (nI N) (nI (k + 1)) := by
    intro J n W N f hn hN eN hJ
    refine br_t (nI_lt (by omega) (by omega)) (And.intro ra_101n (And.intro (ry_w (by omega)) ?_))
    intro w ew y ey
    rw [nI_clamp (by omega), ra_rem hN, eN, ra_ar_wr] at ew
    rw [ey, nI_1, ew]
    exact hJ
  have L := ra_lp (fun f n => ∀ W, (∀ j, j < n → W j = a j) → wY_define_26 post (nI s) (nI k) xc xb f (nI n) (ra_bk 32 A) (ra_ar W) tb fc) 32
    (fun f W hW => by
      refine br_t ry_32e ?_
      refine ry_store hs ?_
      have e : ra_bk 32 (ra_st A s W) = ra_bk 32 (ra_st A s a) := ra_bk_ext (by decide) fun k i hi => by
        by_cases z : k = s
        · rw [z, ra_st_s, ra_st_s, hW i hi]
        · rw [ra_st_n z, ra_st_n z]
      rw [e]
      exact h W)
    (fun f n hn IH W hW => by
      have IH2 := IH (fun j => if j = n then a n else W j) (fun j hj => by
        by_cases q : j = n
        · rw [if_pos q, q]
        · rw [if_neg q]
          exact hW j (by omega))
      refine br_f (ry_32 hn) (pk_le k n (fun q => ?_) (fun q => ?_))
      · have L := ra_lp (fun f' i => ∀ N, N ≤ 10000 * i → ra_nf N = ra_sm i (fun j => ra_dc mc j * a (n - 1 - j)) → wY_define_56 post (wY_define_26 post (nI s) (nI k) xc xb f) (nI s) (nI k) xc xb (nI n) (ra_bk 32 A) (ra_ar W) tb fc f' (nI N) (nI (i + 1))) k
          (fun f' N hN eN => fin _ n W N f' hn (by omega) (by rw [eN, ← ha2 n q]) IH2)
          (fun f' i hi IH' N hN eN => by
            refine br_f (nI_nlt (by omega) (by omega)) (br_f (nI_nlt q (by omega)) ?_)
            rw [show nI (i + 1) - 1 = nI i from nI_pred i]
            refine ry_dig hxc hmc (by omega) ?_
            have ix : nI n - nI (i + 1) = nI (n - 1 - i) := by
              rw [pk_sub (by omega)]
              exact congrArg nI (by omega)
            rw [ix]
            refine And.intro (ry_w (by omega)) ?_
            intro x ex y ey
            have hv1 := (ra_dc mc i).isLt
            have hv2 := (a (n - 1 - i)).isLt
            have hb : (ra_dc mc i).val * (a (n - 1 - i)).val ≤ 100 * 100 := Nat.mul_le_mul (by omega) (by omega)
            rw [nI_clamp (by omega), show ra_ar W (n - 1 - i) = ra_ec (a (n - 1 - i)) from by
              rw [← hW (n - 1 - i) (by omega)]; rfl, show ra_ec (ra_dc mc i) * ra_ec (a (n - 1 - i)) = nI ((ra_dc mc i).val * (a (n - 1 - i)).val) from pk_mul _ _, nI_add] at ex
            rw [ex, ey, nI_1]
            refine IH' _ (by omega) ?_
            rw [ra_nf_add, eN, ra_nf_mul, ra_nf_self, ra_nf_self]
            rfl) k 0 (k + 1) (by omega) (by omega) 0 (by omega) rfl
        exact Exists.intro _ L
      · refine ry_dig hxb hmb (by omega) ?_
        have hv := (ra_dc mb n).isLt
        have L := ra_lp (fun f' i => wY_define_56 post (wY_define_26 post (nI s) (nI k) xc xb f) (nI s) (nI k) xc xb (nI n) (ra_bk 32 A) (ra_ar W) tb fc f' (ra_ec (ra_dc mb n)) (nI (i + 1))) k
          (fun f' => fin _ n W (ra_dc mb n).val f' hn (by omega) (by rw [ra_nf_self, ha1 n q]) IH2)
          (fun f' i hi IH' => by
            refine br_f (nI_nlt (by omega) (by omega)) (br_t (nI_lt q (by omega)) ?_)
            intro y ey
            rw [ey, nI_1]
            exact IH') k 0 (k + 1) (by omega) (by omega)
        exact Exists.intro _ L) 32 0 33 rfl (by decide) W (fun j hj => by omega)
  exact Exists.intro _ L
theorem ry_addl {post : Int32 → SY → Prop} {A : Nat → ra_P} {W : ra_P} {tb fc : Nat → Int32} {x : Int32} {s t : Nat} (hs : s < 4) (ht : t < 4) (h : wpY_settle post (ra_bk 32 A, ra_ar (ra_mx 32 (ra_add (A s) (A t)) W), tb, fc) x) : ∃ n, wY_add_29 post x (nI s) (nI t) n 0 (ra_bk 32 A) (ra_ar W) tb fc := by
  have L := ra_lp (fun n i => wY_add_29 post x (nI s) (nI t) n (nI i) (ra_bk 32 A) (ra_ar (ra_mx i (ra_add (A s) (A t)) W)) tb fc) 32
    (fun n => br_t ry_32e h)
    (fun n i hi IH => by
      refine br_f (ry_32 hi) (And.intro (ry_in32 hs hi) (And.intro (ry_in32 ht hi) (And.intro ra_101n (And.intro (ry_w (by omega)) ?_))))
      intro w ew y ey
      rw [ry_cl32 hs hi, ry_cl32 ht hi, ra_bk_rd _ hi, ra_bk_rd _ hi, ra_addrem, nI_clamp (by omega)] at ew
      rw [ey, nI_1, ew]
      rw [show upd _ i (ra_ec (A s i + A t i)) = _ from ra_ar_mx i (ra_add (A s) (A t)) W]
      exact IH) 32 0 33 rfl (by decide)
  exact Exists.intro _ L
theorem ry_scal {post : Int32 → SY → Prop} {A : Nat → ra_P} {W : ra_P} {tb fc : Nat → Int32} {s : Nat} {c : ra_F} (hs : s < 4) (h : wpY_settle post (ra_bk 32 A, ra_ar (ra_mx 32 (fun n => A s n * c) W), tb, fc) (nI s)) : ∃ n, wY_scale_19 post (nI s) (ra_ec c) n 0 (ra_bk 32 A) (ra_ar W) tb fc := by
  have L := ra_lp (fun n i => wY_scale_19 post (nI s) (ra_ec c) n (nI i) (ra_bk 32 A) (ra_ar (ra_mx i (fun n => A s n * c) W)) tb fc) 32
    (fun n => br_t ry_32e h)
    (fun n i hi IH => by
      refine br_f (ry_32 hi) (And.intro (ry_in32 hs hi) (And.intro ra_101n (And.intro (ry_w (by omega)) ?_)))
      intro w ew y ey
      rw [ry_cl32 hs hi, ra_bk_rd _ hi, ra_mulrem, nI_clamp (by omega)] at ew
      rw [ey, nI_1, ew]
      rw [show upd _ i (ra_ec (A s i * c)) = _ from ra_ar_mx i (fun n => A s n * c) W]
      exact IH) 32 0 33 rfl (by decide)
  exact Exists.intro _ L
theorem ry_advl {post : Int32 → SY → Prop} {tm : Nat → Int32} {W : ra_P} {tb fc : Nat → Int32} {x : Int32} (h : wpY_settle post (tm, ra_ar (ra_mx 32 (fun n => W (n + 1)) W), tb, fc) x) : ∃ n, wY_advance_23 post x n 0 tm (ra_ar W) tb fc := by
  have L := ra_lp (fun n i => wY_advance_23 post x n (nI i) tm (ra_ar (ra_mx i (fun n => W (n + 1)) W)) tb fc) 32
    (fun n => br_t ry_32e h)
    (fun n i hi IH => by
      refine br_f (ry_32 hi) (And.intro (by rw [nI_1]; exact ry_w (by omega)) (And.intro (ry_w (by omega)) ?_))
      intro w ew y ey
      rw [nI_1, nI_clamp (by omega), nI_clamp (by omega), show ra_ar (ra_mx i (fun n => W (n + 1)) W) (i + 1) = ra_ec (W (i + 1)) from congrArg ra_ec (if_neg (by omega))] at ew
      rw [ey, nI_1, ew]
      rw [show upd _ i (ra_ec (W (i + 1))) = _ from ra_ar_mx i (fun n => W (n + 1)) W]
      exact IH) 32 0 33 rfl (by decide)
  exact Exists.intro _ L
theorem ry_prel {post : Int32 → SY → Prop} {A : Nat → ra_P} {W : ra_P} {tb fc : Nat → Int32} {s : Nat} {c : ra_F} (hs : s < 4) (h : wpY_settle post (ra_bk 32 A, ra_ar (ra_mx 32 (ra_pre c (A s)) W), tb, fc) (nI s)) : ∃ n, wY_prepend_23 post (nI s) n 1 (ra_bk 32 A) (upd (ra_ar W) 0 (ra_ec c)) tb fc := by
  have L := ra_lp (fun n i => 1 ≤ i → wY_prepend_23 post (nI s) n (nI i) (ra_bk 32 A) (ra_ar (ra_mx i (ra_pre c (A s)) W)) tb fc) 32
    (fun n _ => br_t ry_32e h)
    (fun n i hi IH h1 => by
      have ix : nI s * 32 + nI i - 1 = nI (s * 32 + (i - 1)) := by
        rw [ry_ix32, show s * 32 + i = s * 32 + (i - 1) + 1 from by omega, nI_pred]
      refine br_f (ry_32 hi) (And.intro (by rw [ix]; exact vp_in_nI (by omega) (by decide)) (And.intro (ry_w (by omega)) ?_))
      intro w ew y ey
      rw [ix, nI_clamp (by omega), nI_clamp (by omega), ra_bk_rd _ (by omega), show A s (i - 1) = ra_pre c (A s) i from (if_neg (by omega)).symm, ra_ar_mx] at ew
      rw [ey, nI_1, ew]
      exact IH (by omega)) 31 1 32 rfl (by decide) (Nat.le_refl _)
  refine Exists.intro 32 ?_
  rw [show upd (ra_ar W) 0 (ra_ec c) = ra_ar (ra_mx 1 (ra_pre c (A s)) W) from ra_ar_mx 0 (ra_pre c (A s)) W]
  exact L
theorem ry_accl {post : Int32 → SY → Prop} {A : Nat → ra_P} {W : ra_P} {tb fc : Nat → Int32} {s : Nat} (hs : s < 4) (h : wpY_settle post (ra_bk 32 A, ra_ar (ra_mx 32 (ra_acc (A s)) W), tb, fc) (nI s)) : ∃ n, wY_accumulate_14 post (nI s) n 0 0 (ra_bk 32 A) (ra_ar W) tb fc := by
  have L := ra_lp (fun n i => wY_accumulate_14 post (nI s) n (ra_ec (ra_sm i (A s))) (nI i) (ra_bk 32 A) (ra_ar (ra_mx i (ra_acc (A s)) W)) tb fc) 32
    (fun n => br_t ry_32e h)
    (fun n i hi IH => by
      refine br_f (ry_32 hi) (And.intro (ry_in32 hs hi) (And.intro ra_101n ?_))
      intro v ev
      rw [ry_cl32 hs hi, ra_bk_rd _ hi, ra_addrem] at ev
      rw [ev]
      refine And.intro (ry_w (by omega)) ?_
      intro w ew y ey
      rw [nI_clamp (by omega)] at ew
      rw [ey, nI_1, ew]
      rw [show upd _ i (ra_ec (ra_sm i (A s) + A s i)) = _ from ra_ar_mx i (ra_acc (A s)) W]
      exact IH) 32 0 33 rfl (by decide)
  refine Exists.intro 33 ?_
  rw [show ra_ec (ra_sm 0 (A s)) = 0 from ra_ec_0] at L
  exact L
theorem ry_difl {post : Int32 → SY → Prop} {A : Nat → ra_P} {W : ra_P} {tb fc : Nat → Int32} {s : Nat} (hs : s < 4) (h : wpY_settle post (ra_bk 32 A, ra_ar (ra_mx 32 (ra_cv ra_L (A s)) W), tb, fc) (nI s)) : ∃ n, wY_difference_14 post (nI s) n 0 0 (ra_bk 32 A) (ra_ar W) tb fc := by
  have L := ra_lp (fun n i => wY_difference_14 post (nI s) n (ra_ec (if i = 0 then 0 else A s (i - 1))) (nI i) (ra_bk 32 A) (ra_ar (ra_mx i (ra_cv ra_L (A s)) W)) tb fc) 32
    (fun n => br_t ry_32e h)
    (fun n i hi IH => by
      refine br_f (ry_32 hi) (And.intro (ry_in32 hs hi) ?_)
      refine ry_mod (And.intro (ry_w (by omega)) ?_)
      intro w ew
      have e : A s i - (if i = 0 then 0 else A s (i - 1)) = ra_cv ra_L (A s) i := by
        rw [ra_cvL]
        by_cases q : i = 0
        · rw [if_pos q, if_pos q, q, ra_fsn, ra_n0, ra_f0]
        · rw [if_neg q, if_neg q]
      rw [ry_cl32 hs hi, ra_bk_rd _ hi, ra_md_sub, nI_clamp (by omega), e, ra_ar_mx] at ew
      refine And.intro (ry_in32 hs hi) ?_
      intro v ev y ey
      rw [ry_cl32 hs hi, ra_bk_rd _ hi] at ev
      rw [ey, nI_1, ew, ev]
      exact IH) 32 0 33 rfl (by decide)
  refine Exists.intro 33 ?_
  rw [show ra_ec (if 0 = 0 then 0 else A s (0 - 1)) = 0 from ra_ec_0] at L
  exact L
theorem ry_eq {post : Int32 → Prop} {A : Nat → ra_P} {wk tb fc : Nat → Int32} {s t : Nat} (hs : s < 4) (ht : t < 4) (h1 : (∀ i, i < 32 → A s i = A t i) → post 1) (h0 : (∃ i, i < 32 ∧ A s i ≠ A t i) → post 0) : ∃ n, wY_equal_20 post (nI s) (nI t) (ra_bk 32 A) wk tb fc n 0 := by
  have L := ra_lp (fun f i => (∀ j, j < i → A s j = A t j) → wY_equal_20 post (nI s) (nI t) (ra_bk 32 A) wk tb fc f (nI i)) 32
    (fun f hj => br_t ry_32e (h1 hj))
    (fun f i hi IH hj => by
      refine br_f (ry_32 hi) (And.intro (ry_in32 hs hi) (And.intro (ry_in32 ht hi) ?_))
      rw [ry_cl32 hs hi, ry_cl32 ht hi, ra_bk_rd _ hi, ra_bk_rd _ hi, ra_ec_inj]
      refine br_c (fun q => ?_) (fun q => h0 ⟨i, hi, q⟩)
      intro y ey
      rw [ey, nI_1]
      refine IH fun j hj2 => ?_
      by_cases z : j = i
      · rw [z]
        exact q
      · exact hj j (by omega)) 32 0 33 rfl (by decide) (fun j hj => by omega)
  exact Exists.intro _ L
theorem ry_suml {post : Int32 → SY → Prop} {W a : ra_P} {tm tb fc : Nat → Int32} {f l : Nat} (hfl : f ≤ l) (hl : l ≤ 400) (hW : ∀ n, n ≤ l → W n = a n) (h : post (ra_ec (ra_sm (l + 1 - f) (fun j => a (f + j)))) (tm, ra_ar W, tb, fc)) : ∃ n, wY_sum_50 post (nI l) tm (ra_ar W) tb fc n 0 (nI f) := by
  have L := ra_lp (fun n i => wY_sum_50 post (nI l) tm (ra_ar W) tb fc n (ra_ec (ra_sm i (fun j => a (f + j)))) (nI (f + i))) (l + 1 - f)
    (fun n => br_t (nI_lt (by omega) (by omega)) h)
    (fun n i hi IH => by
      refine br_f (nI_nlt (by omega) (by omega)) (And.intro (ry_w (by omega)) (And.intro ra_101n ?_))
      intro v ev y ey
      rw [nI_clamp (by omega), show ra_ar W (f + i) = ra_ec (a (f + i)) from by rw [← hW (f + i) (by omega)]; rfl, ra_addrem] at ev
      rw [ey, nI_1, ev]
      exact IH) (l + 1 - f) 0 (l + 2) (by omega) (by omega)
  refine Exists.intro (l + 2) ?_
  rw [show ra_ec (ra_sm 0 (fun j => a (f + j))) = 0 from ra_ec_0] at L
  exact L
theorem ry_findl {post : Int32 → SY → Prop} {W a : ra_P} {tm tb fc : Nat → Int32} {w : ra_F} (hW : ∀ n, n ≤ 400 → W n = a n) (h : ∀ r, ra_fnd a w r → post r (tm, ra_ar W, tb, fc)) : ∃ n, wY_find_31 post (ra_ec w) tm (ra_ar W) tb fc n 0 := by
  have L := ra_lp (fun f n => (∀ m, m < n → a m ≠ w) → wY_find_31 post (ra_ec w) tm (ra_ar W) tb fc f (nI n)) 401
    (fun f hm => br_t (ra_le (b := 401) (by decide +kernel) (Nat.le_refl _) (by decide)) (h _ (Or.inr ⟨rfl, fun n hn => hm n (by omega)⟩)))
    (fun f n hn IH hm => by
      refine br_f (ra_nle (b := 401) (by decide +kernel) hn (by decide)) (And.intro (ry_w (by omega)) ?_)
      rw [nI_clamp (by omega), show ra_ar W n = ra_ec (a n) from by rw [← hW n (by omega)]; rfl, ra_ec_inj]
      refine br_c (fun q => h _ (Or.inl ⟨n, by omega, rfl, q, hm⟩)) (fun q => ?_)
      intro y ey
      rw [ey, nI_1]
      refine IH fun m hm2 => ?_
      by_cases z : m = n
      · rw [z]
        exact q
      · exact hm m (by omega)) 401 0 402 rfl (by decide) (fun m hm => by omega)
  exact Exists.intro _ L
end
section
/-! the relation: X keeps quotients in lowest terms, Y their first 32 terms -/
def rv_ok (P A : Nat → ra_P) : Prop := ∀ s, s < 4 → ra_sp 8 (P (5 + 2 * s)) ∧ ra_sp 9 (P (6 + 2 * s)) ∧ ra_good (P (5 + 2 * s)) (P (6 + 2 * s)) (A s)
def i_Rel (k : Nat) (u : SX) (v : SY) : Prop := ∃ (P A : Nat → ra_P) (W : ra_P) (M : Nat → ra_P) (rc fc : Nat → Int32), u = (ra_bk 24 P, rc) ∧ v = (ra_bk 32 A, ra_ar W, ra_bk 17 M, fc) ∧ rv_ok P A
theorem i_up {k : Nat} {u : SX} {v : SY} (h : i_Rel k u v) : i_Rel (k + 5) u v := h
theorem rv_mk {k : Nat} {P A : Nat → ra_P} {W : ra_P} {M : Nat → ra_P} {rc fc : Nat → Int32} (ok : rv_ok P A) : i_Rel k (ra_bk 24 P, rc) (ra_bk 32 A, ra_ar W, ra_bk 17 M, fc) := ⟨P, A, W, M, rc, fc, rfl, rfl, ok⟩
theorem rv_ok5 {P P' A : Nat → ra_P} (h : ∀ k, 5 ≤ k → P' k = P k) (ok : rv_ok P A) : rv_ok P' A := by
  intro s hs
  rw [h _ (by omega), h _ (by omega)]
  exact ok s hs
def rv_isbad (v : Int32) : Prop := v < 0 ∨ ¬ v ≤ 3
theorem rv_bad (v : Int32) : (∃ s, s < 4 ∧ v = nI s) ∨ rv_isbad v := by
  by_cases h : v < 0
  · exact Or.inr (Or.inl h)
  · by_cases h3 : v ≤ 3
    · obtain ⟨j, hj, e⟩ := nI_of2 (M := 3) (n := 3) (by decide) h h3
      exact Or.inl ⟨j, by omega, e⟩
    · exact Or.inr (Or.inr h3)
theorem rv_le3 {s : Nat} (hs : s < 4) : nI s ≤ 3 := nI_le (b := 3) (by omega) (by decide)
theorem rx_bad0 {post : Int32 → Prop} {s : Nat} (hs : s < 4) (h : post 0) : wpX_bad post (nI s) := br_f (nI_pos (by omega)) (br_t (rv_le3 hs) h)
theorem rx_bad1 {post : Int32 → Prop} {v : Int32} (hb : rv_isbad v) (h : post 1) : wpX_bad post v := by
  by_cases q : v < 0
  · exact br_t q h
  · exact br_f q (br_f (hb.resolve_left q) h)
theorem ry_bad0 {post : Int32 → Prop} {u : SY} {s : Nat} (hs : s < 4) (h : post 0) : wpY_bad post u (nI s) := by
  obtain ⟨a, b, c, d⟩ := u
  exact br_f (nI_pos (by omega)) (br_t (rv_le3 hs) h)
theorem ry_bad1 {post : Int32 → Prop} {u : SY} {v : Int32} (hb : rv_isbad v) (h : post 1) : wpY_bad post u v := by
  obtain ⟨a, b, c, d⟩ := u
  by_cases q : v < 0
  · exact br_t q h
  · exact br_f q (br_f (hb.resolve_left q) h)
def rv_isbix (v : Int32) : Prop := v < 0 ∨ ¬ v ≤ 400
theorem rv_bix (v : Int32) : (∃ n, n ≤ 400 ∧ v = nI n) ∨ rv_isbix v := by
  by_cases h : v < 0
  · exact Or.inr (Or.inl h)
  · by_cases h3 : v ≤ 400
    · obtain ⟨j, hj, e⟩ := nI_of2 (M := 400) (n := 400) (by decide) h h3
      exact Or.inl ⟨j, hj, e⟩
    · exact Or.inr (Or.inr h3)
theorem rv_le400 {n : Nat} (hn : n ≤ 400) : nI n ≤ 400 := nI_le (b := 400) hn (by decide)
theorem ry_bix0 {post : Int32 → Prop} {u : SY} {n : Nat} (hn : n ≤ 400) (h : post 0) : wpY_badIndex post u (nI n) := by
  obtain ⟨a, b, c, d⟩ := u
  exact br_f (nI_pos (by omega)) (br_t (rv_le400 hn) h)
theorem ry_bix1 {post : Int32 → Prop} {u : SY} {v : Int32} (hb : rv_isbix v) (h : post 1) : wpY_badIndex post u v := by
  obtain ⟨a, b, c, d⟩ := u
  by_cases q : v < 0
  · exact br_t q h
  · exact br_f q (br_f (hb.resolve_left q) h)
/-- a kept sequence's order -/
theorem rv_ord {P A : Nat → ra_P} (ok : rv_ok P A) {s : Nat} (hs : s < 4) : ∃ r, r ≤ 8 ∧ ra_lin r (A s) := by
  obtain ⟨o1, o2, o3⟩ := ok s hs
  have b0 : P (6 + 2 * s) ≠ ra_Z := by
    intro z
    have := o3.1
    rw [z] at this
    exact absurd this (by decide)
  obtain ⟨d, hd, hds⟩ := ra_top ⟨_, o2⟩ b0
  have hd8 : d ≤ 8 := by
    refine Classical.byContradiction fun q => ?_
    exact hd (o2 _ (by omega))
  by_cases t0 : P (5 + 2 * s) = ra_Z
  · refine ⟨d, hd8, ra_kro o3 ⟨?_, hds, fun _ => Or.inr hd⟩⟩
    rw [t0]
    exact ra_sp_le ra_sp_Z (by omega)
  · obtain ⟨e, he, hes⟩ := ra_top ⟨_, o1⟩ t0
    have he8 : e < 8 := by
      refine Classical.byContradiction fun q => ?_
      exact he (o1 _ (by omega))
    by_cases q : e + 1 ≤ d
    · exact ⟨d, hd8, ra_kro o3 ⟨ra_sp_le hes q, hds, fun _ => Or.inr hd⟩⟩
    · exact ⟨e + 1, by omega, ra_kro o3 ⟨hes, ra_sp_le hds (by omega), fun _ => Or.inl he⟩⟩
/-- keep against settle -/
theorem rv_ks {k : Nat} {P P1 A : Nat → ra_P} {rc : Nat → Int32} {s : Nat} {a : ra_P} {Y : (Int32 → SY → Prop) → Prop} (hs : s < 4) (ok : rv_ok P A) (h5 : ∀ j, 5 ≤ j → P1 j = P j) (s0 : ra_sp 16 (P1 0)) (s1 : ra_sp 17 (P1 1)) (b0 : P1 1 0 ≠ 0) (hB : ra_cv (P1 1) a = P1 0) (hY : ∀ post : Int32 → SY → Prop, (∀ W M fc, (∀ n, n < 32 → W n = a n) → wpY_settle post (ra_bk 32 A, ra_ar W, ra_bk 17 M, fc) (nI s)) → Y post) : wpX_keep (fun r u => Y (fun r' v => r' = r ∧ i_Rel (k + 5) u v)) (ra_bk 24 P1, rc) (nI s) := by
  refine rx_keep hs s0 s1 b0 hB fun r T B P' hg ho hb => ⟨fun q hP => ?_, fun q hP => ?_⟩
  · refine hY _ fun W M fc hw => ?_
    refine ry_settle hs (hb 16 s0 s1) (ra_kro hg ho) hw (fun _ M' => ⟨rfl, rv_mk ?_⟩) (fun w => by omega)
    intro t ht
    rw [hP _ (by omega), hP _ (by omega)]
    by_cases z : t = s
    · subst z
      rw [ra_st_n (show 5 + 2 * t ≠ 6 + 2 * t by omega), ra_st_s, ra_st_s, ra_st_s]
      exact ⟨ra_sp_le ho.1 q, ra_sp_le ho.2.1 (by omega), hg⟩
    · rw [ra_st_n (show 5 + 2 * t ≠ 6 + 2 * s by omega), ra_st_n (show 5 + 2 * t ≠ 5 + 2 * s by omega), ra_st_n (show 6 + 2 * t ≠ 6 + 2 * s by omega), ra_st_n (show 6 + 2 * t ≠ 5 + 2 * s by omega), ra_st_n z, h5 _ (by omega), h5 _ (by omega)]
      exact ok t ht
  · refine hY _ fun W M fc hw => ?_
    refine ry_settle hs (hb 16 s0 s1) (ra_kro hg ho) hw (fun w => by omega) (fun _ M' => ⟨rfl, rv_mk ?_⟩)
    exact rv_ok5 (fun k hk => by rw [hP k hk, h5 k hk]) ok
/-- the constructors -/
def rv_P0 (i : Nat) : Nat → ra_P := fun k => if k % 2 = 0 ∧ 6 ≤ k ∧ k < 6 + 2 * i then ra_cst 1 else ra_Z
theorem rv_P0_s (i : Nat) : ra_st (rv_P0 i) (6 + 2 * i) (fun j => if j = 0 then 1 else rv_P0 i (6 + 2 * i) j) = rv_P0 (i + 1) := by
  funext k
  by_cases q : k = 6 + 2 * i
  · rw [q, ra_st_s]
    rw [show rv_P0 (i + 1) (6 + 2 * i) = ra_cst 1 from if_pos (by omega), show rv_P0 i (6 + 2 * i) = ra_Z from if_neg (by omega)]
    rfl
  · rw [ra_st_n q]
    show (if k % 2 = 0 ∧ 6 ≤ k ∧ k < 6 + 2 * i then ra_cst 1 else ra_Z) = if k % 2 = 0 ∧ 6 ≤ k ∧ k < 6 + 2 * (i + 1) then ra_cst 1 else ra_Z
    by_cases w : k % 2 = 0 ∧ 6 ≤ k ∧ k < 6 + 2 * i
    · rw [if_pos w, if_pos (by omega)]
    · rw [if_neg w, if_neg (by omega)]
theorem rv_ok0 : rv_ok (rv_P0 4) (fun _ => ra_Z) := by
  intro s hs
  rw [show rv_P0 4 (5 + 2 * s) = ra_Z from if_neg (by omega), show rv_P0 4 (6 + 2 * s) = ra_cst 1 from if_pos (by omega)]
  refine ⟨ra_sp_le ra_sp_Z (by omega), ra_sp_le (ra_sp_cst 1) (by omega), rfl, ra_cv_Z _, ra_cst 0, ra_cst 1, ra_poly_cst 0, ra_poly_cst 1, ?_⟩
  rw [ra_cv_Z, ra_cv_1]
  funext n
  exact ra_0f _
theorem i_vc0 : wpX_init (fun u => wpY_init (fun v => i_Rel 0 u v)) := by
  have e0 : (fun _ => 0 : Nat → Int32) = ra_bk 24 (rv_P0 0) := by
    funext j
    show 0 = ra_ec (rv_P0 0 (j / 24) (j % 24))
    rw [show rv_P0 0 (j / 24) = ra_Z from if_neg (by omega)]
    exact ra_ec_0.symm
  have e1 : (fun _ => 0 : Nat → Int32) = ra_bk 32 (fun _ => ra_Z) := by
    funext j
    exact ra_ec_0.symm
  have e2 : (fun _ => 0 : Nat → Int32) = ra_ar ra_Z := by
    funext j
    exact ra_ec_0.symm
  have e3 : (fun _ => 0 : Nat → Int32) = ra_bk 17 (fun _ => ra_Z) := by
    funext j
    exact ra_ec_0.symm
  have hY : ∀ rc, wpY_init (fun v => i_Rel 0 (ra_bk 24 (rv_P0 4), rc) v) := by
    intro rc
    show i_Rel 0 (ra_bk 24 (rv_P0 4), rc) ((fun _ => 0), (fun _ => 0), (fun _ => 0), (fun _ => 0))
    exact ⟨rv_P0 4, fun _ => ra_Z, ra_Z, fun _ => ra_Z, rc, fun _ => 0, rfl, by rw [← e1, ← e2, ← e3], rv_ok0⟩
  have L := ra_lp (fun n i => wX_init_23 (fun u => wpY_init (fun v => i_Rel 0 u v)) n (nI i) (ra_bk 24 (rv_P0 i)) (fun _ => 0)) 4
    (fun n => br_t (ra_le (b := 4) (by decide +kernel) (Nat.le_refl _) (by decide)) (hY _))
    (fun n i hi IH => by
      have ix : (5 + 2 * nI i + 1) * 24 = nI ((6 + 2 * i) * 24 + 0) := by
        rw [rx_b, ra_n24, pk_mul]
        rfl
      refine br_f (ra_nle (b := 4) (by decide +kernel) hi (by decide)) (And.intro (by rw [ix]; exact vp_in_nI (by omega) (by decide)) ?_)
      intro b eb y ey
      rw [ix, nI_clamp (by omega), ← ra_ec_1, ra_bk_wr _ _ (by decide), rv_P0_s] at eb
      rw [ey, nI_1, eb]
      exact IH) 4 0 5 rfl (by decide)
  refine Exists.intro 5 ?_
  rw [← e0] at L
  exact L
end
section
/-! the calls that keep a sequence -/
theorem i_vc_scale {k : Nat} {u : SX} {v : SY} (I : i_Rel k u v) (hk : k + 5 ≤ 2560) (v1 : Int32) (v2 : Int32) : wpX_scale (fun r u' => wpY_scale (fun r' v' => r' = r ∧ i_Rel (k + 5) u' v') v v1 v2) u v1 v2 := by
  obtain ⟨P, A, W, M, rc, fc, rfl, rfl, ok⟩ := I
  unfold wpX_scale
  dsimp only
  rcases rv_bad v1 with ⟨s, hs, rfl⟩ | hb
  · obtain ⟨o1, o2, o3⟩ := ok s hs
    refine rx_bad0 hs (br_t rfl ?_)
    refine rx_load hs ?_
    refine rx_mod ?_
    refine rx_scale (k := 0) (by decide) ?_
    refine rv_ks (a := fun n => A s n * ra_md v2) (Y := fun post => wpY_scale post (ra_bk 32 A, ra_ar W, ra_bk 17 M, fc) (nI s) v2) hs ok ?_ ?_ ?_ ?_ ?_ ?_
    · intro j hj
      rw [ra_st_n (by omega), ra_st_n (by omega), ra_st_n (by omega)]
    · intro j hj
      show P (5 + 2 * s) j * _ = 0
      rw [o1 j (by omega), ra_fz]
    · exact ra_sp_le o2 (by omega)
    · show P (6 + 2 * s) 0 ≠ 0
      rw [o3.1]
      exact ra_10
    · exact ra_seq_scale (ra_md v2) o3.2.1
    · intro post H
      unfold wpY_scale
      dsimp only
      refine ry_bad0 hs (br_t rfl ?_)
      refine ry_mod ?_
      exact ry_scal hs (H _ _ _ fun n hn => if_pos hn)
  · refine rx_bad1 hb (br_f (by decide) ?_)
    unfold wpY_scale
    dsimp only
    exact ry_bad1 hb (br_f (by decide) ⟨rfl, rv_mk ok⟩)
theorem i_vc_copy {k : Nat} {u : SX} {v : SY} (I : i_Rel k u v) (hk : k + 5 ≤ 2560) (v1 : Int32) (v2 : Int32) : wpX_copy (fun r u' => wpY_copy (fun r' v' => r' = r ∧ i_Rel (k + 5) u' v') v v1 v2) u v1 v2 := by
  obtain ⟨P, A, W, M, rc, fc, rfl, rfl, ok⟩ := I
  unfold wpX_copy
  dsimp only
  rcases rv_bad v1 with ⟨t, ht, rfl⟩ | hb
  · refine rx_bad0 ht (br_t rfl ?_)
    rcases rv_bad v2 with ⟨s, hs, rfl⟩ | hb
    · obtain ⟨o1, o2, o3⟩ := ok s hs
      refine rx_bad0 hs (br_t rfl ?_)
      refine rx_load hs ?_
      refine rv_ks (a := A s) (Y := fun post => wpY_copy post (ra_bk 32 A, ra_ar W, ra_bk 17 M, fc) (nI t) (nI s)) ht ok ?_ ?_ ?_ ?_ ?_ ?_
      · intro j hj
        rw [ra_st_n (by omega), ra_st_n (by omega)]
      · exact ra_sp_le o1 (by omega)
      · exact ra_sp_le o2 (by omega)
      · show P (6 + 2 * s) 0 ≠ 0
        rw [o3.1]
        exact ra_10
      · exact o3.2.1
      · intro post H
        unfold wpY_copy
        dsimp only
        refine ry_bad0 ht (br_t rfl ?_)
        refine ry_bad0 hs (br_t rfl ?_)
        refine ry_load hs ?_
        exact H _ _ _ fun n hn => if_pos hn
    · refine rx_bad1 hb (br_f (by decide) ?_)
      unfold wpY_copy
      dsimp only
      exact ry_bad0 ht (br_t rfl (ry_bad1 hb (br_f (by decide) ⟨rfl, rv_mk ok⟩)))
  · refine rx_bad1 hb (br_f (by decide) ?_)
    unfold wpY_copy
    dsimp only
    exact ry_bad1 hb (br_f (by decide) ⟨rfl, rv_mk ok⟩)
theorem i_vc_accumulate {k : Nat} {u : SX} {v : SY} (I : i_Rel k u v) (hk : k + 5 ≤ 2560) (v1 : Int32) : wpX_accumulate (fun r u' => wpY_accumulate (fun r' v' => r' = r ∧ i_Rel (k + 5) u' v') v v1) u v1 := by
  obtain ⟨P, A, W, M, rc, fc, rfl, rfl, ok⟩ := I
  unfold wpX_accumulate
  dsimp only
  rcases rv_bad v1 with ⟨s, hs, rfl⟩ | hb
  · obtain ⟨o1, o2, o3⟩ := ok s hs
    refine rx_bad0 hs (br_t rfl ?_)
    refine rx_load hs ?_
    refine rx_step ?_
    refine rx_mul (t := 1) (a := 1) (b := 3) (by decide) (by decide) (by decide) (by decide) (by decide) (by decide) (ra_sp_le o2 (by omega)) ?_
    refine rv_ks (a := ra_acc (A s)) (Y := fun post => wpY_accumulate post (ra_bk 32 A, ra_ar W, ra_bk 17 M, fc) (nI s)) hs ok ?_ ?_ ?_ ?_ ?_ ?_
    · intro j hj
      rw [ra_st_n (by omega), ra_st_n (by omega), ra_st_n (by omega), ra_st_n (by omega), ra_st_n (by omega)]
    · exact ra_sp_le o1 (by omega)
    · exact ra_sp_le (ra_cv_z (m := 8) (n := 1) o2 ra_L_sp) (by omega)
    · show ra_cv (P (6 + 2 * s)) ra_L 0 ≠ 0
      rw [ra_cv_at0, o3.1]
      exact ra_mne ra_10 ra_10
    · exact ra_seq_acc o3.2.1
    · intro post H
      unfold wpY_accumulate
      dsimp only
      refine ry_bad0 hs (br_t rfl ?_)
      exact ry_accl hs (H _ _ _ fun n hn => if_pos hn)
  · refine rx_bad1 hb (br_f (by decide) ?_)
    unfold wpY_accumulate
    dsimp only
    exact ry_bad1 hb (br_f (by decide) ⟨rfl, rv_mk ok⟩)
theorem i_vc_difference {k : Nat} {u : SX} {v : SY} (I : i_Rel k u v) (hk : k + 5 ≤ 2560) (v1 : Int32) : wpX_difference (fun r u' => wpY_difference (fun r' v' => r' = r ∧ i_Rel (k + 5) u' v') v v1) u v1 := by
  obtain ⟨P, A, W, M, rc, fc, rfl, rfl, ok⟩ := I
  unfold wpX_difference
  dsimp only
  rcases rv_bad v1 with ⟨s, hs, rfl⟩ | hb
  · obtain ⟨o1, o2, o3⟩ := ok s hs
    refine rx_bad0 hs (br_t rfl ?_)
    refine rx_load hs ?_
    refine rx_step ?_
    refine rx_mul (t := 0) (a := 0) (b := 3) (by decide) (by decide) (by decide) (by decide) (by decide) (by decide) (ra_sp_le o1 (by omega)) ?_
    refine rv_ks (a := ra_cv ra_L (A s)) (Y := fun post => wpY_difference post (ra_bk 32 A, ra_ar W, ra_bk 17 M, fc) (nI s)) hs ok ?_ ?_ ?_ ?_ ?_ ?_
    · intro j hj
      rw [ra_st_n (by omega), ra_st_n (by omega), ra_st_n (by omega), ra_st_n (by omega), ra_st_n (by omega)]
    · exact ra_sp_le (ra_cv_z (m := 7) (n := 1) o1 ra_L_sp) (by omega)
    · exact ra_sp_le o2 (by omega)
    · show P (6 + 2 * s) 0 ≠ 0
      rw [o3.1]
      exact ra_10
    · exact ra_seq_dif o3.2.1
    · intro post H
      unfold wpY_difference
      dsimp only
      refine ry_bad0 hs (br_t rfl ?_)
      exact ry_difl hs (H _ _ _ fun n hn => if_pos hn)
  · refine rx_bad1 hb (br_f (by decide) ?_)
    unfold wpY_difference
    dsimp only
    exact ry_bad1 hb (br_f (by decide) ⟨rfl, rv_mk ok⟩)
theorem i_vc_prepend {k : Nat} {u : SX} {v : SY} (I : i_Rel k u v) (hk : k + 5 ≤ 2560) (v1 : Int32) (v2 : Int32) : wpX_prepend (fun r u' => wpY_prepend (fun r' v' => r' = r ∧ i_Rel (k + 5) u' v') v v1 v2) u v1 v2 := by
  obtain ⟨P, A, W, M, rc, fc, rfl, rfl, ok⟩ := I
  unfold wpX_prepend
  dsimp only
  rcases rv_bad v1 with ⟨s, hs, rfl⟩ | hb
  · obtain ⟨o1, o2, o3⟩ := ok s hs
    refine rx_bad0 hs (br_t rfl ?_)
    refine rx_load hs ?_
    refine rx_copy (k := 2) (l := 0) (by decide) (by decide) (by decide) ?_
    refine rx_clear (k := 0) (by decide) ?_
    refine rx_addt (k := 0) (l := 2) (m := 1) (pl := 1) (by decide) (by decide) (by decide) (by decide) (by decide) ?_
    refine rx_mod ?_
    have hc := (ra_md v2).isLt
    refine rx_addt (k := 0) (l := 1) (m := (ra_md v2).val) (pl := 0) (by decide) (by decide) (by decide) (by omega) (by decide) ?_
    have e0 : (fun j => (fun j => ra_Z j + ra_nf 1 * ra_sh 1 (P (5 + 2 * s)) j) j + ra_nf (ra_md v2).val * ra_sh 0 (P (6 + 2 * s)) j) = ra_add (ra_cv (ra_cst (ra_md v2)) (P (6 + 2 * s))) (ra_sh 1 (P (5 + 2 * s))) := by
      funext j
      rw [ra_cv_cst, ra_sh_0, ra_nf_self]
      show 0 + 1 * ra_sh 1 (P (5 + 2 * s)) j + ra_md v2 * P (6 + 2 * s) j = ra_md v2 * P (6 + 2 * s) j + ra_sh 1 (P (5 + 2 * s)) j
      rw [ra_0f, ra_1f, ra_fa]
    refine rv_ks (a := ra_pre (ra_md v2) (A s)) (Y := fun post => wpY_prepend post (ra_bk 32 A, ra_ar W, ra_bk 17 M, fc) (nI s) v2) hs ok ?_ ?_ ?_ ?_ ?_ ?_
    · intro j hj
      rw [ra_st_n (by omega), ra_st_n (by omega), ra_st_n (by omega), ra_st_n (by omega), ra_st_n (by omega), ra_st_n (by omega)]
    · show ra_sp 16 (fun j => (fun j => ra_Z j + ra_nf 1 * ra_sh 1 (P (5 + 2 * s)) j) j + ra_nf (ra_md v2).val * ra_sh 0 (P (6 + 2 * s)) j)
      rw [e0]
      refine ra_sp_add ?_ (ra_sp_le (ra_sp_sh o1) (by omega))
      rw [ra_cv_cst]
      intro j hj
      show _ * P (6 + 2 * s) j = 0
      rw [o2 j (by omega), ra_zf]
    · exact ra_sp_le o2 (by omega)
    · show P (6 + 2 * s) 0 ≠ 0
      rw [o3.1]
      exact ra_10
    · show ra_cv (P (6 + 2 * s)) _ = (fun j => (fun j => ra_Z j + ra_nf 1 * ra_sh 1 (P (5 + 2 * s)) j) j + ra_nf (ra_md v2).val * ra_sh 0 (P (6 + 2 * s)) j)
      rw [e0]
      exact ra_seq_pre (ra_md v2) o3.2.1
    · intro post H
      unfold wpY_prepend
      dsimp only
      refine ry_bad0 hs (br_t rfl ?_)
      refine ry_mod ?_
      intro w ew
      rw [ew]
      exact ry_prel hs (H _ _ _ fun n hn => if_pos hn)
  · refine rx_bad1 hb (br_f (by decide) ?_)
    unfold wpY_prepend
    dsimp only
    exact ry_bad1 hb (br_f (by decide) ⟨rfl, rv_mk ok⟩)
theorem i_vc_advance {k : Nat} {u : SX} {v : SY} (I : i_Rel k u v) (hk : k + 5 ≤ 2560) (v1 : Int32) : wpX_advance (fun r u' => wpY_advance (fun r' v' => r' = r ∧ i_Rel (k + 5) u' v') v v1) u v1 := by
  obtain ⟨P, A, W, M, rc, fc, rfl, rfl, ok⟩ := I
  unfold wpX_advance
  dsimp only
  rcases rv_bad v1 with ⟨s, hs, rfl⟩ | hb
  · obtain ⟨o1, o2, o3⟩ := ok s hs
    obtain ⟨r, hr, hl⟩ := rv_ord ok hs
    refine rx_bad0 hs (br_t rfl ?_)
    refine rx_load hs ?_
    intro x ex
    have ex2 : x = ra_ec (P (5 + 2 * s) 0) := ex.trans (ra_bk_rd (w := 24) (k := 0) (i := 0) _ (by decide))
    have hc := (P (5 + 2 * s) 0).isLt
    rw [ex2, show (101 : Int32) - ra_ec (P (5 + 2 * s) 0) = nI (101 - (P (5 + 2 * s) 0).val) from by
      rw [ra_101]; exact pk_sub (by omega)]
    refine rx_addt (k := 0) (l := 1) (pl := 0) (by decide) (by decide) (by decide) (by omega) (by decide) ?_
    have e0 : (fun j => P (5 + 2 * s) j + ra_nf (101 - (P (5 + 2 * s) 0).val) * ra_sh 0 (P (6 + 2 * s)) j) = fun j => P (5 + 2 * s) j - P (5 + 2 * s) 0 * P (6 + 2 * s) j := by
      funext j
      rw [ra_sh_0, ra_nf_sub, ra_fnm, ra_fsn]
    refine rx_advl ?_ ?_
    · show ra_sp 24 (fun j => P (5 + 2 * s) j + ra_nf (101 - (P (5 + 2 * s) 0).val) * ra_sh 0 (P (6 + 2 * s)) j)
      rw [e0]
      intro j hj
      show P (5 + 2 * s) j - P (5 + 2 * s) 0 * P (6 + 2 * s) j = 0
      rw [o1 j (by omega), o2 j (by omega), ra_zf, ra_fss]
    have e1 : (fun j => (fun j => P (5 + 2 * s) j + ra_nf (101 - (P (5 + 2 * s) 0).val) * ra_sh 0 (P (6 + 2 * s)) j) (j + 1)) = fun j => P (5 + 2 * s) (j + 1) - P (5 + 2 * s) 0 * P (6 + 2 * s) (j + 1) := by
      rw [e0]
    refine rv_ks (a := ra_adv (A s)) (Y := fun post => wpY_advance post (ra_bk 32 A, ra_ar W, ra_bk 17 M, fc) (nI s)) hs ok ?_ ?_ ?_ ?_ ?_ ?_
    · intro j hj
      rw [ra_st_n (by omega), ra_st_n (by omega), ra_st_n (by omega), ra_st_n (by omega)]
    · show ra_sp 16 (fun j => (fun j => P (5 + 2 * s) j + ra_nf (101 - (P (5 + 2 * s) 0).val) * ra_sh 0 (P (6 + 2 * s)) j) (j + 1))
      rw [e1]
      intro j hj
      show P (5 + 2 * s) (j + 1) - P (5 + 2 * s) 0 * P (6 + 2 * s) (j + 1) = 0
      rw [o1 _ (by omega), o2 _ (by omega), ra_zf, ra_fss]
    · exact ra_sp_le o2 (by omega)
    · show P (6 + 2 * s) 0 ≠ 0
      rw [o3.1]
      exact ra_10
    · show ra_cv (P (6 + 2 * s)) _ = (fun j => (fun j => P (5 + 2 * s) j + ra_nf (101 - (P (5 + 2 * s) 0).val) * ra_sh 0 (P (6 + 2 * s)) j) (j + 1))
      rw [e1]
      exact ra_seq_adv o3.1 o3.2.1
    · intro post H
      unfold wpY_advance
      dsimp only
      refine ry_bad0 hs (br_t rfl ?_)
      refine ry_load hs ?_
      refine ry_ext (last := 32) hr hl (by decide) (fun n hn => if_pos hn) fun W' M' fc' hW => ?_
      refine ry_advl (H _ _ _ fun n hn => ?_)
      show (if n < 32 then W' (n + 1) else W' n) = A s (n + 1)
      rw [if_pos hn, hW _ (by omega)]
  · refine rx_bad1 hb (br_f (by decide) ?_)
    unfold wpY_advance
    dsimp only
    exact ry_bad1 hb (br_f (by decide) ⟨rfl, rv_mk ok⟩)
end
section
/-! add and define -/
theorem i_vc_add {k : Nat} {u : SX} {v : SY} (I : i_Rel k u v) (hk : k + 5 ≤ 2560) (v1 : Int32) (v2 : Int32) (v3 : Int32) : wpX_add (fun r u' => wpY_add (fun r' v' => r' = r ∧ i_Rel (k + 5) u' v') v v1 v2 v3) u v1 v2 v3 := by
  obtain ⟨P, A, W, M, rc, fc, rfl, rfl, ok⟩ := I
  unfold wpX_add
  dsimp only
  rcases rv_bad v1 with ⟨q, hq, rfl⟩ | hb
  · refine rx_bad0 hq (br_t rfl ?_)
    rcases rv_bad v2 with ⟨s, hs, rfl⟩ | hb
    · refine rx_bad0 hs (br_t rfl ?_)
      rcases rv_bad v3 with ⟨t, ht, rfl⟩ | hb
      · refine rx_bad0 ht (br_t rfl ?_)
        obtain ⟨o1, o2, o3⟩ := ok s hs
        obtain ⟨p1, p2, p3⟩ := ok t ht
        simp only [wpX_top, wpX_bottom, rx_t, rx_b']
        refine rx_mul (t := 0) (a := 5 + 2 * s) (b := 6 + 2 * t) (by decide) (by omega) (by omega) (by decide) (by omega) (by omega) (ra_sp_le o1 (by omega)) ?_
        generalize eX0 : ra_cv (P (5 + 2 * s)) (P (6 + 2 * t)) = X0
        have f0 : ∀ j, 5 ≤ j → ra_st (ra_st P 4 X0) 0 X0 j = P j := fun j hj => by rw [ra_st_n (by omega), ra_st_n (by omega)]
        refine rx_mul (t := 2) (a := 5 + 2 * t) (b := 6 + 2 * s) (by decide) (by omega) (by omega) (by decide) (by omega) (by omega) (by rw [f0 _ (by omega)]; exact ra_sp_le p1 (by omega)) ?_
        rw [f0 _ (by omega), f0 _ (by omega)]
        generalize eX1 : ra_cv (P (5 + 2 * t)) (P (6 + 2 * s)) = X1
        refine rx_addt (k := 0) (l := 2) (m := 1) (pl := 0) (by decide) (by decide) (by decide) (by decide) (by decide) ?_
        have f1 : ∀ f j, 5 ≤ j → ra_st (ra_st (ra_st (ra_st (ra_st P 4 X0) 0 X0) 4 X1) 2 X1) 0 f j = P j := fun f j hj => by rw [ra_st_n (by omega), ra_st_n (by omega), ra_st_n (by omega), ra_st_n (by omega), ra_st_n (by omega)]
        refine rx_mul (t := 1) (a := 6 + 2 * s) (b := 6 + 2 * t) (by decide) (by omega) (by omega) (by decide) (by omega) (by omega) (by rw [f1 _ _ (by omega)]; exact ra_sp_le o2 (by omega)) ?_
        rw [f1 _ _ (by omega), f1 _ _ (by omega)]
        have e0 : (fun j => X0 j + ra_nf 1 * ra_sh 0 X1 j) = ra_add X0 X1 := by
          funext j
          rw [ra_sh_0]
          show X0 j + 1 * X1 j = X0 j + X1 j
          rw [ra_1f]
        refine rv_ks (a := ra_add (A s) (A t)) (Y := fun post => wpY_add post (ra_bk 32 A, ra_ar W, ra_bk 17 M, fc) (nI q) (nI s) (nI t)) hq ok ?_ ?_ ?_ ?_ ?_ ?_
        · intro j hj
          rw [ra_st_n (by omega), ra_st_n (by omega), f1 _ j hj]
        · show ra_sp 16 (fun j => X0 j + ra_nf 1 * ra_sh 0 X1 j)
          rw [e0, ← eX0, ← eX1]
          exact ra_sp_add (ra_cv_z (m := 7) (n := 8) o1 p2) (ra_cv_z (m := 7) (n := 8) p1 o2)
        · exact ra_cv_z (m := 8) (n := 8) o2 p2
        · show ra_cv (P (6 + 2 * s)) (P (6 + 2 * t)) 0 ≠ 0
          rw [ra_cv_at0, o3.1, p3.1]
          exact ra_mne ra_10 ra_10
        · show ra_cv (ra_cv (P (6 + 2 * s)) (P (6 + 2 * t))) _ = (fun j => X0 j + ra_nf 1 * ra_sh 0 X1 j)
          rw [e0, ← eX0, ← eX1]
          exact ra_seq_add o3.2.1 p3.2.1
        · intro post H
          unfold wpY_add
          dsimp only
          refine ry_bad0 hq (br_t rfl ?_)
          refine ry_bad0 hs (br_t rfl ?_)
          refine ry_bad0 ht (br_t rfl ?_)
          exact ry_addl hs ht (H _ _ _ fun n hn => if_pos hn)
      · refine rx_bad1 hb (br_f (by decide) ?_)
        unfold wpY_add
        dsimp only
        exact ry_bad0 hq (br_t rfl (ry_bad0 hs (br_t rfl (ry_bad1 hb (br_f (by decide) ⟨rfl, rv_mk ok⟩)))))
    · refine rx_bad1 hb (br_f (by decide) ?_)
      unfold wpY_add
      dsimp only
      exact ry_bad0 hq (br_t rfl (ry_bad1 hb (br_f (by decide) ⟨rfl, rv_mk ok⟩)))
  · refine rx_bad1 hb (br_f (by decide) ?_)
    unfold wpY_add
    dsimp only
    exact ry_bad1 hb (br_f (by decide) ⟨rfl, rv_mk ok⟩)
/-- the sequence that define gives -/
theorem ra_defq {k mc mb : Nat} (hk : 1 ≤ k) {a : ra_P} (h : ra_cv (ra_Bd mc k) a = fun j => if j < k then ra_cv (ra_Ud mb k) (ra_Bd mc k) j else 0) : (∀ n, n < k → a n = ra_dc mb n) ∧ (∀ n, k ≤ n → a n = ra_sm k (fun j => ra_dc mc j * a (n - 1 - j))) := by
  have B0 : ra_Bd mc k 0 = 1 := rfl
  constructor
  · intro n
    induction n using Nat.strongRecOn with
    | ind n ih =>
      intro hn
      have e1 := ra_cv_at B0 h n
      have e2 := ra_cv_at B0 (ra_cv_comm (ra_Bd mc k) (ra_Ud mb k)) n
      rw [show ra_Ud mb k n = ra_dc mb n from if_pos hn] at e2
      rw [e1, e2, if_pos hn]
      congr 1
      refine ra_sm_congr fun i hi => ?_
      rw [ih (n - 1 - i) (by omega) (by omega), show ra_Ud mb k (n - 1 - i) = ra_dc mb (n - 1 - i) from if_pos (by omega)]
  · intro n hn
    have e1 := ra_cv_at B0 h n
    rw [if_neg (by omega)] at e1
    rw [e1, ra_fsn, ra_0f, ← ra_sm_neg]
    rw [ra_sm_ext (m := k) hn (fun i h1 h2 => by
      rw [show ra_Bd mc k (i + 1) = 0 from by
        show (if i + 1 = 0 then (1 : ra_F) else if i + 1 ≤ k then -ra_dc mc (i + 1 - 1) else 0) = 0
        rw [if_neg (by omega), if_neg (by omega)], ra_fz, ra_n0])]
    refine ra_sm_congr fun i hi => ?_
    rw [show ra_Bd mc k (i + 1) = -ra_dc mc i from by
      show (if i + 1 = 0 then (1 : ra_F) else if i + 1 ≤ k then -ra_dc mc (i + 1 - 1) else 0) = _
      rw [if_neg (by omega), if_pos (by omega), show i + 1 - 1 = i from rfl], ra_fnm, ra_fnn]
/-- keep, where the order is small, against a store -/
theorem rv_kd {k : Nat} {P P1 A : Nat → ra_P} {rc : Nat → Int32} {s : Nat} {a : ra_P} {Y : (Int32 → SY → Prop) → Prop} (hs : s < 4) (ok : rv_ok P A) (h5 : ∀ j, 5 ≤ j → P1 j = P j) (s0 : ra_sp 4 (P1 0)) (s1 : ra_sp 5 (P1 1)) (b0 : P1 1 0 = 1) (hB : ra_cv (P1 1) a = P1 0) (hY : ∀ post : Int32 → SY → Prop, (∀ W M fc, post 0 (ra_bk 32 (ra_st A s a), ra_ar W, ra_bk 17 M, fc)) → Y post) : wpX_keep (fun _ u => Y (fun r' v => r' = 0 ∧ i_Rel (k + 5) u v)) (ra_bk 24 P1, rc) (nI s) := by
  refine rx_keep hs (ra_sp_le s0 (by omega)) (ra_sp_le s1 (by omega)) (by rw [b0]; exact ra_10) hB fun r T B P' hg ho hb => ⟨fun q hP => ?_, fun q _ => ?_⟩
  · refine hY _ fun W M fc => ⟨rfl, rv_mk ?_⟩
    intro t ht
    rw [hP _ (by omega), hP _ (by omega)]
    by_cases z : t = s
    · subst z
      rw [ra_st_n (show 5 + 2 * t ≠ 6 + 2 * t by omega), ra_st_s, ra_st_s, ra_st_s]
      exact ⟨ra_sp_le ho.1 q, ra_sp_le ho.2.1 (by omega), hg⟩
    · rw [ra_st_n (show 5 + 2 * t ≠ 6 + 2 * s by omega), ra_st_n (show 5 + 2 * t ≠ 5 + 2 * s by omega), ra_st_n (show 6 + 2 * t ≠ 6 + 2 * s by omega), ra_st_n (show 6 + 2 * t ≠ 5 + 2 * s by omega), ra_st_n z, h5 _ (by omega), h5 _ (by omega)]
      exact ok t ht
  · have := hb 4 s0 s1
    omega
theorem i_vc_define {k : Nat} {u : SX} {v : SY} (I : i_Rel k u v) (hk : k + 5 ≤ 2560) (v1 : Int32) (v2 : Int32) (v3 : Int32) (v4 : Int32) : wpX_define (fun r u' => wpY_define (fun r' v' => r' = r ∧ i_Rel (k + 5) u' v') v v1 v2 v3 v4) u v1 v2 v3 v4 := by
  obtain ⟨P, A, W, M, rc, fc, rfl, rfl, ok⟩ := I
  unfold wpX_define
  dsimp only
  rcases rv_bad v1 with ⟨s, hs, rfl⟩ | hb
  · refine rx_bad0 hs (br_t rfl ?_)
    by_cases h1 : v2 < 1
    · refine br_t h1 ?_
      unfold wpY_define
      dsimp only
      exact ry_bad0 hs (br_t rfl (br_t h1 ⟨rfl, rv_mk ok⟩))
    · refine br_f h1 ?_
      by_cases h4 : v2 ≤ 4
      · refine br_t h4 ?_
        obtain ⟨m, hm1, hm4, rfl⟩ : ∃ m, 1 ≤ m ∧ m ≤ 4 ∧ v2 = nI m := by
          have h0 : ¬ v2 < 0 := by
            intro q
            apply h1
            rw [Int32.lt_iff_toInt_lt] at q ⊢
            rw [show (0 : Int32).toInt = 0 from by decide] at q
            rw [show (1 : Int32).toInt = 1 from by decide]
            omega
          obtain ⟨j, hj, e⟩ := nI_of2 (M := 4) (n := 4) (by decide) h0 h4
          refine ⟨j, ?_, hj, e⟩
          refine Classical.byContradiction fun q => h1 ?_
          rw [e, show j = 0 from by omega]
          decide +kernel
        have c1 : v3 &&& 2147483647 = nI (v3.toBitVec.toNat % 2 ^ 31) := pk_and _ 31 (by decide)
        have c2 : v4 &&& 2147483647 = nI (v4.toBitVec.toNat % 2 ^ 31) := pk_and _ 31 (by decide)
        have l1 : v3.toBitVec.toNat % 2 ^ 31 < 2 ^ 31 := Nat.mod_lt _ (by decide)
        have l2 : v4.toBitVec.toNat % 2 ^ 31 < 2 ^ 31 := Nat.mod_lt _ (by decide)
        generalize v3.toBitVec.toNat % 2 ^ 31 = mc at c1 l1
        generalize v4.toBitVec.toNat % 2 ^ 31 = mb at c2 l2
        intro x ex y ey
        rw [ex, ey, c1, c2]
        refine rx_clear (k := 1) (by decide) ?_
        refine rx_clear (k := 2) (by decide) ?_
        intro b eb
        have e1 : upd (ra_bk 24 (ra_st (ra_st P 1 ra_Z) 2 ra_Z)) 24 1 = ra_bk 24 (ra_st (ra_st P 1 (ra_Bd mc 0)) 2 (ra_Ud mb 0)) := by
          rw [← ra_ec_1]
          refine (ra_bk_wr (w := 24) (k := 1) (i := 0) _ 1 (by decide)).trans ?_
          rw [ra_st_n (show 1 ≠ 2 by decide), ra_st_s, ra_st_c (show 2 ≠ 1 by decide), ra_st_st]
          have f1 : (fun j => if j = 0 then (1 : ra_F) else ra_Z j) = ra_Bd mc 0 := by
            funext j
            show (if j = 0 then (1 : ra_F) else 0) = if j = 0 then 1 else if j ≤ 0 then -ra_dc mc (j - 1) else 0
            by_cases q : j = 0
            · rw [if_pos q, if_pos q]
            · rw [if_neg q, if_neg q, if_neg (by omega)]
          have f2 : ra_Z = ra_Ud mb 0 := by
            funext j
            exact (if_neg (by omega)).symm
          rw [f1, ← f2]
        dsimp only at eb
        rw [e1] at eb
        rw [eb]
        refine rx_def1 hm4 l1 l2 fun P1 h5 hP0 hP1 => ?_
        have B0 : P1 1 0 = 1 := by
          rw [hP1]
          rfl
        have hB := ra_quo_cv B0 (P1 0)
        have hd : ra_cv (ra_Bd mc m) (ra_quo (P1 1) (P1 0)) = fun j => if j < m then ra_cv (ra_Ud mb m) (ra_Bd mc m) j else 0 := by
          rw [← hP0, ← hP1]
          exact hB
        obtain ⟨a1, a2⟩ := ra_defq hm1 hd
        refine rv_kd (Y := fun post => wpY_define post (ra_bk 32 A, ra_ar W, ra_bk 17 M, fc) (nI s) (nI m) v3 v4) hs ok h5 ?_ ?_ B0 hB ?_
        · rw [hP0]
          intro j hj
          exact if_neg (by omega)
        · rw [hP1]
          intro j hj
          show (if j = 0 then (1 : ra_F) else if j ≤ m then -ra_dc mc (j - 1) else 0) = 0
          rw [if_neg (by omega), if_neg (by omega)]
        · intro post H
          unfold wpY_define
          dsimp only
          refine ry_bad0 hs (br_t rfl (br_f h1 (br_t h4 ?_)))
          exact ry_def hs hm1 hm4 c1 c2 l1 l2 a1 a2 fun W' => H W' M fc
      · refine br_f h4 ?_
        unfold wpY_define
        dsimp only
        exact ry_bad0 hs (br_t rfl (br_f h1 (br_f h4 ⟨rfl, rv_mk ok⟩)))
  · refine rx_bad1 hb (br_f (by decide) ?_)
    unfold wpY_define
    dsimp only
    exact ry_bad1 hb (br_f (by decide) ⟨rfl, rv_mk ok⟩)
end
section
/-! the questions -/
theorem i_vc_term {k : Nat} {u : SX} {v : SY} (I : i_Rel k u v) (hk : k + 5 ≤ 2560) (v1 : Int32) (v2 : Int32) : wpX_term (fun r u' => wpY_term (fun r' v' => r' = r ∧ i_Rel (k + 5) u' v') v v1 v2) u v1 v2 := by
  obtain ⟨P, A, W, M, rc, fc, rfl, rfl, ok⟩ := I
  unfold wpX_term
  dsimp only
  rcases rv_bad v1 with ⟨s, hs, rfl⟩ | hb
  · refine rx_bad0 hs (br_t rfl ?_)
    rcases rv_bix v2 with ⟨n, hn, rfl⟩ | hx
    · obtain ⟨o1, o2, o3⟩ := ok s hs
      obtain ⟨r, hr, hl⟩ := rv_ord ok hs
      refine br_f (nI_pos (by omega)) (br_t (rv_le400 hn) ?_)
      refine rx_load hs ?_
      refine rx_far (a := A s) hn (ra_sp_le o1 (by omega)) (ra_sp_le o2 (by omega)) o3.1 o3.2.1 fun P' h5 => ?_
      unfold wpY_term
      dsimp only
      refine ry_bad0 hs (br_t rfl ?_)
      refine ry_bix0 hn (br_t rfl ?_)
      refine ry_load hs ?_
      refine ry_ext hr hl hn (fun n hn => if_pos hn) fun W' M' fc' hW => ?_
      refine And.intro (ry_w (by omega)) (And.intro ?_ (rv_mk (rv_ok5 (fun j hj => ?_) ok)))
      · dsimp only
        rw [nI_clamp (by omega)]
        exact congrArg ra_ec (hW n (Or.inr (Nat.le_refl _)))
      · rw [h5 j hj, ra_st_n (by omega), ra_st_n (by omega)]
    · by_cases q : v2 < 0
      · refine br_t q ?_
        unfold wpY_term
        dsimp only
        exact ry_bad0 hs (br_t rfl (ry_bix1 hx (br_f (by decide) ⟨rfl, rv_mk ok⟩)))
      · refine br_f q (br_f (hx.resolve_left q) ?_)
        unfold wpY_term
        dsimp only
        exact ry_bad0 hs (br_t rfl (ry_bix1 hx (br_f (by decide) ⟨rfl, rv_mk ok⟩)))
  · refine rx_bad1 hb (br_f (by decide) ?_)
    unfold wpY_term
    dsimp only
    exact ry_bad1 hb (br_f (by decide) ⟨rfl, rv_mk ok⟩)
theorem i_vc_order {k : Nat} {u : SX} {v : SY} (I : i_Rel k u v) (hk : k + 5 ≤ 2560) (v1 : Int32) : wpX_order (fun r => wpY_order (fun r' v' => r' = r ∧ i_Rel (k + 5) u v') v v1) u v1 := by
  obtain ⟨P, A, W, M, rc, fc, rfl, rfl, ok⟩ := I
  unfold wpX_order
  dsimp only
  rcases rv_bad v1 with ⟨s, hs, rfl⟩ | hb
  · obtain ⟨o1, o2, o3⟩ := ok s hs
    refine rx_bad0 hs (br_t rfl ?_)
    simp only [wpX_top, wpX_bottom, rx_t, rx_b']
    refine rx_ord (by omega) (by omega) (ra_sp_le o1 (by omega)) (ra_sp_le o2 (by omega)) (by rw [o3.1]; exact ra_10) fun r hr ho => ?_
    have r8 : r ≤ 8 := by
      refine Classical.byContradiction fun q => ?_
      rcases ho.2.2 (by omega) with w | w
      · exact w (o1 _ (by omega))
      · exact w (o2 _ (by omega))
    unfold wpY_order
    dsimp only
    refine ry_bad0 hs (br_t rfl ?_)
    refine ry_load hs ?_
    exact ry_rank (by omega) (ra_kro o3 ho) (fun n hn => if_pos hn) fun M' => ⟨rfl, rv_mk ok⟩
  · refine rx_bad1 hb (br_f (by decide) ?_)
    unfold wpY_order
    dsimp only
    exact ry_bad1 hb (br_f (by decide) ⟨rfl, rv_mk ok⟩)
theorem i_vc_equal {k : Nat} {u : SX} {v : SY} (I : i_Rel k u v) (hk : k + 5 ≤ 2560) (v1 : Int32) (v2 : Int32) : wpX_equal (fun r => wpY_equal (fun r' => r' = r ∧ i_Rel (k + 5) u v) v v1 v2) u v1 v2 := by
  obtain ⟨P, A, W, M, rc, fc, rfl, rfl, ok⟩ := I
  unfold wpX_equal
  dsimp only
  rcases rv_bad v1 with ⟨s, hs, rfl⟩ | hb
  · refine rx_bad0 hs (br_t rfl ?_)
    rcases rv_bad v2 with ⟨t, ht, rfl⟩ | hb
    · obtain ⟨o1, o2, o3⟩ := ok s hs
      obtain ⟨p1, p2, p3⟩ := ok t ht
      refine rx_bad0 ht (br_t rfl ?_)
      have key : (∀ i, i < 48 → ra_bk 24 P ((5 + 2 * s) * 24 + i) = ra_bk 24 P ((5 + 2 * t) * 24 + i)) ↔ (∀ i, i < 32 → A s i = A t i) := by
        constructor
        · intro h
          have e1 : P (5 + 2 * s) = P (5 + 2 * t) := by
            funext j
            by_cases q : j < 24
            · have := h j (by omega)
              rw [ra_bk_rd _ q, ra_bk_rd _ q, ra_ec_inj] at this
              exact this
            · rw [o1 j (by omega), p1 j (by omega)]
          have e2 : P (6 + 2 * s) = P (6 + 2 * t) := by
            funext j
            by_cases q : j < 24
            · have := h (24 + j) (by omega)
              rw [show (5 + 2 * s) * 24 + (24 + j) = (6 + 2 * s) * 24 + j from by omega, show (5 + 2 * t) * 24 + (24 + j) = (6 + 2 * t) * 24 + j from by omega, ra_bk_rd _ q, ra_bk_rd _ q, ra_ec_inj] at this
              exact this
            · rw [o2 j (by omega), p2 j (by omega)]
          have e3 : A s = A t := by
            refine ra_canc (U := P (6 + 2 * s)) (by rw [o3.1]; exact ra_10) ?_
            rw [o3.2.1, e2, p3.2.1, e1]
          intro i _
          rw [e3]
        · intro h
          obtain ⟨e1, e2⟩ := ra_uni o3 p3 o1 o2 p1 p2 h
          intro i hi
          by_cases q : i < 24
          · rw [ra_bk_rd _ q, ra_bk_rd _ q, e1]
          · obtain ⟨j, rfl⟩ : ∃ j, i = 24 + j := ⟨i - 24, by omega⟩
            have q : j < 24 := by omega
            rw [show (5 + 2 * s) * 24 + (24 + j) = (6 + 2 * s) * 24 + j from by omega, show (5 + 2 * t) * 24 + (24 + j) = (6 + 2 * t) * 24 + j from by omega, ra_bk_rd _ q, ra_bk_rd _ q, e2]
      refine rx_eq hs ht (fun h => ?_) (fun h => ?_)
      · unfold wpY_equal
        dsimp only
        refine ry_bad0 hs (br_t rfl (ry_bad0 ht (br_t rfl ?_)))
        refine ry_eq hs ht (fun _ => ⟨rfl, rv_mk ok⟩) (fun q => ?_)
        obtain ⟨i, hi, hne⟩ := q
        exact absurd (key.mp h i hi) hne
      · unfold wpY_equal
        dsimp only
        refine ry_bad0 hs (br_t rfl (ry_bad0 ht (br_t rfl ?_)))
        refine ry_eq hs ht (fun q => ?_) (fun _ => ⟨rfl, rv_mk ok⟩)
        obtain ⟨i, hi, hne⟩ := h
        exact absurd (key.mpr q i hi) hne
    · refine rx_bad1 hb (br_f (by decide) ?_)
      unfold wpY_equal
      dsimp only
      exact ry_bad0 hs (br_t rfl (ry_bad1 hb (br_f (by decide) ⟨rfl, rv_mk ok⟩)))
  · refine rx_bad1 hb (br_f (by decide) ?_)
    unfold wpY_equal
    dsimp only
    exact ry_bad1 hb (br_f (by decide) ⟨rfl, rv_mk ok⟩)
theorem i_vc_find {k : Nat} {u : SX} {v : SY} (I : i_Rel k u v) (hk : k + 5 ≤ 2560) (v1 : Int32) (v2 : Int32) : wpX_find (fun r u' => wpY_find (fun r' v' => r' = r ∧ i_Rel (k + 5) u' v') v v1 v2) u v1 v2 := by
  obtain ⟨P, A, W, M, rc, fc, rfl, rfl, ok⟩ := I
  unfold wpX_find
  dsimp only
  rcases rv_bad v1 with ⟨s, hs, rfl⟩ | hb
  · obtain ⟨o1, o2, o3⟩ := ok s hs
    obtain ⟨r, hr, hl⟩ := rv_ord ok hs
    refine rx_bad0 hs (br_t rfl ?_)
    refine rx_mod ?_
    refine rx_find hs (ra_sp_le o1 (by omega)) o2 o3.1 o3.2.1 fun r1 rc' hf => ?_
    unfold wpY_find
    dsimp only
    refine ry_bad0 hs (br_t rfl ?_)
    refine ry_mod ?_
    refine ry_load hs ?_
    refine ry_ext (last := 400) hr hl (by decide) (fun n hn => if_pos hn) fun W' M' fc' hW => ?_
    exact ry_findl (fun n hn => hW n (Or.inr hn)) fun r2 hf2 => ⟨ra_fnd_u hf hf2, rv_mk ok⟩
  · refine rx_bad1 hb (br_f (by decide) ?_)
    unfold wpY_find
    dsimp only
    exact ry_bad1 hb (br_f (by decide) ⟨rfl, rv_mk ok⟩)
theorem ra_sm_split (m n : Nat) (f : Nat → ra_F) : ra_sm (m + n) f = ra_sm m f + ra_sm n (fun j => f (m + j)) := by
  induction n with
  | zero => exact (ra_f0 _).symm
  | succ n ih => rw [show m + (n + 1) = m + n + 1 from rfl, ra_sm_s, ih, ra_sm_s, ra_faa]
/-- the sum up to a term -/
theorem rx_sumTo {post : Int32 → SX → Prop} {P A : Nat → ra_P} {rc : Nat → Int32} {s n : Nat} (ok : rv_ok P A) (hs : s < 4) (hn : n ≤ 400) (h : ∀ P', (∀ j, 5 ≤ j → P' j = P j) → post (ra_ec (ra_sm (n + 1) (A s))) (ra_bk 24 P', rc)) : wpX_sumTo post (ra_bk 24 P, rc) (nI s) (nI n) := by
  obtain ⟨o1, o2, o3⟩ := ok s hs
  refine br_t (nI_pos' (by omega)) ?_
  refine rx_load hs ?_
  refine rx_step ?_
  refine rx_mul (t := 1) (a := 1) (b := 3) (by decide) (by decide) (by decide) (by decide) (by decide) (by decide) (ra_sp_le o2 (by omega)) ?_
  refine rx_far (a := ra_acc (A s)) hn (ra_sp_le o1 (by omega)) (ra_cv_z (m := 8) (n := 1) o2 ra_L_sp) ?_ (ra_seq_acc o3.2.1) fun P' h5 => ?_
  · show ra_cv (P (6 + 2 * s)) ra_L 0 = 1
    rw [ra_cv_at0, o3.1, show ra_L 0 = 1 from rfl, ra_f1]
  · refine h P' fun j hj => ?_
    rw [h5 j hj, ra_st_n (by omega), ra_st_n (by omega), ra_st_n (by omega), ra_st_n (by omega), ra_st_n (by omega)]
theorem i_vc_sum {k : Nat} {u : SX} {v : SY} (I : i_Rel k u v) (hk : k + 5 ≤ 2560) (v1 : Int32) (v2 : Int32) (v3 : Int32) : wpX_sum (fun r u' => wpY_sum (fun r' v' => r' = r ∧ i_Rel (k + 5) u' v') v v1 v2 v3) u v1 v2 v3 := by
  obtain ⟨P, A, W, M, rc, fc, rfl, rfl, ok⟩ := I
  unfold wpX_sum
  dsimp only
  rcases rv_bad v1 with ⟨s, hs, rfl⟩ | hb
  · refine rx_bad0 hs (br_t rfl ?_)
    obtain ⟨r, hr, hl⟩ := rv_ord ok hs
    rcases rv_bix v3 with ⟨l, hl4, rfl⟩ | hx3
    · rcases rv_bix v2 with ⟨f, hf4, rfl⟩ | hx2
      · refine br_f (nI_pos (by omega)) ?_
        refine pk_lt l f (fun q => ?_) (fun q => br_t (rv_le400 hl4) ?_)
        · unfold wpY_sum
          dsimp only
          refine ry_bad0 hs (br_t rfl (ry_bix0 hf4 (br_t rfl (ry_bix0 hl4 (br_t rfl ?_)))))
          exact br_f (nI_ge q (by omega)) ⟨rfl, rv_mk ok⟩
        · have fin : ∀ P' x, (∀ j, 5 ≤ j → P' j = P j) → x = ra_sm (l + 1 - f) (fun j => A s (f + j)) → wpY_sum (fun r' v' => r' = ra_ec x ∧ i_Rel (k + 5) (ra_bk 24 P', rc) v') (ra_bk 32 A, ra_ar W, ra_bk 17 M, fc) (nI s) (nI f) (nI l) := by
            intro P' x h5 ex
            unfold wpY_sum
            dsimp only
            refine ry_bad0 hs (br_t rfl (ry_bix0 hf4 (br_t rfl (ry_bix0 hl4 (br_t rfl ?_)))))
            refine br_t (nI_le q (by omega)) ?_
            refine ry_load hs ?_
            refine ry_ext hr hl hl4 (fun n hn => if_pos hn) fun W' M' fc' hW => ?_
            refine ry_suml q hl4 (fun n hn => hW n (Or.inr hn)) ⟨by rw [ex], rv_mk (rv_ok5 h5 ok)⟩
          refine rx_sumTo ok hs hl4 fun P1 h1 => ?_
          cases f with
          | zero =>
            have z : nI 0 - 1 = -1 := by decide +kernel
            dsimp only
            rw [z]
            refine br_f (by decide) ?_
            refine rx_mod ?_
            rw [← ra_ec_0, ra_md_sub]
            refine fin P1 _ h1 ?_
            rw [ra_fsn, ra_n0, ra_f0]
            exact ra_sm_congr fun j _ => by rw [Nat.zero_add]
          | succ f =>
            dsimp only
            rw [nI_pred]
            refine rx_sumTo (rv_ok5 h1 ok) hs (by omega) fun P2 h2 => ?_
            refine rx_mod ?_
            rw [ra_md_sub]
            refine fin P2 _ (fun j hj => by rw [h2 j hj, h1 j hj]) ?_
            rw [show l + 1 = (f + 1) + (l + 1 - (f + 1)) from by omega, ra_sm_split, show f + 1 + (l + 1 - (f + 1)) - (f + 1) = l + 1 - (f + 1) from by omega]
            exact ra_j2 _ _
      · have yb : ∀ P', (∀ j, 5 ≤ j → P' j = P j) → wpY_sum (fun r' v' => r' = -4 ∧ i_Rel (k + 5) (ra_bk 24 P', rc) v') (ra_bk 32 A, ra_ar W, ra_bk 17 M, fc) (nI s) v2 (nI l) := by
          intro P' h5
          unfold wpY_sum
          dsimp only
          exact ry_bad0 hs (br_t rfl (ry_bix1 hx2 (br_f (by decide) ⟨rfl, rv_mk (rv_ok5 h5 ok)⟩)))
        by_cases q : v2 < 0
        · exact br_t q (yb P fun _ _ => rfl)
        · refine br_f q (br_t ?_ (yb P fun _ _ => rfl))
          have w := hx2.resolve_left q
          rw [Int32.le_iff_toInt_le, show (400 : Int32).toInt = 400 from by decide] at w
          rw [Int32.lt_iff_toInt_lt, nI_toInt (by omega)]
          omega
    · have yb : wpY_sum (fun r' v' => r' = -4 ∧ i_Rel (k + 5) (ra_bk 24 P, rc) v') (ra_bk 32 A, ra_ar W, ra_bk 17 M, fc) (nI s) v2 v3 := by
        unfold wpY_sum
        dsimp only
        refine ry_bad0 hs (br_t rfl ?_)
        rcases rv_bix v2 with ⟨f, hf4, rfl⟩ | hx2
        · exact ry_bix0 hf4 (br_t rfl (ry_bix1 hx3 (br_f (by decide) ⟨rfl, rv_mk ok⟩)))
        · exact ry_bix1 hx2 (br_f (by decide) ⟨rfl, rv_mk ok⟩)
      by_cases q : v2 < 0
      · exact br_t q yb
      · refine br_f q ?_
        by_cases w : v3 < v2
        · exact br_t w yb
        · refine br_f w (br_f ?_ yb)
          rcases hx3 with z | z
          · exfalso
            rw [Int32.lt_iff_toInt_lt] at z q w
            rw [show (0 : Int32).toInt = 0 from by decide] at z q
            omega
          · exact z
  · refine rx_bad1 hb (br_f (by decide) ?_)
    unfold wpY_sum
    dsimp only
    exact ry_bad1 hb (br_f (by decide) ⟨rfl, rv_mk ok⟩)
end
