section
/-! rows pasted from the kit's rows (starting text) -/
theorem pk_us {f : Nat → Int32} {k : Nat} {x : Int32} : upd f k x k = x := if_pos rfl
theorem pk_un {f : Nat → Int32} {k j : Nat} {x : Int32} (h : j ≠ k) : upd f k x j = f j := if_neg h
theorem pk_uLs {f : Nat → Int64} {k : Nat} {x : Int64} : vp_updL f k x k = x := if_pos rfl
theorem pk_uLn {f : Nat → Int64} {k j : Nat} {x : Int64} (h : j ≠ k) : vp_updL f k x j = f j := if_neg h
theorem pk_sub {a b : Nat} (h : b ≤ a) : nI a - nI b = nI (a - b) := by
  obtain ⟨c, rfl⟩ : ∃ c, a = c + b := ⟨a - b, by omega⟩
  rw [← nI_add, Int32.add_sub_cancel, Nat.add_sub_cancel]
theorem pk_m1 (n : Nat) : nI (n + 1) + (-1) = nI n := by
  rw [← nI_1, Int32.add_assoc, show (1 : Int32) + (-1) = 0 from rfl, Int32.add_zero]
theorem pk_mul (a b : Nat) : nI a * nI b = nI (a * b) := (Int32.ofNat_mul a b).symm
theorem pk_div {a d : Nat} (ha : a < 2 ^ 31) (h0 : 0 < d) (hd : d < 2 ^ 31) : nI a / nI d = nI (a / d) := by
  apply Int32.toInt_inj.mp
  rw [lg_idiv_nonneg (by rw [nI_toInt ha]; omega) (by rw [nI_toInt hd]; omega), nI_toInt ha, nI_toInt hd, nI_toInt (Nat.lt_of_le_of_lt (Nat.div_le_self a d) ha)]
  first | rfl | exact (Int.natCast_ediv _ _).symm
theorem pk_rem {a d : Nat} (ha : a < 2 ^ 31) (h0 : 0 < d) (hd : d < 2 ^ 31) : nI a - nI a / nI d * nI d = nI (a % d) := by
  rw [pk_div ha h0 hd, pk_mul, pk_sub (Nat.div_mul_le_self a d)]
  exact congrArg nI (by have := Nat.div_add_mod' a d; omega)
theorem pk_le {x y : Int32} {A B : Prop} (a b : Nat) (f : a ≤ b → A) (g : b < a → B) (hx : x = nI a := by rfl) (hy : y = nI b := by rfl) (ha : a < 2 ^ 31 := by omega) (hb : b < 2 ^ 31 := by omega) : (x ≤ y → A) ∧ (¬ x ≤ y → B) := by
  subst hx hy
  rw [nI_leI ha hb]
  exact ⟨f, fun z => g (by omega)⟩
theorem pk_lt {x y : Int32} {A B : Prop} (a b : Nat) (f : a < b → A) (g : b ≤ a → B) (hx : x = nI a := by rfl) (hy : y = nI b := by rfl) (ha : a < 2 ^ 31 := by omega) (hb : b < 2 ^ 31 := by omega) : (x < y → A) ∧ (¬ x < y → B) := by
  subst hx hy
  rw [nI_ltI ha hb]
  exact ⟨f, fun z => g (by omega)⟩
theorem pk_eq {x y : Int32} {A B : Prop} (a b : Nat) (f : a = b → A) (g : a ≠ b → B) (hx : x = nI a := by rfl) (hy : y = nI b := by rfl) (ha : a < 2 ^ 31 := by omega) (hb : b < 2 ^ 31 := by omega) : (x = y → A) ∧ (¬ x = y → B) := by
  subst hx hy
  rw [nI_eq ha hb]
  exact ⟨f, g⟩
theorem pk_in {x : Int32} (n N : Nat) (h : n < N) (hx : x = nI n := by rfl) (hN : N < 2 ^ 31 := by omega) : vp_in x N := by
  subst hx
  exact vp_in_nI h hN
theorem pk_cl {x : Int32} (n : Nat) (hx : x = nI n := by rfl) (h : n < 2 ^ 31 := by omega) : x.toNatClampNeg = n := by
  subst hx
  exact nI_clamp h
theorem pk_tn {n : Nat} (h : n < 2 ^ 32) : (nI n).toBitVec.toNat = n := Nat.mod_eq_of_lt h
theorem pk_and (x : Int32) {m : Int32} (k : Nat) (hm : m.toBitVec.toNat = 2 ^ k - 1) : x &&& m = nI (x.toBitVec.toNat % 2 ^ k) := by
  apply Int32.toBitVec_inj.mp
  apply BitVec.eq_of_toNat_eq
  rw [Int32.toBitVec_and, BitVec.toNat_and, hm, Nat.and_two_pow_sub_one_eq_mod]
  show _ = (BitVec.ofNat 32 _).toNat
  rw [BitVec.toNat_ofNat]
  exact (Nat.mod_eq_of_lt (Nat.lt_of_le_of_lt (Nat.mod_le _ _) x.toBitVec.isLt)).symm
theorem pk_andN {n : Nat} (h : n < 2 ^ 32) {m : Int32} (k : Nat) (hm : m.toBitVec.toNat = 2 ^ k - 1) : nI n &&& m = nI (n % 2 ^ k) := by
  rw [pk_and _ k hm, pk_tn h]
theorem pk_shl (a s : Int32) (k : Nat) (hs : (s.toBitVec.smod 32).toNat = k) : (a <<< s).toBitVec.toNat = a.toBitVec.toNat * 2 ^ k % 2 ^ 32 := by
  show (a.toBitVec <<< (s.toBitVec.smod 32).toNat).toNat = _
  rw [hs, BitVec.toNat_shiftLeft, Nat.shiftLeft_eq]
theorem pk_shlN {n : Nat} (s : Int32) (k : Nat) (hs : (s.toBitVec.smod 32).toNat = k) (h : n * 2 ^ k < 2 ^ 32) : nI n <<< s = nI (n * 2 ^ k) := by
  apply Int32.toBitVec_inj.mp
  apply BitVec.eq_of_toNat_eq
  have hn : n < 2 ^ 32 := Nat.lt_of_le_of_lt (Nat.le_mul_of_pos_right n (Nat.two_pow_pos k)) h
  rw [pk_shl _ _ k hs, pk_tn hn, pk_tn h, Nat.mod_eq_of_lt h]
theorem pk_shr (a s : Int32) (k : Nat) (hs : (s.toBitVec.smod 32).toNat = k) : (a >>> s).toInt = a.toInt >>> k := by
  show (a.toBitVec.sshiftRight (s.toBitVec.smod 32).toNat).toInt = _
  rw [hs, BitVec.toInt_sshiftRight]
  rfl
theorem pk_shrN {n : Nat} (h : n < 2 ^ 31) (s : Int32) (k : Nat) (hs : (s.toBitVec.smod 32).toNat = k) : nI n >>> s = nI (n / 2 ^ k) := by
  apply Int32.toInt_inj.mp
  have h2 : n / 2 ^ k ≤ n := Nat.div_le_self _ _
  rw [pk_shr _ _ k hs, nI_toInt h, nI_toInt (by omega), Int.shiftRight_eq_div_pow]
  rfl
theorem s_l : ∀ n, n < 32 → ((nI n &&& 31).toBitVec.smod 32).toNat = n := by decide +kernel
theorem wb_tb (n : Nat) : (lN n).toBitVec = BitVec.ofNat 64 n := rfl
theorem wb_inj {a b : Int64} (h : a.toBitVec = b.toBitVec) : a = b := Int64.toBitVec_inj.mp h
theorem wb_tn {n : Nat} (h : n < 2 ^ 64) : (lN n).toBitVec.toNat = n := by rw [wb_tb, BitVec.toNat_ofNat, Nat.mod_eq_of_lt h]
theorem wb_of (x : Int64) : ∃ n, n < 2 ^ 64 ∧ x = lN n := ⟨x.toBitVec.toNat, x.toBitVec.isLt, wb_inj (by rw [wb_tb]; simp)⟩
theorem wb_of32 (x : Int32) : ∃ n, n < 2 ^ 32 ∧ x = nI n := ⟨x.toBitVec.toNat, x.toBitVec.isLt, Int32.toBitVec_inj.mp (by show _ = BitVec.ofNat 32 _; simp)⟩
theorem wb_c : ∀ k, k < 64 → ((nI k).toInt64 &&& 63) = lN k := by decide +kernel
theorem wb_cu : ∀ k, k < 64 → ((nI k).toInt64.toUInt64 &&& Int64.toUInt64 63) = UInt64.ofNat k := by decide +kernel
theorem wb_sm : ∀ k, k < 64 → (BitVec.ofNat 64 k).smod 64 = BitVec.ofNat 64 k := by decide +kernel
theorem wb_pw {a b : Nat} (h : a ≤ b) : 2 ^ b = 2 ^ a * 2 ^ (b - a) := by rw [← Nat.pow_add]; congr 1; omega
theorem wb_lt2 {a b : Nat} (h : a < b) : 2 ^ a < 2 ^ b := Nat.pow_lt_pow_right (by decide) h
theorem wb_mod (n : Nat) : lN n = lN (n % 2 ^ 64) := wb_inj (by rw [wb_tb, wb_tb]; apply BitVec.eq_of_toNat_eq; rw [BitVec.toNat_ofNat, BitVec.toNat_ofNat, Nat.mod_mod])
theorem wb_shr {n k : Nat} (hn : n < 2 ^ 64) (hk : k < 64) : ((lN n).toUInt64 >>> ((nI k).toInt64.toUInt64 &&& Int64.toUInt64 63)).toInt64 = lN (n / 2 ^ k) := by
  rw [wb_cu k hk]
  apply wb_inj
  apply BitVec.eq_of_toNat_eq
  show ((lN n).toUInt64 >>> UInt64.ofNat k).toNat = (BitVec.ofNat 64 _).toNat
  have h1 : (UInt64.ofNat k).toNat = k := by
    show (BitVec.ofNat 64 k).toNat = k
    rw [BitVec.toNat_ofNat, Nat.mod_eq_of_lt (by omega)]
  have h2 : (lN n).toUInt64.toNat = n := wb_tn hn
  rw [UInt64.toNat_shiftRight, h1, h2, Nat.mod_eq_of_lt hk, Nat.shiftRight_eq_div_pow, BitVec.toNat_ofNat, Nat.mod_eq_of_lt (Nat.lt_of_le_of_lt (Nat.div_le_self _ _) hn)]
theorem wb_shl (n : Nat) {k : Nat} (hk : k < 64) : lN n <<< ((nI k).toInt64 &&& 63) = lN (n * 2 ^ k) := by
  rw [wb_c k hk]
  apply wb_inj
  rw [Int64.toBitVec_shiftLeft, wb_tb, wb_tb, wb_tb, wb_sm k hk]
  apply BitVec.eq_of_toNat_eq
  rw [BitVec.shiftLeft_eq', BitVec.toNat_shiftLeft, BitVec.toNat_ofNat, BitVec.toNat_ofNat, BitVec.toNat_ofNat, Nat.mod_eq_of_lt (show k < 2 ^ 64 by omega), Nat.shiftLeft_eq, Nat.mul_mod, Nat.mod_mod, ← Nat.mul_mod]
theorem wb_and {a b : Nat} (ha : a < 2 ^ 64) (hb : b < 2 ^ 64) : lN a &&& lN b = lN (a &&& b) := by
  apply wb_inj
  rw [Int64.toBitVec_and, wb_tb, wb_tb, wb_tb]
  apply BitVec.eq_of_toNat_eq
  rw [BitVec.toNat_and, BitVec.toNat_ofNat, BitVec.toNat_ofNat, BitVec.toNat_ofNat, Nat.mod_eq_of_lt ha, Nat.mod_eq_of_lt hb, Nat.mod_eq_of_lt (Nat.and_lt_two_pow _ hb)]
theorem wb_or {a b : Nat} (ha : a < 2 ^ 64) (hb : b < 2 ^ 64) : lN a ||| lN b = lN (a ||| b) := by
  apply wb_inj
  rw [Int64.toBitVec_or, wb_tb, wb_tb, wb_tb]
  apply BitVec.eq_of_toNat_eq
  rw [BitVec.toNat_or, BitVec.toNat_ofNat, BitVec.toNat_ofNat, BitVec.toNat_ofNat, Nat.mod_eq_of_lt ha, Nat.mod_eq_of_lt hb, Nat.mod_eq_of_lt (Nat.or_lt_two_pow ha hb)]
theorem wb_mask {n k : Nat} (hn : n < 2 ^ 64) (hk : k < 64) : lN n &&& lN (2 ^ k - 1) = lN (n % 2 ^ k) := by
  rw [wb_and hn (by have := wb_lt2 hk; omega), Nat.and_two_pow_sub_one_eq_mod]
theorem wb_a1 {n : Nat} (hn : n < 2 ^ 64) : lN n &&& 1 = lN (n % 2) := wb_mask (k := 1) hn (by decide)
theorem wb_bit {n k : Nat} (hn : n < 2 ^ 64) (hk : k < 64) : ((lN n).toUInt64 >>> ((nI k).toInt64.toUInt64 &&& Int64.toUInt64 63)).toInt64 &&& 1 = lN (n / 2 ^ k % 2) := by
  rw [wb_shr hn hk, wb_a1 (Nat.lt_of_le_of_lt (Nat.div_le_self _ _) hn)]
end
section
/-! the pure law: formulas as rows of codes, operands first (the codes of the reference), courses, tables -/
def cm_hn (g : Nat → Nat) : Nat → Nat
  | 0 => 0
  | p + 1 => if g p < 3 then cm_hn g p + 1 else if g p = 3 ∨ g p = 6 then cm_hn g p else cm_hn g p - 1
def cm_tc (g : Nat → Nat) : Nat → Nat
  | 0 => 0
  | p + 1 => if 5 < g p then cm_tc g p + 1 else cm_tc g p
def cm_fb (a : Int32) (f : Nat) : Bool := decide (((a >>> (nI f &&& 31)) &&& 1) = 1)
def cm_U (x y : Nat → Bool) : Nat → Nat → Bool
  | 0, _ => false
  | d + 1, i => y i || (x i && cm_U x y d (i + 1))
def cm_new (n : Nat) (c : Nat → Int32) (o : Nat) (x y : Nat → Bool) (i : Nat) : Bool :=
  if o < 3 then decide (i < n) && cm_fb (c i) o
  else if o = 3 then ! y i
  else if o = 4 then x i && y i
  else if o = 5 then x i || y i
  else if o = 6 then decide (i + 1 < n) && y (i + 1)
  else cm_U x y (n - i) i
def cm_S (g : Nat → Nat) (n : Nat) (c : Nat → Int32) : Nat → Nat → Nat → Bool
  | 0 => fun _ _ => false
  | p + 1 => fun t i => if t = cm_hn g (p + 1) - 1 then cm_new n c (g p) (cm_S g n c p (cm_hn g p - 2)) (cm_S g n c p (cm_hn g p - 1)) i else cm_S g n c p t i
def cm_O (g : Nat → Nat) (n : Nat) (c : Nat → Int32) : Nat → Nat → Nat → Bool
  | 0 => fun _ _ => false
  | p + 1 => fun k i => if 5 < g p ∧ k = cm_tc g p then (if g p = 6 then decide (i < n) && cm_S g n c p (cm_hn g p - 1) i else cm_U (cm_S g n c p (cm_hn g p - 2)) (cm_S g n c p (cm_hn g p - 1)) (n - i) i) else cm_O g n c p k i
def cx_new (b : Nat → Bool) (a : Int32) (o k : Nat) (x y : Bool) : Bool :=
  if o < 3 then cm_fb a o
  else if o = 3 then ! y
  else if o = 4 then x && y
  else if o = 5 then x || y
  else if o = 6 then b k
  else y || (x && b k)
def cx_ow (b : Nat → Bool) (o k : Nat) (x y : Bool) : Bool := if o = 6 then y else y || (x && b k)
def cx_S (g : Nat → Nat) (a : Int32) (b : Nat → Bool) : Nat → Nat → Bool
  | 0 => fun _ => false
  | p + 1 => fun t => if t = cm_hn g (p + 1) - 1 then cx_new b a (g p) (cm_tc g p) (cx_S g a b p (cm_hn g p - 2)) (cx_S g a b p (cm_hn g p - 1)) else cx_S g a b p t
def cx_O (g : Nat → Nat) (a : Int32) (b : Nat → Bool) : Nat → Nat → Bool
  | 0 => fun _ => false
  | p + 1 => fun k => if 5 < g p ∧ k = cm_tc g p then cx_ow b (g p) k (cx_S g a b p (cm_hn g p - 2)) (cx_S g a b p (cm_hn g p - 1)) else cx_O g a b p k
def cx_T (g : Nat → Nat) (s : Nat) (c : Nat → Int32) : Nat → (Nat → Bool) → Bool
  | 0 => fun _ => false
  | j + 1 => fun b => if j = 0 then cx_S g (c j) b s 0 else cx_T g s c j (fun k => decide (k < cm_tc g s) && cx_O g (c j) b s k)
def cm_W (g : Nat → Nat) (s : Nat) : Prop := 0 < s ∧ s ≤ 16 ∧ (∀ p, g p < 8) ∧ (∀ p, p < s → 1 ≤ cm_hn g (p + 1)) ∧ cm_hn g s = 1 ∧ cm_tc g s ≤ 6

theorem cl_hs (g : Nat → Nat) (p : Nat) : cm_hn g (p + 1) = if g p < 3 then cm_hn g p + 1 else if g p = 3 ∨ g p = 6 then cm_hn g p else cm_hn g p - 1 := rfl
theorem cl_ts (g : Nat → Nat) (p : Nat) : cm_tc g (p + 1) = if 5 < g p then cm_tc g p + 1 else cm_tc g p := rfl
theorem cl_h0 {g : Nat → Nat} {p : Nat} (h : g p < 3) : cm_hn g (p + 1) = cm_hn g p + 1 := by rw [cl_hs, if_pos h]
theorem cl_h1 {g : Nat → Nat} {p : Nat} (h : g p = 3 ∨ g p = 6) : cm_hn g (p + 1) = cm_hn g p := by rw [cl_hs, if_neg (by omega), if_pos h]
theorem cl_h2 {g : Nat → Nat} {p : Nat} (h : 3 ≤ g p) (h3 : g p ≠ 3) (h6 : g p ≠ 6) : cm_hn g (p + 1) = cm_hn g p - 1 := by rw [cl_hs, if_neg (by omega), if_neg (by omega)]
theorem cl_t1 {g : Nat → Nat} {p : Nat} (h : 5 < g p) : cm_tc g (p + 1) = cm_tc g p + 1 := by rw [cl_ts, if_pos h]
theorem cl_t0 {g : Nat → Nat} {p : Nat} (h : ¬ 5 < g p) : cm_tc g (p + 1) = cm_tc g p := by rw [cl_ts, if_neg h]
theorem cl_hle (g : Nat → Nat) : ∀ p, cm_hn g p ≤ p := by
  intro p
  induction p with
  | zero => exact Nat.le_refl 0
  | succ p ih =>
    rw [cl_hs]
    split
    · omega
    · split <;> omega
theorem cl_tle1 (g : Nat → Nat) (p : Nat) : cm_tc g p ≤ cm_tc g (p + 1) := by
  rw [cl_ts]
  split <;> omega
theorem cl_tle (g : Nat → Nat) {p q : Nat} (h : p ≤ q) : cm_tc g p ≤ cm_tc g q := by
  induction q with
  | zero => rw [Nat.le_zero.mp h]; exact Nat.le_refl _
  | succ q ih =>
    rcases Nat.lt_or_ge p (q + 1) with z | z
    · exact Nat.le_trans (ih (by omega)) (cl_tle1 g q)
    · rw [show p = q + 1 by omega]; exact Nat.le_refl _
theorem cl_n1 {g : Nat → Nat} {p : Nat} (h1 : 1 ≤ cm_hn g (p + 1)) (h : 3 ≤ g p) : 1 ≤ cm_hn g p := by
  rw [cl_hs, if_neg (by omega)] at h1
  split at h1 <;> omega
theorem cl_n2 {g : Nat → Nat} {p : Nat} (h1 : 1 ≤ cm_hn g (p + 1)) (h : 3 ≤ g p) (h3 : g p ≠ 3) (h6 : g p ≠ 6) : 2 ≤ cm_hn g p := by
  rw [cl_h2 h h3 h6] at h1
  omega
theorem cl_hin {g : Nat → Nat} {p t : Nat} (ht : t < cm_hn g (p + 1)) (e : ¬ t = cm_hn g (p + 1) - 1) : t < cm_hn g p := by
  rw [cl_hs] at ht e
  split at ht
  · rename_i z; rw [if_pos z] at e; omega
  · rename_i z
    rw [if_neg z] at e
    split at ht
    · rename_i z2; rw [if_pos z2] at e; omega
    · rename_i z2; rw [if_neg z2] at e; omega
theorem cl_hc {g g' : Nat → Nat} {p : Nat} : (∀ i, i < p → g i = g' i) → cm_hn g p = cm_hn g' p := by
  induction p with
  | zero => intro _; rfl
  | succ p ih => intro h; rw [cl_hs, cl_hs, ih (fun i hi => h i (by omega)), h p (by omega)]
theorem cl_tc {g g' : Nat → Nat} {p : Nat} : (∀ i, i < p → g i = g' i) → cm_tc g p = cm_tc g' p := by
  induction p with
  | zero => intro _; rfl
  | succ p ih => intro h; rw [cl_ts, cl_ts, ih (fun i hi => h i (by omega)), h p (by omega)]

theorem cl_U {x y : Nat → Bool} {n j : Nat} (h : j < n) : cm_U x y (n - j) j = (y j || (x j && cm_U x y (n - (j + 1)) (j + 1))) := by
  rw [show n - j = (n - (j + 1)) + 1 by omega]
  rfl
theorem cl_U0 {x y : Nat → Bool} {n j : Nat} (h : n ≤ j) : cm_U x y (n - j) j = false := by
  rw [show n - j = 0 by omega]
  rfl
theorem cl_Ss (g : Nat → Nat) (n : Nat) (c : Nat → Int32) (p t i : Nat) : cm_S g n c (p + 1) t i = if t = cm_hn g (p + 1) - 1 then cm_new n c (g p) (cm_S g n c p (cm_hn g p - 2)) (cm_S g n c p (cm_hn g p - 1)) i else cm_S g n c p t i := rfl
theorem cl_Os (g : Nat → Nat) (n : Nat) (c : Nat → Int32) (p k i : Nat) : cm_O g n c (p + 1) k i = if 5 < g p ∧ k = cm_tc g p then (if g p = 6 then decide (i < n) && cm_S g n c p (cm_hn g p - 1) i else cm_U (cm_S g n c p (cm_hn g p - 2)) (cm_S g n c p (cm_hn g p - 1)) (n - i) i) else cm_O g n c p k i := rfl
theorem cx_Ss (g : Nat → Nat) (a : Int32) (b : Nat → Bool) (p t : Nat) : cx_S g a b (p + 1) t = if t = cm_hn g (p + 1) - 1 then cx_new b a (g p) (cm_tc g p) (cx_S g a b p (cm_hn g p - 2)) (cx_S g a b p (cm_hn g p - 1)) else cx_S g a b p t := rfl
theorem cx_Os (g : Nat → Nat) (a : Int32) (b : Nat → Bool) (p k : Nat) : cx_O g a b (p + 1) k = if 5 < g p ∧ k = cm_tc g p then cx_ow b (g p) k (cx_S g a b p (cm_hn g p - 2)) (cx_S g a b p (cm_hn g p - 1)) else cx_O g a b p k := rfl
theorem cx_Ts (g : Nat → Nat) (s : Nat) (c : Nat → Int32) (j : Nat) (b : Nat → Bool) : cx_T g s c (j + 1) b = if j = 0 then cx_S g (c j) b s 0 else cx_T g s c j (fun k => decide (k < cm_tc g s) && cx_O g (c j) b s k) := rfl
/-- a later token leaves the obligations that are there -/
theorem cl_Ost (g : Nat → Nat) (n : Nat) (c : Nat → Int32) {p q k : Nat} (h : p ≤ q) (hk : k < cm_tc g p) (i : Nat) : cm_O g n c q k i = cm_O g n c p k i := by
  induction q with
  | zero => rw [Nat.le_zero.mp h]
  | succ q ih =>
    rcases Nat.lt_or_ge p (q + 1) with z | z
    · have := cl_tle g (show p ≤ q by omega)
      rw [cl_Os, if_neg (by omega)]
      exact ih (by omega)
    · rw [show p = q + 1 by omega]
theorem cl_Ob (g : Nat → Nat) (n : Nat) (c : Nat → Int32) {p s : Nat} (h : p < s) (h5 : 5 < g p) (i : Nat) : cm_O g n c s (cm_tc g p) i = if g p = 6 then decide (i < n) && cm_S g n c p (cm_hn g p - 1) i else cm_U (cm_S g n c p (cm_hn g p - 2)) (cm_S g n c p (cm_hn g p - 1)) (n - i) i := by
  rw [cl_Ost g n c (show p + 1 ≤ s by omega) (by rw [cl_t1 h5]; omega) i, cl_Os, if_pos ⟨h5, rfl⟩]
theorem cl_On (g : Nat → Nat) (n : Nat) (c : Nat → Int32) (k : Nat) : ∀ p, cm_O g n c p k n = false := by
  intro p
  induction p with
  | zero => rfl
  | succ p ih =>
    rw [cl_Os]
    split
    · split
      · simp
      · exact cl_U0 (Nat.le_refl n)
    · exact ih
/-- the symbolic evaluation at one instant, at the set of the obligations that hold from the next one on -/
theorem cl_link {g : Nat → Nat} {n : Nat} {c : Nat → Int32} {s j : Nat} {b : Nat → Bool} (hW : ∀ p, p < s → 1 ≤ cm_hn g (p + 1)) (hj : j < n) (hb : ∀ k, k < cm_tc g s → b k = cm_O g n c s k (j + 1)) : ∀ p, p ≤ s → (∀ t, t < cm_hn g p → cx_S g (c j) b p t = cm_S g n c p t j) ∧ (∀ k, k < cm_tc g p → cx_O g (c j) b p k = cm_O g n c p k j) := by
  intro p
  induction p with
  | zero => intro _; exact ⟨fun t ht => absurd ht (Nat.not_lt_zero t), fun k hk => absurd hk (Nat.not_lt_zero k)⟩
  | succ p ih =>
    intro hp
    obtain ⟨iS, iO⟩ := ih (by omega)
    have h1 := hW p (by omega)
    have hy : 3 ≤ g p → cx_S g (c j) b p (cm_hn g p - 1) = cm_S g n c p (cm_hn g p - 1) j := fun h => iS _ (by have := cl_n1 h1 h; omega)
    have hx : 3 ≤ g p → g p ≠ 3 → g p ≠ 6 → cx_S g (c j) b p (cm_hn g p - 2) = cm_S g n c p (cm_hn g p - 2) j := fun h h3 h6 => iS _ (by have := cl_n2 h1 h h3 h6; omega)
    have hk : 5 < g p → b (cm_tc g p) = if g p = 6 then decide (j + 1 < n) && cm_S g n c p (cm_hn g p - 1) (j + 1) else cm_U (cm_S g n c p (cm_hn g p - 2)) (cm_S g n c p (cm_hn g p - 1)) (n - (j + 1)) (j + 1) := by
      intro h5
      have e := cl_tle g (show p + 1 ≤ s by omega)
      rw [cl_t1 h5] at e
      rw [hb _ (by omega), cl_Ob g n c (by omega) h5]
    refine ⟨fun t ht => ?_, fun k hk' => ?_⟩
    · rw [cx_Ss, cl_Ss]
      by_cases e : t = cm_hn g (p + 1) - 1
      · rw [if_pos e, if_pos e]
        unfold cx_new cm_new
        by_cases z0 : g p < 3
        · rw [if_pos z0, if_pos z0, decide_eq_true hj, Bool.true_and]
        rw [if_neg z0, if_neg z0]
        by_cases z3 : g p = 3
        · rw [if_pos z3, if_pos z3, hy (by omega)]
        rw [if_neg z3, if_neg z3]
        by_cases z4 : g p = 4
        · rw [if_pos z4, if_pos z4, hy (by omega), hx (by omega) z3 (by omega)]
        rw [if_neg z4, if_neg z4]
        by_cases z5 : g p = 5
        · rw [if_pos z5, if_pos z5, hy (by omega), hx (by omega) z3 (by omega)]
        rw [if_neg z5, if_neg z5]
        by_cases z6 : g p = 6
        · rw [if_pos z6, if_pos z6, hk (by omega), if_pos z6]
        rw [if_neg z6, if_neg z6, hk (by omega), if_neg z6, hy (by omega), hx (by omega) z3 z6, cl_U hj]
      · rw [if_neg e, if_neg e]
        exact iS t (cl_hin ht e)
    · rw [cx_Os, cl_Os]
      by_cases e : 5 < g p ∧ k = cm_tc g p
      · rw [if_pos e, if_pos e]
        unfold cx_ow
        rw [e.2]
        by_cases z6 : g p = 6
        · rw [if_pos z6, if_pos z6, decide_eq_true hj, Bool.true_and, hy (by omega)]
        · rw [if_neg z6, if_neg z6, hk e.1, if_neg z6, hy (by omega), hx (by omega) (by omega) z6, cl_U hj]
      · rw [if_neg e, if_neg e]
        apply iO
        rw [cl_ts] at hk'
        split at hk' <;> omega
theorem cl_key {g : Nat → Nat} {n : Nat} {c : Nat → Int32} {s : Nat} (hW : cm_W g s) : ∀ j, 1 ≤ j → j ≤ n → cx_T g s c j (fun k => decide (k < cm_tc g s) && cm_O g n c s k j) = cm_S g n c s 0 0 := by
  obtain ⟨_, _, _, hw, he, _⟩ := hW
  intro j
  induction j with
  | zero => intro h; exact absurd h (by omega)
  | succ j ih =>
    intro _ hj
    have L := cl_link (g := g) (n := n) (c := c) (s := s) (j := j) (b := fun k => decide (k < cm_tc g s) && cm_O g n c s k (j + 1)) hw (by omega) (fun k hk => by simp [hk]) s (Nat.le_refl s)
    rw [cx_Ts]
    by_cases z : j = 0
    · rw [if_pos z, L.1 0 (by omega), z]
    · rw [if_neg z]
      have e : (fun k => decide (k < cm_tc g s) && cx_O g (c j) (fun k => decide (k < cm_tc g s) && cm_O g n c s k (j + 1)) s k) = (fun k => decide (k < cm_tc g s) && cm_O g n c s k j) := by
        funext k
        by_cases hk : k < cm_tc g s
        · rw [L.2 k hk]
        · rw [decide_eq_false hk, Bool.false_and, Bool.false_and]
      rw [e]
      exact ih (by omega) (by omega)
theorem cl_main {g : Nat → Nat} {n : Nat} {c : Nat → Int32} {s : Nat} (hW : cm_W g s) (hn : 1 ≤ n) : cx_T g s c n (fun _ => false) = cm_S g n c s 0 0 := by
  rw [← cl_key hW n hn (Nat.le_refl n)]
  congr 1
  funext k
  rw [cl_On, Bool.and_false]
theorem cl_Sc {g : Nat → Nat} {n : Nat} {c c' : Nat → Int32} (h : ∀ i, i < n → c i = c' i) : ∀ p, cm_S g n c p = cm_S g n c' p := by
  intro p
  induction p with
  | zero => rfl
  | succ p ih =>
    funext t i
    rw [cl_Ss, cl_Ss, ih]
    have e : ∀ x y : Nat → Bool, cm_new n c (g p) x y i = cm_new n c' (g p) x y i := by
      intro x y
      unfold cm_new
      by_cases hi : i < n
      · rw [h i hi]
      · rw [decide_eq_false hi, Bool.false_and, Bool.false_and]
    rw [e]
theorem cl_Tc {g : Nat → Nat} {s : Nat} {c c' : Nat → Int32} : ∀ j, (∀ i, i < j → c i = c' i) → cx_T g s c j = cx_T g s c' j := by
  intro j
  induction j with
  | zero => intro _; rfl
  | succ j ih =>
    intro h
    funext b
    rw [cx_Ts, cx_Ts, h j (by omega), ih (fun i hi => h i (by omega))]
/-- the table behind one more instant -/
theorem cl_Tu {g : Nat → Nat} {s : Nat} {c : Nat → Int32} {l : Nat} {f : Int32} {b : Nat → Bool} : cx_T g s (upd c l f) (l + 1) b = if l = 0 then cx_S g f b s 0 else cx_T g s c l (fun k => decide (k < cm_tc g s) && cx_O g f b s k) := by
  rw [cx_Ts, pk_us, cl_Tc (c := upd c l f) (c' := c) l (fun i hi => pk_un (by omega))]
end
section
/-! the draft: where its formulas begin; the formula that a define takes -/
def cm_tk (o : Nat) : Nat := if o < 3 then 0 else o - 2
def cm_fc (o : Nat) : Nat := if o < 3 then o else 0
def cm_TK (g : Nat → Nat) : Nat → Int32 := fun j => nI (cm_tk (g j))
def cm_FO (g : Nat → Nat) : Nat → Int32 := fun j => nI (cm_fc (g j))
def cm_WD (g : Nat → Nat) : Nat → Int32 := fun j => nI (g j)
def cm_up (d : Nat → Nat) (k o : Nat) : Nat → Nat := fun j => if j = k then o else d j
def cm_cp (d : Nat → Nat) (r : Nat) (g : Nat → Nat) (i : Nat) : Nat → Nat := fun j => if j < i then d (r + j) else g j
/-- r is the last place before m at which the height is t -/
def cm_B (d : Nat → Nat) (m t r : Nat) : Prop := r < m ∧ cm_hn d r = t ∧ ∀ i, r < i → i ≤ m → t < cm_hn d i
def cm_D (h m q : Nat) (bg : Nat → Int32) (d : Nat → Nat) : Prop := m ≤ 16 ∧ h ≤ 6 ∧ q ≤ 6 ∧ (∀ j, d j < 8) ∧ cm_hn d m = h ∧ cm_tc d m = q ∧ ∀ t, t < h → ∃ r, bg t = nI r ∧ cm_B d m t r

theorem cd_upT (d : Nat → Nat) (k o : Nat) : upd (cm_TK d) k (nI (cm_tk o)) = cm_TK (cm_up d k o) := by
  funext j
  unfold upd cm_TK cm_up
  by_cases e : j = k
  · rw [if_pos e, if_pos e]
  · rw [if_neg e, if_neg e]
theorem cd_upF (d : Nat → Nat) (k o : Nat) : upd (cm_FO d) k (nI (cm_fc o)) = cm_FO (cm_up d k o) := by
  funext j
  unfold upd cm_FO cm_up
  by_cases e : j = k
  · rw [if_pos e, if_pos e]
  · rw [if_neg e, if_neg e]
theorem cd_upW (d : Nat → Nat) (k o : Nat) : upd (cm_WD d) k (nI o) = cm_WD (cm_up d k o) := by
  funext j
  unfold upd cm_WD cm_up
  by_cases e : j = k
  · rw [if_pos e, if_pos e]
  · rw [if_neg e, if_neg e]
theorem cd_cp0 (d : Nat → Nat) (r : Nat) (g : Nat → Nat) : cm_cp d r g 0 = g := by
  funext j
  exact if_neg (Nat.not_lt_zero j)
theorem cd_cp (d : Nat → Nat) (r : Nat) (g : Nat → Nat) (i : Nat) : cm_up (cm_cp d r g i) i (d (r + i)) = cm_cp d r g (i + 1) := by
  funext j
  unfold cm_up cm_cp
  by_cases e : j = i
  · rw [if_pos e, if_pos (by omega), e]
  · rw [if_neg e]
    by_cases z : j < i
    · rw [if_pos z, if_pos (by omega)]
    · rw [if_neg z, if_neg (by omega)]
theorem cd_up8 {d : Nat → Nat} {k o : Nat} (h : ∀ j, d j < 8) (ho : o < 8) (j : Nat) : cm_up d k o j < 8 := by
  unfold cm_up
  split
  · exact ho
  · exact h j
theorem cd_cp8 {d g : Nat → Nat} {r i : Nat} (h : ∀ j, d j < 8) (hg : ∀ j, g j < 8) (j : Nat) : cm_cp d r g i j < 8 := by
  unfold cm_cp
  split
  · exact h _
  · exact hg _
theorem cd_uk {d : Nat → Nat} {k o : Nat} : cm_up d k o k = o := if_pos rfl
theorem cd_hu {d : Nat → Nat} {m o i : Nat} (h : i ≤ m) : cm_hn (cm_up d m o) i = cm_hn d i := cl_hc (fun j hj => if_neg (by omega))
theorem cd_tu {d : Nat → Nat} {m o i : Nat} (h : i ≤ m) : cm_tc (cm_up d m o) i = cm_tc d i := cl_tc (fun j hj => if_neg (by omega))
/-- the heights' borders last when the next height isn't lower -/
theorem cd_B {d : Nat → Nat} {m o t r : Nat} (h : cm_B d m t r) (ht : t < cm_hn (cm_up d m o) (m + 1)) : cm_B (cm_up d m o) (m + 1) t r := by
  obtain ⟨h1, h2, h3⟩ := h
  refine ⟨by omega, by rw [cd_hu (by omega)]; exact h2, fun i hi hm => ?_⟩
  rcases Nat.lt_or_ge m i with z | z
  · rw [show i = m + 1 by omega]; exact ht
  · rw [cd_hu z]; exact h3 i hi z
theorem cd_0 {bg : Nat → Int32} {d : Nat → Nat} (h : ∀ j, d j < 8) : cm_D 0 0 0 bg d := ⟨by omega, by omega, by omega, h, rfl, rfl, fun t ht => absurd ht (Nat.not_lt_zero t)⟩
theorem cd_fact {h m q o : Nat} {bg : Nat → Int32} {d : Nat → Nat} (D : cm_D h m q bg d) (hm : m < 16) (hh : h < 6) (ho : o < 3) : cm_D (h + 1) (m + 1) q (upd bg h (nI m)) (cm_up d m o) := by
  obtain ⟨_, _, h3, h4, h5, h6, h7⟩ := D
  have e : cm_hn (cm_up d m o) (m + 1) = h + 1 := by rw [cl_h0 (by rw [cd_uk]; exact ho), cd_hu (Nat.le_refl m), h5]
  refine ⟨by omega, by omega, h3, cd_up8 h4 (by omega), e, ?_, fun t ht => ?_⟩
  · rw [cl_t0 (by rw [cd_uk]; omega), cd_tu (Nat.le_refl m), h6]
  · by_cases z : t = h
    · refine ⟨m, by rw [z, pk_us], by omega, by rw [cd_hu (Nat.le_refl m), h5, z], fun i hi hm' => ?_⟩
      rw [show i = m + 1 by omega, e]
      exact ht
    · obtain ⟨r, hr, hB⟩ := h7 t (by omega)
      exact ⟨r, by rw [pk_un z]; exact hr, cd_B hB (by rw [e]; exact ht)⟩
/-- any other token: it takes w formulas, and gives one -/
theorem cd_op {h m q o w q' : Nat} {bg : Nat → Int32} {d : Nat → Nat} (D : cm_D h m q bg d) (hm : m < 16) (h3 : 3 ≤ o) (h8 : o < 8) (hw : w = if o = 3 ∨ o = 6 then 1 else 2) (hh : w ≤ h) (hq : q' = if 5 < o then q + 1 else q) (hq6 : q' ≤ 6) : cm_D (h - w + 1) (m + 1) q' bg (cm_up d m o) := by
  obtain ⟨_, a2, _, h4, h5, h6, h7⟩ := D
  have e : cm_hn (cm_up d m o) (m + 1) = h - w + 1 := by
    rw [cl_hs, cd_uk, cd_hu (Nat.le_refl m), h5, if_neg (by omega)]
    split
    · rename_i z; rw [if_pos z] at hw; omega
    · rename_i z; rw [if_neg z] at hw; omega
  have w1 : 1 ≤ w := by rw [hw]; split <;> omega
  refine ⟨by omega, by omega, hq6, cd_up8 h4 h8, e, ?_, fun t ht => ?_⟩
  · rw [cl_ts, cd_uk, cd_tu (Nat.le_refl m), h6, hq]
  · obtain ⟨r, hr, hB⟩ := h7 t (by omega)
    exact ⟨r, hr, cd_B hB (by rw [e]; exact ht)⟩
theorem cd_sh {d g : Nat → Nat} {m t r : Nat} (B : cm_B d m t r) : ∀ i, i ≤ m - r → cm_hn (cm_cp d r g (m - r)) i + t = cm_hn d (r + i) ∧ cm_tc (cm_cp d r g (m - r)) i + cm_tc d r = cm_tc d (r + i) := by
  obtain ⟨h1, h2, h3⟩ := B
  intro i
  induction i with
  | zero => intro _; exact ⟨(Nat.zero_add t).trans h2.symm, Nat.zero_add _⟩
  | succ i ih =>
    intro hi
    obtain ⟨a, b⟩ := ih (by omega)
    have c := h3 (r + (i + 1)) (by omega) (by omega)
    have e : cm_cp d r g (m - r) i = d (r + i) := if_pos (by omega)
    rw [show r + (i + 1) = (r + i) + 1 by omega] at c ⊢
    rw [cl_hs] at c
    rw [cl_hs, cl_hs, cl_ts, cl_ts, e]
    refine ⟨?_, ?_⟩
    · split
      · omega
      · rename_i z
        rw [if_neg z] at c
        split
        · exact a
        · rename_i z2
          rw [if_neg z2] at c
          omega
    · split <;> omega
theorem cd_def {h m q r : Nat} {bg : Nat → Int32} {d g : Nat → Nat} (D : cm_D h m q bg d) (hg : ∀ j, g j < 8) (h0 : 0 < h) (B : cm_B d m (h - 1) r) : cm_W (cm_cp d r g (m - r)) (m - r) := by
  obtain ⟨h1, h2, h3, h4, h5, h6, h7⟩ := D
  have E := cd_sh (g := g) B
  obtain ⟨b1, b2, b3⟩ := B
  refine ⟨by omega, by omega, cd_cp8 h4 hg, fun p hp => ?_, ?_, ?_⟩
  · have a := (E (p + 1) (by omega)).1
    have b := b3 (r + (p + 1)) (by omega) (by omega)
    omega
  · have a := (E (m - r) (Nat.le_refl _)).1
    rw [show r + (m - r) = m by omega, h5] at a
    omega
  · have a := (E (m - r) (Nat.le_refl _)).2
    rw [show r + (m - r) = m by omega, h6] at a
    omega
end
section
/-! 64 bits of a table -/
def cb_L (x : Int64) (i : Nat) : Bool := x.toBitVec.getLsbD i
theorem cb_or (x y : Int64) (i : Nat) : cb_L (x ||| y) i = (cb_L x i || cb_L y i) := by unfold cb_L; rw [Int64.toBitVec_or, BitVec.getLsbD_or]
theorem cb_and (x y : Int64) (i : Nat) : cb_L (x &&& y) i = (cb_L x i && cb_L y i) := by unfold cb_L; rw [Int64.toBitVec_and, BitVec.getLsbD_and]
theorem cb_0 (i : Nat) : cb_L 0 i = false := BitVec.getLsbD_zero
theorem cb_m1 : ∀ i, i < 64 → cb_L (-1) i = true := by decide +kernel
theorem cb_not (x : Int64) {i : Nat} (hi : i < 64) : cb_L (x ^^^ (-1)) i = ! cb_L x i := by
  have h : cb_L (x ^^^ (-1)) i = (cb_L x i ^^ cb_L (-1) i) := by unfold cb_L; rw [Int64.toBitVec_xor, BitVec.getLsbD_xor]
  rw [h, cb_m1 i hi, Bool.xor_true]
theorem cb_lN {n : Nat} (h : n < 2 ^ 64) (i : Nat) : cb_L (lN n) i = n.testBit i := by
  show (lN n).toBitVec.toNat.testBit i = _
  rw [wb_tn h]
theorem cb_p1 : ∀ m, m < 64 → 2 ^ m < 2 ^ 64 := fun m hm => wb_lt2 hm
theorem cb_tp {m i : Nat} (hm : m < 64) : cb_L (lN (2 ^ m)) i = decide (i = m) := by
  rw [cb_lN (cb_p1 m hm), Nat.testBit_two_pow]
  by_cases h : m = i
  · rw [decide_eq_true h, decide_eq_true h.symm]
  · rw [decide_eq_false h, decide_eq_false (fun z => h z.symm)]
theorem cb_one {m i : Nat} (hm : m < 64) : cb_L ((1 : Int64) <<< ((nI m).toInt64 &&& 63)) i = decide (i = m) := by
  have h : (1 : Int64) <<< ((nI m).toInt64 &&& 63) = lN (1 * 2 ^ m) := wb_shl 1 hm
  rw [h, Nat.one_mul, cb_tp hm]
theorem cb_bit {x : Int64} {s : Nat} (hs : s < 64) : (x.toUInt64 >>> ((nI s).toInt64.toUInt64 &&& Int64.toUInt64 63)).toInt64 &&& 1 = lN (if cb_L x s = true then 1 else 0) := by
  obtain ⟨n, hn, rfl⟩ := wb_of x
  rw [wb_bit hn hs, cb_lN hn, Nat.testBit_eq_decide_div_mod_eq]
  have h2 := Nat.mod_two_eq_zero_or_one (n / 2 ^ s)
  rcases h2 with h | h
  · rw [h]; rfl
  · rw [h]; rfl
theorem cb_sh {x : Int64} {s m : Nat} (hs : s < 64) (hm : m < 64) (i : Nat) : cb_L (((x.toUInt64 >>> ((nI s).toInt64.toUInt64 &&& Int64.toUInt64 63)).toInt64 &&& 1) <<< ((nI m).toInt64 &&& 63)) i = (decide (i = m) && cb_L x s) := by
  rw [cb_bit hs]
  cases h : cb_L x s
  · rw [if_neg (by decide), wb_shl 0 hm, Nat.zero_mul, Bool.and_false]
    exact cb_0 i
  · rw [if_pos rfl, wb_shl 1 hm, Nat.one_mul, cb_tp hm, Bool.and_true]
theorem cb_nor (a b : Nat) : nI a ||| nI b = nI (a ||| b) := by
  apply Int32.toBitVec_inj.1
  show BitVec.ofNat 32 a ||| BitVec.ofNat 32 b = BitVec.ofNat 32 (a ||| b)
  apply BitVec.eq_of_getLsbD_eq
  intro i hi
  simp [hi]
/-- the number with the bits F below k -/
def cb_fo (F : Nat → Bool) : Nat → Nat
  | 0 => 0
  | k + 1 => cb_fo F k ||| (if F k = true then 2 ^ k else 0)
theorem cb_folt (F : Nat → Bool) : ∀ k, cb_fo F k < 2 ^ k := by
  intro k
  induction k with
  | zero => exact Nat.one_pos
  | succ k ih =>
    have h : 2 ^ (k + 1) = 2 ^ k + 2 ^ k := by rw [Nat.pow_succ]; omega
    have h0 : 0 < 2 ^ k := Nat.two_pow_pos k
    refine Nat.or_lt_two_pow (by omega) ?_
    split <;> omega
theorem cb_fotb (F : Nat → Bool) (j : Nat) : ∀ k, (cb_fo F k).testBit j = (decide (j < k) && F j) := by
  intro k
  induction k with
  | zero => show (0 : Nat).testBit j = _; rw [Nat.zero_testBit]; rfl
  | succ k ih =>
    show (cb_fo F k ||| _).testBit j = _
    rw [Nat.testBit_or, ih]
    by_cases e : j = k
    · subst e
      rw [decide_eq_false (by omega), Bool.false_and, Bool.false_or, decide_eq_true (by omega), Bool.true_and]
      cases h : F j
      · rw [if_neg (by decide), Nat.zero_testBit]
      · rw [if_pos rfl, Nat.testBit_two_pow_self]
    · have h0 : (if F k = true then 2 ^ k else 0).testBit j = false := by
        split
        · rw [Nat.testBit_two_pow]; exact decide_eq_false (fun z => e z.symm)
        · exact Nat.zero_testBit j
      rw [h0, Bool.or_false]
      by_cases z : j < k
      · rw [decide_eq_true z, decide_eq_true (by omega)]
      · rw [decide_eq_false z, decide_eq_false (by omega)]
theorem cb_fo0 {F : Nat → Bool} {k : Nat} : cb_fo F k = 0 ↔ ∀ j, j < k → F j = false := by
  constructor
  · intro h j hj
    have t := cb_fotb F j k
    rw [h, Nat.zero_testBit, decide_eq_true hj, Bool.true_and] at t
    exact t.symm
  · intro h
    apply Nat.eq_of_testBit_eq
    intro j
    rw [cb_fotb, Nat.zero_testBit]
    by_cases hj : j < k
    · rw [h j hj, Bool.and_false]
    · rw [decide_eq_false hj, Bool.false_and]
theorem cb_fo1 {F : Nat → Bool} {k : Nat} : cb_fo F k = 2 ^ k - 1 ↔ ∀ j, j < k → F j = true := by
  constructor
  · intro h j hj
    have t := cb_fotb F j k
    rw [h, Nat.testBit_two_pow_sub_one, decide_eq_true hj, Bool.true_and] at t
    exact t.symm
  · intro h
    apply Nat.eq_of_testBit_eq
    intro j
    rw [cb_fotb, Nat.testBit_two_pow_sub_one]
    by_cases hj : j < k
    · rw [h j hj, Bool.and_true]
    · rw [decide_eq_false hj, Bool.false_and]
/-- one bit more: by 'or', by a sum -/
theorem cb_fot {F : Nat → Bool} {k : Nat} (hk : k < 31) (h : F k = true) : nI (cb_fo F k) ||| ((1 : Int32) <<< (nI k &&& 31)) = nI (cb_fo F (k + 1)) := by
  have h31 : 2 ^ k < 2 ^ 31 := wb_lt2 hk
  have e : (1 : Int32) <<< (nI k &&& 31) = nI (1 * 2 ^ k) := pk_shlN _ k (s_l k (by omega)) (by rw [Nat.one_mul]; omega)
  rw [e, Nat.one_mul, cb_nor]
  show _ = nI (cb_fo F k ||| _)
  rw [if_pos h]
theorem cb_fos {F : Nat → Bool} {k : Nat} (hk : k < 31) (h : F k = true) : nI (cb_fo F k) + ((1 : Int32) <<< (nI k &&& 31)) = nI (cb_fo F (k + 1)) := by
  rw [← cb_fot hk h]
  have h31 : 2 ^ k < 2 ^ 31 := wb_lt2 hk
  have e : (1 : Int32) <<< (nI k &&& 31) = nI (1 * 2 ^ k) := pk_shlN _ k (s_l k (by omega)) (by rw [Nat.one_mul]; omega)
  rw [e, Nat.one_mul, cb_nor, nI_add]
  have t := Nat.two_pow_add_eq_or_of_lt (cb_folt F k) 1
  rw [Nat.mul_one] at t
  rw [Nat.add_comm, t, Nat.or_comm]
theorem cb_fof {F : Nat → Bool} {k : Nat} (h : ¬ F k = true) : cb_fo F (k + 1) = cb_fo F k := by
  show cb_fo F k ||| _ = _
  rw [if_neg h, Nat.or_zero]
def cb_set (ow : Nat → Int64) (m : Nat) (k : Nat) : Nat := cb_fo (fun j => cb_L (ow j) m) k
theorem cb_setlt (ow : Nat → Int64) (m : Nat) (k : Nat) : cb_set ow m k < 2 ^ k := cb_folt _ k
theorem cb_settb (ow : Nat → Int64) (m : Nat) (j : Nat) (k : Nat) : (cb_set ow m k).testBit j = (decide (j < k) && cb_L (ow j) m) := cb_fotb _ j k
theorem cb_sets {ow : Nat → Int64} {m k : Nat} (hm : m < 64) (hk : k < 6) : nI (cb_set ow m k) ||| ((((ow k).toUInt64 >>> ((nI m).toInt64.toUInt64 &&& Int64.toUInt64 63)).toInt64 &&& 1).toInt32 <<< (nI k &&& 31)) = nI (cb_set ow m (k + 1)) := by
  rw [cb_bit hm, lN_i]
  have h6 : 2 ^ k < 2 ^ 6 := wb_lt2 hk
  show _ = nI (cb_set ow m k ||| (if cb_L (ow k) m = true then 2 ^ k else 0))
  rw [← cb_nor]
  cases h : cb_L (ow k) m
  · rw [if_neg (by decide), if_neg (by decide), pk_shlN _ k (s_l k (by omega)) (by omega), Nat.zero_mul]
  · rw [if_pos rfl, if_pos rfl, pk_shlN _ k (s_l k (by omega)) (by omega), Nat.one_mul]
theorem cb_var : ∀ k, k < 6 → ∀ m, m < 64 → decide (((nI m >>> (nI k &&& 31)) &&& 1) = 1) = m.testBit k := by decide +kernel
theorem cb_end (x : Int64) : (x &&& 1) = 1 ↔ cb_L x 0 = true := by
  obtain ⟨n, hn, rfl⟩ := wb_of x
  rw [wb_a1 hn, cb_lN hn, show (1 : Int64) = lN 1 from rfl, lN_eq (by omega) (by omega), Nat.testBit_eq_decide_div_mod_eq, Nat.pow_zero, Nat.div_one, decide_eq_true_iff]
def cb_I (b : Bool) : Int32 := if b = true then 1 else 0
theorem cb_In (b : Bool) : narrow .boolean (.int (cb_I b)) = .int (cb_I b) := by cases b <;> rfl
theorem cb_I0 {b : Bool} : cb_I b = 0 ↔ b = false := by cases b <;> decide
theorem cb_Ii {a b : Bool} : cb_I a = cb_I b ↔ a = b := by cases a <;> cases b <;> decide
end
section
/-! the component's constructor: variable[k] has the bits of the sets with k -/
def xi_V (k m : Nat) (va : Nat → Int64) : Prop := ∀ k', k' < 6 → ∀ m', m' < 64 → cb_L (va k') m' = (decide (k' < k ∨ (k' = k ∧ m' < m)) && m'.testBit k')
def xw_V (va : Nat → Int64) : Prop := ∀ k, k < 6 → ∀ m, m < 64 → cb_L (va k) m = m.testBit k
section
variable {xh xm xt xz xo xl : Int32} {bg dd df tk fo : Nat → Int32} {va pl ow : Nat → Int64} {it : Nat → Int32} {tb : Nat → Int64}
theorem xi_in {post : SX → Prop} {J : Int32 → (Nat → Int32) → (Nat → Int32) → (Nat → Int32) → (Nat → Int32) → (Nat → Int32) → (Nat → Int64) → (Nat → Int64) → (Nat → Int64) → (Nat → Int32) → (Nat → Int64) → Prop} {k : Nat} (hk : k < 6) (hJ : ∀ va : Nat → Int64, xi_V (k + 1) 0 va → J (nI (k + 1)) bg dd df tk fo va pl ow it tb) : ∀ e m, m + e = 64 → ∀ va : Nat → Int64, xi_V k m va → wX_init_94 post J (nI k) xh xm xt xz xo xl (e + 1) (nI m) bg dd df tk fo va pl ow it tb := by
  intro e
  induction e with
  | zero =>
    intro m hm va hv
    refine br_t (nI_le (a := 64) (by omega) (by omega)) (nm_r (nI_1 k) (hJ va ?_))
    intro k' hk' m' hm'
    rw [hv k' hk' m' hm']
    congr 1
    apply decide_eq_decide.mpr
    omega
  | succ e ih =>
    intro m hm va hv
    refine br_f (nI_ge (b := 64) (by omega) (by omega)) ?_
    have hb := cb_var k hk m (by omega)
    by_cases z : ((nI m >>> (nI k &&& 31)) &&& 1) = 1
    · rw [decide_eq_true z] at hb
      have hi : vp_in (nI k) 6 := vp_in_nI hk (by omega)
      refine br_t z (And.intro hi (And.intro hi (nm_r (e' := vp_updL va k (va k ||| ((1 : Int64) <<< ((nI m).toInt64 &&& 63)))) (by rw [nI_clamp (by omega)]) (nm_r (nI_1 m) (ih (m + 1) (by omega) _ ?_)))))
      intro k' hk' m' hm'
      by_cases ek : k' = k
      · subst ek
        rw [pk_uLs, cb_or, hv k' hk m' hm', cb_one (by omega)]
        by_cases em : m' = m
        · subst em
          rw [← hb, decide_eq_true (show m' = m' from rfl), Bool.or_true, decide_eq_true (by omega), Bool.and_true]
        · rw [decide_eq_false em, Bool.or_false]
          congr 1
          apply decide_eq_decide.mpr
          omega
      · rw [pk_uLn ek, hv k' hk' m' hm']
        congr 1
        apply decide_eq_decide.mpr
        omega
    · rw [decide_eq_false z] at hb
      refine br_f z (nm_r (nI_1 m) (ih (m + 1) (by omega) va ?_))
      intro k' hk' m' hm'
      rw [hv k' hk' m' hm']
      by_cases em : k' = k ∧ m' = m
      · rw [em.1, em.2, ← hb, Bool.and_false, Bool.and_false]
      · congr 1
        apply decide_eq_decide.mpr
        omega
theorem xi_out {post : SX → Prop} (hp : ∀ va : Nat → Int64, xw_V va → post (xh, xm, xt, 1, xo, xl, bg, dd, df, tk, fo, va, pl, ow, it, tb)) : ∀ e k, k + e = 6 → ∀ va : Nat → Int64, xi_V k 0 va → wX_init_86 post xh xm xt xz xo xl (e + 1) (nI k) bg dd df tk fo va pl ow it tb := by
  intro e
  induction e with
  | zero =>
    intro k hk va hv
    refine br_t (nI_le (a := 6) (by omega) (by omega)) (hp va ?_)
    intro k' hk' m hm
    rw [hv k' hk' m hm, decide_eq_true (by omega), Bool.true_and]
  | succ e ih =>
    intro k hk va hv
    exact br_f (nI_ge (b := 6) (by omega) (by omega)) (Exists.intro 65 (xi_in (by omega) (fun va' hv' => ih (k + 1) (by omega) va' hv') 64 0 rfl va hv))
end
theorem xi_all {post : SX → Prop} (h : ∀ va : Nat → Int64, xw_V va → post (0, 0, 0, 1, 0, 0, (fun _ => 0), (fun _ => 0), (fun _ => 0), (fun _ => 0), (fun _ => 0), va, (fun _ => 0), (fun _ => 0), (fun _ => 0), (fun _ => 0))) : wpX_init post := by
  refine Exists.intro 7 (xi_out h 6 0 rfl (fun _ => 0) ?_)
  intro k' hk' m hm
  show cb_L 0 m = _
  rw [cb_0, decide_eq_false (by omega), Bool.false_and]
end
section
/-! the component's work at one instant -/
def xw_P (g : Nat → Nat) (a : Int32) (p : Nat) (pl : Nat → Int64) : Prop := ∀ t, t < cm_hn g p → ∀ m, m < 64 → cb_L (pl t) m = cx_S g a m.testBit p t
def xw_Q (g : Nat → Nat) (a : Int32) (p : Nat) (ow : Nat → Int64) : Prop := ∀ k, k < cm_tc g p → ∀ m, m < 64 → cb_L (ow k) m = cx_O g a m.testBit p k
theorem xw_Pn {g : Nat → Nat} {a : Int32} {p t' : Nat} {pl : Nat → Int64} {v : Int64} (h : xw_P g a p pl) (e : t' = cm_hn g (p + 1) - 1) (hv : ∀ m, m < 64 → cb_L v m = cx_new m.testBit a (g p) (cm_tc g p) (cx_S g a m.testBit p (cm_hn g p - 2)) (cx_S g a m.testBit p (cm_hn g p - 1))) : xw_P g a (p + 1) (vp_updL pl t' v) := by
  intro t ht m hm
  rw [cx_Ss]
  by_cases z : t = cm_hn g (p + 1) - 1
  · rw [if_pos z, z, ← e, pk_uLs, hv m hm]
  · rw [if_neg z, pk_uLn (by rw [e]; exact z)]
    exact h t (cl_hin ht z) m hm
theorem xw_Qk {g : Nat → Nat} {a : Int32} {p : Nat} {ow : Nat → Int64} (h : xw_Q g a p ow) (h5 : ¬ 5 < g p) : xw_Q g a (p + 1) ow := by
  intro k hk m hm
  rw [cl_t0 h5] at hk
  rw [cx_Os, if_neg (fun z => h5 z.1)]
  exact h k hk m hm
theorem xw_Qn {g : Nat → Nat} {a : Int32} {p : Nat} {ow : Nat → Int64} {v : Int64} (h : xw_Q g a p ow) (h5 : 5 < g p) (hv : ∀ m, m < 64 → cb_L v m = cx_ow m.testBit (g p) (cm_tc g p) (cx_S g a m.testBit p (cm_hn g p - 2)) (cx_S g a m.testBit p (cm_hn g p - 1))) : xw_Q g a (p + 1) (vp_updL ow (cm_tc g p) v) := by
  intro k hk m hm
  rw [cl_t1 h5] at hk
  rw [cx_Os]
  by_cases z : k = cm_tc g p
  · rw [if_pos ⟨h5, z⟩, z, pk_uLs, hv m hm]
  · rw [if_neg (fun y => z y.2), pk_uLn z]
    exact h k (by omega) m hm
theorem xw_s1 {n : Nat} (h : 1 ≤ n) : nI n - 1 = nI (n - 1) := pk_sub (b := 1) h
theorem xw_m1 {n : Nat} (h : 1 ≤ n) : nI n + (-1) = nI (n - 1) := by
  obtain ⟨m, rfl⟩ : ∃ m, n = m + 1 := ⟨n - 1, by omega⟩
  exact pk_m1 m
section
variable {xh xm xt xz xo xl : Int32} {bg dd df tk fo : Nat → Int32} {va pl ow : Nat → Int64} {it : Nat → Int32} {tb : Nat → Int64}
theorem xj_and {post : Int64 → SX → Prop} {x y : Int64} (h : post (x &&& y) (xh, xm, xt, xz, xo, xl, bg, dd, df, tk, fo, va, pl, ow, it, tb)) : wpX_joined post (xh, xm, xt, xz, xo, xl, bg, dd, df, tk, fo, va, pl, ow, it, tb) 2 x y := br_t rfl h
theorem xj_or {post : Int64 → SX → Prop} {x y : Int64} (h : post (x ||| y) (xh, xm, xt, xz, xo, xl, bg, dd, df, tk, fo, va, pl, ow, it, tb)) : wpX_joined post (xh, xm, xt, xz, xo, xl, bg, dd, df, tk, fo, va, pl, ow, it, tb) 3 x y := br_f (by decide) (br_t rfl h)
theorem xj_un {post : Int64 → SX → Prop} {x y : Int64} {k : Nat} (hk : k < 6) (h : post (y ||| (x &&& va k)) (xh, xm, xt, xz, nI (k + 1), xl, bg, dd, df, tk, fo, va, pl, vp_updL ow k (y ||| (x &&& va k)), it, tb)) : wpX_joined post (xh, xm, xt, xz, nI k, xl, bg, dd, df, tk, fo, va, pl, ow, it, tb) 5 x y :=
  br_f (by decide) (br_f (by decide) (And.intro (vp_in_nI hk (by omega)) (nm_r (e' := y ||| (x &&& va k)) (by rw [nI_clamp (by omega)]) (And.intro (vp_in_nI hk (by omega)) (nm_r (e' := vp_updL ow k (y ||| (x &&& va k))) (by rw [nI_clamp (by omega)]) (nm_r (nI_1 k) h))))))
theorem xw_loop {post : Int64 → SX → Prop} {a : Int32} {g : Nat → Nat} {s : Nat} (hW : cm_W g s) (hV : xw_V va) (hp : ∀ pl ow : Nat → Int64, xw_P g a s pl → xw_Q g a s ow → post (pl 0) (xh, xm, xt, nI s, nI (cm_tc g s), xl, bg, dd, df, cm_TK g, cm_FO g, va, pl, ow, it, tb)) : ∀ e p, p + e = s → ∀ pl ow : Nat → Int64, xw_P g a p pl → xw_Q g a p ow → wX_work_9 post a (e + 1) (nI (cm_hn g p)) (nI p) xh xm xt (nI s) (nI (cm_tc g p)) xl bg dd df (cm_TK g) (cm_FO g) va pl ow it tb := by
  obtain ⟨_, hs, h8, hw, _, h6⟩ := hW
  intro e
  induction e with
  | zero =>
    intro p hps pl ow hP hQ
    obtain rfl : p = s := by omega
    exact br_t (nI_le (Nat.le_refl p) (by omega)) (hp pl ow hP hQ)
  | succ e ih =>
    intro p hps pl ow hP hQ
    have hh := cl_hle g p
    have h1 := hw p (by omega)
    have hi : vp_in (nI p) 16 := vp_in_nI (by omega) (by omega)
    have hT : ∀ q, cm_tk (g p) = q → cm_TK g (nI p).toNatClampNeg = nI q := by
      intro q hq
      rw [nI_clamp (by omega), ← hq]
      rfl
    have ht6 := cl_tle g (show p + 1 ≤ s by omega)
    have IH := ih (p + 1) (by omega)
    refine br_f (nI_ge (by omega) (by omega)) (And.intro hi ?_)
    by_cases z0 : g p < 3
    · rw [cl_h0 z0, cl_t0 (by omega)] at IH
      refine nm_r (hT 0 (if_pos z0)) (br_t nI_0 (And.intro hi ?_))
      have ef : cm_FO g (nI p).toNatClampNeg = nI (g p) := by
        rw [nI_clamp (by omega)]
        exact congrArg nI (if_pos z0)
      rw [ef]
      have hv : vp_in (nI (cm_hn g p)) 16 := vp_in_nI (by omega) (by omega)
      by_cases zf : ((a >>> (nI (g p) &&& 31)) &&& 1) = 1
      · refine br_t zf (And.intro hv (nm_r (e' := vp_updL pl (cm_hn g p) (-1)) (by rw [nI_clamp (by omega)]) (nm_r (nI_1 _) (nm_r (nI_1 p) (IH _ _ (xw_Pn hP (by rw [cl_h0 z0]; omega) ?_) (xw_Qk hQ (by omega)))))))
        intro m hm
        unfold cx_new
        rw [if_pos z0, cb_m1 m hm]
        exact (decide_eq_true zf).symm
      · refine br_f zf (And.intro hv (nm_r (e' := vp_updL pl (cm_hn g p) 0) (by rw [nI_clamp (by omega)]) (nm_r (nI_1 _) (nm_r (nI_1 p) (IH _ _ (xw_Pn hP (by rw [cl_h0 z0]; omega) ?_) (xw_Qk hQ (by omega)))))))
        intro m hm
        unfold cx_new
        rw [if_pos z0, cb_0]
        exact (decide_eq_false zf).symm
    have n1 := cl_n1 h1 (by omega)
    have i1 : vp_in (nI (cm_hn g p) - 1) 16 := by rw [xw_s1 n1]; exact vp_in_nI (by omega) (by omega)
    have c1 : (nI (cm_hn g p) - 1).toNatClampNeg = cm_hn g p - 1 := by rw [xw_s1 n1]; exact nI_clamp (by omega)
    by_cases z3 : g p = 3
    · rw [cl_h1 (Or.inl z3), cl_t0 (by omega)] at IH
      refine nm_r (hT 1 (by rw [z3]; rfl)) (br_f (by decide) (br_t rfl (And.intro i1 (And.intro i1 (nm_r (e' := vp_updL pl (cm_hn g p - 1) (pl (cm_hn g p - 1) ^^^ (-1))) (by rw [c1]) (nm_r (nI_1 p) (IH _ _ (xw_Pn hP (by rw [cl_h1 (Or.inl z3)]) ?_) (xw_Qk hQ (by omega)))))))))
      intro m hm
      unfold cx_new
      rw [if_neg z0, if_pos z3, cb_not _ hm, hP _ (by omega) m hm]
    by_cases z6 : g p = 6
    · rw [cl_h1 (Or.inr z6), cl_t1 (by omega)] at IH
      rw [cl_t1 (by omega)] at ht6
      have io : vp_in (nI (cm_tc g p)) 6 := vp_in_nI (by omega) (by omega)
      have co : (nI (cm_tc g p)).toNatClampNeg = cm_tc g p := nI_clamp (by omega)
      refine nm_r (hT 4 (by rw [z6]; rfl)) (br_f (by decide) (br_f (by decide) (br_t rfl (And.intro i1 (And.intro io (nm_r (e' := vp_updL ow (cm_tc g p) (pl (cm_hn g p - 1))) (by rw [c1, co]) (And.intro io (And.intro i1 (nm_r (e' := vp_updL pl (cm_hn g p - 1) (va (cm_tc g p))) (by rw [c1, co]) (nm_r (nI_1 _) (nm_r (nI_1 p) (IH _ _ (xw_Pn hP (by rw [cl_h1 (Or.inr z6)]) ?_) (xw_Qn hQ (by omega) ?_)))))))))))))
      · intro m hm
        unfold cx_new
        rw [if_neg z0, if_neg z3, if_neg (by omega), if_neg (by omega), if_pos z6, hV _ (by omega) m hm]
      · intro m hm
        unfold cx_ow
        rw [if_pos z6, hP _ (by omega) m hm]
    have n2 := cl_n2 h1 (by omega) z3 z6
    have e2 := cl_h2 (p := p) (g := g) (by omega) z3 z6
    have i2 : vp_in (nI (cm_hn g p - 1) - 1) 16 := by rw [xw_s1 (by omega)]; exact vp_in_nI (by omega) (by omega)
    have i3 : vp_in (nI (cm_hn g p - 1)) 16 := vp_in_nI (by omega) (by omega)
    have c2 : (nI (cm_hn g p - 1) - 1).toNatClampNeg = cm_hn g p - 2 := by rw [xw_s1 (by omega)]; exact nI_clamp (by omega)
    have c3 : (nI (cm_hn g p - 1)).toNatClampNeg = cm_hn g p - 1 := nI_clamp (by omega)
    by_cases z4 : g p = 4
    · rw [e2, cl_t0 (by omega)] at IH
      refine nm_r (hT 2 (by rw [z4]; rfl)) (br_f (by decide) (br_f (by decide) (br_f (by decide) (nm_r (xw_m1 n1) (And.intro i2 (And.intro i3 ?_))))))
      refine xj_and ?_
      refine And.intro i2 (nm_r (e' := vp_updL pl (cm_hn g p - 2) (pl (cm_hn g p - 2) &&& pl (cm_hn g p - 1))) (by rw [c2, c3]) (nm_r (nI_1 p) (IH _ _ (xw_Pn hP (by rw [e2]; omega) ?_) (xw_Qk hQ (by omega)))))
      intro m hm
      unfold cx_new
      rw [if_neg z0, if_neg z3, if_pos z4, cb_and, hP _ (by omega) m hm, hP _ (by omega) m hm]
    by_cases z5 : g p = 5
    · rw [e2, cl_t0 (by omega)] at IH
      refine nm_r (hT 3 (by rw [z5]; rfl)) (br_f (by decide) (br_f (by decide) (br_f (by decide) (nm_r (xw_m1 n1) (And.intro i2 (And.intro i3 ?_))))))
      refine xj_or ?_
      refine And.intro i2 (nm_r (e' := vp_updL pl (cm_hn g p - 2) (pl (cm_hn g p - 2) ||| pl (cm_hn g p - 1))) (by rw [c2, c3]) (nm_r (nI_1 p) (IH _ _ (xw_Pn hP (by rw [e2]; omega) ?_) (xw_Qk hQ (by omega)))))
      intro m hm
      unfold cx_new
      rw [if_neg z0, if_neg z3, if_neg z4, if_pos z5, cb_or, hP _ (by omega) m hm, hP _ (by omega) m hm]
    have z7 : g p = 7 := by have := h8 p; omega
    rw [e2, cl_t1 (by omega)] at IH
    rw [cl_t1 (by omega)] at ht6
    refine nm_r (hT 5 (by rw [z7]; rfl)) (br_f (by decide) (br_f (by decide) (br_f (by decide) (nm_r (xw_m1 n1) (And.intro i2 (And.intro i3 ?_))))))
    rw [c2, c3]
    refine xj_un (show cm_tc g p < 6 by omega) ?_
    have hv : ∀ m, m < 64 → cb_L (pl (cm_hn g p - 1) ||| (pl (cm_hn g p - 2) &&& va (cm_tc g p))) m = (cx_S g a m.testBit p (cm_hn g p - 1) || (cx_S g a m.testBit p (cm_hn g p - 2) && m.testBit (cm_tc g p))) := by
      intro m hm
      rw [cb_or, cb_and, hP _ (by omega) m hm, hP _ (by omega) m hm, hV _ (by omega) m hm]
    refine And.intro i2 (nm_r (e' := vp_updL pl (cm_hn g p - 2) (pl (cm_hn g p - 1) ||| (pl (cm_hn g p - 2) &&& va (cm_tc g p)))) rfl (nm_r (nI_1 p) (IH _ _ (xw_Pn hP (by rw [e2]; omega) ?_) (xw_Qn hQ (by omega) ?_))))
    · intro m hm
      unfold cx_new
      rw [if_neg z0, if_neg z3, if_neg z4, if_neg z5, if_neg z6, hv m hm]
    · intro m hm
      unfold cx_ow
      rw [if_neg z6, hv m hm]
theorem xw_all {post : Int64 → SX → Prop} {a : Int32} {g : Nat → Nat} {s : Nat} (hW : cm_W g s) (hV : xw_V va) (hp : ∀ pl ow : Nat → Int64, xw_P g a s pl → xw_Q g a s ow → post (pl 0) (xh, xm, xt, nI s, nI (cm_tc g s), xl, bg, dd, df, cm_TK g, cm_FO g, va, pl, ow, it, tb)) : wpX_work post (xh, xm, xt, nI s, xo, xl, bg, dd, df, cm_TK g, cm_FO g, va, pl, ow, it, tb) a :=
  Exists.intro (s + 1) (xw_loop hW hV hp s 0 (Nat.zero_add s) pl ow (fun t ht => absurd ht (Nat.not_lt_zero t)) (fun k hk => absurd hk (Nat.not_lt_zero k)))
end
end
section
/-! the component: the table behind an instant; the course followed -/
section
variable {xh xm xt xz xo xl : Int32} {bg dd df tk fo : Nat → Int32} {va pl ow : Nat → Int64} {it : Nat → Int32} {tb : Nat → Int64}
theorem xa_in {post : Int64 → SX → Prop} {J : Int64 → Int32 → Prop} {x1 x4 : Int64} {m K : Nat} (hK : K ≤ 6) (hm : m < 64) (hJ : J (x4 ||| ((((x1.toUInt64 >>> ((nI (cb_set ow m K)).toInt64.toUInt64 &&& Int64.toUInt64 63)).toInt64) &&& 1) <<< ((nI m).toInt64 &&& 63))) (nI (m + 1))) : ∀ e k, k + e = K → wX_advance_25 post J x1 x4 (nI m) xh xm xt xz (nI K) xl bg dd df tk fo va pl ow it tb (e + 1) (nI (cb_set ow m k)) (nI k) := by
  intro e
  induction e with
  | zero =>
    intro k hk
    obtain rfl : k = K := by omega
    exact br_t (nI_le (Nat.le_refl k) (by omega)) (nm_e (nm_r (nI_1 m) hJ))
  | succ e ih =>
    intro k hk
    refine br_f (nI_ge (by omega) (by omega)) (And.intro (vp_in_nI (by omega) (by omega)) (nm_r (e' := nI (cb_set ow m (k + 1))) ?_ (nm_r (nI_1 k) (ih (k + 1) (by omega)))))
    rw [nI_clamp (by omega)]
    exact cb_sets hm (by omega)
theorem xa_out {post : Int64 → SX → Prop} {x1 : Int64} {K : Nat} (hK : K ≤ 6) (hp : ∀ r : Int64, (∀ i, i < 64 → cb_L r i = cb_L x1 (cb_set ow i K)) → post r (xh, xm, xt, xz, nI K, xl, bg, dd, df, tk, fo, va, pl, ow, it, tb)) : ∀ e m, m + e = 64 → ∀ x4 : Int64, (∀ i, i < 64 → cb_L x4 i = (decide (i < m) && cb_L x1 (cb_set ow i K))) → wX_advance_12 post x1 xh xm xt xz (nI K) xl bg dd df tk fo va pl ow it tb (e + 1) x4 (nI m) := by
  have h64 : ∀ i, cb_set ow i K < 64 := fun i => Nat.lt_of_lt_of_le (cb_setlt ow i K) (Nat.pow_le_pow_right (n := 2) (by decide) hK)
  intro e
  induction e with
  | zero =>
    intro m hm x4 hx
    refine br_t (nI_le (a := 64) (by omega) (by omega)) (hp x4 (fun i hi => ?_))
    rw [hx i hi, decide_eq_true (by omega), Bool.true_and]
  | succ e ih =>
    intro m hm x4 hx
    refine br_f (nI_ge (b := 64) (by omega) (by omega)) (Exists.intro (K + 1) (xa_in hK (by omega) (ih (m + 1) (by omega) _ ?_) K 0 (Nat.zero_add K)))
    intro i hi
    rw [cb_or, hx i hi, cb_sh (h64 m) (by omega)]
    by_cases z : i = m
    · subst z
      rw [decide_eq_false (by omega), Bool.false_and, Bool.false_or, decide_eq_true (show i = i from rfl), decide_eq_true (by omega)]
    · rw [decide_eq_false z, Bool.false_and, Bool.or_false]
      congr 1
      apply decide_eq_decide.mpr
      omega
/-- the answer's bits, from the bits T of the table before -/
theorem xa_all {post : Int64 → SX → Prop} {a : Int32} {g : Nat → Nat} {s : Nat} {x1 : Int64} {T : (Nat → Bool) → Bool} (hW : cm_W g s) (hV : xw_V va) (hT : ∀ m, m < 64 → cb_L x1 m = T m.testBit) (hp : ∀ (r : Int64) (xo : Int32) (pl ow : Nat → Int64), (∀ m, m < 64 → cb_L r m = T (fun k => decide (k < cm_tc g s) && cx_O g a m.testBit s k)) → post r (xh, xm, xt, nI s, xo, xl, bg, dd, df, cm_TK g, cm_FO g, va, pl, ow, it, tb)) : wpX_advance post (xh, xm, xt, nI s, xo, xl, bg, dd, df, cm_TK g, cm_FO g, va, pl, ow, it, tb) x1 a := by
  have h6 : cm_tc g s ≤ 6 := hW.2.2.2.2.2
  unfold wpX_advance
  refine xw_all hW hV ?_
  intro pl ow hP hQ
  refine Exists.intro 65 (xa_out h6 (fun r hr => hp r _ pl ow ?_) 64 0 rfl 0 (fun i hi => ?_))
  · intro m hm
    rw [hr m hm, hT _ (Nat.lt_of_lt_of_le (cb_setlt ow m _) (Nat.pow_le_pow_right (n := 2) (by decide) h6))]
    congr 1
    funext k
    rw [cb_settb]
    by_cases hk : k < cm_tc g s
    · rw [hQ k hk m hm]
    · rw [decide_eq_false hk, Bool.false_and, Bool.false_and]
  · rw [cb_0, decide_eq_false (by omega), Bool.false_and]
theorem xt_all {post : Int64 → SX → Prop} {a : Int32} {g : Nat → Nat} {s : Nat} {x1 : Int64} {c : Nat → Int32} {l : Nat} (hW : cm_W g s) (hV : xw_V va) (hl : l < 2 ^ 31) (hT : l ≠ 0 → ∀ m, m < 64 → cb_L x1 m = cx_T g s c l m.testBit) (hp : ∀ (r : Int64) (xo : Int32) (pl ow : Nat → Int64), (∀ m, m < 64 → cb_L r m = cx_T g s (upd c l a) (l + 1) m.testBit) → post r (xh, xm, xt, nI s, xo, xl, bg, dd, df, cm_TK g, cm_FO g, va, pl, ow, it, tb)) : wpX_tableBehind post (xh, xm, xt, nI s, xo, xl, bg, dd, df, cm_TK g, cm_FO g, va, pl, ow, it, tb) (nI l) x1 a := by
  unfold wpX_tableBehind
  by_cases z : l = 0
  · refine br_t (by rw [z]; exact nI_0) ?_
    refine xw_all hW hV ?_
    intro pl ow hP hQ
    refine hp _ _ pl ow (fun m hm => ?_)
    rw [cl_Tu, if_pos z, hP 0 (by have := hW.2.2.2.2.1; omega) m hm]
  · refine br_f (nI_ne0 (by omega) hl) ?_
    refine xa_all (T := cx_T g s c l) hW hV (hT z) ?_
    intro r xo pl ow hr
    refine hp r xo pl ow (fun m hm => ?_)
    rw [cl_Tu, if_neg z, hr m hm]
/-- the tables of the first l instants -/
def xf_T (g : Nat → Nat) (s : Nat) (c : Nat → Int32) (l : Nat) (tb : Nat → Int64) : Prop := ∀ j, j ≠ 0 → j ≤ l → ∀ m, m < 64 → cb_L (tb j) m = cx_T g s c j m.testBit
theorem xf_uc {c : Nat → Int32} {i : Nat} : upd c i (c i) = c := by
  funext j
  unfold upd
  by_cases e : j = i
  · rw [if_pos e, e]
  · rw [if_neg e]
theorem xf_up {g : Nat → Nat} {s : Nat} {c : Nat → Int32} {l : Nat} {tb : Nat → Int64} {r : Int64} {a : Int32} (h : xf_T g s c l tb) (hr : ∀ m, m < 64 → cb_L r m = cx_T g s (upd c l a) (l + 1) m.testBit) : xf_T g s (upd c l a) (l + 1) (vp_updL tb (l + 1) r) := by
  intro j hj hl m hm
  by_cases e : j = l + 1
  · rw [e, pk_uLs, hr m hm]
  · rw [pk_uLn e, h j hj (by omega) m hm, cl_Tc (c := upd c l a) (c' := c) j (fun i hi => pk_un (by omega))]
theorem xf_loop {post : SX → Prop} {g : Nat → Nat} {s l : Nat} (hW : cm_W g s) (hV : xw_V va) (hl : l ≤ 10) (hp : ∀ (xo : Int32) (pl ow tb : Nat → Int64), xf_T g s it l tb → post (xh, xm, xt, nI s, xo, nI l, bg, dd, df, cm_TK g, cm_FO g, va, pl, ow, it, tb)) : ∀ e i, i + e = l → ∀ (xo : Int32) (pl ow tb : Nat → Int64), xf_T g s it i tb → wX_follow_2 post (e + 1) (nI i) xh xm xt (nI s) xo (nI l) bg dd df (cm_TK g) (cm_FO g) va pl ow it tb := by
  intro e
  induction e with
  | zero =>
    intro i hi xo pl ow tb hT
    obtain rfl : i = l := by omega
    exact br_t (nI_le (Nat.le_refl i) (by omega)) (hp xo pl ow tb hT)
  | succ e ih =>
    intro i hi xo pl ow tb hT
    have c1 : (nI i).toNatClampNeg = i := nI_clamp (by omega)
    refine br_f (nI_ge (by omega) (by omega)) (And.intro (vp_in_nI (by omega) (by omega)) (And.intro (vp_in_nI (by omega) (by omega)) ?_))
    rw [c1]
    refine xt_all (c := it) hW hV (by omega) (fun z m hm => hT i z (Nat.le_refl i) m hm) ?_
    intro r xo pl ow hr
    have hr' := xf_up hT hr
    rw [xf_uc] at hr'
    refine And.intro (by rw [nI_1]; exact vp_in_nI (by omega) (by omega)) (nm_r (e' := vp_updL tb (i + 1) r) (by rw [nI_1, nI_clamp (by omega)]) (nm_r (nI_1 i) (ih (i + 1) (by omega) xo pl ow _ hr')))
theorem xf_all {post : SX → Prop} {g : Nat → Nat} {s l : Nat} (hW : cm_W g s) (hV : xw_V va) (hl : l ≤ 10) (hp : ∀ (xo : Int32) (pl ow tb : Nat → Int64), xf_T g s it l tb → post (xh, xm, xt, nI s, xo, nI l, bg, dd, df, cm_TK g, cm_FO g, va, pl, ow, it, tb)) : wpX_follow post (xh, xm, xt, nI s, xo, nI l, bg, dd, df, cm_TK g, cm_FO g, va, pl, ow, it, tb) :=
  Exists.intro (l + 1) (xf_loop hW hV hl hp l 0 (Nat.zero_add l) xo pl ow tb (fun j hj h0 => absurd (Nat.le_zero.mp h0) hj))
end
end
section
/-! the component: the course without instants -/
def xn_v (b : Bool) : Int64 := if b = true then -1 else 0
theorem xn_not (b : Bool) : xn_v b ^^^ (-1) = xn_v (! b) := by cases b <;> decide
theorem xn_and (a b : Bool) : xn_v a &&& xn_v b = xn_v (a && b) := by cases a <;> cases b <;> decide
theorem xn_or (a b : Bool) : xn_v a ||| xn_v b = xn_v (a || b) := by cases a <;> cases b <;> decide
theorem xn_0 (b : Bool) : xn_v b = 0 ↔ b = false := by cases b <;> decide
def xn_P (g : Nat → Nat) (c : Nat → Int32) (p : Nat) (pl : Nat → Int64) : Prop := ∀ t, t < cm_hn g p → pl t = xn_v (cm_S g 0 c p t 12)
theorem xn_Pn {g : Nat → Nat} {c : Nat → Int32} {p t' : Nat} {pl : Nat → Int64} {v : Int64} (h : xn_P g c p pl) (e : t' = cm_hn g (p + 1) - 1) (hv : v = xn_v (cm_new 0 c (g p) (cm_S g 0 c p (cm_hn g p - 2)) (cm_S g 0 c p (cm_hn g p - 1)) 12)) : xn_P g c (p + 1) (vp_updL pl t' v) := by
  intro t ht
  rw [cl_Ss]
  by_cases z : t = cm_hn g (p + 1) - 1
  · rw [if_pos z, z, ← e, pk_uLs, hv]
  · rw [if_neg z, pk_uLn (by rw [e]; exact z)]
    exact h t (cl_hin ht z)
section
variable {xh xm xt xz xo xl : Int32} {bg dd df tk fo : Nat → Int32} {va pl ow : Nat → Int64} {it : Nat → Int32} {tb : Nat → Int64}
theorem xn_loop {post : Int32 → SX → Prop} {g : Nat → Nat} {s : Nat} {c : Nat → Int32} (hW : cm_W g s) (hp : ∀ pl : Nat → Int64, post (cb_I (cm_S g 0 c s 0 12)) (xh, xm, xt, nI s, xo, xl, bg, dd, df, cm_TK g, cm_FO g, va, pl, ow, it, tb)) : ∀ e p, p + e = s → ∀ pl : Nat → Int64, xn_P g c p pl → wX_holdsForNothing_4 post xh xm xt (nI s) xo xl (e + 1) (nI (cm_hn g p)) (nI p) bg dd df (cm_TK g) (cm_FO g) va pl ow it tb := by
  obtain ⟨_, hs, h8, hw, he, _⟩ := hW
  intro e
  induction e with
  | zero =>
    intro p hps pl hP
    obtain rfl : p = s := by omega
    refine br_t (nI_le (Nat.le_refl p) (by omega)) ?_
    have h0 := hP 0 (by omega)
    have K := hp pl
    cases z : cm_S g 0 c p 0 12
    · rw [z] at h0 K
      exact br_t h0 K
    · rw [z] at h0 K
      exact br_f (by rw [h0]; decide) K
  | succ e ih =>
    intro p hps pl hP
    have hh := cl_hle g p
    have h1 := hw p (by omega)
    have hi : vp_in (nI p) 16 := vp_in_nI (by omega) (by omega)
    have hT : ∀ q, cm_tk (g p) = q → cm_TK g (nI p).toNatClampNeg = nI q := by
      intro q hq
      rw [nI_clamp (by omega), ← hq]
      rfl
    have IH := ih (p + 1) (by omega)
    refine br_f (nI_ge (by omega) (by omega)) (And.intro hi ?_)
    by_cases z0 : g p < 3
    · rw [cl_h0 z0] at IH
      have hv : vp_in (nI (cm_hn g p)) 16 := vp_in_nI (by omega) (by omega)
      refine nm_r (hT 0 (if_pos z0)) (br_t nI_0 (And.intro hv (nm_r (e' := vp_updL pl (cm_hn g p) 0) (by rw [nI_clamp (by omega)]) (nm_r (nI_1 _) (nm_r (nI_1 p) (IH _ (xn_Pn hP (by rw [cl_h0 z0]; omega) ?_)))))))
      unfold cm_new
      rw [if_pos z0, decide_eq_false (by omega), Bool.false_and]
      rfl
    have n1 := cl_n1 h1 (by omega)
    have i1 : vp_in (nI (cm_hn g p) - 1) 16 := by rw [xw_s1 n1]; exact vp_in_nI (by omega) (by omega)
    have c1 : (nI (cm_hn g p) - 1).toNatClampNeg = cm_hn g p - 1 := by rw [xw_s1 n1]; exact nI_clamp (by omega)
    by_cases z3 : g p = 3
    · rw [cl_h1 (Or.inl z3)] at IH
      refine nm_r (hT 1 (by rw [z3]; rfl)) (br_f (by decide) (br_t rfl (And.intro i1 (And.intro i1 (nm_r (e' := vp_updL pl (cm_hn g p - 1) (pl (cm_hn g p - 1) ^^^ (-1))) (by rw [c1]) (nm_r (nI_1 p) (IH _ (xn_Pn hP (by rw [cl_h1 (Or.inl z3)]) ?_))))))))
      unfold cm_new
      rw [if_neg z0, if_pos z3, hP _ (by omega), xn_not]
    by_cases z6 : g p = 6
    · rw [cl_h1 (Or.inr z6)] at IH
      refine nm_r (hT 4 (by rw [z6]; rfl)) (br_f (by decide) (br_f (by decide) (br_t rfl (And.intro i1 (nm_r (e' := vp_updL pl (cm_hn g p - 1) 0) (by rw [c1]) (nm_r (nI_1 p) (IH _ (xn_Pn hP (by rw [cl_h1 (Or.inr z6)]) ?_))))))))
      unfold cm_new
      rw [if_neg z0, if_neg z3, if_neg (by omega), if_neg (by omega), if_pos z6, decide_eq_false (by omega), Bool.false_and]
      rfl
    have n2 := cl_n2 h1 (by omega) z3 z6
    have e2 := cl_h2 (p := p) (g := g) (by omega) z3 z6
    have i2 : vp_in (nI (cm_hn g p - 1) - 1) 16 := by rw [xw_s1 (by omega)]; exact vp_in_nI (by omega) (by omega)
    have i3 : vp_in (nI (cm_hn g p - 1)) 16 := vp_in_nI (by omega) (by omega)
    have c2 : (nI (cm_hn g p - 1) - 1).toNatClampNeg = cm_hn g p - 2 := by rw [xw_s1 (by omega)]; exact nI_clamp (by omega)
    have c3 : (nI (cm_hn g p - 1)).toNatClampNeg = cm_hn g p - 1 := nI_clamp (by omega)
    rw [e2] at IH
    by_cases z4 : g p = 4
    · refine nm_r (hT 2 (by rw [z4]; rfl)) (br_f (by decide) (br_f (by decide) (br_f (by decide) (nm_r (xw_m1 n1) (br_t rfl (And.intro i2 (And.intro i3 ?_)))))))
      unfold wX_holdsForNothing_122
      refine br_f (by decide) (And.intro i2 (nm_r (e' := vp_updL pl (cm_hn g p - 2) (pl (cm_hn g p - 2) &&& pl (cm_hn g p - 1))) (by rw [c2, c3]) (nm_r (nI_1 p) (IH _ (xn_Pn hP (by rw [e2]; omega) ?_)))))
      unfold cm_new
      rw [if_neg z0, if_neg z3, if_pos z4, hP _ (by omega), hP _ (by omega), xn_and]
    by_cases z5 : g p = 5
    · refine nm_r (hT 3 (by rw [z5]; rfl)) (br_f (by decide) (br_f (by decide) (br_f (by decide) (nm_r (xw_m1 n1) (br_f (by decide) (And.intro i2 (And.intro i3 ?_)))))))
      unfold wX_holdsForNothing_122
      refine br_f (by decide) (And.intro i2 (nm_r (e' := vp_updL pl (cm_hn g p - 2) (pl (cm_hn g p - 2) ||| pl (cm_hn g p - 1))) (by rw [c2, c3]) (nm_r (nI_1 p) (IH _ (xn_Pn hP (by rw [e2]; omega) ?_)))))
      unfold cm_new
      rw [if_neg z0, if_neg z3, if_neg z4, if_pos z5, hP _ (by omega), hP _ (by omega), xn_or]
    have z7 : g p = 7 := by have := h8 p; omega
    refine nm_r (hT 5 (by rw [z7]; rfl)) (br_f (by decide) (br_f (by decide) (br_f (by decide) (nm_r (xw_m1 n1) (br_f (by decide) (And.intro i2 (And.intro i3 ?_)))))))
    unfold wX_holdsForNothing_122
    refine br_t rfl (And.intro i2 (nm_r (e' := vp_updL pl (cm_hn g p - 2) 0) (by rw [c2]) (nm_r (nI_1 p) (IH _ (xn_Pn hP (by rw [e2]; omega) ?_)))))
    unfold cm_new
    rw [if_neg z0, if_neg z3, if_neg z4, if_neg z5, if_neg z6, cl_U0 (by omega)]
    rfl
theorem xn_all {post : Int32 → SX → Prop} {g : Nat → Nat} {s : Nat} {c : Nat → Int32} (hW : cm_W g s) (hp : ∀ pl : Nat → Int64, post (cb_I (cm_S g 0 c s 0 12)) (xh, xm, xt, nI s, xo, xl, bg, dd, df, cm_TK g, cm_FO g, va, pl, ow, it, tb)) : wpX_holdsForNothing post (xh, xm, xt, nI s, xo, xl, bg, dd, df, cm_TK g, cm_FO g, va, pl, ow, it, tb) :=
  Exists.intro (s + 1) (xn_loop hW hp s 0 (Nat.zero_add s) pl (fun t ht => absurd ht (Nat.not_lt_zero t)))
end
end
section
/-! the component's questions -/
/-- whether the formula holds for the first n instants of c -/
def cm_H (g : Nat → Nat) (s : Nat) (c : Nat → Int32) (n : Nat) : Bool := cm_S g n c s 0 (if n = 0 then 12 else 0)
theorem xq_Hc {g : Nat → Nat} {s : Nat} {c c' : Nat → Int32} {n : Nat} (h : ∀ i, i < n → c i = c' i) : cm_H g s c n = cm_H g s c' n := by
  unfold cm_H
  rw [cl_Sc h]
theorem xq_tb0 : (0 : Nat).testBit = fun _ => false := by
  funext i
  exact Nat.zero_testBit i
theorem xq_bit {g : Nat → Nat} {s : Nat} {c : Nat → Int32} {n : Nat} {r : Int64} (hW : cm_W g s) (hn : n ≠ 0) (hr : ∀ m, m < 64 → cb_L r m = cx_T g s c n m.testBit) : cb_L r 0 = cm_H g s c n := by
  unfold cm_H
  rw [hr 0 (by omega), xq_tb0, cl_main hW (by omega), if_neg hn]
/-- the answers of least: now, behind one instant, behind two -/
def cm_LE (H0 : Bool) (F : Nat → Bool) (G : Nat → Nat → Bool) (w : Bool) (r : Int32) : Prop :=
  (H0 = w ∧ r = 0) ∨ (H0 ≠ w ∧ (∃ f, f < 8 ∧ F f = w) ∧ r = 1) ∨ (H0 ≠ w ∧ (∀ f, f < 8 → F f ≠ w) ∧ (∃ f, f < 8 ∧ ∃ f', f' < 8 ∧ G f f' = w) ∧ r = 2) ∨ (H0 ≠ w ∧ (∀ f, f < 8 → F f ≠ w) ∧ (∀ f, f < 8 → ∀ f', f' < 8 → G f f' ≠ w) ∧ r = -4)
theorem xq_LEu {H0 : Bool} {F : Nat → Bool} {G : Nat → Nat → Bool} {w : Bool} {r r' : Int32} (h : cm_LE H0 F G w r) (h' : cm_LE H0 F G w r') : r' = r := by
  rcases h with ⟨a, b⟩ | ⟨a, ⟨f, hf, e⟩, b⟩ | ⟨a, c, ⟨f, hf, f', hf', e⟩, b⟩ | ⟨a, c, d, b⟩ <;>
  rcases h' with ⟨a', b'⟩ | ⟨a', ⟨k, hk, e'⟩, b'⟩ | ⟨a', c', ⟨k, hk, k', hk', e'⟩, b'⟩ | ⟨a', c', d', b'⟩
  · rw [b, b']
  · exact absurd a a'
  · exact absurd a a'
  · exact absurd a a'
  · exact absurd a' a
  · rw [b, b']
  · exact absurd e (c' f hf)
  · exact absurd e (c' f hf)
  · exact absurd a' a
  · exact absurd e' (c k hk)
  · rw [b, b']
  · exact absurd e (d' f hf f' hf')
  · exact absurd a' a
  · exact absurd e' (c k hk)
  · exact absurd e' (d k hk k' hk')
  · rw [b, b']
section
variable {xh xm xt xz xo xl : Int32} {bg dd df tk fo : Nat → Int32} {va pl ow : Nat → Int64} {it : Nat → Int32} {tb : Nat → Int64}
theorem xe_all {post : Int32 → Prop} {t : Int64} (h : post (cb_I (cb_L t 0))) : wpX_ends post (xh, xm, xt, xz, xo, xl, bg, dd, df, tk, fo, va, pl, ow, it, tb) t := by
  unfold wpX_ends
  by_cases z : (t &&& 1) = 1
  · refine br_t z ?_
    rw [(cb_end t).mp z] at h
    exact h
  · refine br_f z ?_
    have e : cb_L t 0 = false := by
      cases y : cb_L t 0
      · rfl
      · exact absurd ((cb_end t).mpr y) z
    rw [e] at h
    exact h
theorem xh_all {post : Int32 → SX → Prop} {g : Nat → Nat} {s l n : Nat} (hW : cm_W g s) (hl : l ≤ 10) (hn : n ≤ l) (hT : xf_T g s it l tb) (hp : ∀ pl : Nat → Int64, post (cb_I (cm_H g s it n)) (xh, xm, xt, nI s, xo, nI l, bg, dd, df, cm_TK g, cm_FO g, va, pl, ow, it, tb)) : wpX_heldAfter post (xh, xm, xt, nI s, xo, nI l, bg, dd, df, cm_TK g, cm_FO g, va, pl, ow, it, tb) (nI n) := by
  unfold wpX_heldAfter
  refine br_f (nI_pos (by omega)) (br_t (nI_le hn (by omega)) ?_)
  by_cases z : n = 0
  · refine br_t (by rw [z]; exact nI_0) ?_
    refine xn_all (c := it) hW ?_
    intro pl
    have e : cm_H g s it n = cm_S g 0 it s 0 12 := by
      unfold cm_H
      rw [z]
      rfl
    have K := hp pl
    rw [e] at K
    exact And.intro (cb_In _) K
  · refine br_f (nI_ne0 (by omega) (by omega)) (And.intro (vp_in_nI (by omega) (by omega)) ?_)
    rw [nI_clamp (by omega)]
    refine xe_all ?_
    rw [xq_bit hW z (hT n z hn)]
    exact And.intro (cb_In _) (hp pl)
theorem xh_holds {post : Int32 → SX → Prop} {g : Nat → Nat} {s l : Nat} (hW : cm_W g s) (hl : l ≤ 10) (hT : xf_T g s it l tb) (hp : ∀ pl : Nat → Int64, post (cb_I (cm_H g s it l)) (xh, xm, xt, nI s, xo, nI l, bg, dd, df, cm_TK g, cm_FO g, va, pl, ow, it, tb)) : wpX_holds post (xh, xm, xt, nI s, xo, nI l, bg, dd, df, cm_TK g, cm_FO g, va, pl, ow, it, tb) := by
  unfold wpX_holds
  refine xh_all hW hl (Nat.le_refl l) hT ?_
  intro pl
  exact And.intro (cb_In _) (hp pl)
theorem xo_all {post : Int32 → SX → Prop} {g : Nat → Nat} {s l f : Nat} (hW : cm_W g s) (hV : xw_V va) (hl : l ≤ 10) (hT : xf_T g s it l tb) (hf : f < 8) (hp : ∀ (xo : Int32) (pl ow : Nat → Int64), post (cb_I (cm_H g s (upd it l (nI f)) (l + 1))) (xh, xm, xt, nI s, xo, nI l, bg, dd, df, cm_TK g, cm_FO g, va, pl, ow, it, tb)) : wpX_wouldHold post (xh, xm, xt, nI s, xo, nI l, bg, dd, df, cm_TK g, cm_FO g, va, pl, ow, it, tb) (nI f) := by
  unfold wpX_wouldHold
  refine br_f (nI_pos (by omega)) (br_t (nI_le (b := 7) (by omega) (by omega)) (And.intro (vp_in_nI (by omega) (by omega)) ?_))
  rw [nI_clamp (by omega)]
  refine xt_all (c := it) hW hV (by omega) (fun z => hT l z (Nat.le_refl l)) ?_
  intro r xo pl ow hr
  refine xe_all ?_
  rw [xq_bit hW (by omega) hr]
  exact And.intro (cb_In _) (hp xo pl ow)
theorem xp_loop {post : Int32 → SX → Prop} {g : Nat → Nat} {s l : Nat} {F : Nat → Bool} (hF : ∀ f, F f = cm_H g s (upd it l (nI f)) (l + 1)) (hW : cm_W g s) (hV : xw_V va) (hl : l ≤ 10) (hT : xf_T g s it l tb) (hp : ∀ (xo : Int32) (pl ow : Nat → Int64), post (nI (cb_fo F 8)) (xh, xm, xt, nI s, xo, nI l, bg, dd, df, cm_TK g, cm_FO g, va, pl, ow, it, tb)) : ∀ e f, f + e = 8 → ∀ (xo : Int32) (pl ow : Nat → Int64), wX_wouldHoldWith_4 post (e + 1) (nI (cb_fo F f)) (nI f) xh xm xt (nI s) xo (nI l) bg dd df (cm_TK g) (cm_FO g) va pl ow it tb := by
  intro e
  induction e with
  | zero =>
    intro f hf xo pl ow
    obtain rfl : f = 8 := by omega
    exact br_t (nI_le (a := 8) (by omega) (by omega)) (hp xo pl ow)
  | succ e ih =>
    intro f hf xo pl ow
    refine br_f (nI_ge (b := 8) (by omega) (by omega)) ?_
    refine xo_all hW hV hl hT (by omega) ?_
    intro xo pl ow
    rw [← hF f]
    by_cases z : F f = true
    · refine br_f (by rw [z]; decide) (nm_r (cb_fot (by omega) z) (nm_r (nI_1 f) (ih (f + 1) (by omega) xo pl ow)))
    · have K := ih (f + 1) (by omega) xo pl ow
      rw [cb_fof z] at K
      refine br_t (cb_I0.mpr (by cases y : F f; rfl; exact absurd y z)) (nm_r (nI_1 f) K)
theorem xp_all {post : Int32 → SX → Prop} {g : Nat → Nat} {s l : Nat} {F : Nat → Bool} (hF : ∀ f, F f = cm_H g s (upd it l (nI f)) (l + 1)) (hW : cm_W g s) (hV : xw_V va) (hl : l ≤ 10) (hT : xf_T g s it l tb) (hp : ∀ (xo : Int32) (pl ow : Nat → Int64), post (nI (cb_fo F 8)) (xh, xm, xt, nI s, xo, nI l, bg, dd, df, cm_TK g, cm_FO g, va, pl, ow, it, tb)) : wpX_wouldHoldWith post (xh, xm, xt, nI s, xo, nI l, bg, dd, df, cm_TK g, cm_FO g, va, pl, ow, it, tb) :=
  Exists.intro 9 (xp_loop hF hW hV hl hT hp 8 0 rfl xo pl ow)
theorem xc_loop {post : Int32 → SX → Prop} {g : Nat → Nat} {s l : Nat} {x1 : Int64} {c : Nat → Int32} {w : Bool} (hW : cm_W g s) (hV : xw_V va) (hl : l ≠ 0) (hl' : l < 2 ^ 31) (hT : ∀ m, m < 64 → cb_L x1 m = cx_T g s c l m.testBit) (hp1 : ∀ (xo : Int32) (pl ow : Nat → Int64), (∃ f, f < 8 ∧ cm_H g s (upd c l (nI f)) (l + 1) = w) → post 1 (xh, xm, xt, nI s, xo, xl, bg, dd, df, cm_TK g, cm_FO g, va, pl, ow, it, tb)) (hp0 : ∀ (xo : Int32) (pl ow : Nat → Int64), (∀ f, f < 8 → cm_H g s (upd c l (nI f)) (l + 1) ≠ w) → post 0 (xh, xm, xt, nI s, xo, xl, bg, dd, df, cm_TK g, cm_FO g, va, pl, ow, it, tb)) : ∀ e f, f + e = 8 → (∀ f', f' < f → cm_H g s (upd c l (nI f')) (l + 1) ≠ w) → ∀ (xo : Int32) (pl ow : Nat → Int64), wX_canEnd_3 post x1 (cb_I w) (e + 1) (nI f) xh xm xt (nI s) xo xl bg dd df (cm_TK g) (cm_FO g) va pl ow it tb := by
  intro e
  induction e with
  | zero =>
    intro f hf hn xo pl ow
    obtain rfl : f = 8 := by omega
    exact br_t (nI_le (a := 8) (by omega) (by omega)) (hp0 xo pl ow hn)
  | succ e ih =>
    intro f hf hn xo pl ow
    refine br_f (nI_ge (b := 8) (by omega) (by omega)) ?_
    refine xa_all (T := cx_T g s c l) hW hV hT ?_
    intro r xo pl ow hr
    have hr' : ∀ m, m < 64 → cb_L r m = cx_T g s (upd c l (nI f)) (l + 1) m.testBit := by
      intro m hm
      rw [cl_Tu, if_neg hl, hr m hm]
    refine xe_all ?_
    rw [xq_bit hW (by omega) hr']
    by_cases z : cm_H g s (upd c l (nI f)) (l + 1) = w
    · exact br_t (cb_Ii.mpr z) (hp1 xo pl ow ⟨f, by omega, z⟩)
    · refine br_f (fun y => z (cb_Ii.mp y)) (nm_r (nI_1 f) (ih (f + 1) (by omega) ?_ xo pl ow))
      intro f' hf'
      by_cases y : f' = f
      · rw [y]; exact z
      · exact hn f' (by omega)
theorem xc_all {post : Int32 → SX → Prop} {g : Nat → Nat} {s l : Nat} {x1 : Int64} {c : Nat → Int32} {w : Bool} (hW : cm_W g s) (hV : xw_V va) (hl : l ≠ 0) (hl' : l < 2 ^ 31) (hT : ∀ m, m < 64 → cb_L x1 m = cx_T g s c l m.testBit) (hp1 : ∀ (xo : Int32) (pl ow : Nat → Int64), (∃ f, f < 8 ∧ cm_H g s (upd c l (nI f)) (l + 1) = w) → post 1 (xh, xm, xt, nI s, xo, xl, bg, dd, df, cm_TK g, cm_FO g, va, pl, ow, it, tb)) (hp0 : ∀ (xo : Int32) (pl ow : Nat → Int64), (∀ f, f < 8 → cm_H g s (upd c l (nI f)) (l + 1) ≠ w) → post 0 (xh, xm, xt, nI s, xo, xl, bg, dd, df, cm_TK g, cm_FO g, va, pl, ow, it, tb)) : wpX_canEnd post (xh, xm, xt, nI s, xo, xl, bg, dd, df, cm_TK g, cm_FO g, va, pl, ow, it, tb) x1 (cb_I w) :=
  Exists.intro 9 (xc_loop hW hV hl hl' hT hp1 hp0 8 0 rfl (fun f hf => absurd hf (Nat.not_lt_zero f)) xo pl ow)
theorem xl_loop {post : Int32 → SX → Prop} {g : Nat → Nat} {s l : Nat} {G : Nat → Nat → Bool} {w : Bool} (hG : ∀ f f', G f f' = cm_H g s (upd (upd it l (nI f)) (l + 1) (nI f')) (l + 1 + 1)) (hW : cm_W g s) (hV : xw_V va) (hl : l ≤ 10) (hT : xf_T g s it l tb) (hp1 : ∀ (xo : Int32) (pl ow : Nat → Int64), (∃ f, f < 8 ∧ ∃ f', f' < 8 ∧ G f f' = w) → post 2 (xh, xm, xt, nI s, xo, nI l, bg, dd, df, cm_TK g, cm_FO g, va, pl, ow, it, tb)) (hp0 : ∀ (xo : Int32) (pl ow : Nat → Int64), (∀ f, f < 8 → ∀ f', f' < 8 → G f f' ≠ w) → post (-4) (xh, xm, xt, nI s, xo, nI l, bg, dd, df, cm_TK g, cm_FO g, va, pl, ow, it, tb)) : ∀ e f, f + e = 8 → (∀ k, k < f → ∀ f', f' < 8 → G k f' ≠ w) → ∀ (xo : Int32) (pl ow : Nat → Int64), wX_least_40 post (cb_I w) (e + 1) (nI f) xh xm xt (nI s) xo (nI l) bg dd df (cm_TK g) (cm_FO g) va pl ow it tb := by
  intro e
  induction e with
  | zero =>
    intro f hf hn xo pl ow
    obtain rfl : f = 8 := by omega
    exact br_t (nI_le (a := 8) (by omega) (by omega)) (hp0 xo pl ow hn)
  | succ e ih =>
    intro f hf hn xo pl ow
    refine br_f (nI_ge (b := 8) (by omega) (by omega)) (And.intro (vp_in_nI (by omega) (by omega)) ?_)
    rw [nI_clamp (by omega)]
    refine xt_all (c := it) hW hV (by omega) (fun z => hT l z (Nat.le_refl l)) ?_
    intro r xo pl ow hr
    refine xc_all (c := upd it l (nI f)) (l := l + 1) (w := w) hW hV (by omega) (by omega) hr ?_ ?_
    · intro xo pl ow ⟨f', hf', z⟩
      rw [← hG] at z
      exact br_f (by decide) (hp1 xo pl ow ⟨f, by omega, f', hf', z⟩)
    · intro xo pl ow hz
      refine br_t rfl (nm_r (nI_1 f) (ih (f + 1) (by omega) ?_ xo pl ow))
      intro k hk f' hf'
      by_cases y : k = f
      · rw [y, hG]; exact hz f' hf'
      · exact hn k (by omega) f' hf'
theorem xl_all {post : Int32 → SX → Prop} {g : Nat → Nat} {s l : Nat} {F : Nat → Bool} {G : Nat → Nat → Bool} {w : Bool} (hF : ∀ f, F f = cm_H g s (upd it l (nI f)) (l + 1)) (hG : ∀ f f', G f f' = cm_H g s (upd (upd it l (nI f)) (l + 1) (nI f')) (l + 1 + 1)) (hW : cm_W g s) (hV : xw_V va) (hl : l ≤ 10) (hT : xf_T g s it l tb) (hp : ∀ (r : Int32) (xo : Int32) (pl ow : Nat → Int64), cm_LE (cm_H g s it l) F G w r → post r (xh, xm, xt, nI s, xo, nI l, bg, dd, df, cm_TK g, cm_FO g, va, pl, ow, it, tb)) : wpX_least post (xh, xm, xt, nI s, xo, nI l, bg, dd, df, cm_TK g, cm_FO g, va, pl, ow, it, tb) (cb_I w) := by
  unfold wpX_least
  refine xh_holds hW hl hT ?_
  intro pl
  by_cases z : cm_H g s it l = w
  · exact br_t (cb_Ii.mpr z) (hp 0 xo pl ow (Or.inl ⟨z, rfl⟩))
  refine br_f (fun y => z (cb_Ii.mp y)) ?_
  refine xp_all hF hW hV hl hT ?_
  intro xo pl ow
  have L : (∀ f, f < 8 → F f ≠ w) → ∀ (xo : Int32) (pl ow : Nat → Int64), ∃ n40 : Nat, wX_least_40 post (cb_I w) n40 0 xh xm xt (nI s) xo (nI l) bg dd df (cm_TK g) (cm_FO g) va pl ow it tb := by
    intro hn xo pl ow
    refine Exists.intro 9 (xl_loop hG hW hV hl hT ?_ ?_ 8 0 rfl (fun k hk => absurd hk (Nat.not_lt_zero k)) xo pl ow)
    · intro xo pl ow h
      exact hp 2 xo pl ow (Or.inr (Or.inr (Or.inl ⟨z, hn, h, rfl⟩)))
    · intro xo pl ow h
      exact hp (-4) xo pl ow (Or.inr (Or.inr (Or.inr ⟨z, hn, h, rfl⟩)))
  have hlt := cb_folt F 8
  have O : ¬ (∀ f, f < 8 → F f ≠ w) → post 1 (xh, xm, xt, nI s, xo, nI l, bg, dd, df, cm_TK g, cm_FO g, va, pl, ow, it, tb) := by
    intro hn
    refine hp 1 xo pl ow (Or.inr (Or.inl ⟨z, ?_, rfl⟩))
    apply Classical.byContradiction
    intro y
    exact hn (fun f hf h => y ⟨f, hf, h⟩)
  cases w
  · refine br_t rfl ?_
    have e : nI (cb_fo F 8) = 255 ↔ ∀ f, f < 8 → F f ≠ false := by
      rw [show (255 : Int32) = nI 255 from rfl, nI_eq (by omega) (by omega), show (255 : Nat) = 2 ^ 8 - 1 from rfl, cb_fo1]
      exact ⟨fun h f hf y => by rw [h f hf] at y; exact absurd y (by decide), fun h f hf => by cases y : F f; exact absurd y (h f hf); rfl⟩
    by_cases y : nI (cb_fo F 8) = 255
    · exact br_t y (L (e.mp y) xo pl ow)
    · exact br_f y (O (fun h => y (e.mpr h)))
  · refine br_f (by decide) ?_
    have e : nI (cb_fo F 8) = 0 ↔ ∀ f, f < 8 → F f ≠ true := by
      rw [← nI_0, nI_eq (by omega) (by omega), cb_fo0]
      exact ⟨fun h f hf y => by rw [h f hf] at y; exact absurd y (by decide), fun h f hf => by cases y : F f; rfl; exact absurd y (h f hf)⟩
    by_cases y : nI (cb_fo F 8) = 0
    · exact br_t y (L (e.mp y) xo pl ow)
    · exact br_f y (O (fun h => y (e.mpr h)))
end
end
section
/-! the reference: the values of every part at every place -/
def yv_V (vl : Nat → Int32) (q N : Nat) (f : Nat → Bool) : Prop := ∀ i, (i < N ∨ i = 12) → vl (13 * q + i) = cb_I (f i)
theorem yv_ix (q i : Nat) : 13 * nI q + nI i = nI (13 * q + i) := by
  rw [show (13 : Int32) = nI 13 from rfl, pk_mul, nI_add]
section
variable {ys yd yt yz yl : Int32} {wd fm co vl op : Nat → Int32}
theorem yu_loop {post : Int32 → Prop} {N qx qy : Nat} {x y : Nat → Bool} (hx : yv_V vl qx N x) (hy : yv_V vl qy N y) (hqx : qx < 16) (hqy : qy < 16) (hN : N ≤ 12) : ∀ e i, i + e = N → post (cb_I (cm_U x y (N - i) i)) → wY_untilAt_3 post (nI qx) (nI qy) (nI N) ys yd yt yz yl wd fm co vl op (e + 1) (nI i) := by
  intro e
  induction e with
  | zero =>
    intro i hi hp
    rw [cl_U0 (by omega)] at hp
    exact br_t (nI_le (by omega) (by omega)) hp
  | succ e ih =>
    intro i hi hp
    rw [cl_U (by omega)] at hp
    refine br_f (nI_ge (by omega) (by omega)) ?_
    rw [yv_ix, yv_ix, nI_clamp (by omega), nI_clamp (by omega), hx i (by omega), hy i (by omega)]
    refine And.intro (vp_in_nI (by omega) (by omega)) ?_
    cases z : y i
    · rw [z, Bool.false_or] at hp
      refine br_t rfl (And.intro (vp_in_nI (by omega) (by omega)) ?_)
      cases z' : x i
      · rw [z', Bool.false_and] at hp
        exact br_t rfl hp
      · rw [z', Bool.true_and] at hp
        exact br_f (by decide) (nm_r (nI_1 i) (ih (i + 1) (by omega) hp))
    · rw [z, Bool.true_or] at hp
      exact br_f (by decide) hp
theorem yu_all {post : Int32 → Prop} {N qx qy i : Nat} {x y : Nat → Bool} (hx : yv_V vl qx N x) (hy : yv_V vl qy N y) (hqx : qx < 16) (hqy : qy < 16) (hN : N ≤ 12) (hi : i < 2 ^ 31) (hp : post (cb_I (cm_U x y (N - i) i))) : wpY_untilAt post (ys, yd, yt, yz, yl, wd, fm, co, vl, op) (nI qx) (nI qy) (nI i) (nI N) := by
  rcases Nat.lt_or_ge i N with z | z
  · exact Exists.intro (N - i + 1) (yu_loop hx hy hqx hqy hN (N - i) i (by omega) hp)
  · rw [cl_U0 z] at hp
    exact Exists.intro 1 (br_t (nI_le z hi) hp)
theorem yp_all {post : Int32 → Prop} {o qx qy i N : Nat} {x y : Nat → Bool} (h8 : o < 8) (hN : N ≤ 12) (hi : i < N ∨ i = 12) (hqx : qx < 16) (hqy : qy < 16) (hy : 3 ≤ o → yv_V vl qy N y) (hx : 3 ≤ o → o ≠ 3 → o ≠ 6 → yv_V vl qx N x) (hp : post (cb_I (cm_new N co o x y i))) : wpY_partAt post (ys, yd, yt, yz, yl, wd, fm, co, vl, op) (nI o) (nI qx) (nI qy) (nI i) (nI N) := by
  unfold wpY_partAt
  dsimp only
  unfold cm_new at hp
  by_cases z0 : o < 3
  · rw [if_pos z0] at hp
    refine br_f (nI_ge (b := 3) z0 (by omega)) ?_
    by_cases zi : i < N
    · rw [decide_eq_true zi, Bool.true_and] at hp
      refine br_f (nI_ge zi (by omega)) (And.intro (vp_in_nI (by omega) (by omega)) ?_)
      rw [nI_clamp (by omega)]
      by_cases zf : ((co i >>> (nI o &&& 31)) &&& 1) = 1
      · refine br_t zf ?_
        rw [show cm_fb (co i) o = true from decide_eq_true zf] at hp
        exact hp
      · refine br_f zf ?_
        rw [show cm_fb (co i) o = false from decide_eq_false zf] at hp
        exact hp
    · rw [decide_eq_false zi, Bool.false_and] at hp
      exact br_t (nI_le (by omega) (by omega)) hp
  rw [if_neg z0] at hp
  have hy' := hy (by omega)
  have ixy : vp_in (13 * nI qy + nI i) 208 := by rw [yv_ix]; exact vp_in_nI (by omega) (by omega)
  have ixx : vp_in (13 * nI qx + nI i) 208 := by rw [yv_ix]; exact vp_in_nI (by omega) (by omega)
  have vy : vl (13 * nI qy + nI i).toNatClampNeg = cb_I (y i) := by rw [yv_ix, nI_clamp (by omega)]; exact hy' i hi
  refine br_t (nI_le (a := 3) (by omega) (by omega)) ?_
  by_cases z3 : o = 3
  · rw [if_pos z3] at hp
    refine br_t (by rw [z3]; rfl) (And.intro ixy ?_)
    rw [vy]
    cases z : y i
    · rw [z] at hp; exact br_t rfl hp
    · rw [z] at hp; exact br_f (by decide) hp
  rw [if_neg z3] at hp
  refine br_f (fun z => z3 ((nI_eq (b := 3) (by omega) (by omega)).mp z)) ?_
  by_cases z6 : o = 6
  · rw [if_neg (by omega), if_neg (by omega), if_pos z6] at hp
    subst z6
    refine br_f (by decide) (br_f (by decide) (br_t rfl ?_))
    by_cases zi : i + 1 < N
    · rw [decide_eq_true zi, Bool.true_and] at hp
      refine br_f (by rw [nI_1]; exact nI_ge zi (by omega)) ?_
      have v1 := hy' (i + 1) (Or.inl zi)
      rw [yv_ix, nI_1, nI_clamp (by omega), Nat.add_assoc, v1]
      refine And.intro (vp_in_nI (by omega) (by omega)) ?_
      cases z : y (i + 1)
      · rw [z] at hp; exact br_t rfl hp
      · rw [z] at hp; exact br_f (by decide) hp
    · rw [decide_eq_false zi, Bool.false_and] at hp
      exact br_t (by rw [nI_1]; exact nI_le (by omega) (by omega)) hp
  have hx' := hx (by omega) z3 z6
  have vx : vl (13 * nI qx + nI i).toNatClampNeg = cb_I (x i) := by rw [yv_ix, nI_clamp (by omega)]; exact hx' i hi
  by_cases z4 : o = 4
  · rw [if_pos z4] at hp
    subst z4
    refine br_t rfl (And.intro ixx ?_)
    rw [vx, vy]
    cases z : x i
    · rw [z] at hp; exact br_t rfl hp
    · rw [z] at hp
      refine br_f (by decide) (And.intro ixy ?_)
      cases z' : y i
      · rw [z'] at hp; exact br_t rfl hp
      · rw [z'] at hp; exact br_f (by decide) hp
  rw [if_neg z4] at hp
  by_cases z5 : o = 5
  · rw [if_pos z5] at hp
    subst z5
    refine br_f (by decide) (br_t rfl (And.intro ixx ?_))
    rw [vx, vy]
    cases z : x i
    · rw [z] at hp
      refine br_t rfl (And.intro ixy ?_)
      cases z' : y i
      · rw [z'] at hp; exact br_t rfl hp
      · rw [z'] at hp; exact br_f (by decide) hp
    · rw [z] at hp; exact br_f (by decide) hp
  rw [if_neg z5, if_neg z6] at hp
  obtain rfl : o = 7 := by omega
  refine br_f (by decide) (br_f (by decide) (br_f (by decide) ?_))
  exact yu_all hx' hy' hqx hqy hN (by omega) (And.intro (cb_In _) hp)
theorem yh_in {post : Int32 → SY → Prop} {J : Int32 → Int32 → (Nat → Int32) → (Nat → Int32) → (Nat → Int32) → (Nat → Int32) → (Nat → Int32) → Prop} {o qx qy N h h' p : Nat} {x y : Nat → Bool} (h8 : o < 8) (hN : N ≤ 12) (hqx : qx < 16) (hqy : qy < 16) (hp : p < 16) (px : 3 ≤ o → o ≠ 3 → o ≠ 6 → qx < p) (py : 3 ≤ o → qy < p) (hy : 3 ≤ o → yv_V vl qy N y) (hx : 3 ≤ o → o ≠ 3 → o ≠ 6 → yv_V vl qx N x) (h1 : 1 ≤ h') (h16 : h' ≤ 16) (hh : h' = if o < 3 then h + 1 else if o = 3 ∨ o = 6 then h else h - 1) (hJ : ∀ vl' : Nat → Int32, (∀ a, a < 13 * p → vl' a = vl a) → yv_V vl' p N (cm_new N co o x y) → J (nI h') (nI (p + 1)) wd fm co vl' (upd op (h' - 1) (nI p))) : ∀ e i, i + e = 13 → ∀ vl' : Nat → Int32, (∀ a, a < 13 * p → vl' a = vl a) → (∀ i', i' < i → (i' < N ∨ i' = 12) → vl' (13 * p + i') = cb_I (cm_new N co o x y i')) → wY_holdsFor_70 post J (nI N) (nI h) (nI p) (nI o) (nI qy) (nI qx) ys yd yt yz yl (e + 1) (nI i) wd fm co vl' op := by
  intro e
  induction e with
  | zero =>
    intro i hi vl' ha hv
    have K := hJ vl' ha (fun i' hi' => hv i' (by omega) hi')
    have i1 : vp_in (nI h' - 1) 16 := by rw [xw_s1 h1]; exact vp_in_nI (by omega) (by omega)
    have E : upd op (nI h' - 1).toNatClampNeg (nI p) = upd op (h' - 1) (nI p) := by rw [xw_s1 h1, nI_clamp (by omega)]
    have T : wY_holdsFor_161 post J (nI N) (nI p) (nI h') ys yd yt yz yl wd fm co vl' op := And.intro i1 (nm_r E (nm_r (nI_1 p) K))
    refine br_t (nI_le (a := 13) (by omega) (by omega)) ?_
    by_cases z0 : o < 3
    · rw [if_pos z0] at hh
      refine br_f (nI_ge (b := 3) z0 (by omega)) ?_
      rw [nI_1, ← hh]
      exact T
    rw [if_neg z0] at hh
    refine br_t (nI_le (a := 3) (by omega) (by omega)) ?_
    by_cases z3 : o = 3
    · rw [if_pos (Or.inl z3)] at hh
      rw [← hh]
      exact br_t (by rw [z3]; rfl) T
    refine br_f (fun z => z3 ((nI_eq (b := 3) (by omega) (by omega)).mp z)) ?_
    by_cases z6 : o = 6
    · rw [if_pos (Or.inr z6)] at hh
      rw [← hh]
      exact br_t (by rw [z6]; rfl) T
    rw [if_neg (by omega)] at hh
    refine br_f (fun z => z6 ((nI_eq (b := 6) (by omega) (by omega)).mp z)) ?_
    rw [xw_s1 (by omega), ← hh]
    exact T
  | succ e ih =>
    intro i hi vl' ha hv
    have ix : vp_in (13 * nI p + nI i) 208 := by rw [yv_ix]; exact vp_in_nI (by omega) (by omega)
    have S : ∀ b : Bool, ((i < N ∨ i = 12) → b = cm_new N co o x y i) → wY_holdsFor_70 post J (nI N) (nI h) (nI p) (nI o) (nI qy) (nI qx) ys yd yt yz yl (e + 1) (nI (i + 1)) wd fm co (upd vl' (13 * p + i) (cb_I b)) op := by
      intro b hb
      refine ih (i + 1) (by omega) _ (fun a h => ?_) (fun i' hi' hv' => ?_)
      · rw [pk_un (by omega)]; exact ha a h
      · by_cases z : i' = i
        · rw [z, pk_us, hb (by omega)]
        · rw [pk_un (by omega)]; exact hv i' (by omega) hv'
    have C : (13 * nI p + nI i).toNatClampNeg = 13 * p + i := by rw [yv_ix]; exact nI_clamp (by omega)
    have N0 : vp_nar .boolean 0 = cb_I false := rfl
    have N1 : vp_nar .boolean 1 = cb_I true := rfl
    have T : (i < N ∨ i = 12) → wY_holdsFor_101 post J (wY_holdsFor_70 post J (nI N) (nI h) (nI p) (nI o) (nI qy) (nI qx) ys yd yt yz yl (e + 1)) (nI N) (nI h) (nI p) (nI o) (nI qy) (nI qx) (nI i) (13 * nI p + nI i) ys yd yt yz yl wd fm co vl' op := by
      intro hi'
      unfold wY_holdsFor_101
      refine yp_all (x := x) (y := y) h8 hN hi' hqx hqy (fun z j hj => ?_) (fun z z' z'' j hj => ?_) ?_
      · have := py z
        rw [ha _ (by omega)]; exact hy z j hj
      · have := px z z' z''
        rw [ha _ (by omega)]; exact hx z z' z'' j hj
      · rw [C, N0, N1]
        cases z : cm_new N co o x y i
        · exact br_t rfl (And.intro ix (nm_e (nm_r (nI_1 i) (S false (fun _ => z.symm)))))
        · exact br_f (by decide) (And.intro ix (nm_e (nm_r (nI_1 i) (S true (fun _ => z.symm)))))
    refine br_f (nI_ge (b := 13) (by omega) (by omega)) ?_
    by_cases zi : i < N
    · exact br_t (nI_lt zi (by omega)) (T (Or.inl zi))
    refine br_f (nI_nlt (by omega) (by omega)) ?_
    by_cases z12 : i = 12
    · exact br_t (by rw [z12]; rfl) (T (Or.inr z12))
    refine br_f (fun z => z12 ((nI_eq (b := 12) (by omega) (by omega)).mp z)) (And.intro ix ?_)
    rw [C, N0]
    exact nm_e (nm_r (nI_1 i) (S false (fun z => by omega)))
end
end
section
/-! the reference: whether the formula holds for the first N instants; its questions -/
def yo_I (g : Nat → Nat) (N : Nat) (co : Nat → Int32) (p : Nat) (vl op : Nat → Int32) : Prop := (∀ t, t < cm_hn g p → ∃ q, q < p ∧ op t = nI q ∧ yv_V vl q N (cm_S g N co p t)) ∧ (0 < p → yv_V vl (p - 1) N (cm_S g N co p (cm_hn g p - 1)))
theorem yo_n {g : Nat → Nat} {N : Nat} {co vl op vl' : Nat → Int32} {p : Nat} (I : yo_I g N co p vl op) (ha : ∀ a, a < 13 * p → vl' a = vl a) (hN : N ≤ 12) (hv : yv_V vl' p N (cm_new N co (g p) (cm_S g N co p (cm_hn g p - 2)) (cm_S g N co p (cm_hn g p - 1)))) : yo_I g N co (p + 1) vl' (upd op (cm_hn g (p + 1) - 1) (nI p)) := by
  have e : cm_S g N co (p + 1) (cm_hn g (p + 1) - 1) = cm_new N co (g p) (cm_S g N co p (cm_hn g p - 2)) (cm_S g N co p (cm_hn g p - 1)) := by
    funext i
    rw [cl_Ss, if_pos rfl]
  refine ⟨fun t ht => ?_, fun _ => ?_⟩
  · by_cases z : t = cm_hn g (p + 1) - 1
    · refine ⟨p, by omega, by rw [z, pk_us], ?_⟩
      rw [z, e]
      exact hv
    · obtain ⟨q, hq, ho, hV⟩ := I.1 t (cl_hin ht z)
      refine ⟨q, by omega, by rw [pk_un z]; exact ho, fun i hi => ?_⟩
      rw [cl_Ss, if_neg z, ha _ (by omega)]
      exact hV i hi
  · rw [e]
    exact hv
section
variable {ys yd yt yz yl : Int32} {wd fm co vl op : Nat → Int32}
theorem yo_loop {post : Int32 → SY → Prop} {g : Nat → Nat} {s N : Nat} (hW : cm_W g s) (hN : N ≤ 12) (hp : ∀ vl op : Nat → Int32, post (cb_I (cm_H g s co N)) (ys, yd, yt, nI s, yl, wd, cm_WD g, co, vl, op)) : ∀ e p, p + e = s → ∀ vl op : Nat → Int32, yo_I g N co p vl op → wY_holdsFor_4 post (nI N) ys yd yt (nI s) yl (e + 1) (nI (cm_hn g p)) (nI p) wd (cm_WD g) co vl op := by
  obtain ⟨hs0, hs, h8, hw, he, _⟩ := hW
  intro e
  induction e with
  | zero =>
    intro p hps vl op I
    obtain rfl : p = s := by omega
    have V := I.2 hs0
    rw [he] at V
    have K := hp vl op
    unfold cm_H at K
    refine br_t (nI_le (Nat.le_refl p) (by omega)) ?_
    rw [xw_s1 (by omega)]
    by_cases z : N = 0
    · rw [if_pos z] at K
      have v := V 12 (Or.inr rfl)
      have c : 13 * nI (p - 1) + 12 = nI (13 * (p - 1) + 12) := yv_ix (p - 1) 12
      refine br_t (by rw [z]; exact nI_0) ?_
      rw [c, nI_clamp (by omega), v]
      exact And.intro (vp_in_nI (by omega) (by omega)) (And.intro (cb_In _) K)
    · rw [if_neg z] at K
      have v := V 0 (Or.inl (by omega))
      have c : 13 * nI (p - 1) + 0 = nI (13 * (p - 1) + 0) := yv_ix (p - 1) 0
      refine br_f (nI_ne0 (by omega) (by omega)) ?_
      rw [c, nI_clamp (by omega), v]
      exact And.intro (vp_in_nI (by omega) (by omega)) (And.intro (cb_In _) K)
  | succ e ih =>
    intro p hps vl op I
    have hh := cl_hle g p
    have hh' := cl_hle g (p + 1)
    have h1 := hw p (by omega)
    have g8 := h8 p
    have IH := ih (p + 1) (by omega)
    have hF : cm_WD g (nI p).toNatClampNeg = nI (g p) := by
      rw [nI_clamp (by omega)]
      rfl
    have Y : ∀ qy, 3 ≤ g p → op (cm_hn g p - 1) = nI qy → qy < p → True := fun _ _ _ _ => trivial
    refine br_f (nI_ge (by omega) (by omega)) (And.intro (vp_in_nI (by omega) (by omega)) (nm_r hF ?_))
    have J : ∀ qx qy, (3 ≤ g p → qy < p ∧ yv_V vl qy N (cm_S g N co p (cm_hn g p - 1))) → (3 ≤ g p → g p ≠ 3 → g p ≠ 6 → qx < p ∧ yv_V vl qx N (cm_S g N co p (cm_hn g p - 2))) → qx < 16 → qy < 16 → ∃ n70 : Nat, wY_holdsFor_70 post (wY_holdsFor_4 post (nI N) ys yd yt (nI s) yl (e + 1)) (nI N) (nI (cm_hn g p)) (nI p) (nI (g p)) (nI qy) (nI qx) ys yd yt (nI s) yl n70 0 wd (cm_WD g) co vl op := by
      intro qx qy hy hx bx bY
      refine Exists.intro 14 (yh_in (x := cm_S g N co p (cm_hn g p - 2)) (y := cm_S g N co p (cm_hn g p - 1)) (vl := vl) (h' := cm_hn g (p + 1)) g8 hN bx bY (by omega) (fun a b c => (hx a b c).1) (fun a => (hy a).1) (fun a => (hy a).2) (fun a b c => (hx a b c).2) h1 (by omega) (cl_hs g p) ?_ 13 0 rfl vl (fun _ _ => rfl) (fun i' hi' => absurd hi' (Nat.not_lt_zero i')))
      intro vl' ha hv
      exact IH vl' _ (yo_n I ha hN hv)
    unfold wY_holdsFor_38
    by_cases z0 : g p < 3
    · refine br_t (nI_le (b := 2) (by omega) (by omega)) (br_t (nI_le (b := 3) (by omega) (by omega)) ?_)
      exact J 0 0 (fun z => absurd z0 (by omega)) (fun z => absurd z0 (by omega)) (by omega) (by omega)
    have n1 := cl_n1 h1 (by omega)
    obtain ⟨qy, hqy, oy, vy⟩ := I.1 (cm_hn g p - 1) (by omega)
    have i1 : vp_in (nI (cm_hn g p) - 1) 16 := by rw [xw_s1 n1]; exact vp_in_nI (by omega) (by omega)
    have c1 : op (nI (cm_hn g p) - 1).toNatClampNeg = nI qy := by rw [xw_s1 n1, nI_clamp (by omega)]; exact oy
    refine br_f (nI_ge (a := 2) (by omega) (by omega)) (And.intro i1 ?_)
    rw [c1]
    by_cases z3 : g p = 3
    · refine br_t (by rw [z3]; decide) ?_
      exact J 0 qy (fun _ => ⟨hqy, vy⟩) (fun _ z => absurd z3 z) (by omega) (by omega)
    refine br_f (nI_ge (a := 3) (by omega) (by omega)) ?_
    by_cases z6 : g p = 6
    · refine br_t (by rw [z6]; rfl) ?_
      exact J 0 qy (fun _ => ⟨hqy, vy⟩) (fun _ _ z => absurd z6 z) (by omega) (by omega)
    refine br_f (fun z => z6 ((nI_eq (b := 6) (by omega) (by omega)).mp z)) ?_
    have n2 := cl_n2 h1 (by omega) z3 z6
    obtain ⟨qx, hqx, ox, vx⟩ := I.1 (cm_hn g p - 2) (by omega)
    have s2 : nI (cm_hn g p) - 2 = nI (cm_hn g p - 2) := pk_sub (b := 2) n2
    have c2 : op (nI (cm_hn g p) - 2).toNatClampNeg = nI qx := by rw [s2, nI_clamp (by omega)]; exact ox
    refine And.intro (by rw [s2]; exact vp_in_nI (by omega) (by omega)) (nm_r c2 ?_)
    exact J qx qy (fun _ => ⟨hqy, vy⟩) (fun _ _ _ => ⟨hqx, vx⟩) (by omega) (by omega)
theorem yo_all {post : Int32 → SY → Prop} {g : Nat → Nat} {s N : Nat} (hW : cm_W g s) (hN : N ≤ 12) (hp : ∀ vl op : Nat → Int32, post (cb_I (cm_H g s co N)) (ys, yd, yt, nI s, yl, wd, cm_WD g, co, vl, op)) : wpY_holdsFor post (ys, yd, yt, nI s, yl, wd, cm_WD g, co, vl, op) (nI N) :=
  Exists.intro (s + 1) (yo_loop hW hN hp s 0 (Nat.zero_add s) vl op ⟨fun t ht => absurd ht (Nat.not_lt_zero t), fun h => absurd h (Nat.lt_irrefl 0)⟩)
/-- a course that agrees with c below l, and one instant tried -/
theorem yw_c {g : Nat → Nat} {s l : Nat} {it co : Nat → Int32} {a : Int32} (hc : ∀ i, i < l → co i = it i) : cm_H g s (upd co l a) (l + 1) = cm_H g s (upd it l a) (l + 1) := by
  refine xq_Hc (fun i hi => ?_)
  by_cases z : i = l
  · rw [z, pk_us, pk_us]
  · rw [pk_un z, pk_un z]; exact hc i (by omega)
theorem yw_c2 {g : Nat → Nat} {s l : Nat} {it co : Nat → Int32} {a b : Int32} (hc : ∀ i, i < l → co i = it i) : cm_H g s (upd (upd co l a) (l + 1) b) (l + 1 + 1) = cm_H g s (upd (upd it l a) (l + 1) b) (l + 1 + 1) := by
  refine xq_Hc (fun i hi => ?_)
  by_cases z : i = l + 1
  · rw [z, pk_us, pk_us]
  · rw [pk_un z, pk_un z]
    by_cases y : i = l
    · rw [y, pk_us, pk_us]
    · rw [pk_un y, pk_un y]; exact hc i (by omega)
theorem yw_k {l k : Nat} {it co : Nat → Int32} {a : Int32} (hc : ∀ i, i < l → co i = it i) (hk : l ≤ k) : ∀ i, i < l → upd co k a i = it i := by
  intro i hi
  rw [pk_un (by omega)]
  exact hc i hi
theorem yw_all {post : Int32 → SY → Prop} {g : Nat → Nat} {s l f : Nat} {it : Nat → Int32} (hW : cm_W g s) (hl : l ≤ 10) (hc : ∀ i, i < l → co i = it i) (hp : ∀ co vl op : Nat → Int32, (∀ i, i < l → co i = it i) → post (cb_I (cm_H g s (upd it l (nI f)) (l + 1))) (ys, yd, yt, nI s, nI l, wd, cm_WD g, co, vl, op)) : wpY_holdsWith post (ys, yd, yt, nI s, nI l, wd, cm_WD g, co, vl, op) (nI f) := by
  unfold wpY_holdsWith
  refine And.intro (vp_in_nI (by omega) (by omega)) (nm_r (e' := upd co l (nI f)) (by rw [nI_clamp (by omega)]) ?_)
  rw [nI_1]
  refine yo_all hW (by omega) ?_
  intro vl op
  rw [yw_c hc]
  exact And.intro (cb_In _) (hp (upd co l (nI f)) vl op (yw_k hc (Nat.le_refl l)))
theorem yp_loop {post : Int32 → SY → Prop} {g : Nat → Nat} {s l : Nat} {it : Nat → Int32} {F : Nat → Bool} (hF : ∀ f, F f = cm_H g s (upd it l (nI f)) (l + 1)) (hW : cm_W g s) (hl : l ≤ 10) (hp : ∀ co vl op : Nat → Int32, (∀ i, i < l → co i = it i) → post (nI (cb_fo F 8)) (ys, yd, yt, nI s, nI l, wd, cm_WD g, co, vl, op)) : ∀ e f, f + e = 8 → ∀ co vl op : Nat → Int32, (∀ i, i < l → co i = it i) → wY_wouldHoldWith_4 post (e + 1) (nI (cb_fo F f)) (nI f) ys yd yt (nI s) (nI l) wd (cm_WD g) co vl op := by
  intro e
  induction e with
  | zero =>
    intro f hf co vl op hc
    obtain rfl : f = 8 := by omega
    exact br_t (nI_le (a := 8) (by omega) (by omega)) (hp co vl op hc)
  | succ e ih =>
    intro f hf co vl op hc
    refine br_f (nI_ge (b := 8) (by omega) (by omega)) ?_
    refine yw_all hW hl hc ?_
    intro co vl op hc
    rw [← hF f]
    by_cases z : F f = true
    · refine br_f (by rw [z]; decide) (nm_r (cb_fos (by omega) z) (nm_r (nI_1 f) (ih (f + 1) (by omega) co vl op hc)))
    · have K := ih (f + 1) (by omega) co vl op hc
      rw [cb_fof z] at K
      refine br_t (cb_I0.mpr (by cases y : F f; rfl; exact absurd y z)) (nm_r (nI_1 f) K)
theorem yl_loop2 {post : Int32 → SY → Prop} {g : Nat → Nat} {s l : Nat} {it : Nat → Int32} {G : Nat → Nat → Bool} {w : Bool} (hG : ∀ f f', G f f' = cm_H g s (upd (upd it l (nI f)) (l + 1) (nI f')) (l + 1 + 1)) (hW : cm_W g s) (hl : l ≤ 10) (hp1 : ∀ co vl op : Nat → Int32, (∀ i, i < l → co i = it i) → (∃ f, f < 8 ∧ ∃ f', f' < 8 ∧ G f f' = w) → post 2 (ys, yd, yt, nI s, nI l, wd, cm_WD g, co, vl, op)) (hp0 : ∀ co vl op : Nat → Int32, (∀ i, i < l → co i = it i) → (∀ f, f < 8 → ∀ f', f' < 8 → G f f' ≠ w) → post (-4) (ys, yd, yt, nI s, nI l, wd, cm_WD g, co, vl, op)) : ∀ e f, f + e = 64 → (∀ k, k < f → G (k / 8) (k % 8) ≠ w) → ∀ co vl op : Nat → Int32, (∀ i, i < l → co i = it i) → wY_soonestThat_41 post (cb_I w) (e + 1) (nI f) ys yd yt (nI s) (nI l) wd (cm_WD g) co vl op := by
  intro e
  induction e with
  | zero =>
    intro f hf hn co vl op hc
    obtain rfl : f = 64 := by omega
    refine br_t (nI_le (a := 64) (by omega) (by omega)) (hp0 co vl op hc (fun f hf f' hf' => ?_))
    have t := hn (8 * f + f') (by omega)
    rw [show (8 * f + f') / 8 = f by omega, show (8 * f + f') % 8 = f' by omega] at t
    exact t
  | succ e ih =>
    intro f hf hn co vl op hc
    have d : nI f / 8 = nI (f / 8) := pk_div (d := 8) (by omega) (by omega) (by omega)
    have m : nI f - nI f / 8 * 8 = nI (f % 8) := pk_rem (d := 8) (by omega) (by omega) (by omega)
    have l2 : nI l + 2 = nI (l + 1 + 1) := nI_add l 2
    refine br_f (nI_ge (b := 64) (by omega) (by omega)) (And.intro (by decide) (And.intro (vp_in_nI (by omega) (by omega)) (nm_r (e' := upd co l (nI (f / 8))) (by rw [d, nI_clamp (by omega)]) (And.intro (by decide) (And.intro (by rw [nI_1]; exact vp_in_nI (by omega) (by omega)) (nm_r (e' := upd (upd co l (nI (f / 8))) (l + 1) (nI (f % 8))) (by rw [m, nI_1, nI_clamp (by omega)]) ?_))))))
    rw [l2]
    refine yo_all hW (by omega) ?_
    intro vl op
    rw [yw_c2 hc, ← hG]
    have hc' := yw_k (a := nI (f % 8)) (yw_k (a := nI (f / 8)) hc (Nat.le_refl l)) (show l ≤ l + 1 by omega)
    by_cases z : G (f / 8) (f % 8) = w
    · exact br_t (cb_Ii.mpr z) (hp1 _ vl op hc' ⟨f / 8, by omega, f % 8, by omega, z⟩)
    · refine br_f (fun y => z (cb_Ii.mp y)) (nm_r (nI_1 f) (ih (f + 1) (by omega) ?_ _ vl op hc'))
      intro k hk
      by_cases y : k = f
      · rw [y]; exact z
      · exact hn k (by omega)
theorem yl_loop1 {post : Int32 → SY → Prop} {g : Nat → Nat} {s l : Nat} {it : Nat → Int32} {F : Nat → Bool} {w : Bool} (hF : ∀ f, F f = cm_H g s (upd it l (nI f)) (l + 1)) (hW : cm_W g s) (hl : l ≤ 10) (hp1 : ∀ co vl op : Nat → Int32, (∀ i, i < l → co i = it i) → (∃ f, f < 8 ∧ F f = w) → post 1 (ys, yd, yt, nI s, nI l, wd, cm_WD g, co, vl, op)) (hp0 : ∀ co vl op : Nat → Int32, (∀ i, i < l → co i = it i) → (∀ f, f < 8 → F f ≠ w) → ∃ n41 : Nat, wY_soonestThat_41 post (cb_I w) n41 0 ys yd yt (nI s) (nI l) wd (cm_WD g) co vl op) : ∀ e f, f + e = 8 → (∀ k, k < f → F k ≠ w) → ∀ co vl op : Nat → Int32, (∀ i, i < l → co i = it i) → wY_soonestThat_16 post (cb_I w) (e + 1) (nI f) ys yd yt (nI s) (nI l) wd (cm_WD g) co vl op := by
  intro e
  induction e with
  | zero =>
    intro f hf hn co vl op hc
    obtain rfl : f = 8 := by omega
    exact br_t (nI_le (a := 8) (by omega) (by omega)) (hp0 co vl op hc hn)
  | succ e ih =>
    intro f hf hn co vl op hc
    refine br_f (nI_ge (b := 8) (by omega) (by omega)) ?_
    refine yw_all hW hl hc ?_
    intro co vl op hc
    rw [← hF f]
    by_cases z : F f = w
    · exact br_t (cb_Ii.mpr z) (hp1 co vl op hc ⟨f, by omega, z⟩)
    · refine br_f (fun y => z (cb_Ii.mp y)) (nm_r (nI_1 f) (ih (f + 1) (by omega) ?_ co vl op hc))
      intro k hk
      by_cases y : k = f
      · rw [y]; exact z
      · exact hn k (by omega)
theorem yl_all {post : Int32 → SY → Prop} {g : Nat → Nat} {s l : Nat} {it : Nat → Int32} {F : Nat → Bool} {G : Nat → Nat → Bool} {w : Bool} (hF : ∀ f, F f = cm_H g s (upd it l (nI f)) (l + 1)) (hG : ∀ f f', G f f' = cm_H g s (upd (upd it l (nI f)) (l + 1) (nI f')) (l + 1 + 1)) (hW : cm_W g s) (hl : l ≤ 10) (hc : ∀ i, i < l → co i = it i) (hp : ∀ (r : Int32) (co vl op : Nat → Int32), (∀ i, i < l → co i = it i) → cm_LE (cm_H g s it l) F G w r → post r (ys, yd, yt, nI s, nI l, wd, cm_WD g, co, vl, op)) : wpY_soonestThat post (ys, yd, yt, nI s, nI l, wd, cm_WD g, co, vl, op) (cb_I w) := by
  unfold wpY_soonestThat
  refine yo_all hW (by omega) ?_
  intro vl op
  rw [xq_Hc hc]
  by_cases z : cm_H g s it l = w
  · exact br_t (cb_Ii.mpr z) (hp 0 co vl op hc (Or.inl ⟨z, rfl⟩))
  refine br_f (fun y => z (cb_Ii.mp y)) (Exists.intro 9 (yl_loop1 hF hW hl ?_ ?_ 8 0 rfl (fun k hk => absurd hk (Nat.not_lt_zero k)) co vl op hc))
  · intro co vl op hc h
    exact hp 1 co vl op hc (Or.inr (Or.inl ⟨z, h, rfl⟩))
  · intro co vl op hc hn
    refine Exists.intro 65 (yl_loop2 hG hW hl ?_ ?_ 64 0 rfl (fun k hk => absurd hk (Nat.not_lt_zero k)) co vl op hc)
    · intro co vl op hc h
      exact hp 2 co vl op hc (Or.inr (Or.inr (Or.inl ⟨z, hn, h, rfl⟩)))
    · intro co vl op hc h
      exact hp (-4) co vl op hc (Or.inr (Or.inr (Or.inr ⟨z, hn, h, rfl⟩)))
end
end
section
/-! both sides: the draft's methods and define -/
section
variable {xh xm xt xz xo xl : Int32} {bg dd df tk fo : Nat → Int32} {va pl ow : Nat → Int64} {it : Nat → Int32} {tb : Nat → Int64}
variable {ys yd yt yz yl : Int32} {wd fm co vl op : Nat → Int32}
theorem xd_append {post : SX → Prop} {d : Nat → Nat} {m o : Nat} (hm : m < 16) (h : post (xh, nI (m + 1), xt, xz, xo, xl, bg, cm_TK (cm_up d m o), cm_FO (cm_up d m o), tk, fo, va, pl, ow, it, tb)) : wpX_append post (xh, nI m, xt, xz, xo, xl, bg, cm_TK d, cm_FO d, tk, fo, va, pl, ow, it, tb) (nI (cm_tk o)) (nI (cm_fc o)) := by
  unfold wpX_append
  have i : vp_in (nI m) 16 := vp_in_nI hm (by omega)
  exact And.intro i (nm_r (e' := cm_TK (cm_up d m o)) (by rw [nI_clamp (by omega)]; exact cd_upT d m o) (And.intro i (nm_r (e' := cm_FO (cm_up d m o)) (by rw [nI_clamp (by omega)]; exact cd_upF d m o) (nm_r (nI_1 m) h))))
theorem xd_apply {post : Int32 → SX → Prop} {d : Nat → Nat} {h m q o w : Nat} (hm : m ≤ 16) (hh : h ≤ 6) (hq : q ≤ 6) (h3 : 3 ≤ o) (h8 : o < 8) (hw : w ≤ 2) (hA : (m = 16 ∨ (5 < o ∧ q = 6)) → post (-2) (nI h, nI m, nI q, xz, xo, xl, bg, cm_TK d, cm_FO d, tk, fo, va, pl, ow, it, tb)) (hB : ¬ (m = 16 ∨ (5 < o ∧ q = 6)) → h < w → post (-3) (nI h, nI m, nI q, xz, xo, xl, bg, cm_TK d, cm_FO d, tk, fo, va, pl, ow, it, tb)) (hC : ¬ (m = 16 ∨ (5 < o ∧ q = 6)) → w ≤ h → post (nI (h - w + 1)) (nI (h - w + 1), nI (m + 1), nI (if 5 < o then q + 1 else q), xz, xo, xl, bg, cm_TK (cm_up d m o), cm_FO (cm_up d m o), tk, fo, va, pl, ow, it, tb)) : wpX_apply post (nI h, nI m, nI q, xz, xo, xl, bg, cm_TK d, cm_FO d, tk, fo, va, pl, ow, it, tb) (nI (cm_tk o)) (nI w) := by
  have et : cm_tk o = o - 2 := if_neg (by omega)
  have ef : nI (cm_fc o) = 0 := congrArg nI (if_neg (by omega) : cm_fc o = 0)
  have L : ∀ q' : Nat, m < 16 → w ≤ h → post (nI (h - w + 1)) (nI (h - w + 1), nI (m + 1), nI q', xz, xo, xl, bg, cm_TK (cm_up d m o), cm_FO (cm_up d m o), tk, fo, va, pl, ow, it, tb) → wX_apply_61 post (nI (cm_tk o)) (nI w) (nI h) (nI m) (nI q') xz xo xl bg (cm_TK d) (cm_FO d) tk fo va pl ow it tb := by
    intro q' hm' hw' K
    unfold wX_apply_61
    rw [← ef]
    refine xd_append hm' ?_
    refine nm_r (e' := nI (h - w + 1)) ?_ K
    rw [pk_sub hw', nI_1]
  unfold wpX_apply
  dsimp only
  by_cases z5 : 5 < o
  · refine br_f (nI_nlt (b := 4) (by omega) (by omega)) ?_
    unfold wX_apply_10
    by_cases zm : m = 16
    · exact br_t (by rw [zm]; rfl) (hA (Or.inl zm))
    refine br_f (fun z => zm ((nI_eq (b := 16) (by omega) (by omega)).mp z)) (br_f (by decide) ?_)
    by_cases zq : q = 6
    · exact br_t (by rw [zq]; rfl) (hA (Or.inr ⟨z5, zq⟩))
    refine br_f (fun z => zq ((nI_eq (b := 6) (by omega) (by omega)).mp z)) ?_
    have n : ¬ (m = 16 ∨ (5 < o ∧ q = 6)) := by omega
    unfold wX_apply_36
    by_cases zh : w ≤ h
    · have K := hC n zh
      rw [if_pos z5] at K
      exact br_t (nI_le zh (by omega)) (br_f (by decide) (nm_r (nI_1 q) (L (q + 1) (by omega) zh K)))
    · exact br_f (nI_ge (by omega) (by omega)) (hB n (by omega))
  · refine br_t (nI_lt (b := 4) (by omega) (by omega)) ?_
    unfold wX_apply_10
    by_cases zm : m = 16
    · exact br_t (by rw [zm]; rfl) (hA (Or.inl zm))
    refine br_f (fun z => zm ((nI_eq (b := 16) (by omega) (by omega)).mp z)) (br_t rfl ?_)
    have n : ¬ (m = 16 ∨ (5 < o ∧ q = 6)) := by omega
    unfold wX_apply_36
    by_cases zh : w ≤ h
    · have K := hC n zh
      rw [if_neg z5] at K
      exact br_t (nI_le zh (by omega)) (br_t rfl (L q (by omega) zh K))
    · exact br_f (nI_ge (by omega) (by omega)) (hB n (by omega))
theorem yd_note {post : Int32 → SY → Prop} {d : Nat → Nat} {m o : Nat} {p1 : Int32} (hm : m < 16) (h : post (yd + p1) (nI (m + 1), yd + p1, yt, yz, yl, cm_WD (cm_up d m o), fm, co, vl, op)) : wpY_note post (nI m, yd, yt, yz, yl, cm_WD d, fm, co, vl, op) (nI o) p1 := by
  unfold wpY_note
  exact And.intro (vp_in_nI hm (by omega)) (nm_r (e' := cm_WD (cm_up d m o)) (by rw [nI_clamp (by omega)]; exact cd_upW d m o) (nm_r (nI_1 m) (nm_e h)))
theorem yd_change {post : Int32 → SY → Prop} {d : Nat → Nat} {h m q o w : Nat} (hm : m ≤ 16) (hh : h ≤ 6) (hq : q ≤ 6) (h3 : 3 ≤ o) (h8 : o < 8) (hw : w ≤ 2) (hA : (m = 16 ∨ (5 < o ∧ q = 6)) → post (-2) (nI m, nI h, nI q, yz, yl, cm_WD d, fm, co, vl, op)) (hB : ¬ (m = 16 ∨ (5 < o ∧ q = 6)) → h < w → post (-3) (nI m, nI h, nI q, yz, yl, cm_WD d, fm, co, vl, op)) (hC : ¬ (m = 16 ∨ (5 < o ∧ q = 6)) → w ≤ h → post (nI (h - w + 1)) (nI (m + 1), nI (h - w + 1), nI (if 5 < o then q + 1 else q), yz, yl, cm_WD (cm_up d m o), fm, co, vl, op)) : wpY_change post (nI m, nI h, nI q, yz, yl, cm_WD d, fm, co, vl, op) (nI o) (nI w) := by
  have L : ∀ q' : Nat, m < 16 → w ≤ h → post (nI (h - w + 1)) (nI (m + 1), nI (h - w + 1), nI q', yz, yl, cm_WD (cm_up d m o), fm, co, vl, op) → wY_change_56 post (nI o) (nI w) (nI q') (nI m) (nI h) (nI q) yz yl (cm_WD d) fm co vl op := by
    intro q' hm' hw' K
    have e : nI h + (1 - nI w) = nI (h - w + 1) := by
      rw [← nI_1, ← pk_sub hw']
      grind
    unfold wY_change_56
    refine yd_note hm' ?_
    rw [e]
    exact K
  have M : ¬ (m = 16 ∨ (5 < o ∧ q = 6)) → wY_change_26 post (nI o) (nI w) (nI m) (nI h) (nI q) yz yl (cm_WD d) fm co vl op := by
    intro n
    unfold wY_change_26
    by_cases zh : w ≤ h
    · have K := hC n zh
      refine br_t (nI_le zh (by omega)) ?_
      by_cases z5 : 5 < o
      · rw [if_pos z5] at K
        refine br_f (nI_ge (a := 5) z5 (by omega)) ?_
        rw [nI_1]
        exact L (q + 1) (by omega) zh K
      · rw [if_neg z5] at K
        exact br_t (nI_le (b := 5) (by omega) (by omega)) (L q (by omega) zh K)
    · exact br_f (nI_ge (by omega) (by omega)) (hB n (by omega))
  unfold wpY_change
  dsimp only
  by_cases zm : m = 16
  · exact br_t (by rw [zm]; rfl) (hA (Or.inl zm))
  refine br_f (fun z => zm ((nI_eq (b := 16) (by omega) (by omega)).mp z)) ?_
  by_cases z5 : 5 < o
  · refine br_f (nI_ge (a := 5) z5 (by omega)) ?_
    by_cases zq : q = 6
    · exact br_t (by rw [zq]; rfl) (hA (Or.inr ⟨z5, zq⟩))
    · exact br_f (fun z => zq ((nI_eq (b := 6) (by omega) (by omega)).mp z)) (M (by omega))
  · exact br_t (nI_le (b := 5) (by omega) (by omega)) (M (by omega))
/-! define -/
theorem xd_def {post : Int32 → SX → Prop} {d g : Nat → Nat} {x1 : Int32} {r s l : Nat} (hr : r + s ≤ 16) (hW : cm_W (cm_cp d r g s) s) (hV : xw_V va) (hl : l ≤ 10) (hp : ∀ (xo : Int32) (pl ow tb : Nat → Int64), xf_T (cm_cp d r g s) s it l tb → post x1 (0, 0, 0, nI s, xo, nI l, bg, cm_TK d, cm_FO d, cm_TK (cm_cp d r g s), cm_FO (cm_cp d r g s), va, pl, ow, it, tb)) : ∀ e i, i + e = s → wX_define_39 post x1 (nI r) xh xm xt (nI s) xo (nI l) (e + 1) (nI i) bg (cm_TK d) (cm_FO d) (cm_TK (cm_cp d r g i)) (cm_FO (cm_cp d r g i)) va pl ow it tb := by
  intro e
  induction e with
  | zero =>
    intro i hi
    obtain rfl : i = s := by omega
    refine br_t (nI_le (Nat.le_refl i) (by omega)) ?_
    unfold wpX_discard
    dsimp only
    refine xf_all hW hV hl ?_
    intro xo pl ow tb hT
    exact hp xo pl ow tb hT
  | succ e ih =>
    intro i hi
    have ix : vp_in (nI r + nI i) 16 := by rw [nI_add]; exact vp_in_nI (by omega) (by omega)
    have ii : vp_in (nI i) 16 := vp_in_nI (by omega) (by omega)
    have c : (nI r + nI i).toNatClampNeg = r + i := by rw [nI_add]; exact nI_clamp (by omega)
    have ci : (nI i).toNatClampNeg = i := nI_clamp (by omega)
    refine br_f (nI_ge (by omega) (by omega)) (And.intro ix (And.intro ii (nm_r (e' := cm_TK (cm_cp d r g (i + 1))) ?_ (And.intro ix (And.intro ii (nm_r (e' := cm_FO (cm_cp d r g (i + 1))) ?_ (nm_r (nI_1 i) (ih (i + 1) (by omega)))))))))
    · rw [c, ci, ← cd_cp]
      exact cd_upT _ i (d (r + i))
    · rw [c, ci, ← cd_cp]
      exact cd_upF _ i (d (r + i))
theorem yd_top {post : Int32 → Prop} {d : Nat → Nat} {m t r : Nat} (h8 : ∀ j, d j < 8) (hm : m ≤ 16) (B : cm_B d m t r) (hp : post (nI r)) : ∀ e a, a = r + e → a ≤ m → wY_topBegin_7 post ys yd yt yz yl (cm_WD d) fm co vl op (e + 1) (nI a) (nI (cm_hn d a - t)) := by
  obtain ⟨b1, b2, b3⟩ := B
  intro e
  induction e with
  | zero =>
    intro a ha hm'
    obtain rfl : a = r := by omega
    have z : cm_hn d a - t = 0 := by omega
    rw [z]
    by_cases z0 : a = 0
    · exact br_t (by rw [z0]; decide) hp
    · exact br_f (fun y => z0 (by rw [show (0 : Int32) = nI 0 from rfl, nI_leI (by omega) (by omega)] at y; omega)) (br_t (by decide) hp)
  | succ e ih =>
    intro a ha hm'
    obtain ⟨b, rfl⟩ : ∃ b, a = b + 1 := ⟨a - 1, by omega⟩
    have hb := b3 (b + 1) (by omega) (by omega)
    have hb' : t ≤ cm_hn d b := by
      rcases Nat.lt_or_ge r b with z | z
      · exact Nat.le_of_lt (b3 b z (by omega))
      · rw [show b = r by omega, b2]; exact Nat.le_refl t
    have hl := cl_hle d (b + 1)
    have hl' := cl_hle d b
    have IH := ih b (by omega) (by omega)
    have d8 := h8 b
    have cd : cm_WD d (nI b).toNatClampNeg = nI (d b) := by rw [nI_clamp (by omega)]; rfl
    refine br_f (nI_nle (by omega) (by omega)) (br_f (nI_nle (by omega) (by omega)) (nm_r (pk_m1 b) (And.intro (vp_in_nI (by omega) (by omega)) (nm_r cd ?_))))
    by_cases z0 : d b < 3
    · have e0 := cl_h0 z0
      refine br_f (nI_ge (b := 3) z0 (by omega)) (nm_r (e' := nI (cm_hn d b - t)) ?_ IH)
      rw [xw_s1 (by omega)]
      exact congrArg nI (by omega)
    refine br_t (nI_le (a := 3) (by omega) (by omega)) ?_
    by_cases z1 : d b = 3 ∨ d b = 6
    · have e1 := cl_h1 z1
      have n4 : ¬ nI (d b) = 4 := fun z => by have := (nI_eq (b := 4) (by omega) (by omega)).mp z; omega
      have n5 : ¬ nI (d b) = 5 := fun z => by have := (nI_eq (b := 5) (by omega) (by omega)).mp z; omega
      have n7 : ¬ nI (d b) = 7 := fun z => by have := (nI_eq (b := 7) (by omega) (by omega)).mp z; omega
      rw [e1]
      exact br_f n4 (br_f n5 (br_f n7 IH))
    have e2 := cl_h2 (g := d) (p := b) (by omega) (by omega) (by omega)
    have K : nI (cm_hn d (b + 1) - t) + 1 = nI (cm_hn d b - t) := by
      rw [nI_1]
      exact congrArg nI (by omega)
    by_cases z4 : d b = 4
    · exact br_t (by rw [z4]; rfl) (nm_r K IH)
    refine br_f (fun z => z4 ((nI_eq (b := 4) (by omega) (by omega)).mp z)) ?_
    by_cases z5 : d b = 5
    · exact br_t (by rw [z5]; rfl) (nm_r K IH)
    refine br_f (fun z => z5 ((nI_eq (b := 5) (by omega) (by omega)).mp z)) ?_
    have z7 : d b = 7 := by omega
    exact br_t (by rw [z7]; rfl) (nm_r K IH)
theorem yd_def {post : Int32 → SY → Prop} {d g : Nat → Nat} {x1 : Int32} {r s : Nat} (hr : r + s ≤ 16) (hp : post x1 (0, 0, 0, nI s, yl, cm_WD d, cm_WD (cm_cp d r g s), co, vl, op)) : ∀ e i, i + e = s → wY_define_32 post x1 (nI r) ys yd yt (nI s) yl (e + 1) (nI i) (cm_WD d) (cm_WD (cm_cp d r g i)) co vl op := by
  intro e
  induction e with
  | zero =>
    intro i hi
    obtain rfl : i = s := by omega
    exact br_t (nI_le (Nat.le_refl i) (by omega)) hp
  | succ e ih =>
    intro i hi
    have ix : vp_in (nI r + nI i) 16 := by rw [nI_add]; exact vp_in_nI (by omega) (by omega)
    have ii : vp_in (nI i) 16 := vp_in_nI (by omega) (by omega)
    have c : (nI r + nI i).toNatClampNeg = r + i := by rw [nI_add]; exact nI_clamp (by omega)
    have ci : (nI i).toNatClampNeg = i := nI_clamp (by omega)
    refine br_f (nI_ge (by omega) (by omega)) (And.intro ix (And.intro ii (nm_r (e' := cm_WD (cm_cp d r g (i + 1))) ?_ (nm_r (nI_1 i) (ih (i + 1) (by omega))))))
    rw [c, ci, ← cd_cp]
    exact cd_upW _ i (d (r + i))
end
end
section
/-! the relation and the owed statements -/
def cm_R (h m q s l : Nat) (bg : Nat → Int32) (d g : Nat → Nat) (va : Nat → Int64) (it : Nat → Int32) (tb : Nat → Int64) (co : Nat → Int32) : Prop := cm_D h m q bg d ∧ cm_W g s ∧ xw_V va ∧ l ≤ 10 ∧ xf_T g s it l tb ∧ ∀ i, i < l → co i = it i
def i_Rel (k : Nat) (u : SX) (v : SY) : Prop := ∃ (h m q s l : Nat) (xo : Int32) (bg : Nat → Int32) (d g : Nat → Nat) (va pl ow : Nat → Int64) (it : Nat → Int32) (tb : Nat → Int64) (co vl op : Nat → Int32), cm_R h m q s l bg d g va it tb co ∧ u = (nI h, nI m, nI q, nI s, xo, nI l, bg, cm_TK d, cm_FO d, cm_TK g, cm_FO g, va, pl, ow, it, tb) ∧ v = (nI m, nI h, nI q, nI s, nI l, cm_WD d, cm_WD g, co, vl, op)
theorem zz_in (k : Nat) {h m q s l : Nat} {xo : Int32} {bg : Nat → Int32} {d g : Nat → Nat} {va pl ow : Nat → Int64} {it : Nat → Int32} {tb : Nat → Int64} {co vl op : Nat → Int32} (H : cm_R h m q s l bg d g va it tb co) : i_Rel k (nI h, nI m, nI q, nI s, xo, nI l, bg, cm_TK d, cm_FO d, cm_TK g, cm_FO g, va, pl, ow, it, tb) (nI m, nI h, nI q, nI s, nI l, cm_WD d, cm_WD g, co, vl, op) := ⟨h, m, q, s, l, xo, bg, d, g, va, pl, ow, it, tb, co, vl, op, H, rfl, rfl⟩
theorem zz_el {k : Nat} {P : SX → SY → Prop} (H : ∀ (h m q s l : Nat) (xo : Int32) (bg : Nat → Int32) (d g : Nat → Nat) (va pl ow : Nat → Int64) (it : Nat → Int32) (tb : Nat → Int64) (co vl op : Nat → Int32), cm_R h m q s l bg d g va it tb co → P (nI h, nI m, nI q, nI s, xo, nI l, bg, cm_TK d, cm_FO d, cm_TK g, cm_FO g, va, pl, ow, it, tb) (nI m, nI h, nI q, nI s, nI l, cm_WD d, cm_WD g, co, vl, op)) {u : SX} {v : SY} (I : i_Rel k u v) : P u v := by
  obtain ⟨h, m, q, s, l, xo, bg, d, g, va, pl, ow, it, tb, co, vl, op, HR, eu, ev⟩ := I
  rw [eu, ev]
  exact H h m q s l xo bg d g va pl ow it tb co vl op HR
theorem i_up {k : Nat} {u : SX} {v : SY} (h : i_Rel k u v) : i_Rel (k + 2) u v := h
theorem zz_W0 : cm_W (fun _ => 0) 1 := by
  refine ⟨by omega, by omega, fun _ => (by decide : (0 : Nat) < 8), fun p hp => ?_, rfl, by decide⟩
  obtain rfl : p = 0 := by omega
  exact Nat.le_refl 1
theorem i_vc0 : wpX_init (fun u => wpY_init (fun v => i_Rel 0 u v)) := by
  refine xi_all ?_
  intro va hV
  exact zz_in 0 (h := 0) (m := 0) (q := 0) (s := 1) (l := 0) (xo := 0) (bg := fun _ => 0) (d := fun _ => 0) (g := fun _ => 0) (va := va) (pl := fun _ => 0) (ow := fun _ => 0) (it := fun _ => 0) (tb := fun _ => 0) (co := fun _ => 0) (vl := fun _ => 0) (op := fun _ => 0) ⟨cd_0 (fun _ => (by decide : (0 : Nat) < 8)), zz_W0, hV, by omega, fun j hj h0 => absurd (Nat.le_zero.mp h0) hj, fun i hi => absurd hi (Nat.not_lt_zero i)⟩
theorem i_vc_fact {k : Nat} {u : SX} {v : SY} (I : i_Rel k u v) (hk : k + 2 ≤ 1024) (v1 : Int32) : wpX_fact (fun r u' => wpY_fact (fun r' v' => r' = r ∧ i_Rel (k + 2) u' v') v v1) u v1 := by
  refine zz_el (P := fun u v => wpX_fact (fun r u' => wpY_fact (fun r' v' => r' = r ∧ i_Rel (k + 2) u' v') v v1) u v1) ?_ I
  intro h m q s l xo bg d g va pl ow it tb co vl op HR
  have HR' := HR
  obtain ⟨D, W, V, hl, T, C⟩ := HR
  have D' := D
  obtain ⟨d1, d2, d3, d4, d5, d6, d7⟩ := D'
  unfold wpX_fact
  dsimp only
  by_cases z0 : v1 < 0
  · refine br_t z0 ?_
    unfold wpY_fact
    exact br_t z0 ⟨rfl, zz_in _ HR'⟩
  refine br_f z0 ?_
  by_cases z2 : v1 ≤ 2
  · obtain ⟨f, hf, rfl⟩ := nI_of2 (n := 2) (by decide) z0 z2
    refine br_t z2 ?_
    by_cases zm : m = 16
    · have e : nI m = 16 := by rw [zm]; rfl
      refine br_t e ?_
      unfold wpY_fact
      exact br_f z0 (br_t z2 (br_t e ⟨rfl, zz_in _ HR'⟩))
    have nm : ¬ nI m = 16 := fun z => zm ((nI_eq (b := 16) (by omega) (by omega)).mp z)
    refine br_f nm ?_
    by_cases zh : h = 6
    · have e : nI h = 6 := by rw [zh]; rfl
      refine br_t e ?_
      unfold wpY_fact
      exact br_f z0 (br_t z2 (br_f nm (br_t e ⟨rfl, zz_in _ HR'⟩)))
    have nh : ¬ nI h = 6 := fun z => zh ((nI_eq (b := 6) (by omega) (by omega)).mp z)
    refine br_f nh (And.intro (vp_in_nI (by omega) (by omega)) (nm_r (e' := upd bg h (nI m)) (by rw [nI_clamp (by omega)]) (nm_r (nI_1 h) ?_)))
    have et : (0 : Int32) = nI (cm_tk f) := (congrArg nI (if_pos (by omega) : cm_tk f = 0)).symm
    have ef : nI f = nI (cm_fc f) := (congrArg nI (if_pos (by omega) : cm_fc f = f)).symm
    have A : ∀ post : SX → Prop, post (nI (h + 1), nI (m + 1), nI q, nI s, xo, nI l, upd bg h (nI m), cm_TK (cm_up d m f), cm_FO (cm_up d m f), cm_TK g, cm_FO g, va, pl, ow, it, tb) → wpX_append post (nI (h + 1), nI m, nI q, nI s, xo, nI l, upd bg h (nI m), cm_TK d, cm_FO d, cm_TK g, cm_FO g, va, pl, ow, it, tb) 0 (nI f) := by
      intro post K
      rw [et]
      conv => arg 4; rw [ef]
      exact xd_append (by omega) K
    refine A _ ?_
    dsimp only
    unfold wpY_fact
    refine br_f z0 (br_t z2 (br_f nm (br_f nh ?_)))
    refine yd_note (by omega) ?_
    dsimp only
    rw [nI_1]
    exact ⟨rfl, zz_in _ ⟨cd_fact D (by omega) (by omega) (by omega), W, V, hl, T, C⟩⟩
  · refine br_f z2 ?_
    unfold wpY_fact
    exact br_f z0 (br_f z2 ⟨rfl, zz_in _ HR'⟩)
theorem i_vc_not {k : Nat} {u : SX} {v : SY} (I : i_Rel k u v) (hk : k + 2 ≤ 1024) : wpX_not (fun r u' => wpY_not (fun r' v' => r' = r ∧ i_Rel (k + 2) u' v') v) u := by
  refine zz_el (P := fun u v => wpX_not (fun r u' => wpY_not (fun r' v' => r' = r ∧ i_Rel (k + 2) u' v') v) u) ?_ I
  intro h m q s l xo bg d g va pl ow it tb co vl op HR
  have HR' := HR
  obtain ⟨D, W, V, hl, T, C⟩ := HR
  have D' := D
  obtain ⟨d1, d2, d3, d4, d5, d6, d7⟩ := D'
  unfold wpX_not
  refine xd_apply (o := 3) (w := 1) d1 d2 d3 (by omega) (by omega) (by omega) ?_ ?_ ?_
  · intro hA
    dsimp only
    unfold wpY_not
    refine yd_change (o := 3) (w := 1) d1 d2 d3 (by omega) (by omega) (by omega) ?_ (fun n => absurd hA n) (fun n => absurd hA n)
    intro _
    exact ⟨rfl, zz_in _ HR'⟩
  · intro hA hB
    dsimp only
    unfold wpY_not
    refine yd_change (o := 3) (w := 1) d1 d2 d3 (by omega) (by omega) (by omega) (fun n => absurd n hA) ?_ (fun _ n => absurd n (by omega))
    intro _ _
    exact ⟨rfl, zz_in _ HR'⟩
  · intro hA hC
    dsimp only
    unfold wpY_not
    refine yd_change (o := 3) (w := 1) d1 d2 d3 (by omega) (by omega) (by omega) (fun n => absurd n hA) (fun _ n => absurd n (by omega)) ?_
    intro _ _
    exact ⟨rfl, zz_in _ ⟨cd_op (o := 3) (w := 1) D (by omega) (by omega) (by omega) rfl hC rfl (by split <;> omega), W, V, hl, T, C⟩⟩
theorem i_vc_and {k : Nat} {u : SX} {v : SY} (I : i_Rel k u v) (hk : k + 2 ≤ 1024) : wpX_and (fun r u' => wpY_and (fun r' v' => r' = r ∧ i_Rel (k + 2) u' v') v) u := by
  refine zz_el (P := fun u v => wpX_and (fun r u' => wpY_and (fun r' v' => r' = r ∧ i_Rel (k + 2) u' v') v) u) ?_ I
  intro h m q s l xo bg d g va pl ow it tb co vl op HR
  have HR' := HR
  obtain ⟨D, W, V, hl, T, C⟩ := HR
  have D' := D
  obtain ⟨d1, d2, d3, d4, d5, d6, d7⟩ := D'
  unfold wpX_and
  refine xd_apply (o := 4) (w := 2) d1 d2 d3 (by omega) (by omega) (by omega) ?_ ?_ ?_
  · intro hA
    dsimp only
    unfold wpY_and
    refine yd_change (o := 4) (w := 2) d1 d2 d3 (by omega) (by omega) (by omega) ?_ (fun n => absurd hA n) (fun n => absurd hA n)
    intro _
    exact ⟨rfl, zz_in _ HR'⟩
  · intro hA hB
    dsimp only
    unfold wpY_and
    refine yd_change (o := 4) (w := 2) d1 d2 d3 (by omega) (by omega) (by omega) (fun n => absurd n hA) ?_ (fun _ n => absurd n (by omega))
    intro _ _
    exact ⟨rfl, zz_in _ HR'⟩
  · intro hA hC
    dsimp only
    unfold wpY_and
    refine yd_change (o := 4) (w := 2) d1 d2 d3 (by omega) (by omega) (by omega) (fun n => absurd n hA) (fun _ n => absurd n (by omega)) ?_
    intro _ _
    exact ⟨rfl, zz_in _ ⟨cd_op (o := 4) (w := 2) D (by omega) (by omega) (by omega) rfl hC rfl (by split <;> omega), W, V, hl, T, C⟩⟩
theorem i_vc_or {k : Nat} {u : SX} {v : SY} (I : i_Rel k u v) (hk : k + 2 ≤ 1024) : wpX_or (fun r u' => wpY_or (fun r' v' => r' = r ∧ i_Rel (k + 2) u' v') v) u := by
  refine zz_el (P := fun u v => wpX_or (fun r u' => wpY_or (fun r' v' => r' = r ∧ i_Rel (k + 2) u' v') v) u) ?_ I
  intro h m q s l xo bg d g va pl ow it tb co vl op HR
  have HR' := HR
  obtain ⟨D, W, V, hl, T, C⟩ := HR
  have D' := D
  obtain ⟨d1, d2, d3, d4, d5, d6, d7⟩ := D'
  unfold wpX_or
  refine xd_apply (o := 5) (w := 2) d1 d2 d3 (by omega) (by omega) (by omega) ?_ ?_ ?_
  · intro hA
    dsimp only
    unfold wpY_or
    refine yd_change (o := 5) (w := 2) d1 d2 d3 (by omega) (by omega) (by omega) ?_ (fun n => absurd hA n) (fun n => absurd hA n)
    intro _
    exact ⟨rfl, zz_in _ HR'⟩
  · intro hA hB
    dsimp only
    unfold wpY_or
    refine yd_change (o := 5) (w := 2) d1 d2 d3 (by omega) (by omega) (by omega) (fun n => absurd n hA) ?_ (fun _ n => absurd n (by omega))
    intro _ _
    exact ⟨rfl, zz_in _ HR'⟩
  · intro hA hC
    dsimp only
    unfold wpY_or
    refine yd_change (o := 5) (w := 2) d1 d2 d3 (by omega) (by omega) (by omega) (fun n => absurd n hA) (fun _ n => absurd n (by omega)) ?_
    intro _ _
    exact ⟨rfl, zz_in _ ⟨cd_op (o := 5) (w := 2) D (by omega) (by omega) (by omega) rfl hC rfl (by split <;> omega), W, V, hl, T, C⟩⟩
theorem i_vc_next {k : Nat} {u : SX} {v : SY} (I : i_Rel k u v) (hk : k + 2 ≤ 1024) : wpX_next (fun r u' => wpY_next (fun r' v' => r' = r ∧ i_Rel (k + 2) u' v') v) u := by
  refine zz_el (P := fun u v => wpX_next (fun r u' => wpY_next (fun r' v' => r' = r ∧ i_Rel (k + 2) u' v') v) u) ?_ I
  intro h m q s l xo bg d g va pl ow it tb co vl op HR
  have HR' := HR
  obtain ⟨D, W, V, hl, T, C⟩ := HR
  have D' := D
  obtain ⟨d1, d2, d3, d4, d5, d6, d7⟩ := D'
  unfold wpX_next
  refine xd_apply (o := 6) (w := 1) d1 d2 d3 (by omega) (by omega) (by omega) ?_ ?_ ?_
  · intro hA
    dsimp only
    unfold wpY_next
    refine yd_change (o := 6) (w := 1) d1 d2 d3 (by omega) (by omega) (by omega) ?_ (fun n => absurd hA n) (fun n => absurd hA n)
    intro _
    exact ⟨rfl, zz_in _ HR'⟩
  · intro hA hB
    dsimp only
    unfold wpY_next
    refine yd_change (o := 6) (w := 1) d1 d2 d3 (by omega) (by omega) (by omega) (fun n => absurd n hA) ?_ (fun _ n => absurd n (by omega))
    intro _ _
    exact ⟨rfl, zz_in _ HR'⟩
  · intro hA hC
    dsimp only
    unfold wpY_next
    refine yd_change (o := 6) (w := 1) d1 d2 d3 (by omega) (by omega) (by omega) (fun n => absurd n hA) (fun _ n => absurd n (by omega)) ?_
    intro _ _
    exact ⟨rfl, zz_in _ ⟨cd_op (o := 6) (w := 1) D (by omega) (by omega) (by omega) rfl hC rfl (by split <;> omega), W, V, hl, T, C⟩⟩
theorem i_vc_until {k : Nat} {u : SX} {v : SY} (I : i_Rel k u v) (hk : k + 2 ≤ 1024) : wpX_until (fun r u' => wpY_until (fun r' v' => r' = r ∧ i_Rel (k + 2) u' v') v) u := by
  refine zz_el (P := fun u v => wpX_until (fun r u' => wpY_until (fun r' v' => r' = r ∧ i_Rel (k + 2) u' v') v) u) ?_ I
  intro h m q s l xo bg d g va pl ow it tb co vl op HR
  have HR' := HR
  obtain ⟨D, W, V, hl, T, C⟩ := HR
  have D' := D
  obtain ⟨d1, d2, d3, d4, d5, d6, d7⟩ := D'
  unfold wpX_until
  refine xd_apply (o := 7) (w := 2) d1 d2 d3 (by omega) (by omega) (by omega) ?_ ?_ ?_
  · intro hA
    dsimp only
    unfold wpY_until
    refine yd_change (o := 7) (w := 2) d1 d2 d3 (by omega) (by omega) (by omega) ?_ (fun n => absurd hA n) (fun n => absurd hA n)
    intro _
    exact ⟨rfl, zz_in _ HR'⟩
  · intro hA hB
    dsimp only
    unfold wpY_until
    refine yd_change (o := 7) (w := 2) d1 d2 d3 (by omega) (by omega) (by omega) (fun n => absurd n hA) ?_ (fun _ n => absurd n (by omega))
    intro _ _
    exact ⟨rfl, zz_in _ HR'⟩
  · intro hA hC
    dsimp only
    unfold wpY_until
    refine yd_change (o := 7) (w := 2) d1 d2 d3 (by omega) (by omega) (by omega) (fun n => absurd n hA) (fun _ n => absurd n (by omega)) ?_
    intro _ _
    exact ⟨rfl, zz_in _ ⟨cd_op (o := 7) (w := 2) D (by omega) (by omega) (by omega) rfl hC rfl (by split <;> omega), W, V, hl, T, C⟩⟩
theorem i_vc_steps {k : Nat} {u : SX} {v : SY} (I : i_Rel k u v) (hk : k + 2 ≤ 1024) : wpX_steps (fun r => wpY_steps (fun r' => r' = r ∧ i_Rel (k + 2) u v) v) u := by
  refine zz_el (P := fun u v => wpX_steps (fun r => wpY_steps (fun r' => r' = r ∧ i_Rel (k + 2) u v) v) u) ?_ I
  intro h m q s l xo bg d g va pl ow it tb co vl op HR
  exact ⟨rfl, zz_in _ HR⟩
theorem i_vc_depth {k : Nat} {u : SX} {v : SY} (I : i_Rel k u v) (hk : k + 2 ≤ 1024) : wpX_depth (fun r => wpY_depth (fun r' => r' = r ∧ i_Rel (k + 2) u v) v) u := by
  refine zz_el (P := fun u v => wpX_depth (fun r => wpY_depth (fun r' => r' = r ∧ i_Rel (k + 2) u v) v) u) ?_ I
  intro h m q s l xo bg d g va pl ow it tb co vl op HR
  exact ⟨rfl, zz_in _ HR⟩
theorem i_vc_length {k : Nat} {u : SX} {v : SY} (I : i_Rel k u v) (hk : k + 2 ≤ 1024) : wpX_length (fun r => wpY_length (fun r' => r' = r ∧ i_Rel (k + 2) u v) v) u := by
  refine zz_el (P := fun u v => wpX_length (fun r => wpY_length (fun r' => r' = r ∧ i_Rel (k + 2) u v) v) u) ?_ I
  intro h m q s l xo bg d g va pl ow it tb co vl op HR
  exact ⟨rfl, zz_in _ HR⟩
theorem i_vc_discard {k : Nat} {u : SX} {v : SY} (I : i_Rel k u v) (hk : k + 2 ≤ 1024) : wpX_discard (fun u' => wpY_discard (fun v' => i_Rel (k + 2) u' v') v) u := by
  refine zz_el (P := fun u v => wpX_discard (fun u' => wpY_discard (fun v' => i_Rel (k + 2) u' v') v) u) ?_ I
  intro h m q s l xo bg d g va pl ow it tb co vl op HR
  obtain ⟨D, W, V, hl, T, C⟩ := HR
  exact zz_in (k + 2) (h := 0) (m := 0) (q := 0) (xo := xo) (pl := pl) (ow := ow) (vl := vl) (op := op) (bg := bg) ⟨cd_0 D.2.2.2.1, W, V, hl, T, C⟩
theorem i_vc_define {k : Nat} {u : SX} {v : SY} (I : i_Rel k u v) (hk : k + 2 ≤ 1024) : wpX_define (fun r u' => wpY_define (fun r' v' => r' = r ∧ i_Rel (k + 2) u' v') v) u := by
  refine zz_el (P := fun u v => wpX_define (fun r u' => wpY_define (fun r' v' => r' = r ∧ i_Rel (k + 2) u' v') v) u) ?_ I
  intro h m q s l xo bg d g va pl ow it tb co vl op HR
  have HR' := HR
  obtain ⟨D, W, V, hl, T, C⟩ := HR
  have D' := D
  obtain ⟨d1, d2, d3, d4, d5, d6, d7⟩ := D'
  unfold wpX_define
  dsimp only
  by_cases zh : h = 0
  · have e : nI h = 0 := by rw [zh]; rfl
    refine br_t e ?_
    unfold wpY_define
    exact br_t e ⟨rfl, zz_in _ HR'⟩
  have nh : ¬ nI h = 0 := nI_ne0 (by omega) (by omega)
  obtain ⟨r, hr, hB⟩ := d7 (h - 1) (by omega)
  have b1 := hB.1
  refine br_f nh (And.intro (by rw [xw_s1 (by omega)]; exact vp_in_nI (by omega) (by omega)) (nm_r (e' := nI r) (by rw [xw_s1 (by omega), nI_clamp (by omega)]; exact hr) (nm_r (pk_sub (by omega)) ?_)))
  have W' := cd_def (g := g) D W.2.2.1 (by omega) hB
  have XD : ∀ post : Int32 → SX → Prop, (∀ (xo : Int32) (pl ow tb : Nat → Int64), xf_T (cm_cp d r g (m - r)) (m - r) it l tb → post (nI h) (0, 0, 0, nI (m - r), xo, nI l, bg, cm_TK d, cm_FO d, cm_TK (cm_cp d r g (m - r)), cm_FO (cm_cp d r g (m - r)), va, pl, ow, it, tb)) → ∃ n39 : Nat, wX_define_39 post (nI h) (nI r) (nI h) (nI m) (nI q) (nI (m - r)) xo (nI l) n39 0 bg (cm_TK d) (cm_FO d) (cm_TK g) (cm_FO g) va pl ow it tb := by
    intro post K
    have L := xd_def (x1 := nI h) (xh := nI h) (xm := nI m) (xt := nI q) (xo := xo) (bg := bg) (pl := pl) (ow := ow) (tb := tb) (show r + (m - r) ≤ 16 by omega) W' V hl K (m - r) 0 (Nat.zero_add _)
    rw [cd_cp0] at L
    exact Exists.intro _ L
  refine XD _ ?_
  intro xo pl ow tb T'
  unfold wpY_define
  refine br_f nh ?_
  have YT : ∀ post : Int32 → Prop, post (nI r) → wpY_topBegin post (nI m, nI h, nI q, nI s, nI l, cm_WD d, cm_WD g, co, vl, op) := by
    intro post K
    have L := yd_top (ys := nI m) (yd := nI h) (yt := nI q) (yz := nI s) (yl := nI l) (fm := cm_WD g) (co := co) (vl := vl) (op := op) d4 d1 hB K (m - r) m (by omega) (Nat.le_refl m)
    rw [show cm_hn d m - (h - 1) = 1 by omega] at L
    exact Exists.intro _ L
  refine YT _ (nm_r (pk_sub (by omega)) ?_)
  have YD : ∀ post : Int32 → SY → Prop, post (nI h) (0, 0, 0, nI (m - r), nI l, cm_WD d, cm_WD (cm_cp d r g (m - r)), co, vl, op) → ∃ n32 : Nat, wY_define_32 post (nI h) (nI r) (nI m) (nI h) (nI q) (nI (m - r)) (nI l) n32 0 (cm_WD d) (cm_WD g) co vl op := by
    intro post K
    have L := yd_def (x1 := nI h) (ys := nI m) (yd := nI h) (yt := nI q) (show r + (m - r) ≤ 16 by omega) K (m - r) 0 (Nat.zero_add _)
    rw [cd_cp0] at L
    exact Exists.intro _ L
  refine YD _ ?_
  exact ⟨rfl, zz_in _ (h := 0) (m := 0) (q := 0) ⟨cd_0 d4, W', V, hl, T', C⟩⟩
theorem i_vc_step {k : Nat} {u : SX} {v : SY} (I : i_Rel k u v) (hk : k + 2 ≤ 1024) (v1 : Int32) : wpX_step (fun r u' => wpY_step (fun r' v' => r' = r ∧ i_Rel (k + 2) u' v') v v1) u v1 := by
  refine zz_el (P := fun u v => wpX_step (fun r u' => wpY_step (fun r' v' => r' = r ∧ i_Rel (k + 2) u' v') v v1) u v1) ?_ I
  intro h m q s l xo bg d g va pl ow it tb co vl op HR
  have HR' := HR
  obtain ⟨D, W, V, hl, T, C⟩ := HR
  unfold wpX_step
  dsimp only
  by_cases z0 : v1 < 0
  · refine br_t z0 ?_
    unfold wpY_step
    exact br_t z0 ⟨rfl, zz_in _ HR'⟩
  refine br_f z0 ?_
  by_cases z7 : v1 ≤ 7
  · refine br_t z7 ?_
    by_cases zl : l = 10
    · have e : nI l = 10 := by rw [zl]; rfl
      refine br_t e ?_
      unfold wpY_step
      exact br_f z0 (br_t z7 (br_t e ⟨rfl, zz_in _ HR'⟩))
    have nl : ¬ nI l = 10 := fun z => zl ((nI_eq (b := 10) (by omega) (by omega)).mp z)
    refine br_f nl (And.intro (vp_in_nI (by omega) (by omega)) ?_)
    rw [nI_clamp (by omega)]
    refine xt_all (c := it) W V (by omega) (fun z => T l z (Nat.le_refl l)) ?_
    intro r xo pl ow hr
    refine And.intro (by rw [nI_1]; exact vp_in_nI (by omega) (by omega)) (nm_r (e' := vp_updL tb (l + 1) r) (by rw [nI_1, nI_clamp (by omega)]) (And.intro (vp_in_nI (by omega) (by omega)) (nm_r (e' := upd it l v1) (by rw [nI_clamp (by omega)]) (nm_r (nI_1 l) ?_))))
    unfold wpY_step
    refine br_f z0 (br_t z7 (br_f nl (And.intro (vp_in_nI (by omega) (by omega)) (nm_r (e' := upd co l v1) (by rw [nI_clamp (by omega)]) (nm_r (nI_1 l) ?_)))))
    refine ⟨rfl, zz_in _ ⟨D, W, V, by omega, xf_up T hr, fun i hi => ?_⟩⟩
    by_cases z : i = l
    · rw [z, pk_us, pk_us]
    · rw [pk_un z, pk_un z]; exact C i (by omega)
  · refine br_f z7 ?_
    unfold wpY_step
    exact br_f z0 (br_f z7 ⟨rfl, zz_in _ HR'⟩)
theorem i_vc_undo {k : Nat} {u : SX} {v : SY} (I : i_Rel k u v) (hk : k + 2 ≤ 1024) : wpX_undo (fun r u' => wpY_undo (fun r' v' => r' = r ∧ i_Rel (k + 2) u' v') v) u := by
  refine zz_el (P := fun u v => wpX_undo (fun r u' => wpY_undo (fun r' v' => r' = r ∧ i_Rel (k + 2) u' v') v) u) ?_ I
  intro h m q s l xo bg d g va pl ow it tb co vl op HR
  have HR' := HR
  obtain ⟨D, W, V, hl, T, C⟩ := HR
  unfold wpX_undo
  dsimp only
  by_cases zl : l = 0
  · have e : nI l = 0 := by rw [zl]; rfl
    refine br_t e ?_
    unfold wpY_undo
    exact br_t e ⟨rfl, zz_in _ HR'⟩
  have nl : ¬ nI l = 0 := nI_ne0 (by omega) (by omega)
  refine br_f nl (nm_r (xw_s1 (by omega)) (And.intro (vp_in_nI (by omega) (by omega)) ?_))
  unfold wpY_undo
  refine br_f nl (nm_r (xw_s1 (by omega)) (And.intro (vp_in_nI (by omega) (by omega)) ?_))
  refine ⟨?_, zz_in _ ⟨D, W, V, by omega, fun j hj hj' => T j hj (by omega), fun i hi => C i (by omega)⟩⟩
  rw [nI_clamp (by omega)]
  exact C (l - 1) (by omega)
theorem i_vc_restart {k : Nat} {u : SX} {v : SY} (I : i_Rel k u v) (hk : k + 2 ≤ 1024) : wpX_restart (fun u' => wpY_restart (fun v' => i_Rel (k + 2) u' v') v) u := by
  refine zz_el (P := fun u v => wpX_restart (fun u' => wpY_restart (fun v' => i_Rel (k + 2) u' v') v) u) ?_ I
  intro h m q s l xo bg d g va pl ow it tb co vl op HR
  obtain ⟨D, W, V, hl, T, C⟩ := HR
  exact zz_in (k + 2) (l := 0) (xo := xo) (pl := pl) (ow := ow) (vl := vl) (op := op) (it := it) (tb := tb) (co := co) ⟨D, W, V, by omega, fun j hj h0 => absurd (Nat.le_zero.mp h0) hj, fun i hi => absurd hi (Nat.not_lt_zero i)⟩
theorem i_vc_holds {k : Nat} {u : SX} {v : SY} (I : i_Rel k u v) (hk : k + 2 ≤ 1024) : wpX_holds (fun r u' => wpY_holds (fun r' v' => r' = r ∧ i_Rel (k + 2) u' v') v) u := by
  refine zz_el (P := fun u v => wpX_holds (fun r u' => wpY_holds (fun r' v' => r' = r ∧ i_Rel (k + 2) u' v') v) u) ?_ I
  intro h m q s l xo bg d g va pl ow it tb co vl op HR
  obtain ⟨D, W, V, hl, T, C⟩ := HR
  refine xh_holds W hl T ?_
  intro pl
  unfold wpY_holds
  refine yo_all W (by omega) ?_
  intro vl op
  rw [xq_Hc C]
  exact And.intro (cb_In _) ⟨rfl, zz_in _ ⟨D, W, V, hl, T, C⟩⟩
theorem i_vc_heldAfter {k : Nat} {u : SX} {v : SY} (I : i_Rel k u v) (hk : k + 2 ≤ 1024) (v1 : Int32) : wpX_heldAfter (fun r u' => wpY_heldAfter (fun r' v' => r' = r ∧ i_Rel (k + 2) u' v') v v1) u v1 := by
  refine zz_el (P := fun u v => wpX_heldAfter (fun r u' => wpY_heldAfter (fun r' v' => r' = r ∧ i_Rel (k + 2) u' v') v v1) u v1) ?_ I
  intro h m q s l xo bg d g va pl ow it tb co vl op HR
  have HR' := HR
  obtain ⟨D, W, V, hl, T, C⟩ := HR
  by_cases z0 : v1 < 0
  · unfold wpX_heldAfter
    refine br_t z0 ?_
    unfold wpY_heldAfter
    exact br_t z0 ⟨rfl, zz_in _ HR'⟩
  obtain ⟨n, hn, rfl⟩ := nI_of z0
  by_cases zn : n ≤ l
  · refine xh_all W hl zn T ?_
    intro pl
    unfold wpY_heldAfter
    refine br_f z0 (br_f (nI_nlt zn (by omega)) ?_)
    refine yo_all W (by omega) ?_
    intro vl op
    have K := zz_in (k + 2) (pl := pl) (vl := vl) (op := op) (h := h) (m := m) (q := q) (xo := xo) (ow := ow) ⟨D, W, V, hl, T, C⟩
    rw [xq_Hc (fun i hi => C i (by omega))]
    cases z : cm_H g s it n
    · exact br_t rfl ⟨rfl, K⟩
    · exact br_f (by decide) ⟨rfl, K⟩
  · unfold wpX_heldAfter
    refine br_f z0 (br_f (nI_ge (by omega) hn) ?_)
    unfold wpY_heldAfter
    exact br_f z0 (br_t (nI_lt (by omega) hn) ⟨rfl, zz_in _ HR'⟩)
theorem i_vc_wouldHold {k : Nat} {u : SX} {v : SY} (I : i_Rel k u v) (hk : k + 2 ≤ 1024) (v1 : Int32) : wpX_wouldHold (fun r u' => wpY_wouldHold (fun r' v' => r' = r ∧ i_Rel (k + 2) u' v') v v1) u v1 := by
  refine zz_el (P := fun u v => wpX_wouldHold (fun r u' => wpY_wouldHold (fun r' v' => r' = r ∧ i_Rel (k + 2) u' v') v v1) u v1) ?_ I
  intro h m q s l xo bg d g va pl ow it tb co vl op HR
  have HR' := HR
  obtain ⟨D, W, V, hl, T, C⟩ := HR
  by_cases z0 : v1 < 0
  · unfold wpX_wouldHold
    refine br_t z0 ?_
    unfold wpY_wouldHold
    exact br_t z0 ⟨rfl, zz_in _ HR'⟩
  by_cases z7 : v1 ≤ 7
  · obtain ⟨f, hf, rfl⟩ := nI_of2 (n := 7) (by decide) z0 z7
    refine xo_all W V hl T (by omega) ?_
    intro xo pl ow
    unfold wpY_wouldHold
    refine br_f z0 (br_f (Int32.not_lt.mpr z7) ?_)
    refine yw_all W hl C ?_
    intro co vl op C
    have K := zz_in (k + 2) (pl := pl) (vl := vl) (op := op) (h := h) (m := m) (q := q) (xo := xo) (ow := ow) ⟨D, W, V, hl, T, C⟩
    cases z : cm_H g s (upd it l (nI f)) (l + 1)
    · exact br_t rfl ⟨rfl, K⟩
    · exact br_f (by decide) ⟨rfl, K⟩
  · unfold wpX_wouldHold
    refine br_f z0 (br_f z7 ?_)
    unfold wpY_wouldHold
    exact br_f z0 (br_t (Int32.not_le.mp z7) ⟨rfl, zz_in _ HR'⟩)
theorem i_vc_wouldHoldWith {k : Nat} {u : SX} {v : SY} (I : i_Rel k u v) (hk : k + 2 ≤ 1024) : wpX_wouldHoldWith (fun r u' => wpY_wouldHoldWith (fun r' v' => r' = r ∧ i_Rel (k + 2) u' v') v) u := by
  refine zz_el (P := fun u v => wpX_wouldHoldWith (fun r u' => wpY_wouldHoldWith (fun r' v' => r' = r ∧ i_Rel (k + 2) u' v') v) u) ?_ I
  intro h m q s l xo bg d g va pl ow it tb co vl op HR
  obtain ⟨D, W, V, hl, T, C⟩ := HR
  refine xp_all (F := fun f => cm_H g s (upd it l (nI f)) (l + 1)) (fun _ => rfl) W V hl T ?_
  intro xo pl ow
  unfold wpY_wouldHoldWith
  refine Exists.intro 9 (yp_loop (F := fun f => cm_H g s (upd it l (nI f)) (l + 1)) (fun _ => rfl) W hl ?_ 8 0 rfl co vl op C)
  intro co vl op C
  exact ⟨rfl, zz_in _ ⟨D, W, V, hl, T, C⟩⟩
theorem i_vc_soonest {k : Nat} {u : SX} {v : SY} (I : i_Rel k u v) (hk : k + 2 ≤ 1024) : wpX_soonest (fun r u' => wpY_soonest (fun r' v' => r' = r ∧ i_Rel (k + 2) u' v') v) u := by
  refine zz_el (P := fun u v => wpX_soonest (fun r u' => wpY_soonest (fun r' v' => r' = r ∧ i_Rel (k + 2) u' v') v) u) ?_ I
  intro h m q s l xo bg d g va pl ow it tb co vl op HR
  obtain ⟨D, W, V, hl, T, C⟩ := HR
  unfold wpX_soonest
  refine xl_all (w := true) (F := fun f => cm_H g s (upd it l (nI f)) (l + 1)) (G := fun f f' => cm_H g s (upd (upd it l (nI f)) (l + 1) (nI f')) (l + 1 + 1)) (fun _ => rfl) (fun _ _ => rfl) W V hl T ?_
  intro r xo pl ow L
  unfold wpY_soonest
  refine yl_all (w := true) (F := fun f => cm_H g s (upd it l (nI f)) (l + 1)) (G := fun f f' => cm_H g s (upd (upd it l (nI f)) (l + 1) (nI f')) (l + 1 + 1)) (fun _ => rfl) (fun _ _ => rfl) W hl C ?_
  intro r' co vl op C L'
  exact ⟨xq_LEu L L', zz_in _ ⟨D, W, V, hl, T, C⟩⟩
theorem i_vc_soonestNot {k : Nat} {u : SX} {v : SY} (I : i_Rel k u v) (hk : k + 2 ≤ 1024) : wpX_soonestNot (fun r u' => wpY_soonestNot (fun r' v' => r' = r ∧ i_Rel (k + 2) u' v') v) u := by
  refine zz_el (P := fun u v => wpX_soonestNot (fun r u' => wpY_soonestNot (fun r' v' => r' = r ∧ i_Rel (k + 2) u' v') v) u) ?_ I
  intro h m q s l xo bg d g va pl ow it tb co vl op HR
  obtain ⟨D, W, V, hl, T, C⟩ := HR
  unfold wpX_soonestNot
  refine xl_all (w := false) (F := fun f => cm_H g s (upd it l (nI f)) (l + 1)) (G := fun f f' => cm_H g s (upd (upd it l (nI f)) (l + 1) (nI f')) (l + 1 + 1)) (fun _ => rfl) (fun _ _ => rfl) W V hl T ?_
  intro r xo pl ow L
  unfold wpY_soonestNot
  refine yl_all (w := false) (F := fun f => cm_H g s (upd it l (nI f)) (l + 1)) (G := fun f f' => cm_H g s (upd (upd it l (nI f)) (l + 1) (nI f')) (l + 1 + 1)) (fun _ => rfl) (fun _ _ => rfl) W hl C ?_
  intro r' co vl op C L'
  exact ⟨xq_LEu L L', zz_in _ ⟨D, W, V, hl, T, C⟩⟩
end
