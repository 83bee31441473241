section
theorem pk_us {f : Nat → Int32} {k : Nat} {x : Int32} : upd f k x k = x := if_pos rfl
theorem pk_un {f : Nat → Int32} {k j : Nat} {x : Int32} (h : j ≠ k) : upd f k x j = f j := if_neg h
theorem pk_uLs {f : Nat → Int64} {k : Nat} {x : Int64} : vp_updL f k x k = x := if_pos rfl
theorem pk_uLn {f : Nat → Int64} {k j : Nat} {x : Int64} (h : j ≠ k) : vp_updL f k x j = f j := if_neg h
theorem pk_sub {a b : Nat} (h : b ≤ a) : nI a - nI b = nI (a - b) := by
  obtain ⟨c, rfl⟩ : ∃ c, a = c + b := ⟨a - b, by omega⟩
  rw [← nI_add, Int32.add_sub_cancel, Nat.add_sub_cancel]
theorem pk_m1 (n : Nat) : nI (n + 1) + (-1) = nI n := by
  rw [← nI_1, Int32.add_assoc, show (1 : Int32) + (-1) = 0 from rfl, Int32.add_zero]
theorem pk_mul (a b : Nat) : nI a * nI b = nI (a * b) := (Int32.ofNat_mul a b).symm
theorem pk_div {a d : Nat} (ha : a < 2 ^ 31) (h0 : 0 < d) (hd : d < 2 ^ 31) : nI a / nI d = nI (a / d) := by
  apply Int32.toInt_inj.mp
  rw [lg_idiv_nonneg (by rw [nI_toInt ha]; omega) (by rw [nI_toInt hd]; omega), nI_toInt ha, nI_toInt hd, nI_toInt (Nat.lt_of_le_of_lt (Nat.div_le_self a d) ha)]
  first | rfl | exact (Int.natCast_ediv _ _).symm
theorem pk_rem {a d : Nat} (ha : a < 2 ^ 31) (h0 : 0 < d) (hd : d < 2 ^ 31) : nI a - nI a / nI d * nI d = nI (a % d) := by
  rw [pk_div ha h0 hd, pk_mul, pk_sub (Nat.div_mul_le_self a d)]
  exact congrArg nI (by have := Nat.div_add_mod' a d; omega)
theorem pk_sub_toInt {a b : Nat} (ha : a < 2 ^ 30) (hb : b < 2 ^ 30) : (nI a - nI b).toInt = (a : Int) - b := by
  rw [Int32.toInt_sub, nI_toInt (by omega), nI_toInt (by omega)]
  exact Int.bmod_eq_of_le (by omega) (by omega)
theorem pk_sneg {a b : Nat} (hb : b < 2 ^ 30) (h : a < b) : nI a - nI b < 0 := by
  rw [Int32.lt_iff_toInt_lt, pk_sub_toInt (by omega) hb, show (0 : Int32).toInt = 0 from by decide]
  omega
theorem pk_ix (x : Int32) {n : Nat} (hn : n < 2 ^ 31) : x < 0 ∨ nI n ≤ x ∨ ∃ j : Nat, j < n ∧ x = nI j := by
  by_cases h : x < 0
  · exact Or.inl h
  · obtain ⟨j, hj, rfl⟩ := nI_of h
    by_cases h2 : j < n
    · exact Or.inr (Or.inr ⟨j, h2, rfl⟩)
    · exact Or.inr (Or.inl (nI_le (by omega) hj))
theorem pk_le {x y : Int32} {A B : Prop} (a b : Nat) (f : a ≤ b → A) (g : b < a → B) (hx : x = nI a := by rfl) (hy : y = nI b := by rfl) (ha : a < 2 ^ 31 := by omega) (hb : b < 2 ^ 31 := by omega) : (x ≤ y → A) ∧ (¬ x ≤ y → B) := by
  subst hx hy
  rw [nI_leI ha hb]
  exact ⟨f, fun z => g (by omega)⟩
theorem pk_lt {x y : Int32} {A B : Prop} (a b : Nat) (f : a < b → A) (g : b ≤ a → B) (hx : x = nI a := by rfl) (hy : y = nI b := by rfl) (ha : a < 2 ^ 31 := by omega) (hb : b < 2 ^ 31 := by omega) : (x < y → A) ∧ (¬ x < y → B) := by
  subst hx hy
  rw [nI_ltI ha hb]
  exact ⟨f, fun z => g (by omega)⟩
theorem pk_eq {x y : Int32} {A B : Prop} (a b : Nat) (f : a = b → A) (g : a ≠ b → B) (hx : x = nI a := by rfl) (hy : y = nI b := by rfl) (ha : a < 2 ^ 31 := by omega) (hb : b < 2 ^ 31 := by omega) : (x = y → A) ∧ (¬ x = y → B) := by
  subst hx hy
  rw [nI_eq ha hb]
  exact ⟨f, g⟩
theorem pk_in {x : Int32} (n N : Nat) (h : n < N) (hx : x = nI n := by rfl) (hN : N < 2 ^ 31 := by omega) : vp_in x N := by
  subst hx
  exact vp_in_nI h hN
theorem pk_cl {x : Int32} (n : Nat) (hx : x = nI n := by rfl) (h : n < 2 ^ 31 := by omega) : x.toNatClampNeg = n := by
  subst hx
  exact nI_clamp h
theorem pk_tn {n : Nat} (h : n < 2 ^ 32) : (nI n).toBitVec.toNat = n := Nat.mod_eq_of_lt h
theorem pk_and (x : Int32) {m : Int32} (k : Nat) (hm : m.toBitVec.toNat = 2 ^ k - 1) : x &&& m = nI (x.toBitVec.toNat % 2 ^ k) := by
  apply Int32.toBitVec_inj.mp
  apply BitVec.eq_of_toNat_eq
  rw [Int32.toBitVec_and, BitVec.toNat_and, hm, Nat.and_two_pow_sub_one_eq_mod]
  show _ = (BitVec.ofNat 32 _).toNat
  rw [BitVec.toNat_ofNat]
  exact (Nat.mod_eq_of_lt (Nat.lt_of_le_of_lt (Nat.mod_le _ _) x.toBitVec.isLt)).symm
theorem pk_andN {n : Nat} (h : n < 2 ^ 32) {m : Int32} (k : Nat) (hm : m.toBitVec.toNat = 2 ^ k - 1) : nI n &&& m = nI (n % 2 ^ k) := by
  rw [pk_and _ k hm, pk_tn h]
theorem pk_andE (x : Int32) {m : Int32} (k : Nat) (hm : m.toBitVec.toNat = 2 ^ k - 1) : ∃ j : Nat, j < 2 ^ k ∧ x &&& m = nI j := ⟨_, Nat.mod_lt _ (Nat.two_pow_pos k), pk_and x k hm⟩
theorem pk_andIn (x : Int32) {m : Int32} (k : Nat) (hm : m.toBitVec.toNat = 2 ^ k - 1) (hk : k ≤ 30) : vp_in (x &&& m) (2 ^ k) := by
  obtain ⟨j, hj, e⟩ := pk_andE x k hm
  rw [e]
  exact vp_in_nI hj (Nat.lt_of_le_of_lt (Nat.pow_le_pow_right (by decide) hk) (by decide))
theorem pk_shl (a s : Int32) (k : Nat) (hs : (s.toBitVec.smod 32).toNat = k) : (a <<< s).toBitVec.toNat = a.toBitVec.toNat * 2 ^ k % 2 ^ 32 := by
  show (a.toBitVec <<< (s.toBitVec.smod 32).toNat).toNat = _
  rw [hs, BitVec.toNat_shiftLeft, Nat.shiftLeft_eq]
theorem pk_shlN {n : Nat} (s : Int32) (k : Nat) (hs : (s.toBitVec.smod 32).toNat = k) (h : n * 2 ^ k < 2 ^ 32) : nI n <<< s = nI (n * 2 ^ k) := by
  apply Int32.toBitVec_inj.mp
  apply BitVec.eq_of_toNat_eq
  have hn : n < 2 ^ 32 := Nat.lt_of_le_of_lt (Nat.le_mul_of_pos_right n (Nat.two_pow_pos k)) h
  rw [pk_shl _ _ k hs, pk_tn hn, pk_tn h, Nat.mod_eq_of_lt h]
theorem pk_shr (a s : Int32) (k : Nat) (hs : (s.toBitVec.smod 32).toNat = k) : (a >>> s).toInt = a.toInt >>> k := by
  show (a.toBitVec.sshiftRight (s.toBitVec.smod 32).toNat).toInt = _
  rw [hs, BitVec.toInt_sshiftRight]
  rfl
theorem pk_shrN {n : Nat} (h : n < 2 ^ 31) (s : Int32) (k : Nat) (hs : (s.toBitVec.smod 32).toNat = k) : nI n >>> s = nI (n / 2 ^ k) := by
  apply Int32.toInt_inj.mp
  have h2 : n / 2 ^ k ≤ n := Nat.div_le_self _ _
  rw [pk_shr _ _ k hs, nI_toInt h, nI_toInt (by omega), Int.shiftRight_eq_div_pow]
  rfl
theorem pk_least (P : Nat → Prop) (h : ∃ k, P k) : ∃ k, P k ∧ ∀ j, j < k → ¬ P j := by
  obtain ⟨k, hk⟩ := h
  induction k using Nat.strongRecOn with
  | ind k ih =>
    by_cases e : ∃ j, j < k ∧ P j
    · obtain ⟨j, hj, pj⟩ := e
      exact ih j hj pj
    · exact ⟨k, hk, fun j hj pj => e ⟨j, hj, pj⟩⟩
def bt (x : Int32) (i : Nat) : Bool := x.toBitVec.getLsbD i
theorem b_ext {x y : Int32} (h : ∀ i, i < 32 → bt x i = bt y i) : x = y := Int32.toBitVec_inj.mp (BitVec.eq_of_getLsbD_eq (fun i hi => h i hi))
theorem b_or (x y : Int32) (i : Nat) : bt (x ||| y) i = (bt x i || bt y i) := by unfold bt; rw [Int32.toBitVec_or, BitVec.getLsbD_or]
theorem b_and (x y : Int32) (i : Nat) : bt (x &&& y) i = (bt x i && bt y i) := by unfold bt; rw [Int32.toBitVec_and, BitVec.getLsbD_and]
theorem b_xor (x y : Int32) (i : Nat) : bt (x ^^^ y) i = (bt x i ^^ bt y i) := by unfold bt; rw [Int32.toBitVec_xor, BitVec.getLsbD_xor]
theorem b_big {x : Int32} {i : Nat} (h : 32 ≤ i) : bt x i = false := BitVec.getLsbD_of_ge _ _ h
theorem b_255 (i : Nat) : bt 255 i = decide (i < 8) := by
  rcases Nat.lt_or_ge i 32 with h | h
  · exact (by decide +kernel : ∀ i, i < 32 → bt 255 i = decide (i < 8)) i h
  · rw [b_big h, decide_eq_false (by omega)]
theorem b_65535 (i : Nat) : bt 65535 i = decide (i < 16) := by
  rcases Nat.lt_or_ge i 32 with h | h
  · exact (by decide +kernel : ∀ i, i < 32 → bt 65535 i = decide (i < 16)) i h
  · rw [b_big h, decide_eq_false (by omega)]
theorem b_m1 : ∀ i, i < 32 → bt (-1) i = true := by decide +kernel
theorem b_0 (i : Nat) : bt 0 i = false := BitVec.getLsbD_zero
theorem s_l : ∀ n, n < 32 → ((nI n &&& 31).toBitVec.smod 32).toNat = n := by decide +kernel
theorem s_u : ∀ n, n < 32 → (((nI n).toUInt32 &&& Int32.toUInt32 31).toBitVec % 32).toNat = n := by decide +kernel
theorem b_shl (n : Nat) (hn : n < 32) (x : Int32) {i : Nat} (hi : i < 32) : bt (x <<< (nI n &&& 31)) i = (decide (n ≤ i) && bt x (i - n)) := by
  unfold bt
  rw [Int32.toBitVec_shiftLeft]
  show (x.toBitVec <<< ((nI n &&& 31).toBitVec.smod 32).toNat).getLsbD i = _
  rw [s_l n hn, BitVec.getLsbD_shiftLeft]
  rcases Nat.lt_or_ge i n with h | h
  · simp [h, Nat.not_le.mpr h]
  · simp [hi, h, Nat.not_lt.mpr h]
theorem b_ushr (n : Nat) (hn : n < 32) (x : Int32) (i : Nat) : bt ((x.toUInt32 >>> ((nI n).toUInt32 &&& Int32.toUInt32 31)).toInt32) i = bt x (n + i) := by
  show (x.toUInt32 >>> ((nI n).toUInt32 &&& Int32.toUInt32 31)).toBitVec.getLsbD i = x.toUInt32.toBitVec.getLsbD (n + i)
  rw [UInt32.toBitVec_shiftRight]
  show (x.toUInt32.toBitVec >>> (((nI n).toUInt32 &&& Int32.toUInt32 31).toBitVec % 32).toNat).getLsbD i = _
  rw [s_u n hn, BitVec.getLsbD_ushiftRight]
theorem b_sshr (n : Nat) (hn : n < 32) (x : Int32) {i : Nat} (hi : i < 32) : bt (x >>> (nI n &&& 31)) i = if n + i < 32 then bt x (n + i) else bt x 31 := by
  unfold bt
  rw [Int32.toBitVec_shiftRight]
  show (x.toBitVec.sshiftRight ((nI n &&& 31).toBitVec.smod 32).toNat).getLsbD i = _
  rw [s_l n hn, BitVec.getLsbD_sshiftRight, BitVec.msb_eq_getLsbD_last]
  simp [hi]
theorem nf_sh : ∀ l, l < 32 → ((1 : Int32) <<< (nI l &&& 31)).toBitVec = BitVec.twoPow 32 l := by decide +kernel
end
section
/-! numbers -/
theorem za_0le {a : Nat} (h : a < 2 ^ 31) : (0 : Int32) ≤ nI a ↔ True := by simp only [nI_pos' h]
theorem za_lt0 {a : Nat} (h : a < 2 ^ 31) : nI a < 0 ↔ False := by simp only [nI_pos h]
theorem za_eq0 {a : Nat} (h : a < 2 ^ 31) : nI a = 0 ↔ a = 0 := by rw [← nI_0, nI_eq h (by omega)]
theorem za_eq1 {a : Nat} (h : a < 2 ^ 31) : nI a = 1 ↔ a = 1 := nI_eq (b := 1) h (by decide)
theorem za_eq2 {a : Nat} (h : a < 2 ^ 31) : nI a = 2 ↔ a = 2 := nI_eq (b := 2) h (by decide)
theorem za_eq3 {a : Nat} (h : a < 2 ^ 31) : nI a = 3 ↔ a = 3 := nI_eq (b := 3) h (by decide)
theorem za_le0 {a : Nat} (h : a < 2 ^ 31) : nI a ≤ 0 ↔ a = 0 := by rw [← nI_0, nI_leI h (by omega)]; omega
theorem za_6le {a : Nat} (h : a < 2 ^ 31) : (6 : Int32) ≤ nI a ↔ 6 ≤ a := nI_leI (a := 6) (by decide) h
theorem za_8le {a : Nat} (h : a < 2 ^ 31) : (8 : Int32) ≤ nI a ↔ 8 ≤ a := nI_leI (a := 8) (by decide) h
theorem za_32le {a : Nat} (h : a < 2 ^ 31) : (32 : Int32) ≤ nI a ↔ 32 ≤ a := nI_leI (a := 32) (by decide) h
theorem za_2 (a : Nat) : nI a + 2 = nI (a + 2) := nI_add a 2
theorem za_3 (a : Nat) : nI a + 3 = nI (a + 3) := nI_add a 3
theorem za_s {a : Nat} (h : 0 < a) : nI a - 1 = nI (a - 1) := pk_sub (b := 1) h
theorem za_m6 (a : Nat) : nI a * 6 = nI (a * 6) := pk_mul a 6
theorem za_m32 (a : Nat) : nI a * 32 = nI (a * 32) := pk_mul a 32
theorem za_r8 {a : Nat} (h : a < 2 ^ 31) : nI a - nI a / 8 * 8 = nI (a % 8) := pk_rem (d := 8) h (by decide) (by decide)
theorem za_80 : ¬ (8 : Int32) = 0 := by decide
theorem za_n1 : (-1 : Int32) < 0 := by decide
theorem za_n0 : ¬ (0 : Int32) ≤ -1 := by decide
theorem za_10 : ¬ (1 : Int32) = 0 := by decide
theorem za_b0 : vp_nar .boolean 0 = 0 := by decide
theorem za_b1 : vp_nar .boolean 1 = 1 := by decide
theorem za_ne {a : Nat} (h : a < 2 ^ 31) : ¬ nI a = -1 := fun e => nI_pos h (e ▸ za_n1)
/-! an object's header -/
theorem zh_all : ∀ k, k < 4 → ∀ z, z < 7 → ∀ t, t < 4 → nI (k + 4 * z + 32 * t) &&& 3 = nI k ∧ (nI (k + 4 * z + 32 * t) >>> ((2 : Int32) &&& 31)) &&& 7 = nI z ∧ (nI (k + 4 * z + 32 * t) >>> ((5 : Int32) &&& 31)) &&& 3 = nI t := by decide +kernel
theorem zh_set : ∀ k, k < 4 → ∀ z, z < 7 → ∀ t, t < 4 → ∀ s, s < 4 → (nI (k + 4 * z + 32 * t) &&& 31) ||| (nI s <<< ((5 : Int32) &&& 31)) = nI (k + 4 * z + 32 * s) := by decide +kernel
theorem zh_new : ∀ k, k < 4 → ∀ z, z < 7 → (nI k ||| (nI z <<< ((2 : Int32) &&& 31))) ||| 0 = nI (k + 4 * z + 32 * 0) := by decide +kernel
/-! sets of handles as words -/
def bs (m : Int64) (h : Nat) : Bool := m.toBitVec.getLsbD h
def zb (h : Nat) : Int64 := (1 : Int64) <<< ((nI h).toInt64 &&& 63)
theorem bs_tp : ∀ k, k < 64 → ((1 : Int64) <<< ((nI k).toInt64 &&& 63)).toBitVec = BitVec.twoPow 64 k := by decide +kernel
theorem bs_zb {k : Nat} (hk : k < 64) (j : Nat) : bs (zb k) j = decide (j = k) := by
  unfold bs zb
  rw [bs_tp k hk, BitVec.getLsbD_twoPow]
  by_cases e : j = k
  · subst e; simp [hk]
  · simp [e, show ¬ k = j from fun z => e z.symm]
theorem bs_or (a b : Int64) (j : Nat) : bs (a ||| b) j = (bs a j || bs b j) := by unfold bs; rw [Int64.toBitVec_or, BitVec.getLsbD_or]
theorem bs_and (a b : Int64) (j : Nat) : bs (a &&& b) j = (bs a j && bs b j) := by unfold bs; rw [Int64.toBitVec_and, BitVec.getLsbD_and]
theorem bs_0 (j : Nat) : bs 0 j = false := BitVec.getLsbD_zero
theorem bs_ext {x y : Int64} (h : ∀ i, i < 64 → bs x i = bs y i) : x = y := Int64.toBitVec_inj.mp (BitVec.eq_of_getLsbD_eq (fun i hi => h i hi))
theorem bs_t {m : Int64} {k : Nat} (hk : k < 64) : (m &&& ((1 : Int64) <<< ((nI k).toInt64 &&& 63))) = 0 ↔ bs m k = false := by
  show (m &&& zb k) = 0 ↔ _
  constructor
  · intro e
    have h := congrArg (fun x => bs x k) e
    simp only [bs_and, bs_0, bs_zb hk, decide_true, Bool.and_true] at h
    exact h
  · intro e
    apply bs_ext
    intro i _
    rw [bs_and, bs_zb hk, bs_0]
    by_cases q : i = k
    · subst q; rw [e]; rfl
    · simp [q]
/-! counting the handles 1 .. n -/
def zc (p : Nat → Bool) : Nat → Nat
  | 0 => 0
  | n + 1 => zc p n + (if p (n + 1) = true then 1 else 0)
theorem zc_s (p : Nat → Bool) (n : Nat) : zc p (n + 1) = zc p n + (if p (n + 1) = true then 1 else 0) := rfl
theorem zc_le (p : Nat → Bool) (n : Nat) : zc p n ≤ n := by
  induction n with
  | zero => exact Nat.le_refl 0
  | succ n ih => rw [zc_s]; split <;> omega
theorem zc_mn (p : Nat → Bool) {i j : Nat} (h : i ≤ j) : zc p i ≤ zc p j := by
  induction j with
  | zero => have : i = 0 := by omega
            subst this; exact Nat.le_refl _
  | succ j ih =>
    rcases Nat.lt_or_ge i (j + 1) with q | q
    · have := ih (by omega)
      rw [zc_s]; omega
    · have : i = j + 1 := by omega
      subst this; exact Nat.le_refl _
theorem zc_congr {p q : Nat → Bool} {n : Nat} (h : ∀ j, 1 ≤ j → j ≤ n → p j = q j) : zc p n = zc q n := by
  induction n with
  | zero => rfl
  | succ n ih => rw [zc_s, zc_s, ih (fun j a b => h j a (by omega)), h (n + 1) (by omega) (by omega)]
theorem zc_imp {p q : Nat → Bool} {n : Nat} (h : ∀ j, 1 ≤ j → j ≤ n → p j = true → q j = true) : zc p n ≤ zc q n := by
  induction n with
  | zero => exact Nat.le_refl 0
  | succ n ih =>
    have i := ih (fun j a b => h j a (by omega))
    have k := h (n + 1) (by omega) (by omega)
    rw [zc_s, zc_s]
    by_cases a : p (n + 1) = true
    · rw [if_pos a, if_pos (k a)]; omega
    · rw [if_neg a]; omega
/-- one handle more -/
theorem zc_up {p q : Nat → Bool} {n a : Nat} (a1 : 1 ≤ a) (an : a ≤ n) (hp : p a = false) (hq : q a = true) (h : ∀ j, 1 ≤ j → j ≤ n → j ≠ a → p j = q j) : zc q n = zc p n + 1 := by
  induction n with
  | zero => omega
  | succ n ih =>
    rw [zc_s, zc_s]
    by_cases e : a = n + 1
    · subst e
      rw [zc_congr (p := p) (q := q) (fun j x y => h j x (by omega) (by omega)), hp, hq]
      simp
    · rw [ih (by omega) (fun j x y => h j x (by omega)), h (n + 1) (by omega) (by omega) (fun z => e z.symm)]
      omega
theorem zc_full {p : Nat → Bool} {n : Nat} (h : n ≤ zc p n) : ∀ j, 1 ≤ j → j ≤ n → p j = true := by
  induction n with
  | zero => intro j a b; omega
  | succ n ih =>
    have l := zc_le p n
    rw [zc_s] at h
    intro j a b
    by_cases e : p (n + 1) = true
    · rw [if_pos e] at h
      rcases Nat.lt_or_ge j (n + 1) with q | q
      · exact ih (by omega) j a (by omega)
      · have : j = n + 1 := by omega
        subst this; exact e
    · rw [if_neg e] at h; omega
theorem zc_none {p : Nat → Bool} {n : Nat} (h : zc p n = 0) : ∀ j, 1 ≤ j → j ≤ n → p j = false := by
  induction n with
  | zero => intro j a b; omega
  | succ n ih =>
    rw [zc_s] at h
    intro j a b
    by_cases e : p (n + 1) = true
    · rw [if_pos e] at h; omega
    · rcases Nat.lt_or_ge j (n + 1) with q | q
      · exact ih (by omega) j a (by omega)
      · have : j = n + 1 := by omega
        subst this; simpa using e
theorem zc_0 {p : Nat → Bool} {n : Nat} (h : ∀ j, 1 ≤ j → j ≤ n → p j = false) : zc p n = 0 := by
  induction n with
  | zero => rfl
  | succ n ih => rw [zc_s, ih (fun j a b => h j a (by omega)), h (n + 1) (by omega) (by omega)]; rfl
theorem zc_pos {p : Nat → Bool} {n j : Nat} (a : 1 ≤ j) (b : j ≤ n) (h : p j = true) : 1 ≤ zc p n := by
  rcases Nat.eq_zero_or_pos (zc p n) with q | q
  · have := zc_none q j a b
    rw [h] at this; cases this
  · exact q
theorem zc_at {p : Nat → Bool} {j : Nat} (a : 1 ≤ j) (h : p j = true) : zc p j = zc p (j - 1) + 1 := by
  obtain ⟨k, rfl⟩ : ∃ k, j = k + 1 := ⟨j - 1, by omega⟩
  rw [zc_s, if_pos h]; rfl
theorem zc_an {p : Nat → Bool} {j : Nat} (a : 1 ≤ j) (h : p j = false) : zc p j = zc p (j - 1) := by
  obtain ⟨k, rfl⟩ : ∃ k, j = k + 1 := ⟨j - 1, by omega⟩
  rw [zc_s, h]; rfl
/-! a Prop as a Bool -/
noncomputable def zd (p : Prop) : Bool := @decide p (Classical.propDecidable p)
theorem zd_t {p : Prop} : zd p = true ↔ p := by unfold zd; exact @decide_eq_true_iff p (Classical.propDecidable p)
theorem zd_f {p : Prop} : zd p = false ↔ ¬ p := by
  rw [← Bool.not_eq_true, zd_t]
theorem zd_of {p : Prop} (h : p) : zd p = true := zd_t.mpr h
theorem zd_n {p : Prop} (h : ¬ p) : zd p = false := zd_f.mpr h
end
section
/-! the closure of a set of objects: K the kinds, Z the field counts, F the fields -/
def zh (K : Nat → Nat) (F : Nat → Nat → Nat) (A : Nat → Prop) (h f : Nat) : Prop :=
  (f = 0 → K h = 0) ∧ (f = 1 → K h = 3 → F h 0 ≠ 0 ∧ A (F h 0))
def zcl (n : Nat) (K Z : Nat → Nat) (F : Nat → Nat → Nat) (A : Nat → Prop) : Prop :=
  ∀ h f, 1 ≤ h → h ≤ n → f < Z h → A h → zh K F A h f → F h f ≠ 0 → A (F h f)
def zC (n : Nat) (K Z : Nat → Nat) (F : Nat → Nat → Nat) (A0 : Nat → Prop) (h : Nat) : Prop :=
  ∀ A : Nat → Prop, (∀ j, A0 j → A j) → zcl n K Z F A → A h
section
variable {n : Nat} {K Z : Nat → Nat} {F : Nat → Nat → Nat}
theorem zh_mono {A B : Nat → Prop} {h f : Nat} (s : ∀ j, A j → B j) (w : zh K F A h f) : zh K F B h f :=
  ⟨w.1, fun a b => ⟨(w.2 a b).1, s _ (w.2 a b).2⟩⟩
theorem zC_in {A0 : Nat → Prop} {h : Nat} (a : A0 h) : zC n K Z F A0 h := fun _ s _ => s h a
theorem zC_cl (A0 : Nat → Prop) : zcl n K Z F (zC n K Z F A0) :=
  fun h f h1 hn hf a w z A s c => c h f h1 hn hf (a A s c) (zh_mono (fun _ q => q A s c) w) z
theorem zC_min {A0 A : Nat → Prop} (s : ∀ j, A0 j → A j) (c : zcl n K Z F A) {h : Nat} (w : zC n K Z F A0 h) : A h := w A s c
theorem zC_mono {A0 B0 : Nat → Prop} (s : ∀ j, A0 j → zC n K Z F B0 j) {h : Nat} (w : zC n K Z F A0 h) : zC n K Z F B0 h :=
  zC_min s (zC_cl B0) w
theorem zC_iff {A0 B0 : Nat → Prop} (s : ∀ j, A0 j ↔ B0 j) (h : Nat) : zC n K Z F A0 h ↔ zC n K Z F B0 h :=
  ⟨zC_mono (fun j a => zC_in ((s j).mp a)), zC_mono (fun j a => zC_in ((s j).mpr a))⟩
theorem zC_idem {A0 B0 : Nat → Prop} (h : Nat) : zC n K Z F (fun j => zC n K Z F A0 j ∨ B0 j) h ↔ zC n K Z F (fun j => A0 j ∨ B0 j) h :=
  ⟨zC_mono (fun _ a => a.elim (zC_mono (fun _ b => zC_in (Or.inl b))) (fun b => zC_in (Or.inr b))),
   zC_mono (fun _ a => zC_in (a.elim (fun b => Or.inl (zC_in b)) Or.inr))⟩
theorem zC_rng {A0 : Nat → Prop} (hA : ∀ j, A0 j → 1 ≤ j ∧ j ≤ n) (hF : ∀ h f, 1 ≤ h → h ≤ n → f < Z h → F h f ≤ n) {h : Nat} (w : zC n K Z F A0 h) : 1 ≤ h ∧ h ≤ n :=
  zC_min (A := fun j => 1 ≤ j ∧ j ≤ n) hA (fun h f h1 hn hf _ _ z => ⟨Nat.pos_of_ne_zero z, hF h f h1 hn hf⟩) w
end
/-! the objects' shapes -/
def zO (n : Nat) (B K Z T : Nat → Nat) (F : Nat → Nat → Nat) : Prop :=
  B 1 = 0 ∧ B (n + 1) ≤ 96 ∧ ∀ h, 1 ≤ h → h ≤ n → B (h + 1) = B h + Z h + 2 ∧ 1 ≤ Z h ∧ Z h ≤ 6 ∧ K h < 4 ∧ T h < 4 ∧ (K h = 3 → 2 ≤ Z h) ∧ ∀ f, f < Z h → F h f ≤ n
section
variable {n : Nat} {B K Z T : Nat → Nat} {F : Nat → Nat → Nat}
theorem zO_B (O : zO n B K Z T F) {h : Nat} (h1 : 1 ≤ h) (hn : h ≤ n) : B (h + 1) = B h + Z h + 2 := (O.2.2 h h1 hn).1
theorem zO_Z1 (O : zO n B K Z T F) {h : Nat} (h1 : 1 ≤ h) (hn : h ≤ n) : 1 ≤ Z h := (O.2.2 h h1 hn).2.1
theorem zO_Z6 (O : zO n B K Z T F) {h : Nat} (h1 : 1 ≤ h) (hn : h ≤ n) : Z h ≤ 6 := (O.2.2 h h1 hn).2.2.1
theorem zO_K (O : zO n B K Z T F) {h : Nat} (h1 : 1 ≤ h) (hn : h ≤ n) : K h < 4 := (O.2.2 h h1 hn).2.2.2.1
theorem zO_T (O : zO n B K Z T F) {h : Nat} (h1 : 1 ≤ h) (hn : h ≤ n) : T h < 4 := (O.2.2 h h1 hn).2.2.2.2.1
theorem zO_K3 (O : zO n B K Z T F) {h : Nat} (h1 : 1 ≤ h) (hn : h ≤ n) (k : K h = 3) : 2 ≤ Z h := (O.2.2 h h1 hn).2.2.2.2.2.1 k
theorem zO_F (O : zO n B K Z T F) {h f : Nat} (h1 : 1 ≤ h) (hn : h ≤ n) (hf : f < Z h) : F h f ≤ n := (O.2.2 h h1 hn).2.2.2.2.2.2 f hf
theorem zO_low (O : zO n B K Z T F) : ∀ h, h ≤ n → 3 * h ≤ B (h + 1) := by
  intro h
  induction h with
  | zero => intro _; omega
  | succ h ih =>
    intro q
    have a := ih (by omega)
    have b := zO_B O (h := h + 1) (by omega) q
    have c := zO_Z1 O (h := h + 1) (by omega) q
    omega
theorem zO_n (O : zO n B K Z T F) : n ≤ 32 := by
  have := zO_low O n (Nat.le_refl n)
  have := O.2.1
  omega
theorem zO_mn (O : zO n B K Z T F) {h j : Nat} (h1 : 1 ≤ h) (hj : h < j) (jn : j ≤ n + 1) : B h + Z h + 2 ≤ B j := by
  induction j with
  | zero => omega
  | succ j ih =>
    rcases Nat.lt_or_ge h j with q | q
    · have a := ih q (by omega)
      have b := zO_B O (h := j) (by omega) (by omega)
      omega
    · have e : h = j := by omega
      subst e
      have b := zO_B O h1 (by omega)
      omega
theorem zO_top (O : zO n B K Z T F) {h : Nat} (h1 : 1 ≤ h) (hn : h ≤ n) : B h + Z h + 2 ≤ 96 := by
  have := zO_mn O h1 (j := n + 1) (by omega) (Nat.le_refl _)
  have := O.2.1
  omega
end
/-! survivors: ranks -/
def zf (D : Nat → Bool) (h : Nat) : Nat := if D h = true then zc D h else 0
theorem zf_t {D : Nat → Bool} {h : Nat} (d : D h = true) : zf D h = zc D h := if_pos d
theorem zf_f {D : Nat → Bool} {h : Nat} (d : D h = false) : zf D h = 0 := if_neg (by rw [d]; decide)
theorem zc_inj {D : Nat → Bool} {i j : Nat} (i1 : 1 ≤ i) (j1 : 1 ≤ j) (di : D i = true) (dj : D j = true) (e : zc D i = zc D j) : i = j := by
  rcases Nat.lt_trichotomy i j with q | q | q
  · have a := zc_at j1 dj
    have b := zc_mn D (i := i) (j := j - 1) (by omega)
    omega
  · exact q
  · have a := zc_at i1 di
    have b := zc_mn D (i := j) (j := i - 1) (by omega)
    omega
theorem zc_sur {D : Nat → Bool} (n : Nat) : ∀ k, 1 ≤ k → k ≤ zc D n → ∃ j, 1 ≤ j ∧ j ≤ n ∧ D j = true ∧ zc D j = k := by
  induction n with
  | zero => intro k a b; simp only [zc] at b; omega
  | succ n ih =>
    intro k a b
    by_cases q : k ≤ zc D n
    · obtain ⟨j, x, y, z⟩ := ih k a q
      exact ⟨j, x, by omega, z⟩
    · rw [zc_s] at b
      by_cases d : D (n + 1) = true
      · rw [if_pos d] at b
        exact ⟨n + 1, by omega, Nat.le_refl _, d, by rw [zc_s, if_pos d]; omega⟩
      · rw [if_neg d] at b; omega
/-- the survivor of rank k (0 for 0) -/
noncomputable def zE (D : Nat → Bool) (n k : Nat) : Nat := @dite Nat (∃ j, 1 ≤ j ∧ j ≤ n ∧ D j = true ∧ zc D j = k) (Classical.propDecidable _) (fun h => h.choose) (fun _ => 0)
theorem zE_sp {D : Nat → Bool} {n k : Nat} (a : 1 ≤ k) (b : k ≤ zc D n) : 1 ≤ zE D n k ∧ zE D n k ≤ n ∧ D (zE D n k) = true ∧ zc D (zE D n k) = k := by
  have h := zc_sur (D := D) n k a b
  unfold zE
  rw [dif_pos h]
  exact h.choose_spec
theorem zE_of {D : Nat → Bool} {n j : Nat} (a : 1 ≤ j) (b : j ≤ n) (d : D j = true) : zE D n (zc D j) = j := by
  have h : 1 ≤ zc D j := by rw [zc_at a d]; omega
  obtain ⟨p, _, r, s⟩ := zE_sp (D := D) (n := n) h (zc_mn D b)
  exact zc_inj p a r d s
theorem zE_0 {D : Nat → Bool} {n : Nat} : zE D n 0 = 0 := by
  unfold zE
  rw [dif_neg]
  intro ⟨j, a, _, d, e⟩
  have := zc_at a d
  omega
theorem zE_f {D : Nat → Bool} {n j : Nat} (b : j ≤ n) (d : D j = true) (d0 : D 0 = false) : zE D n (zf D j) = j := by
  rw [zf_t d]
  rcases Nat.eq_zero_or_pos j with q | q
  · rw [q, d0] at d; cases d
  · exact zE_of q b d
theorem zE_mn {D : Nat → Bool} {n i j : Nat} (i1 : 1 ≤ i) (ij : i < j) (jn : j ≤ zc D n) : zE D n i < zE D n j := by
  obtain ⟨a, b, c, d⟩ := zE_sp (D := D) (n := n) i1 (by omega)
  obtain ⟨a', b', c', d'⟩ := zE_sp (D := D) (n := n) (k := j) (by omega) jn
  rcases Nat.lt_or_ge (zE D n i) (zE D n j) with q | q
  · exact q
  · have := zc_mn D q
    omega
theorem zf_le {D : Nat → Bool} {n j : Nat} (h : j ≤ n) : zf D j ≤ zc D n := by
  unfold zf
  split
  · exact zc_mn D h
  · omega
theorem zc_all {D : Nat → Bool} {n : Nat} (h : ∀ j, 1 ≤ j → j ≤ n → D j = true) : ∀ j, j ≤ n → zc D j = j := by
  intro j
  induction j with
  | zero => intro _; rfl
  | succ j ih => intro q; rw [zc_s, ih (by omega), if_pos (h _ (by omega) q)]
/-- a count over the survivors, renumbered -/
theorem zc_ren {D p : Nat → Bool} {n : Nat} (h : ∀ j, 1 ≤ j → j ≤ n → p j = true → D j = true) : ∀ m, m ≤ n → zc (fun k => p (zE D n k)) (zc D m) = zc p m := by
  intro m
  induction m with
  | zero => intro _; rfl
  | succ m ih =>
    intro q
    have i := ih (by omega)
    by_cases d : D (m + 1) = true
    · have e : zc D (m + 1) = zc D m + 1 := by rw [zc_s, if_pos d]
      have w : zE D n (zc D m + 1) = m + 1 := by rw [← e]; exact zE_of (by omega) q d
      rw [e, zc_s, i, zc_s]
      simp only [w]
    · have e : zc D (m + 1) = zc D m := by rw [zc_s, if_neg d]; rfl
      have f : ¬ p (m + 1) = true := fun z => d (h _ (by omega) q z)
      rw [e, i, zc_s, if_neg f]; rfl
/-! the order of the queue -/
/-- c remains and no remaining one strictly leads it -/
def zu (n : Nat) (C : Nat → Nat → Bool) (r : Nat → Bool) (c : Nat) : Prop :=
  r c = true ∧ ∀ d, 1 ≤ d → d ≤ n → r d = true → C d c = true → C c d = true
def zp (n : Nat) (C : Nat → Nat → Bool) (r : Nat → Bool) (p : Nat) : Prop :=
  1 ≤ p ∧ p ≤ n ∧ zu n C r p ∧ ∀ j, 1 ≤ j → j < p → ¬ zu n C r j
noncomputable def zk (n : Nat) (C : Nat → Nat → Bool) (r : Nat → Bool) : Nat :=
  @dite Nat (∃ p, zp n C r p) (Classical.propDecidable _) (fun h => h.choose) (fun _ => 0)
theorem zk_of {n : Nat} {C : Nat → Nat → Bool} {r : Nat → Bool} {p : Nat} (h : zp n C r p) : zk n C r = p := by
  have e : ∃ p, zp n C r p := ⟨p, h⟩
  have w : zp n C r (zk n C r) := by
    unfold zk
    rw [dif_pos e]
    exact e.choose_spec
  rcases Nat.lt_trichotomy (zk n C r) p with q | q | q
  · exact absurd w.2.2.1 (h.2.2.2 _ w.1 q)
  · exact q
  · exact absurd h.2.2.1 (w.2.2.2 _ h.1 q)
theorem zk_no {n : Nat} {C : Nat → Nat → Bool} {r : Nat → Bool} (h : ∀ j, 1 ≤ j → j ≤ n → ¬ zu n C r j) : zk n C r = 0 := by
  unfold zk
  rw [dif_neg]
  intro ⟨p, a, b, c, _⟩
  exact h p a b c
theorem zk_sp {n : Nat} {C : Nat → Nat → Bool} {r : Nat → Bool} (h : zk n C r ≠ 0) : zp n C r (zk n C r) := by
  by_cases e : ∃ p, zp n C r p
  · unfold zk
    rw [dif_pos e]
    exact e.choose_spec
  · exact absurd (by unfold zk; rw [dif_neg e]) h
def zr (r : Nat → Bool) (p : Nat) : Nat → Bool := fun j => if j = p then false else r j
/-- the queueing after i rounds: who remains, the queue, its length -/
noncomputable def zq (n : Nat) (C : Nat → Nat → Bool) (r : Nat → Bool) (Q : Nat → Nat) (l : Nat) : Nat → (Nat → Bool) × (Nat → Nat) × Nat
  | 0 => (r, Q, l)
  | i + 1 => if zk n C (zq n C r Q l i).1 = 0 then zq n C r Q l i
      else (zr (zq n C r Q l i).1 (zk n C (zq n C r Q l i).1), (fun j => if j = (zq n C r Q l i).2.2 then zk n C (zq n C r Q l i).1 else (zq n C r Q l i).2.1 j), (zq n C r Q l i).2.2 + 1)
section
variable {n : Nat} {C : Nat → Nat → Bool} {r : Nat → Bool} {Q : Nat → Nat} {l : Nat}
theorem zq_0 : zq n C r Q l 0 = (r, Q, l) := rfl
theorem zq_n {i : Nat} (h : zk n C (zq n C r Q l i).1 = 0) : zq n C r Q l (i + 1) = zq n C r Q l i := if_pos h
theorem zq_s {i p : Nat} (h : zk n C (zq n C r Q l i).1 = p) (hp : p ≠ 0) : zq n C r Q l (i + 1) = (zr (zq n C r Q l i).1 p, (fun j => if j = (zq n C r Q l i).2.2 then p else (zq n C r Q l i).2.1 j), (zq n C r Q l i).2.2 + 1) := by
  subst h
  exact if_neg hp
theorem zc_zr {p : Nat} (h : zp n C r p) : zc r n = zc (zr r p) n + 1 :=
  zc_up h.1 h.2.1 (if_pos rfl) h.2.2.1.1 (fun _ _ _ e => if_neg e)
theorem zq_sum (i : Nat) : zc (zq n C r Q l i).1 n + (zq n C r Q l i).2.2 = zc r n + l := by
  induction i with
  | zero => rfl
  | succ i ih =>
    by_cases h : zk n C (zq n C r Q l i).1 = 0
    · rw [zq_n h]; exact ih
    · have s := zk_sp h
      have t := zc_zr s
      rw [zq_s rfl h]
      dsimp only
      omega
theorem zq_end (i : Nat) : zk n C (zq n C r Q l i).1 = 0 ∨ zc (zq n C r Q l i).1 n + i = zc r n := by
  induction i with
  | zero => exact Or.inr rfl
  | succ i ih =>
    by_cases h : zk n C (zq n C r Q l i).1 = 0
    · rw [zq_n h]; exact Or.inl h
    · rcases ih with q | q
      · exact absurd q h
      · have s := zk_sp h
        have t := zc_zr s
        rw [zq_s rfl h]
        exact Or.inr (by dsimp only; omega)
theorem zq_st : zk n C (zq n C r Q l (zc r n)).1 = 0 := by
  rcases zq_end (n := n) (C := C) (r := r) (Q := Q) (l := l) (zc r n) with q | q
  · exact q
  · apply zk_no
    intro j a b u
    have := zc_none (p := (zq n C r Q l (zc r n)).1) (n := n) (by omega) j a b
    rw [u.1] at this
    cases this
theorem zq_fix {i : Nat} (h : zc r n ≤ i) : zq n C r Q l i = zq n C r Q l (zc r n) := by
  induction i with
  | zero => rw [show zc r n = 0 by omega]
  | succ i ih =>
    rcases Nat.lt_or_ge i (zc r n) with q | q
    · rw [show zc r n = i + 1 by omega]
    · have e := ih q
      rw [zq_n (by rw [e]; exact zq_st), e]
theorem zq_sub (i j : Nat) (h : (zq n C r Q l i).1 j = true) : r j = true := by
  induction i with
  | zero => exact h
  | succ i ih =>
    by_cases k : zk n C (zq n C r Q l i).1 = 0
    · rw [zq_n k] at h; exact ih h
    · rw [zq_s rfl k] at h
      dsimp only [zr] at h
      split at h
      · cases h
      · exact ih h
theorem zq_l (i : Nat) : l ≤ (zq n C r Q l i).2.2 := by
  induction i with
  | zero => exact Nat.le_refl _
  | succ i ih =>
    by_cases k : zk n C (zq n C r Q l i).1 = 0
    · rw [zq_n k]; exact ih
    · rw [zq_s rfl k]; dsimp only; omega
/-- old entries stay; a new entry was in r and remains no more; who was in r and remains no more is a new entry; new entries are different -/
theorem zq_inv (i : Nat) : (∀ j, j < l → (zq n C r Q l i).2.1 j = Q j)
    ∧ (∀ j, l ≤ j → j < (zq n C r Q l i).2.2 → 1 ≤ (zq n C r Q l i).2.1 j ∧ (zq n C r Q l i).2.1 j ≤ n ∧ r ((zq n C r Q l i).2.1 j) = true ∧ (zq n C r Q l i).1 ((zq n C r Q l i).2.1 j) = false)
    ∧ (∀ h, r h = true → (zq n C r Q l i).1 h = false → ∃ j, l ≤ j ∧ j < (zq n C r Q l i).2.2 ∧ (zq n C r Q l i).2.1 j = h)
    ∧ (∀ j k, l ≤ j → j < k → k < (zq n C r Q l i).2.2 → (zq n C r Q l i).2.1 j ≠ (zq n C r Q l i).2.1 k) := by
  induction i with
  | zero =>
    refine ⟨fun _ _ => rfl, fun j a b => ?_, fun h a b => ?_, fun j k a b c => ?_⟩
    · exact absurd b (by rw [zq_0]; dsimp only; omega)
    · rw [zq_0] at b; dsimp only at b; rw [a] at b; cases b
    · exact absurd c (by rw [zq_0]; dsimp only; omega)
  | succ i ih =>
    by_cases k : zk n C (zq n C r Q l i).1 = 0
    · rw [zq_n k]; exact ih
    · have s := zk_sp k
      have hl := zq_l (n := n) (C := C) (r := r) (Q := Q) (l := l) i
      have hs := fun j => zq_sub (n := n) (C := C) (r := r) (Q := Q) (l := l) i j
      rw [zq_s rfl k]
      generalize zq n C r Q l i = w at *
      obtain ⟨w1, w2, w3⟩ := w
      generalize zk n C w1 = p at *
      dsimp only at *
      obtain ⟨a, b, c, d⟩ := ih
      have pr : w1 p = true := s.2.2.1.1
      refine ⟨fun j hj => ?_, fun j h1 h2 => ?_, fun h h1 h2 => ?_, fun j k h1 h2 h3 => ?_⟩
      · rw [if_neg (by omega)]; exact a j hj
      · by_cases e : j = w3
        · rw [if_pos e]
          exact ⟨s.1, s.2.1, hs p pr, if_pos rfl⟩
        · rw [if_neg e]
          obtain ⟨x, y, z, t⟩ := b j h1 (by omega)
          refine ⟨x, y, z, ?_⟩
          unfold zr
          split
          · rfl
          · exact t
      · by_cases e : h = p
        · exact ⟨w3, hl, by omega, by rw [if_pos rfl, e]⟩
        · rw [show zr w1 p h = w1 h from if_neg e] at h2
          obtain ⟨j, x, y, z⟩ := c h h1 h2
          exact ⟨j, x, by omega, by rw [if_neg (by omega)]; exact z⟩
      · rw [if_neg (by omega)]
        by_cases e : k = w3
        · rw [if_pos e]
          intro q
          have := (b j h1 (by omega)).2.2.2
          rw [q, pr] at this
          cases this
        · rw [if_neg e]
          exact d j k h1 h2 (by omega)
end
end
section
/-! X: the heap's picture, and the small readers -/
def zX (n : Nat) (B K Z T : Nat → Nat) (P : Nat → Int32) (F : Nat → Nat → Nat) (aH aB : Nat → Int32) : Prop :=
  ∀ h, 1 ≤ h → h ≤ n → aB h = nI (B h) ∧ aH (B h) = nI (K h + 4 * Z h + 32 * T h) ∧ aH (B h + 1) = P h ∧ ∀ f, f < Z h → aH (B h + 2 + f) = nI (F h f)
section
variable {cap rgc fln cnt usd lst qhd qln arm : Int32} {mrk : Int64} {dep : Int32} {aH aS aB aR aQ aK aW aN aF aC : Nat → Int32} {aE : Nat → Int64} {aL : Nat → Int32} {n : Nat} {B K Z T : Nat → Nat} {P : Nat → Int32} {F : Nat → Nat → Nat}
theorem xk_kind {post : Int32 → Prop} (O : zO n B K Z T F) (HX : zX n B K Z T P F aH aB) {h : Nat} (h1 : 1 ≤ h) (hn : h ≤ n) (hp : post (nI (K h))) : wpX_kindOf post (cap, rgc, fln, cnt, usd, lst, qhd, qln, arm, mrk, dep, aH, aS, aB, aR, aQ, aK, aW, aN, aF, aC, aE, aL) (nI h) := by
  have n32 := zO_n O
  have tp := zO_top O h1 hn
  have z6 := zO_Z6 O h1 hn
  obtain ⟨eB, eH, _, _⟩ := HX h h1 hn
  have hd := zh_all (K h) (zO_K O h1 hn) (Z h) (by omega) (T h) (zO_T O h1 hn)
  simp (disch := omega) only [wpX_kindOf, nI_clamp, vp_in_nI, eB, eH, hd.1, true_and]
  exact hp
theorem xk_fields {post : Int32 → Prop} (O : zO n B K Z T F) (HX : zX n B K Z T P F aH aB) {h : Nat} (h1 : 1 ≤ h) (hn : h ≤ n) (hp : post (nI (Z h))) : wpX_fieldsOf post (cap, rgc, fln, cnt, usd, lst, qhd, qln, arm, mrk, dep, aH, aS, aB, aR, aQ, aK, aW, aN, aF, aC, aE, aL) (nI h) := by
  have n32 := zO_n O
  have tp := zO_top O h1 hn
  have z6 := zO_Z6 O h1 hn
  obtain ⟨eB, eH, _, _⟩ := HX h h1 hn
  have hd := zh_all (K h) (zO_K O h1 hn) (Z h) (by omega) (T h) (zO_T O h1 hn)
  simp (disch := omega) only [wpX_fieldsOf, nI_clamp, vp_in_nI, eB, eH, hd.2.1, true_and]
  exact hp
theorem xk_state {post : Int32 → Prop} (O : zO n B K Z T F) (HX : zX n B K Z T P F aH aB) {h : Nat} (h1 : 1 ≤ h) (hn : h ≤ n) (hp : post (nI (T h))) : wpX_stateOf post (cap, rgc, fln, cnt, usd, lst, qhd, qln, arm, mrk, dep, aH, aS, aB, aR, aQ, aK, aW, aN, aF, aC, aE, aL) (nI h) := by
  have n32 := zO_n O
  have tp := zO_top O h1 hn
  have z6 := zO_Z6 O h1 hn
  obtain ⟨eB, eH, _, _⟩ := HX h h1 hn
  have hd := zh_all (K h) (zO_K O h1 hn) (Z h) (by omega) (T h) (zO_T O h1 hn)
  simp (disch := omega) only [wpX_stateOf, nI_clamp, vp_in_nI, eB, eH, hd.2.2, true_and]
  exact hp
theorem xk_con {post : Int32 → Prop} {m : Int64} {h : Nat} (hh : h < 64) (a : bs m h = false → post 0) (b : bs m h = true → post 1) : wpX_contains post (cap, rgc, fln, cnt, usd, lst, qhd, qln, arm, mrk, dep, aH, aS, aB, aR, aQ, aK, aW, aN, aF, aC, aE, aL) m (nI h) := by
  show ((m &&& ((1 : Int64) <<< ((nI h).toInt64 &&& 63))) = 0 → post 0) ∧ (¬ (m &&& ((1 : Int64) <<< ((nI h).toInt64 &&& 63))) = 0 → post 1)
  rw [bs_t hh]
  exact ⟨a, fun z => b (by simpa using z)⟩
end
/-! a store into a field, into a header -/
def zF (F : Nat → Nat → Nat) (h f v : Nat) : Nat → Nat → Nat := fun j g => if j = h ∧ g = f then v else F j g
def zT (T : Nat → Nat) (h s : Nat) : Nat → Nat := fun j => if j = h then s else T j
section
variable {n : Nat} {B K Z T : Nat → Nat} {P : Nat → Int32} {F : Nat → Nat → Nat} {aH aB : Nat → Int32}
theorem zX_ne (O : zO n B K Z T F) {h j a : Nat} (h1 : 1 ≤ h) (hn : h ≤ n) (j1 : 1 ≤ j) (jn : j ≤ n) (e : j ≠ h) (ha : B h ≤ a) (ha' : a < B h + Z h + 2) : ¬ (B j ≤ a ∧ a < B j + Z j + 2) := by
  intro ⟨x, y⟩
  rcases Nat.lt_trichotomy j h with q | q | q
  · have := zO_mn O j1 q (by omega); omega
  · exact e q
  · have := zO_mn O h1 q (by omega); omega
theorem zX_F (O : zO n B K Z T F) (HX : zX n B K Z T P F aH aB) {h f v : Nat} (h1 : 1 ≤ h) (hn : h ≤ n) (hf : f < Z h) : zX n B K Z T P (zF F h f v) (upd aH (B h + 2 + f) (nI v)) aB := by
  intro j j1 jn
  obtain ⟨x, y, z, w⟩ := HX j j1 jn
  have zj := zO_Z1 O j1 jn
  by_cases e : j = h
  · subst e
    refine ⟨x, by rw [pk_un (by omega)]; exact y, by rw [pk_un (by omega)]; exact z, fun g hg => ?_⟩
    by_cases q : g = f
    · subst q
      rw [pk_us]
      exact congrArg nI (if_pos ⟨rfl, rfl⟩).symm
    · rw [pk_un (by omega), w g hg]
      exact congrArg nI (if_neg (fun r => q r.2)).symm
  · have d := zX_ne O h1 hn j1 jn e (a := B h + 2 + f) (by omega) (by omega)
    refine ⟨x, by rw [pk_un (by omega)]; exact y, by rw [pk_un (by omega)]; exact z, fun g hg => ?_⟩
    rw [pk_un (by omega), w g hg]
    exact congrArg nI (if_neg (fun r => e r.1)).symm
theorem zX_T (O : zO n B K Z T F) (HX : zX n B K Z T P F aH aB) {h s : Nat} (h1 : 1 ≤ h) (hn : h ≤ n) : zX n B K Z (zT T h s) P F (upd aH (B h) (nI (K h + 4 * Z h + 32 * s))) aB := by
  intro j j1 jn
  obtain ⟨x, y, z, w⟩ := HX j j1 jn
  have zj := zO_Z1 O j1 jn
  by_cases e : j = h
  · subst e
    refine ⟨x, by rw [pk_us]; exact congrArg (fun q => nI (K j + 4 * Z j + 32 * q)) (if_pos rfl).symm, by rw [pk_un (by omega)]; exact z, fun g hg => ?_⟩
    rw [pk_un (by omega)]; exact w g hg
  · have d := zX_ne O h1 hn j1 jn e (a := B h) (by omega) (by omega)
    refine ⟨x, ?_, by rw [pk_un (by omega)]; exact z, fun g hg => by rw [pk_un (by omega)]; exact w g hg⟩
    rw [pk_un (by omega), y]
    exact congrArg (fun q => nI (K j + 4 * Z j + 32 * q)) (if_neg e).symm
theorem zX_congr {K' Z' T' : Nat → Nat} {P' : Nat → Int32} {F' : Nat → Nat → Nat} {B' : Nat → Nat} (HX : zX n B K Z T P F aH aB) (e : ∀ h, 1 ≤ h → h ≤ n → B' h = B h ∧ K' h = K h ∧ Z' h = Z h ∧ T' h = T h ∧ P' h = P h ∧ ∀ f, f < Z h → F' h f = F h f) : zX n B' K' Z' T' P' F' aH aB := by
  intro h h1 hn
  obtain ⟨x, y, z, w⟩ := HX h h1 hn
  obtain ⟨a, b, c, d, f, g⟩ := e h h1 hn
  rw [a, b, c, d, f]
  refine ⟨x, y, z, fun i hi => ?_⟩
  rw [w i hi, g i hi]
theorem zO_congr {K' Z' T' : Nat → Nat} {F' : Nat → Nat → Nat} {B' : Nat → Nat} (O : zO n B K Z T F) (eB : B' 1 = B 1 ∧ B' (n + 1) = B (n + 1)) (e : ∀ h, 1 ≤ h → h ≤ n → B' h = B h ∧ B' (h + 1) = B (h + 1) ∧ K' h = K h ∧ Z' h = Z h ∧ T' h < 4 ∧ ∀ f, f < Z h → F' h f ≤ n) : zO n B' K' Z' T' F' := by
  refine ⟨by rw [eB.1]; exact O.1, by rw [eB.2]; exact O.2.1, fun h h1 hn => ?_⟩
  obtain ⟨a, a', b, c, d, g⟩ := e h h1 hn
  obtain ⟨x1, x2, x3, x4, x5, x6, x7⟩ := O.2.2 h h1 hn
  rw [a, a', b, c]
  exact ⟨x1, x2, x3, x4, d, x6, g⟩
theorem zO_F' (O : zO n B K Z T F) {h f v : Nat} (hv : v ≤ n) : zO n B K Z T (zF F h f v) :=
  zO_congr O ⟨rfl, rfl⟩ fun j j1 jn => ⟨rfl, rfl, rfl, rfl, zO_T O j1 jn, fun g hg => by
    unfold zF
    split
    · exact hv
    · exact zO_F O j1 jn hg⟩
theorem zO_T' (O : zO n B K Z T F) {h s : Nat} (hs : s < 4) : zO n B K Z (zT T h s) F :=
  zO_congr O ⟨rfl, rfl⟩ fun j j1 jn => ⟨rfl, rfl, rfl, rfl, by
    unfold zT
    split
    · exact hs
    · exact zO_T O j1 jn, fun g hg => zO_F O j1 jn hg⟩
end
section
variable {cap rgc fln cnt usd lst qhd qln arm : Int32} {mrk : Int64} {dep : Int32} {aH aS aB aR aQ aK aW aN aF aC : Nat → Int32} {aE : Nat → Int64} {aL : Nat → Int32} {n : Nat} {B K Z T : Nat → Nat} {P : Nat → Int32} {F : Nat → Nat → Nat}
theorem xk_setS {post : SX → Prop} (O : zO n B K Z T F) (HX : zX n B K Z T P F aH aB) {h s : Nat} (h1 : 1 ≤ h) (hn : h ≤ n) (hs : s < 4) (hp : ∀ aH', zX n B K Z (zT T h s) P F aH' aB → post (cap, rgc, fln, cnt, usd, lst, qhd, qln, arm, mrk, dep, aH', aS, aB, aR, aQ, aK, aW, aN, aF, aC, aE, aL)) : wpX_setState post (cap, rgc, fln, cnt, usd, lst, qhd, qln, arm, mrk, dep, aH, aS, aB, aR, aQ, aK, aW, aN, aF, aC, aE, aL) (nI h) (nI s) := by
  have n32 := zO_n O
  have tp := zO_top O h1 hn
  have z6 := zO_Z6 O h1 hn
  obtain ⟨eB, eH, _, _⟩ := HX h h1 hn
  have hd := zh_set (K h) (zO_K O h1 hn) (Z h) (by omega) (T h) (zO_T O h1 hn) s hs
  simp (disch := omega) only [wpX_setState, nI_clamp, vp_in_nI, eB, eH, hd, true_and, forall_eq]
  exact hp _ (zX_T O HX h1 hn)
end
end
section
/-! X: the closure's bookkeeping: p pops so far, t the times of the pops (100: not popped), d the stack's height -/
def zM (n : Nat) (A : Nat → Prop) (t : Nat → Nat) (p : Nat) (m : Int64) (d : Nat) (st : Nat → Int32) : Prop :=
  p + d = zc (bs m) n ∧ (∀ h, bs m h = true → 1 ≤ h ∧ h ≤ n ∧ A h) ∧ (∀ h, t h < 100 → bs m h = true) ∧
  ∃ s : Nat → Nat, (∀ i, i < d → st i = nI (s i) ∧ bs m (s i) = true ∧ 100 ≤ t (s i)) ∧ (∀ i j, i < j → j < d → s i ≠ s j) ∧ (∀ h, bs m h = true → t h < 100 ∨ ∃ i, i < d ∧ s i = h)
theorem zM_d {n p d : Nat} {A : Nat → Prop} {t : Nat → Nat} {m : Int64} {st : Nat → Int32} (H : zM n A t p m d st) : p + d ≤ n := by
  have := zc_le (bs m) n
  have := H.1
  omega
theorem zM_push {n p d h : Nat} {A : Nat → Prop} {t : Nat → Nat} {m : Int64} {st : Nat → Int32} (H : zM n A t p m d st) (n32 : n ≤ 32) (h1 : 1 ≤ h) (hn : h ≤ n) (a : A h) (b : bs m h = false) : zM n A t p (m ||| zb h) (d + 1) (upd st d (nI h)) ∧ (∀ j, bs m j = true → bs (m ||| zb h) j = true) ∧ bs (m ||| zb h) h = true := by
  have e : ∀ j, bs (m ||| zb h) j = (bs m j || decide (j = h)) := fun j => by rw [bs_or, bs_zb (by omega)]
  have mo : ∀ j, bs m j = true → bs (m ||| zb h) j = true := fun j q => by rw [e, q]; rfl
  have eh : bs (m ||| zb h) h = true := by rw [e]; simp
  obtain ⟨H1, H2, H3, s, S1, S2, S3⟩ := H
  refine ⟨⟨?_, fun j q => ?_, fun j q => mo j (H3 j q), fun i => if i = d then h else s i, fun i hi => ?_, fun i j ij jd => ?_, fun j q => ?_⟩, mo, eh⟩
  · have := zc_up (p := bs m) (q := bs (m ||| zb h)) (n := n) h1 hn b eh (fun j _ _ z => by rw [e]; simp [z])
    omega
  · by_cases z : j = h
    · subst z; exact ⟨h1, hn, a⟩
    · rw [e] at q; simp [z] at q; exact H2 j q
  · by_cases z : i = d
    · subst z
      rw [pk_us]
      dsimp only
      rw [if_pos rfl]
      refine ⟨rfl, eh, ?_⟩
      rcases Nat.lt_or_ge (t h) 100 with w | w
      · have := H3 h w
        rw [b] at this; cases this
      · exact w
    · rw [pk_un z]
      dsimp only
      rw [if_neg z]
      obtain ⟨x, y, w⟩ := S1 i (by omega)
      exact ⟨x, mo _ y, w⟩
  · dsimp only
    rw [if_neg (by omega)]
    by_cases z : j = d
    · rw [if_pos z]
      intro w
      have := (S1 i (by omega)).2.1
      rw [w, b] at this; cases this
    · rw [if_neg z]; exact S2 i j ij (by omega)
  · by_cases z : j = h
    · exact Or.inr ⟨d, by omega, by dsimp only; rw [if_pos rfl, z]⟩
    · rw [e] at q
      simp [z] at q
      rcases S3 j q with w | ⟨i, x, y⟩
      · exact Or.inl w
      · exact Or.inr ⟨i, by omega, by dsimp only; rw [if_neg (by omega)]; exact y⟩
section
variable {cap rgc fln cnt usd lst qhd qln arm : Int32} {mrk : Int64} {dep : Int32} {aH aS aB aR aQ aK aW aN aF aC : Nat → Int32} {aE : Nat → Int64} {aL : Nat → Int32} {n : Nat} {B K Z T : Nat → Nat} {P : Nat → Int32} {F : Nat → Nat → Nat} {A : Nat → Prop} {t : Nat → Nat} {p : Nat}
theorem xk_mark {post : SX → Prop} {d h : Nat} {m : Int64} {st : Nat → Int32} (n32 : n ≤ 32) (H : zM n A t p m d st) (hh : h ≤ n) (hA : h ≠ 0 → A h)
    (hp : ∀ (m' : Int64) (d' : Nat) (st' : Nat → Int32), zM n A t p m' d' st' → (∀ j, bs m j = true → bs m' j = true) → (h ≠ 0 → bs m' h = true) → post (cap, rgc, fln, cnt, usd, lst, qhd, qln, arm, m', nI d', aH, aS, aB, aR, aQ, st', aW, aN, aF, aC, aE, aL)) :
    wpX_mark post (cap, rgc, fln, cnt, usd, lst, qhd, qln, arm, m, nI d, aH, aS, aB, aR, aQ, st, aW, aN, aF, aC, aE, aL) (nI h) := by
  by_cases h0 : h = 0
  · subst h0
    exact br_t nI_0 (hp m d st H (fun _ q => q) (fun z => absurd rfl z))
  · have pd := zM_d H
    refine br_f (nI_ne0 (by omega) (by omega)) (xk_con (by omega) (fun e => ?_) (fun e => ?_))
    · obtain ⟨a, b, c⟩ := zM_push H n32 (by omega) hh (hA h0) e
      exact br_t rfl (nm_e ⟨vp_in_nI (by omega) (by omega), nm_r (e' := upd st d (nI h)) (by rw [nI_clamp (by omega)]) (nm_r (nI_1 d) (hp _ _ _ a b (fun _ => c)))⟩)
    · exact br_f za_10 (hp m d st H (fun _ q => q) (fun _ => e))
/-- what the end of a scan does to the wait lists -/
def zP (K : Nat → Nat) (F : Nat → Nat → Nat) (h : Nat) (m : Int64) (wh wn wh' wn' : Nat → Int32) : Prop :=
  (wh' = wh ∧ wn' = wn ∧ (K h = 3 → F h 0 ≠ 0 → F h 1 ≠ 0 → bs m (F h 1) = true)) ∨ (K h = 3 ∧ F h 0 ≠ 0 ∧ F h 1 ≠ 0 ∧ bs m (F h 0) = false ∧ wh' = upd wh (F h 0) (nI h) ∧ wn' = upd wn h (wh (F h 0)))
theorem xk_pair {post : SX → Prop} (O : zO n B K Z T F) (HX : zX n B K Z T P F aH aB) {d h : Nat} {m : Int64} {st : Nat → Int32} (h1 : 1 ≤ h) (hn : h ≤ n) (hk : K h = 3) (cA : zcl n K Z F A) (ha : A h) (H : zM n A t p m d st)
    (hp : ∀ (m' : Int64) (d' : Nat) (st' wh' wn' : Nat → Int32), zM n A t p m' d' st' → (∀ j, bs m j = true → bs m' j = true) → zP K F h m' aW aN wh' wn' → post (cap, rgc, fln, cnt, usd, lst, qhd, qln, arm, m', nI d', aH, aS, aB, aR, aQ, st', wh', wn', aF, aC, aE, aL)) :
    wpX_scanPair post (cap, rgc, fln, cnt, usd, lst, qhd, qln, arm, m, nI d, aH, aS, aB, aR, aQ, st, aW, aN, aF, aC, aE, aL) (nI h) := by
  have n32 := zO_n O
  have tp := zO_top O h1 hn
  have z2 := zO_K3 O h1 hn hk
  obtain ⟨eB, _, _, eF⟩ := HX h h1 hn
  have e0 : aH (B h + 2) = nI (F h 0) := eF 0 (by omega)
  have e1 : aH (B h + 3) = nI (F h 1) := eF 1 (by omega)
  have f0 := zO_F O h1 hn (f := 0) (by omega)
  have f1 := zO_F O h1 hn (f := 1) (by omega)
  have ch : (nI h).toNatClampNeg = h := nI_clamp (by omega)
  have v33 : vp_in (nI h) 33 := vp_in_nI (by omega) (by omega)
  have a2 : aB (nI h).toNatClampNeg + 2 = nI (B h + 2) := by rw [ch, eB, za_2]
  have a3 : aB (nI h).toNatClampNeg + 3 = nI (B h + 3) := by rw [ch, eB, za_3]
  refine ⟨v33, by rw [a2]; exact vp_in_nI (by omega) (by omega), nm_r (e' := nI (F h 0)) (by rw [a2, nI_clamp (by omega)]; exact e0) ⟨v33, by rw [a3]; exact vp_in_nI (by omega) (by omega), nm_r (e' := nI (F h 1)) (by rw [a3, nI_clamp (by omega)]; exact e1) ?_⟩⟩
  by_cases k0 : F h 0 = 0
  · rw [k0]
    exact br_t nI_0 (hp m d st aW aN H (fun _ q => q) (Or.inl ⟨rfl, rfl, fun _ q => absurd k0 q⟩))
  · refine br_f (nI_ne0 (by omega) (by omega)) ?_
    by_cases v0 : F h 1 = 0
    · rw [v0]
      exact br_t nI_0 (hp m d st aW aN H (fun _ q => q) (Or.inl ⟨rfl, rfl, fun _ _ q => absurd v0 q⟩))
    · refine br_f (nI_ne0 (by omega) (by omega)) (xk_con (by omega) (fun e => ?_) (fun e => ?_))
      · have ck : (nI (F h 0)).toNatClampNeg = F h 0 := nI_clamp (by omega)
        have w33 : vp_in (nI (F h 0)) 33 := vp_in_nI (by omega) (by omega)
        exact br_t rfl ⟨w33, v33, nm_r (e' := upd aN h (aW (F h 0))) (by rw [ch, ck]) ⟨w33, nm_r (e' := upd aW (F h 0) (nI h)) (by rw [ck]) (hp m d st _ _ H (fun _ q => q) (Or.inr ⟨hk, k0, v0, e, rfl, rfl⟩))⟩⟩
      · refine br_f za_10 (xk_mark n32 H f1 (fun _ => cA h 1 h1 hn (by omega) ha ⟨fun q => by omega, fun _ _ => ⟨k0, (H.2.1 _ e).2.2⟩⟩ v0) ?_)
        intro m' d' st' a b c
        exact hp m' d' st' aW aN a b (Or.inl ⟨rfl, rfl, fun _ _ q => c q⟩)
theorem xk_scanL {post : SX → Prop} (O : zO n B K Z T F) (HX : zX n B K Z T P F aH aB) {h f0 : Nat} (h1 : 1 ≤ h) (hn : h ≤ n) (cA : zcl n K Z F A) (ha : A h) (hA : ∀ f, f0 ≤ f → f < Z h → F h f ≠ 0 → A (F h f)) :
    ∀ (k f : Nat) (m : Int64) (d : Nat) (st : Nat → Int32), f0 ≤ f → Z h + 1 ≤ f + k → zM n A t p m d st → (∀ g, f0 ≤ g → g < f → g < Z h → F h g ≠ 0 → bs m (F h g) = true) →
    (∀ (m' : Int64) (d' : Nat) (st' wh' wn' : Nat → Int32), zM n A t p m' d' st' → (∀ j, bs m j = true → bs m' j = true) → (∀ g, f0 ≤ g → g < Z h → F h g ≠ 0 → bs m' (F h g) = true) → zP K F h m' aW aN wh' wn' → post (cap, rgc, fln, cnt, usd, lst, qhd, qln, arm, m', nI d', aH, aS, aB, aR, aQ, st', wh', wn', aF, aC, aE, aL)) →
    f ≤ Z h → wX_scan_47 post (nI h) (nI (K h)) (nI (Z h)) (nI (B h + 2)) k (nI f) cap rgc fln cnt usd lst qhd qln arm m (nI d) aH aS aB aR aQ st aW aN aF aC aE aL := by
  have n32 := zO_n O
  have tp := zO_top O h1 hn
  have z6 := zO_Z6 O h1 hn
  have k4 := zO_K O h1 hn
  obtain ⟨eB, _, _, eF⟩ := HX h h1 hn
  intro k
  induction k with
  | zero =>
    intro f m d st f1 f2 H hm hp hf
    omega
  | succ k ih =>
    intro f m d st f1 f2 H hm hp hf
    by_cases e : Z h ≤ f
    · refine br_t (nI_le e (by omega)) ?_
      by_cases k3 : K h = 3
      · refine br_t (by rw [k3]; rfl) (xk_pair O HX h1 hn k3 cA ha H ?_)
        intro m' d' st' wh' wn' a b c
        exact hp m' d' st' wh' wn' a b (fun g g1 g2 g3 => b _ (hm g g1 (by omega) g2 g3)) c
      · refine br_f (fun q => k3 ((nI_eq (b := 3) (by omega) (by decide)).mp q)) ?_
        exact hp m d st aW aN H (fun _ q => q) (fun g g1 g2 g3 => hm g g1 (by omega) g2 g3) (Or.inl ⟨rfl, rfl, fun q => absurd q k3⟩)
    · have ff := zO_F O h1 hn (f := f) (by omega)
      refine br_f (nI_ge (by omega) (by omega)) ⟨?_, nm_r (e' := nI (F h f)) ?_ (xk_mark n32 H ff (fun q => hA f f1 (by omega) q) ?_)⟩
      · rw [nI_add]; exact vp_in_nI (by omega) (by omega)
      · rw [nI_add, nI_clamp (by omega)]; exact eF f (by omega)
      · intro m' d' st' a b c
        refine nm_r (nI_1 f) ?_
        refine ih (f + 1) m' d' st' (by omega) (by omega) a (fun g g1 g2 g3 g4 => ?_) (fun m'' d'' st'' wh' wn' a' b' => hp m'' d'' st'' wh' wn' a' (fun j q => b' j (b j q))) (by omega)
        rcases Nat.lt_or_ge g f with q | q
        · exact b _ (hm g g1 q g3 g4)
        · have : g = f := by omega
          subst this
          exact c g4
theorem xk_scan {post : SX → Prop} (O : zO n B K Z T F) (HX : zX n B K Z T P F aH aB) {d h : Nat} {m : Int64} {st : Nat → Int32} (h1 : 1 ≤ h) (hn : h ≤ n) (cA : zcl n K Z F A) (ha : A h) (H : zM n A t p m d st)
    (hp : ∀ (m' : Int64) (d' : Nat) (st' wh' wn' : Nat → Int32), zM n A t p m' d' st' → (∀ j, bs m j = true → bs m' j = true) → (∀ f, f < Z h → (f = 0 → K h = 0) → (f = 1 → K h ≠ 3) → F h f ≠ 0 → bs m' (F h f) = true) → zP K F h m' aW aN wh' wn' → post (cap, rgc, fln, cnt, usd, lst, qhd, qln, arm, m', nI d', aH, aS, aB, aR, aQ, st', wh', wn', aF, aC, aE, aL)) :
    wpX_scan post (cap, rgc, fln, cnt, usd, lst, qhd, qln, arm, m, nI d, aH, aS, aB, aR, aQ, st, aW, aN, aF, aC, aE, aL) (nI h) := by
  have n32 := zO_n O
  have tp := zO_top O h1 hn
  have k4 := zO_K O h1 hn
  obtain ⟨eB, _, _, eF⟩ := HX h h1 hn
  unfold wpX_scan
  refine xk_kind O HX h1 hn ?_
  refine xk_fields O HX h1 hn ?_
  refine ⟨vp_in_nI (by omega) (by omega), nm_r (e' := nI (B h + 2)) (by rw [nI_clamp (by omega), eB, za_2]) ?_⟩
  have S : ∀ f, f < Z h → (f = 0 → K h = 0) → (f = 1 → K h ≠ 3) → F h f ≠ 0 → A (F h f) := fun f hf a b z =>
    cA h f h1 hn hf ha ⟨a, fun x y => absurd y (b x)⟩ z
  by_cases k0 : K h = 0
  · refine br_t (by rw [k0]; exact nI_0) ⟨Z h + 1, ?_⟩
    exact xk_scanL O HX (f0 := 0) h1 hn cA ha (fun f _ hf z => S f hf (fun _ => k0) (fun _ => by omega) z) (Z h + 1) 0 m d st (Nat.le_refl _) (by omega) H (fun g _ q => absurd q (by omega))
      (fun m' d' st' wh' wn' a b c => hp m' d' st' wh' wn' a b (fun f hf _ _ z => c f (by omega) hf z)) (Nat.zero_le _)
  · refine br_f (nI_ne0 (by omega) (by omega)) ?_
    by_cases k3 : K h = 3
    · refine br_t (by rw [k3]; rfl) ⟨Z h + 1, ?_⟩
      exact xk_scanL O HX (f0 := 2) h1 hn cA ha (fun f q hf z => S f hf (fun _ => by omega) (fun _ => by omega) z) (Z h + 1) 2 m d st (Nat.le_refl _) (by omega) H (fun g q r => absurd r (by omega))
        (fun m' d' st' wh' wn' a b c => hp m' d' st' wh' wn' a b (fun f hf x y z => c f (by
          rcases Nat.lt_or_ge f 2 with q | q
          · have : f = 0 ∨ f = 1 := by omega
            rcases this with r | r
            · exact absurd (x r) k0
            · exact absurd k3 (y r)
          · exact q) hf z)) (zO_K3 O h1 hn k3)
    · refine br_f (fun q => k3 ((nI_eq (b := 3) (by omega) (by decide)).mp q)) ⟨Z h + 1, ?_⟩
      exact xk_scanL O HX (f0 := 1) h1 hn cA ha (fun f q hf z => S f hf (fun _ => by omega) (fun _ => k3) z) (Z h + 1) 1 m d st (Nat.le_refl _) (by omega) H (fun g q r => absurd r (by omega))
        (fun m' d' st' wh' wn' a b c => hp m' d' st' wh' wn' a b (fun f hf x y z => c f (by
          rcases Nat.eq_zero_or_pos f with q | q
          · exact absurd (x q) k0
          · exact q) hf z)) (zO_Z1 O h1 hn)
end
/-! X: the wait lists -/
def zL (wn : Nat → Int32) (t : Nat → Nat) : Nat → Int32 → List Nat → Prop
  | _, x, [] => x = 0
  | tb, x, e :: l => x = nI e ∧ t e < tb ∧ zL wn t (t e) (wn e) l
theorem zL_len {wn : Nat → Int32} {t : Nat → Nat} : ∀ (l : List Nat) (tb : Nat) (x : Int32), zL wn t tb x l → l.length ≤ tb := by
  intro l
  induction l with
  | nil => intro tb x _; exact Nat.zero_le _
  | cons e l ih =>
    intro tb x h
    have := ih _ _ h.2.2
    have := h.2.1
    simp only [List.length_cons]
    omega
theorem zL_lt {wn : Nat → Int32} {t : Nat → Nat} : ∀ (l : List Nat) (tb : Nat) (x : Int32), zL wn t tb x l → ∀ e, e ∈ l → t e < tb := by
  intro l
  induction l with
  | nil => intro tb x _ e he; cases he
  | cons a l ih =>
    intro tb x h e he
    rcases List.mem_cons.mp he with q | q
    · subst q; exact h.2.1
    · have := ih _ _ h.2.2 e q
      have := h.2.1
      omega
theorem zL_congr {wn wn' : Nat → Int32} {t t' : Nat → Nat} : ∀ (l : List Nat) (tb tb' : Nat) (x : Int32), (∀ e, e ∈ l → wn' e = wn e ∧ t' e = t e) → tb ≤ tb' → zL wn t tb x l → zL wn' t' tb' x l := by
  intro l
  induction l with
  | nil => intro tb tb' x _ _ h; exact h
  | cons a l ih =>
    intro tb tb' x c q h
    obtain ⟨w1, w2⟩ := c a (List.mem_cons_self ..)
    refine ⟨h.1, by rw [w2]; exact Nat.lt_of_lt_of_le h.2.1 q, ?_⟩
    rw [w1, w2]
    exact ih _ _ _ (fun e he => c e (List.mem_cons_of_mem _ he)) (Nat.le_refl _) h.2.2
section
variable {cap rgc fln cnt usd lst qhd qln arm : Int32} {mrk : Int64} {dep : Int32} {aH aS aB aR aQ aK aW aN aF aC : Nat → Int32} {aE : Nat → Int64} {aL : Nat → Int32} {n : Nat} {B K Z T : Nat → Nat} {P : Nat → Int32} {F : Nat → Nat → Nat} {A : Nat → Prop} {t : Nat → Nat} {p : Nat}
theorem xk_relL {post : SX → Prop} (O : zO n B K Z T F) (HX : zX n B K Z T P F aH aB) {key : Nat} (kn : key ≤ n) {t0 : Nat → Nat} :
    ∀ (l : List Nat) (x : Int32) (tb i k : Nat) (m : Int64) (d : Nat) (st : Nat → Int32), zL aN t0 tb x l → (∀ e, e ∈ l → 1 ≤ e ∧ e ≤ n ∧ K e = 3 ∧ (F e 1 ≠ 0 → A (F e 1))) → l.length + i ≤ n → l.length < k → zM n A t p m d st →
    (∀ (m' : Int64) (d' : Nat) (st' : Nat → Int32), zM n A t p m' d' st' → (∀ j, bs m j = true → bs m' j = true) → (∀ e, e ∈ l → F e 1 ≠ 0 → bs m' (F e 1) = true) → post (cap, rgc, fln, nI n, usd, lst, qhd, qln, arm, m', nI d', aH, aS, aB, aR, aQ, st', upd aW key 0, aN, aF, aC, aE, aL)) →
    wX_releaseWaiters_9 post (nI key) k x (nI i) cap rgc fln (nI n) usd lst qhd qln arm m (nI d) aH aS aB aR aQ st aW aN aF aC aE aL := by
  have n32 := zO_n O
  have v33 : vp_in (nI key) 33 := vp_in_nI (by omega) (by omega)
  have ck : (nI key).toNatClampNeg = key := nI_clamp (by omega)
  intro l
  induction l with
  | nil =>
    intro x tb i k m d st hl he hi hk H hp
    obtain ⟨k, rfl⟩ : ∃ q, k = q + 1 := ⟨k - 1, by simp only [List.length_nil] at hk; omega⟩
    have x0 : x = 0 := hl
    have fin : vp_in (nI key) 33 ∧ ∀ w : Nat → Int32, w = upd aW (nI key).toNatClampNeg 0 → post (cap, rgc, fln, nI n, usd, lst, qhd, qln, arm, m, nI d, aH, aS, aB, aR, aQ, st, w, aN, aF, aC, aE, aL) :=
      ⟨v33, nm_r (e' := upd aW key 0) (by rw [ck]) (hp m d st H (fun _ q => q) (fun e q => by cases q))⟩
    by_cases e : n ≤ i
    · exact br_t (nI_le e (by simp only [List.length_nil] at hi; omega)) fin
    · exact br_f (nI_ge (by omega) (by omega)) (br_t x0 fin)
  | cons e l ih =>
    intro x tb i k m d st hl he hi hk H hp
    simp only [List.length_cons] at hi hk
    obtain ⟨k, rfl⟩ : ∃ q, k = q + 1 := ⟨k - 1, by omega⟩
    obtain ⟨rfl, ht, hl⟩ := hl
    obtain ⟨e1, en, k3, av⟩ := he e (List.mem_cons_self ..)
    have tp := zO_top O e1 en
    have z2 := zO_K3 O e1 en k3
    obtain ⟨eB, _, _, eF⟩ := HX e e1 en
    have ev : aH (B e + 3) = nI (F e 1) := eF 1 (by omega)
    have f1 := zO_F O e1 en (f := 1) (by omega)
    have ce : (nI e).toNatClampNeg = e := nI_clamp (by omega)
    have w33 : vp_in (nI e) 33 := vp_in_nI (by omega) (by omega)
    have a3 : aB (nI e).toNatClampNeg + 3 = nI (B e + 3) := by rw [ce, eB, za_3]
    refine br_f (nI_ge (by omega) (by omega)) (br_f (nI_ne0 (by omega) (by omega)) ⟨w33, by rw [a3]; exact vp_in_nI (by omega) (by omega), nm_r (e' := nI (F e 1)) (by rw [a3, nI_clamp (by omega)]; exact ev) (xk_mark n32 H f1 av ?_)⟩)
    intro m' d' st' a b c
    refine ⟨w33, nm_r (e' := aN e) (by rw [ce]) (nm_r (nI_1 i) ?_)⟩
    refine ih (aN e) (t0 e) (i + 1) k m' d' st' hl (fun e' h' => he e' (List.mem_cons_of_mem _ h')) (by omega) (by omega) a ?_
    intro m'' d'' st'' a' b' c'
    refine hp m'' d'' st'' a' (fun j q => b' j (b j q)) (fun e' h' z => ?_)
    rcases List.mem_cons.mp h' with q | q
    · subst q; exact b' _ (c z)
    · exact c' e' q z
theorem xk_rel {post : SX → Prop} (O : zO n B K Z T F) (HX : zX n B K Z T P F aH aB) {key : Nat} (kn : key ≤ n) {t0 : Nat → Nat} {l : List Nat} {tb d : Nat} {m : Int64} {st : Nat → Int32} (hl : zL aN t0 tb (aW key) l) (htb : tb ≤ n) (he : ∀ e, e ∈ l → 1 ≤ e ∧ e ≤ n ∧ K e = 3 ∧ (F e 1 ≠ 0 → A (F e 1))) (H : zM n A t p m d st)
    (hp : ∀ (m' : Int64) (d' : Nat) (st' : Nat → Int32), zM n A t p m' d' st' → (∀ j, bs m j = true → bs m' j = true) → (∀ e, e ∈ l → F e 1 ≠ 0 → bs m' (F e 1) = true) → post (cap, rgc, fln, nI n, usd, lst, qhd, qln, arm, m', nI d', aH, aS, aB, aR, aQ, st', upd aW key 0, aN, aF, aC, aE, aL)) :
    wpX_releaseWaiters post (cap, rgc, fln, nI n, usd, lst, qhd, qln, arm, m, nI d, aH, aS, aB, aR, aQ, st, aW, aN, aF, aC, aE, aL) (nI key) := by
  have n32 := zO_n O
  have ll := zL_len _ _ _ hl
  exact ⟨vp_in_nI (by omega) (by omega), nm_r (e' := aW key) (by rw [nI_clamp (by omega)]) ⟨l.length + 1, xk_relL O HX kn l (aW key) tb 0 (l.length + 1) m d st hl he (by omega) (by omega) H hp⟩⟩
end
/-! X: the main loop's invariant -/
def zW (n : Nat) (K : Nat → Nat) (F : Nat → Nat → Nat) (t : Nat → Nat) (p : Nat) (m : Int64) (wh wn : Nat → Int32) (L : Nat → List Nat) : Prop :=
  ∀ k, 1 ≤ k → k ≤ n → zL wn t p (wh k) (L k) ∧ ∀ e, e ∈ L k → 1 ≤ e ∧ e ≤ n ∧ K e = 3 ∧ F e 0 = k ∧ bs m e = true
def zD (K Z : Nat → Nat) (F : Nat → Nat → Nat) (m : Int64) (L : Nat → List Nat) (h : Nat) : Prop :=
  (∀ f, f < Z h → (f = 0 → K h = 0) → (f = 1 → K h ≠ 3) → F h f ≠ 0 → bs m (F h f) = true) ∧ (K h = 3 → F h 0 ≠ 0 → F h 1 ≠ 0 → bs m (F h 1) = true ∨ h ∈ L (F h 0))
def zJ (n : Nat) (K Z : Nat → Nat) (F : Nat → Nat → Nat) (A : Nat → Prop) (t : Nat → Nat) (p : Nat) (m : Int64) (d : Nat) (st wh wn : Nat → Int32) : Prop :=
  zM n A t p m d st ∧ ∃ L : Nat → List Nat, zW n K F t p m wh wn L ∧ ∀ h, t h < 100 → L h = [] ∧ zD K Z F m L h
theorem zJ_fin {n p : Nat} {B K Z T : Nat → Nat} {F : Nat → Nat → Nat} {A : Nat → Prop} {t : Nat → Nat} {m : Int64} {st wh wn : Nat → Int32} (O : zO n B K Z T F) (H : zJ n K Z F A t p m 0 st wh wn) : zcl n K Z F (fun j => bs m j = true) := by
  obtain ⟨⟨_, H2, _, s, _, _, S3⟩, L, _, D⟩ := H
  have pop : ∀ h, bs m h = true → t h < 100 := fun h q => by
    rcases S3 h q with w | ⟨i, x, _⟩
    · exact w
    · omega
  intro h f h1 hn hf a w z
  obtain ⟨_, d1, d2⟩ := D h (pop h a)
  by_cases c : f = 1 ∧ K h = 3
  · obtain ⟨c1, c2⟩ := c
    subst c1
    obtain ⟨q1, q2⟩ := w.2 rfl c2
    rcases d2 c2 q1 z with r | r
    · exact r
    · rw [(D _ (pop _ q2)).1] at r; cases r
  · exact d1 f hf w.1 (fun q r => c ⟨q, r⟩) z
end
section
theorem zM_pop {n p d : Nat} {A : Nat → Prop} {t : Nat → Nat} {m : Int64} {st : Nat → Int32} (H : zM n A t p m (d + 1) st) (p100 : p < 100) : ∃ h, 1 ≤ h ∧ h ≤ n ∧ A h ∧ bs m h = true ∧ st d = nI h ∧ 100 ≤ t h ∧ zM n A (zT t h p) (p + 1) m d st := by
  obtain ⟨H1, H2, H3, s, S1, S2, S3⟩ := H
  obtain ⟨a, b, c⟩ := S1 d (by omega)
  obtain ⟨x, y, z⟩ := H2 _ b
  refine ⟨s d, x, y, z, b, a, c, by omega, H2, fun j q => ?_, s, fun i hi => ?_, fun i j ij jd => S2 i j ij (by omega), fun j q => ?_⟩
  · by_cases e : j = s d
    · rw [e]; exact b
    · rw [show zT t (s d) p j = t j from if_neg e] at q; exact H3 j q
  · obtain ⟨u, v, w⟩ := S1 i (by omega)
    exact ⟨u, v, by rw [show zT t (s d) p (s i) = t (s i) from if_neg (S2 i d hi (by omega))]; exact w⟩
  · by_cases e : j = s d
    · exact Or.inl (by rw [e, show zT t (s d) p (s d) = p from if_pos rfl]; exact p100)
    · rw [show zT t (s d) p j = t j from if_neg e]
      rcases S3 j q with w | ⟨i, u, v⟩
      · exact Or.inl w
      · refine Or.inr ⟨i, ?_, v⟩
        rcases Nat.lt_or_ge i d with r | r
        · exact r
        · have : i = d := by omega
          subst this
          exact absurd v.symm e
theorem zJ_step {n p d d2 h : Nat} {B K Z T : Nat → Nat} {F : Nat → Nat → Nat} {A : Nat → Prop} {t : Nat → Nat} {m m1 m2 : Int64} {st st2 wh wn wh2 wn2 : Nat → Int32} {L : Nat → List Nat} (O : zO n B K Z T F) (p100 : p < 100)
    (H : zM n A t p m d st) (HW : zW n K F t p m wh wn L) (HD : ∀ j, t j < 100 → L j = [] ∧ zD K Z F m L j) (h1 : 1 ≤ h) (hn : h ≤ n) (hm : bs m h = true) (ht : 100 ≤ t h)
    (mo1 : ∀ j, bs m j = true → bs m1 j = true) (mo2 : ∀ j, bs m1 j = true → bs m2 j = true) (hv : ∀ e, e ∈ L h → F e 1 ≠ 0 → bs m1 (F e 1) = true)
    (H2 : zM n A (zT t h p) (p + 1) m2 d2 st2) (hs : ∀ f, f < Z h → (f = 0 → K h = 0) → (f = 1 → K h ≠ 3) → F h f ≠ 0 → bs m2 (F h f) = true) (hP : zP K F h m2 (upd wh h 0) wn wh2 wn2) : zJ n K Z F A (zT t h p) (p + 1) m2 d2 st2 wh2 wn2 := by
  have mo : ∀ j, bs m j = true → bs m2 j = true := fun j q => mo2 j (mo1 j q)
  have tn : ∀ j, j ≠ h → zT t h p j = t j := fun j e => if_neg e
  have th : zT t h p h = p := if_pos rfl
  have nin : ∀ k, 1 ≤ k → k ≤ n → ∀ e, e ∈ L k → e ≠ h := fun k k1 kn e he q => by
    have := zL_lt _ _ _ (HW k k1 kn).1 e he
    rw [q] at this; omega
  rcases hP with ⟨rfl, rfl, hP⟩ | ⟨k3, k0, v0, kf, rfl, rfl⟩
  · refine ⟨H2, fun k => if k = h then [] else L k, fun k k1 kn => ?_, fun j q => ?_⟩
    · dsimp only
      by_cases e : k = h
      · rw [if_pos e, e, pk_us]
        exact ⟨rfl, fun e' q => by cases q⟩
      · rw [if_neg e, pk_un e]
        obtain ⟨w1, w2⟩ := HW k k1 kn
        refine ⟨zL_congr _ _ _ _ (fun e' q => ⟨rfl, tn e' (nin k k1 kn e' q)⟩) (by omega) w1, fun e' q => ?_⟩
        obtain ⟨a, b, c, d, f⟩ := w2 e' q
        exact ⟨a, b, c, d, mo _ f⟩
    · dsimp only
      by_cases e : j = h
      · subst e
        exact ⟨if_pos rfl, hs, fun a b c => Or.inl (hP a b c)⟩
      · rw [tn j e] at q
        obtain ⟨a, b, c⟩ := HD j q
        refine ⟨by rw [if_neg e]; exact a, fun f hf x y z => mo _ (b f hf x y z), fun x y z => ?_⟩
        rcases c x y z with w | w
        · exact Or.inl (mo _ w)
        · by_cases g : F j 0 = h
          · rw [g] at w; exact Or.inl (mo2 _ (hv j w z))
          · exact Or.inr (by dsimp only; rw [if_neg g]; exact w)
  · have kh : F h 0 ≠ h := fun q => by rw [q, mo h hm] at kf; cases kf
    have z2 := zO_K3 O h1 hn k3
    have kn' := zO_F O h1 hn (f := 0) (by omega)
    refine ⟨H2, fun k => if k = h then [] else if k = F h 0 then h :: L k else L k, fun k k1 kn => ?_, fun j q => ?_⟩
    · dsimp only
      by_cases e : k = h
      · rw [if_pos e, e, pk_un (fun q => kh q.symm), pk_us]
        exact ⟨rfl, fun e' q => by cases q⟩
      · rw [if_neg e]
        obtain ⟨w1, w2⟩ := HW k k1 kn
        have w3 : zL (upd wn h (upd wh h 0 (F h 0))) (zT t h p) p (wh k) (L k) := zL_congr _ _ _ _ (fun e' q => ⟨pk_un (nin k k1 kn e' q), tn e' (nin k k1 kn e' q)⟩) (Nat.le_refl _) w1
        have w4 : ∀ e', e' ∈ L k → 1 ≤ e' ∧ e' ≤ n ∧ K e' = 3 ∧ F e' 0 = k ∧ bs m2 e' = true := fun e' q => by
          obtain ⟨a, b, c, d, f⟩ := w2 e' q
          exact ⟨a, b, c, d, mo _ f⟩
        by_cases g : k = F h 0
        · rw [if_pos g]
          refine ⟨⟨by rw [g, pk_us], by rw [th]; omega, ?_⟩, fun e' q => ?_⟩
          · have eq : upd wn h (upd wh h 0 (F h 0)) h = wh k := by rw [pk_us, ← g, pk_un e]
            rw [th, eq]
            exact w3
          · rcases List.mem_cons.mp q with r | r
            · rw [r]; exact ⟨h1, hn, k3, g.symm, mo h hm⟩
            · exact w4 e' r
        · rw [if_neg g, pk_un g, pk_un e]
          exact ⟨zL_congr _ _ _ _ (fun _ _ => ⟨rfl, rfl⟩) (by omega) w3, w4⟩
    · dsimp only
      by_cases e : j = h
      · subst e
        refine ⟨if_pos rfl, hs, fun a b c => Or.inr ?_⟩
        dsimp only
        rw [if_neg kh, if_pos rfl]
        exact List.mem_cons_self ..
      · rw [tn j e] at q
        obtain ⟨a, b, c⟩ := HD j q
        have jk : j ≠ F h 0 := fun r => by rw [← r, mo j (H.2.2.1 j q)] at kf; cases kf
        refine ⟨by rw [if_neg e, if_neg jk]; exact a, fun f hf x y z => mo _ (b f hf x y z), fun x y z => ?_⟩
        rcases c x y z with w | w
        · exact Or.inl (mo _ w)
        · by_cases g : F j 0 = h
          · rw [g] at w; exact Or.inl (mo2 _ (hv j w z))
          · refine Or.inr ?_
            dsimp only
            rw [if_neg g]
            split
            · exact List.mem_cons_of_mem _ w
            · exact w
theorem zM_0 {n : Nat} (A : Nat → Prop) (st : Nat → Int32) : zM n A (fun _ => 100) 0 0 0 st := by
  refine ⟨?_, ?_, ?_, fun _ => 0, ?_, ?_, ?_⟩
  · rw [zc_0 (fun j _ _ => bs_0 j)]
  · intro j q; rw [bs_0] at q; cases q
  · intro j q; exact absurd q (by dsimp only; omega)
  · intro i q; omega
  · intro i j _ q; omega
  · intro j q; rw [bs_0] at q; cases q
section
variable {cap rgc fln cnt usd lst qhd qln arm : Int32} {mrk : Int64} {dep : Int32} {aH aS aB aR aQ aK aW aN aF aC : Nat → Int32} {aE : Nat → Int64} {aL : Nat → Int32} {n : Nat} {B K Z T : Nat → Nat} {P : Nat → Int32} {F : Nat → Nat → Nat} {A0 : Nat → Prop}
theorem xk_65 {post : Int64 → SX → Prop} (O : zO n B K Z T F) (HX : zX n B K Z T P F aH aB)
    (hp : ∀ (m : Int64) (d : Int32) (st wh wn : Nat → Int32), (∀ j, bs m j = true ↔ zC n K Z F A0 j) → post m (cap, rgc, fln, nI n, usd, lst, qhd, qln, arm, m, d, aH, aS, aB, aR, aQ, st, wh, wn, aF, aC, aE, aL)) :
    ∀ (k p : Nat) (t : Nat → Nat) (m : Int64) (d : Nat) (st wh wn : Nat → Int32), p ≤ n → n < p + k → zJ n K Z F (zC n K Z F A0) t p m d st wh wn → (∀ j, A0 j → bs m j = true) → wX_closure_65 post k (nI p) cap rgc fln (nI n) usd lst qhd qln arm m (nI d) aH aS aB aR aQ st wh wn aF aC aE aL := by
  have n32 := zO_n O
  have fin : ∀ (t : Nat → Nat) (p : Nat) (m : Int64) (st wh wn : Nat → Int32), zJ n K Z F (zC n K Z F A0) t p m 0 st wh wn → (∀ j, A0 j → bs m j = true) → ∀ j, bs m j = true ↔ zC n K Z F A0 j := fun t p m st wh wn J hs j =>
    ⟨fun q => (J.1.2.1 j q).2.2, fun q => zC_min (A := fun j => bs m j = true) hs (zJ_fin O J) q⟩
  intro k
  induction k with
  | zero => intro p t m d st wh wn a b; omega
  | succ k ih =>
    intro p t m d st wh wn pn pk J hs
    have pd := zM_d J.1
    by_cases e : n ≤ p
    · have : d = 0 := by omega
      subst this
      exact br_t (nI_le e (by omega)) (hp _ _ _ _ _ (fin _ _ _ _ _ _ J hs))
    · refine br_f (nI_ge (by omega) (by omega)) ?_
      rcases Nat.eq_zero_or_pos d with q | q
      · subst q
        exact br_t (by rw [nI_0]; decide) (hp _ _ _ _ _ (fin _ _ _ _ _ _ J hs))
      · obtain ⟨d, rfl⟩ : ∃ q, d = q + 1 := ⟨d - 1, by omega⟩
        obtain ⟨JM, L, JW, JD⟩ := J
        obtain ⟨h, h1, hn, ha, hm, hst, ht, HM⟩ := zM_pop JM (by omega)
        refine br_f (nI_nle (by omega) (by omega)) (nm_r (nI_pred d) ⟨vp_in_nI (by omega) (by omega), nm_r (e' := nI h) (by rw [nI_clamp (by omega)]; exact hst) ?_⟩)
        have hL : ∀ e, e ∈ L h → 1 ≤ e ∧ e ≤ n ∧ K e = 3 ∧ (F e 1 ≠ 0 → zC n K Z F A0 (F e 1)) := fun e' he => by
          obtain ⟨a, b, c, dd, f⟩ := (JW h h1 hn).2 e' he
          have z2 := zO_K3 O a b c
          exact ⟨a, b, c, fun z => zC_cl A0 e' 1 a b (by omega) (JM.2.1 _ f).2.2 ⟨fun q => by omega, fun _ _ => by rw [dd]; exact ⟨by omega, ha⟩⟩ z⟩
        refine xk_rel O HX hn (JW h h1 hn).1 (by omega) hL HM ?_
        intro m1 d1 st1 a1 b1 c1
        refine xk_scan O HX h1 hn (zC_cl A0) ha a1 ?_
        intro m2 d2 st2 wh2 wn2 a2 b2 c2 e2
        refine nm_r (nI_1 p) ?_
        exact ih (p + 1) _ m2 d2 st2 wh2 wn2 (by omega) (by omega) (zJ_step O (by omega) JM JW JD h1 hn hm ht b1 b2 c1 a2 c2 e2) (fun j q => b2 j (b1 j (hs j q)))
theorem xk_35 {post : Int64 → SX → Prop} {sd : Int64} (O : zO n B K Z T F) (HX : zX n B K Z T P F aH aB) (hw : ∀ k, 1 ≤ k → k ≤ n → aW k = 0)
    (hp : ∀ (m : Int64) (d : Int32) (st wh wn : Nat → Int32), (∀ j, bs m j = true ↔ zC n K Z F (fun h => 1 ≤ h ∧ h ≤ n ∧ bs sd h = true) j) → post m (cap, rgc, fln, nI n, usd, lst, qhd, qln, arm, m, d, aH, aS, aB, aR, aQ, st, wh, wn, aF, aC, aE, aL)) :
    ∀ (k h : Nat) (m : Int64) (d : Nat) (st : Nat → Int32), 1 ≤ h → h ≤ n + 1 → n + 1 < h + k → zM n (zC n K Z F (fun h => 1 ≤ h ∧ h ≤ n ∧ bs sd h = true)) (fun _ => 100) 0 m d st → (∀ j, 1 ≤ j → j < h → bs sd j = true → bs m j = true) → wX_closure_35 post sd k (nI h) cap rgc fln (nI n) usd lst qhd qln arm m (nI d) aH aS aB aR aQ st aW aN aF aC aE aL := by
  have n32 := zO_n O
  intro k
  induction k with
  | zero => intro h m d st a b c; omega
  | succ k ih =>
    intro h m d st h1 hn hk H hs
    by_cases e : n < h
    · refine br_t (nI_lt e (by omega)) ⟨n + 1, ?_⟩
      refine xk_65 O HX hp (n + 1) 0 (fun _ => 100) m d st aW aN (Nat.zero_le _) (by omega) ⟨H, fun _ => [], fun k k1 kn => ⟨hw k k1 kn, fun e' q => by cases q⟩, fun j q => absurd q (by dsimp only; omega)⟩ (fun j q => hs j q.1 (by omega) q.2.2)
    · refine br_f (nI_nlt (by omega) (by omega)) (xk_con (by omega) (fun b => ?_) (fun b => ?_))
      · refine br_t rfl (nm_r (nI_1 h) (ih (h + 1) m d st (by omega) (by omega) (by omega) H (fun j j1 jh q => ?_)))
        rcases Nat.lt_or_ge j h with r | r
        · exact hs j j1 r q
        · have : j = h := by omega
          subst this
          rw [b] at q; cases q
      · refine br_f za_10 (xk_mark n32 H (by omega) (fun _ => zC_in ⟨h1, by omega, b⟩) ?_)
        intro m' d' st' a' b' c'
        refine nm_r (nI_1 h) (ih (h + 1) m' d' st' (by omega) (by omega) (by omega) a' (fun j j1 jh q => ?_))
        rcases Nat.lt_or_ge j h with r | r
        · exact b' j (hs j j1 r q)
        · have : j = h := by omega
          subst this
          exact c' (by omega)
theorem xk_12 {post : Int64 → SX → Prop} {sd : Int64} (O : zO n B K Z T F) (HX : zX n B K Z T P F aH aB)
    (hp : ∀ (m : Int64) (d : Int32) (st wh wn : Nat → Int32), (∀ j, bs m j = true ↔ zC n K Z F (fun h => 1 ≤ h ∧ h ≤ n ∧ bs sd h = true) j) → post m (cap, rgc, fln, nI n, usd, lst, qhd, qln, arm, m, d, aH, aS, aB, aR, aQ, st, wh, wn, aF, aC, aE, aL)) :
    ∀ (k h : Nat) (wh : Nat → Int32), 1 ≤ h → h ≤ n + 1 → n + 1 < h + k → (∀ j, 1 ≤ j → j < h → wh j = 0) → wX_closure_12 post sd cap rgc fln (nI n) usd lst qhd qln arm 0 0 k (nI h) aH aS aB aR aQ aK wh aN aF aC aE aL := by
  have n32 := zO_n O
  intro k
  induction k with
  | zero => intro h wh a b c; omega
  | succ k ih =>
    intro h wh h1 hn hk hw
    by_cases e : n < h
    · refine br_t (nI_lt e (by omega)) ⟨n + 1, ?_⟩
      exact xk_35 O HX (fun k a b => hw k a (by omega)) hp (n + 1) 1 0 0 aK (by omega) (by omega) (by omega) (zM_0 _ _) (fun j a b => by omega)
    · have ch : (nI h).toNatClampNeg = h := nI_clamp (by omega)
      refine br_f (nI_nlt (by omega) (by omega)) ⟨vp_in_nI (by omega) (by omega), nm_r (e' := upd wh h 0) (by rw [ch]) (nm_r (nI_1 h) (ih (h + 1) _ (by omega) (by omega) (by omega) (fun j j1 jh => ?_)))⟩
      by_cases q : j = h
      · rw [q, pk_us]
      · rw [pk_un q]; exact hw j j1 (by omega)
theorem xk_closure {post : Int64 → SX → Prop} {sd : Int64} (O : zO n B K Z T F) (HX : zX n B K Z T P F aH aB)
    (hp : ∀ (m : Int64) (d : Int32) (st wh wn : Nat → Int32), (∀ j, bs m j = true ↔ zC n K Z F (fun h => 1 ≤ h ∧ h ≤ n ∧ bs sd h = true) j) → post m (cap, rgc, fln, nI n, usd, lst, qhd, qln, arm, m, d, aH, aS, aB, aR, aQ, st, wh, wn, aF, aC, aE, aL)) :
    wpX_closure post (cap, rgc, fln, nI n, usd, lst, qhd, qln, arm, mrk, dep, aH, aS, aB, aR, aQ, aK, aW, aN, aF, aC, aE, aL) sd :=
  ⟨n + 2, xk_12 O HX hp (n + 2) 1 aW (by omega) (by omega) (by omega) (fun j a b => by omega)⟩
end
end
section
/-! Y: the picture, the place of a serial -/
def zS (n : Nat) (S : Nat → Nat) (last : Nat) : Prop := S 0 = 0 ∧ (∀ i j, i < j → j ≤ n → S i < S j) ∧ S n ≤ last ∧ last ≤ 30000
theorem zS_lt {n last : Nat} {S : Nat → Nat} (H : zS n S last) {h : Nat} (hn : h ≤ n) : S h ≤ 30000 := by
  rcases Nat.lt_or_ge h n with q | q
  · have := H.2.1 h n q (Nat.le_refl _)
    have := H.2.2.1
    have := H.2.2.2
    omega
  · have e : h = n := by omega
    subst e
    have := H.2.2.1
    have := H.2.2.2
    omega
theorem zS_inj {n last : Nat} {S : Nat → Nat} (H : zS n S last) {i j : Nat} (hi : i ≤ n) (hj : j ≤ n) (e : S i = S j) : i = j := by
  rcases Nat.lt_trichotomy i j with q | q | q
  · have := H.2.1 i j q hj; omega
  · exact q
  · have := H.2.1 j i q hi; omega
def zY (n : Nat) (S K Z T : Nat → Nat) (P : Nat → Int32) (F : Nat → Nat → Nat) (bS bK bZ bP bT bF : Nat → Int32) : Prop :=
  ∀ x, x < n → bS x = nI (S (x + 1)) ∧ bK x = nI (K (x + 1)) ∧ bZ x = nI (Z (x + 1)) ∧ bP x = P (x + 1) ∧ bT x = nI (T (x + 1)) ∧ ∀ f, f < Z (x + 1) → bF (x * 6 + f) = nI (S (F (x + 1) f))
section
variable {yc yr yl ys yn yq : Int32} {bS bK bZ bP bT bF bR bQ bM bA bC bD bE : Nat → Int32} {n last : Nat} {S B K Z T : Nat → Nat} {P : Nat → Int32} {F : Nat → Nat → Nat}
theorem yk_placeL {post : Int32 → Prop} {v : Int32} (n32 : n ≤ 32) (a : ∀ x, x < n → bS x = v → (∀ y, y < x → bS y ≠ v) → post (nI x)) (b : (∀ x, x < n → bS x ≠ v) → post (-1)) :
    ∀ k x, x ≤ n → n < x + k → (∀ y, y < x → bS y ≠ v) → wY_place_2 post v yc yr yl ys (nI n) yq bS bK bZ bP bT bF bR bQ bM bA bC bD bE k (nI x) := by
  intro k
  induction k with
  | zero => intro x h1 h2; omega
  | succ k ih =>
    intro x h1 h2 h3
    by_cases e : n ≤ x
    · exact br_t (nI_le e (by omega)) (b (fun y hy => h3 y (by omega)))
    · have cx : (nI x).toNatClampNeg = x := nI_clamp (by omega)
      refine br_f (nI_ge (by omega) (by omega)) ⟨vp_in_nI (by omega) (by omega), ?_⟩
      rw [cx]
      by_cases q : bS x = v
      · exact br_t q (a x (by omega) q h3)
      · refine br_f q (nm_r (nI_1 x) (ih (x + 1) (by omega) (by omega) (fun y hy => ?_)))
        rcases Nat.lt_or_ge y x with r | r
        · exact h3 y r
        · have : y = x := by omega
          subst this; exact q
theorem yk_place {post : Int32 → Prop} {v : Int32} (n32 : n ≤ 32) (a : ∀ x, x < n → bS x = v → (∀ y, y < x → bS y ≠ v) → post (nI x)) (b : (∀ x, x < n → bS x ≠ v) → post (-1)) : wpY_place post (yc, yr, yl, ys, nI n, yq, bS, bK, bZ, bP, bT, bF, bR, bQ, bM, bA, bC, bD, bE) v :=
  ⟨n + 1, yk_placeL n32 a b (n + 1) 0 (Nat.zero_le _) (by omega) (fun y q => by omega)⟩
theorem yk_pl {post : Int32 → Prop} (n32 : n ≤ 32) (HS : zS n S last) (eS : ∀ x, x < n → bS x = nI (S (x + 1))) {h : Nat} (hn : h ≤ n) (a : h = 0 → post (-1)) (b : ∀ x, h = x + 1 → post (nI x)) : wpY_place post (yc, yr, yl, ys, nI n, yq, bS, bK, bZ, bP, bT, bF, bR, bQ, bM, bA, bC, bD, bE) (nI (S h)) := by
  have sh := zS_lt HS hn
  refine yk_place n32 (fun x hx e _ => ?_) (fun e => ?_)
  · rw [eS x hx] at e
    have sx := zS_lt HS (h := x + 1) (by omega)
    have := zS_inj HS (i := x + 1) (j := h) (by omega) hn ((nI_eq (by omega) (by omega)).mp e)
    exact b x this.symm
  · rcases Nat.eq_zero_or_pos h with q | q
    · exact a q
    · obtain ⟨x, rfl⟩ : ∃ x, h = x + 1 := ⟨h - 1, by omega⟩
      exact absurd (eS x (by omega)) (e x (by omega))
end
/-! Y: flags -/
def yb (b : Nat → Int32) (h : Nat) : Bool := decide (1 ≤ h) && !decide (b (h - 1) = 0)
theorem yb_t {b : Nat → Int32} {x : Nat} : yb b (x + 1) = true ↔ ¬ b x = 0 := by
  unfold yb
  simp
theorem yb_f {b : Nat → Int32} {x : Nat} : yb b (x + 1) = false ↔ b x = 0 := by
  unfold yb
  simp
theorem yb_0 {b : Nat → Int32} : yb b 0 = false := rfl
theorem yb_u {b : Nat → Int32} {x j : Nat} (e : j ≠ x + 1) (v : Int32) : yb (upd b x v) j = yb b j := by
  rcases Nat.eq_zero_or_pos j with q | q
  · subst q; rfl
  · obtain ⟨y, rfl⟩ : ∃ y, j = y + 1 := ⟨j - 1, by omega⟩
    unfold yb
    rw [show y + 1 - 1 = y from rfl, pk_un (by omega)]
theorem yb_1 {b : Nat → Int32} {x : Nat} : yb (upd b x 1) (x + 1) = true := yb_t.mpr (by rw [pk_us]; decide)
theorem yb_z {b : Nat → Int32} {x : Nat} : yb (upd b x 0) (x + 1) = false := yb_f.mpr pk_us
def y01 (n : Nat) (b : Nat → Int32) : Prop := ∀ x, x < n → b x = 0 ∨ b x = 1
theorem y01_u {n x : Nat} {b : Nat → Int32} {v : Int32} (h : y01 n b) (hv : v = 0 ∨ v = 1) : y01 n (upd b x v) := fun y hy => by
  by_cases e : y = x
  · rw [e, pk_us]; exact hv
  · rw [pk_un e]; exact h y hy
theorem y01_n {n x : Nat} {b : Nat → Int32} (h : y01 n b) (hx : x < n) : vp_nar .boolean (b x) = b x := by
  rcases h x hx with q | q
  · rw [q]; exact za_b0
  · rw [q]; exact za_b1
section
variable {yc yr yl ys yn yq : Int32} {bS bK bZ bP bT bF bR bQ bM bA bC bD bE : Nat → Int32} {n last : Nat} {S B K Z T : Nat → Nat} {P : Nat → Int32} {F : Nat → Nat → Nat}
theorem yk_holds {post : Int32 → Prop} (O : zO n B K Z T F) (HS : zS n S last) (HY : zY n S K Z T P F bS bK bZ bP bT bF) {x f : Nat} (hx : x < n) (hf : f < Z (x + 1)) (a : zh K F (fun j => yb bM j = true) (x + 1) f → post 1) (b : ¬ zh K F (fun j => yb bM j = true) (x + 1) f → post 0) : wpY_holds post (yc, yr, yl, ys, nI n, yq, bS, bK, bZ, bP, bT, bF, bR, bQ, bM, bA, bC, bD, bE) (nI x) (nI f) := by
  have n32 := zO_n O
  have k4 := zO_K O (h := x + 1) (by omega) (by omega)
  have z6 := zO_Z6 O (h := x + 1) (by omega) (by omega)
  obtain ⟨_, eK, _, _, _, eF⟩ := HY x hx
  have cx : (nI x).toNatClampNeg = x := nI_clamp (by omega)
  have vx : vp_in (nI x) 32 := vp_in_nI (by omega) (by omega)
  have ek : bK (nI x).toNatClampNeg = nI (K (x + 1)) := by rw [cx]; exact eK
  by_cases f0 : f = 0
  · refine br_t (by rw [f0]; exact nI_0) ⟨vx, ?_⟩
    rw [ek]
    by_cases k0 : K (x + 1) = 0
    · exact br_t (by rw [k0]; exact nI_0) (a ⟨fun _ => k0, fun q => by omega⟩)
    · exact br_f (nI_ne0 (by omega) (by omega)) (b (fun w => k0 (w.1 f0)))
  · refine br_f (nI_ne0 (by omega) (by omega)) ?_
    by_cases f1 : f = 1
    · refine br_t (by rw [f1]; rfl) ⟨vx, ?_⟩
      rw [ek]
      by_cases k3 : K (x + 1) = 3
      · refine br_t (by rw [k3]; rfl) ⟨by rw [za_m6]; exact vp_in_nI (by omega) (by omega), ?_⟩
        have e0 : bF (nI x * 6).toNatClampNeg = nI (S (F (x + 1) 0)) := by
          rw [za_m6, nI_clamp (by omega)]; exact eF 0 (by omega)
        have f0n := zO_F O (h := x + 1) (f := 0) (by omega) (by omega) (by omega)
        rw [e0]
        refine yk_pl n32 HS (fun x hx => (HY x hx).1) f0n (fun q => ?_) (fun y q => ?_)
        · exact br_t za_n1 (b (fun w => (w.2 f1 k3).1 q))
        · have cy : (nI y).toNatClampNeg = y := nI_clamp (by omega)
          refine br_f (nI_pos (by omega)) ⟨vp_in_nI (by omega) (by omega), ?_⟩
          rw [cy]
          by_cases m : bM y = 0
          · exact br_t m (b (fun w => by
              have := (w.2 f1 k3).2
              rw [q] at this
              exact yb_t.mp this m))
          · exact br_f m (a ⟨fun r => absurd r f0, fun _ _ => ⟨by omega, by rw [q]; exact yb_t.mpr m⟩⟩)
      · exact br_f (fun q => k3 ((nI_eq (b := 3) (by omega) (by decide)).mp q)) (a ⟨fun r => absurd r f0, fun _ r => absurd r k3⟩)
    · exact br_f (fun q => f1 ((nI_eq (b := 1) (by omega) (by decide)).mp q)) (a ⟨fun r => absurd r f0, fun r => absurd r f1⟩)
end
/-- one pass: from the marks b0, with x objects and f fields of the next done -/
def yI (n : Nat) (K Z : Nat → Nat) (F : Nat → Nat → Nat) (A : Nat → Prop) (b0 : Nat → Int32) (g : Nat) (b : Nat → Int32) (x f : Nat) : Prop :=
  y01 n b ∧ (∀ j, 1 ≤ j → j ≤ n → yb b j = true → A j) ∧ (∀ j, yb b0 j = true → yb b j = true) ∧
  ((g = 0 ∧ b = b0 ∧ ∀ h' f', 1 ≤ h' → (h' ≤ x ∨ (h' = x + 1 ∧ f' < f)) → f' < Z h' → yb b h' = true → zh K F (fun j => yb b j = true) h' f' → F h' f' ≠ 0 → yb b (F h' f') = true) ∨ (g = 1 ∧ zc (yb b0) n < zc (yb b) n))
theorem yI_next {n x f : Nat} {K Z : Nat → Nat} {F : Nat → Nat → Nat} {A : Nat → Prop} {b0 b : Nat → Int32} {g : Nat} (H : yI n K Z F A b0 g b x f) (h : f < Z (x + 1) → yb b (x + 1) = true → zh K F (fun j => yb b j = true) (x + 1) f → F (x + 1) f ≠ 0 → yb b (F (x + 1) f) = true) : yI n K Z F A b0 g b x (f + 1) := by
  obtain ⟨a, b, c, d⟩ := H
  refine ⟨a, b, c, ?_⟩
  rcases d with ⟨d1, d2, d3⟩ | d
  · refine Or.inl ⟨d1, d2, fun h' f' q1 q2 q3 q4 q5 q6 => ?_⟩
    by_cases e : h' = x + 1 ∧ f' = f
    · obtain ⟨e1, e2⟩ := e
      subst e1 e2
      exact h q3 q4 q5 q6
    · exact d3 h' f' q1 (by omega) q3 q4 q5 q6
  · exact Or.inr d
theorem yI_row {n x f : Nat} {K Z : Nat → Nat} {F : Nat → Nat → Nat} {A : Nat → Prop} {b0 b : Nat → Int32} {g : Nat} (H : yI n K Z F A b0 g b x f) (h : yb b (x + 1) = false ∨ Z (x + 1) ≤ f) : yI n K Z F A b0 g b (x + 1) 0 := by
  obtain ⟨a, b', c, d⟩ := H
  refine ⟨a, b', c, ?_⟩
  rcases d with ⟨d1, d2, d3⟩ | d
  · refine Or.inl ⟨d1, d2, fun h' f' q1 q2 q3 q4 q5 q6 => ?_⟩
    have q2' : h' ≤ x ∨ h' = x + 1 := by omega
    rcases q2' with q | q
    · exact d3 h' f' q1 (Or.inl q) q3 q4 q5 q6
    · rcases h with r | r
      · rw [← q, q4] at r; cases r
      · exact d3 h' f' q1 (Or.inr ⟨q, by rw [q] at q3; omega⟩) q3 q4 q5 q6
  · exact Or.inr d
theorem yI_set {n x f y : Nat} {K Z : Nat → Nat} {F : Nat → Nat → Nat} {A : Nat → Prop} {b0 b : Nat → Int32} {g : Nat} (H : yI n K Z F A b0 g b x f) (hy : y < n) (ha : A (y + 1)) (hb : b y = 0) (f' : Nat) : yI n K Z F A b0 1 (upd b y 1) x f' := by
  obtain ⟨a, b', c, d⟩ := H
  have up : zc (yb (upd b y 1)) n = zc (yb b) n + 1 := zc_up (by omega) (by omega) (yb_f.mpr hb) yb_1 (fun j _ _ e => (yb_u e 1).symm)
  refine ⟨y01_u a (Or.inr rfl), fun j j1 jn q => ?_, fun j q => ?_, Or.inr ⟨rfl, ?_⟩⟩
  · by_cases e : j = y + 1
    · rw [e]; exact ha
    · rw [yb_u e] at q; exact b' j j1 jn q
  · by_cases e : j = y + 1
    · rw [e]; exact yb_1
    · rw [yb_u e]; exact c j q
  · rcases d with ⟨_, d2, _⟩ | ⟨_, d2⟩
    · rw [up, d2]; omega
    · omega
section
variable {yc yr yl ys yn yq : Int32} {bS bK bZ bP bT bF bR bQ bM bA bC bD bE : Nat → Int32} {n last : Nat} {S B K Z T : Nat → Nat} {P : Nat → Int32} {F : Nat → Nat → Nat} {A : Nat → Prop}
theorem yk_31 {post : SY → Prop} {J4 J20 : Int32 → Int32 → (Nat → Int32) → (Nat → Int32) → (Nat → Int32) → (Nat → Int32) → (Nat → Int32) → (Nat → Int32) → (Nat → Int32) → (Nat → Int32) → (Nat → Int32) → (Nat → Int32) → (Nat → Int32) → (Nat → Int32) → (Nat → Int32) → Prop} {x2 : Int32} {b0 : Nat → Int32} (O : zO n B K Z T F) (HS : zS n S last) (HY : zY n S K Z T P F bS bK bZ bP bT bF) (cA : zcl n K Z F A) {x : Nat} (hx : x < n)
    (hJ : ∀ (g : Nat) (b : Nat → Int32), yI n K Z F A b0 g b (x + 1) 0 → J20 (nI g) (nI (x + 1)) bS bK bZ bP bT bF bR bQ b bA bC bD bE) :
    ∀ (k f g : Nat) (b : Nat → Int32), f ≤ Z (x + 1) → Z (x + 1) < f + k → yI n K Z F A b0 g b x f → wY_close_31 post J4 J20 x2 (nI x) yc yr yl ys (nI n) yq k (nI g) (nI f) bS bK bZ bP bT bF bR bQ b bA bC bD bE := by
  have n32 := zO_n O
  have z6 := zO_Z6 O (h := x + 1) (by omega) (by omega)
  obtain ⟨_, _, eZ, _, _, eF⟩ := HY x hx
  have cx : (nI x).toNatClampNeg = x := nI_clamp (by omega)
  have vx : vp_in (nI x) 32 := vp_in_nI (by omega) (by omega)
  intro k
  induction k with
  | zero => intro f g b h1 h2; omega
  | succ k ih =>
    intro f g b h1 h2 H
    refine ⟨vx, ?_⟩
    rw [cx]
    by_cases m : b x = 0
    · exact br_t m (nm_r (nI_1 x) (hJ g b (yI_row H (Or.inl (yb_f.mpr m)))))
    · refine br_f m ⟨vx, ?_⟩
      rw [eZ]
      have mk : yb b (x + 1) = true := yb_t.mpr m
      by_cases e : Z (x + 1) ≤ f
      · exact br_t (nI_le e (by omega)) (nm_r (nI_1 x) (hJ g b (yI_row H (Or.inr e))))
      · have ei : nI x * 6 + nI f = nI (x * 6 + f) := by rw [za_m6, nI_add]
        have fn := zO_F O (h := x + 1) (f := f) (by omega) (by omega) (by omega)
        refine br_f (nI_ge (by omega) (by omega)) ⟨by rw [ei]; exact vp_in_nI (by omega) (by omega), ?_⟩
        rw [show bF (nI x * 6 + nI f).toNatClampNeg = nI (S (F (x + 1) f)) by rw [ei, nI_clamp (by omega)]; exact eF f (by omega)]
        refine yk_pl n32 HS (fun x hx => (HY x hx).1) fn (fun q => ?_) (fun y q => ?_)
        · exact br_t za_n1 (nm_r (nI_1 f) (ih (f + 1) g b (by omega) (by omega) (yI_next H (fun _ _ _ w => absurd q w))))
        · have cy : (nI y).toNatClampNeg = y := nI_clamp (by omega)
          have vy : vp_in (nI y) 32 := vp_in_nI (by omega) (by omega)
          refine br_f (nI_pos (by omega)) ⟨vy, ?_⟩
          rw [cy]
          by_cases my : b y = 0
          · refine br_t my (yk_holds O HS HY hx (by omega) (fun w => ?_) (fun w => ?_))
            · refine br_f za_10 ⟨vy, nm_r (e' := upd b y 1) (by rw [za_b1]) (nm_r (nI_1 f) ?_)⟩
              have ay : A (y + 1) := by
                have := cA (x + 1) f (by omega) (by omega) (by omega) (H.2.1 (x + 1) (by omega) (by omega) mk) ⟨w.1, fun r1 r2 => ⟨(w.2 r1 r2).1, ?_⟩⟩ (by omega)
                · rw [q] at this; exact this
                · have f0 := zO_F O (h := x + 1) (f := 0) (by omega) (by omega) (by omega)
                  have := (w.2 r1 r2).1
                  exact H.2.1 _ (by omega) (by omega) (w.2 r1 r2).2
              exact ih (f + 1) 1 (upd b y 1) (by omega) (by omega) (yI_set H (by omega) ay my (f + 1))
            · exact br_t rfl (nm_r (nI_1 f) (ih (f + 1) g b (by omega) (by omega) (yI_next H (fun _ _ r _ => absurd r w))))
          · refine br_f my (nm_r (nI_1 f) (ih (f + 1) g b (by omega) (by omega) (yI_next H (fun _ _ _ _ => ?_))))
            rw [q]; exact yb_t.mpr my
theorem yk_20 {post : SY → Prop} {J4 : Int32 → Int32 → (Nat → Int32) → (Nat → Int32) → (Nat → Int32) → (Nat → Int32) → (Nat → Int32) → (Nat → Int32) → (Nat → Int32) → (Nat → Int32) → (Nat → Int32) → (Nat → Int32) → (Nat → Int32) → (Nat → Int32) → (Nat → Int32) → Prop} {p : Nat} {b0 : Nat → Int32} (O : zO n B K Z T F) (HS : zS n S last) (HY : zY n S K Z T P F bS bK bZ bP bT bF) (cA : zcl n K Z F A)
    (hJ : ∀ (g : Nat) (b : Nat → Int32), yI n K Z F A b0 g b n 0 → J4 (nI g) (nI (p + 1)) bS bK bZ bP bT bF bR bQ b bA bC bD bE) :
    ∀ (k x g : Nat) (b : Nat → Int32), x ≤ n → n < x + k → yI n K Z F A b0 g b x 0 → wY_close_20 post J4 (nI p) yc yr yl ys (nI n) yq k (nI g) (nI x) bS bK bZ bP bT bF bR bQ b bA bC bD bE := by
  have n32 := zO_n O
  intro k
  induction k with
  | zero => intro x g b h1 h2; omega
  | succ k ih =>
    intro x g b h1 h2 H
    by_cases e : n ≤ x
    · have : x = n := by omega
      subst this
      exact br_t (nI_le e (by omega)) (nm_r (nI_1 p) (hJ g b H))
    · refine br_f (nI_ge (by omega) (by omega)) ⟨Z (x + 1) + 1, ?_⟩
      exact yk_31 O HS HY cA (by omega) (fun g' b' H' => ih (x + 1) g' b' (by omega) (by omega) H') (Z (x + 1) + 1) 0 g b (by omega) (by omega) H
theorem yk_4 {post : SY → Prop} {A0 : Nat → Prop} (O : zO n B K Z T F) (HS : zS n S last) (HY : zY n S K Z T P F bS bK bZ bP bT bF)
    (hp : ∀ b : Nat → Int32, y01 n b → (∀ h, 1 ≤ h → h ≤ n → (yb b h = true ↔ zC n K Z F A0 h)) → post (yc, yr, yl, ys, nI n, yq, bS, bK, bZ, bP, bT, bF, bR, bQ, b, bA, bC, bD, bE)) (hA0 : ∀ j, A0 j → 1 ≤ j ∧ j ≤ n) :
    ∀ (k p g : Nat) (b : Nat → Int32), p ≤ n → n < p + k → y01 n b → (∀ j, 1 ≤ j → j ≤ n → yb b j = true → zC n K Z F A0 j) → (∀ j, A0 j → yb b j = true) → ((g = 0 ∧ zcl n K Z F (fun j => yb b j = true)) ∨ (g = 1 ∧ p ≤ zc (yb b) n)) → wY_close_4 post yc yr yl ys (nI n) yq k (nI g) (nI p) bS bK bZ bP bT bF bR bQ b bA bC bD bE := by
  have n32 := zO_n O
  have fin : ∀ b : Nat → Int32, y01 n b → (∀ j, 1 ≤ j → j ≤ n → yb b j = true → zC n K Z F A0 j) → (∀ j, A0 j → yb b j = true) → zcl n K Z F (fun j => yb b j = true) → post (yc, yr, yl, ys, nI n, yq, bS, bK, bZ, bP, bT, bF, bR, bQ, b, bA, bC, bD, bE) := fun b a1 a2 a3 a4 =>
    hp b a1 (fun h h1 hn => ⟨a2 h h1 hn, fun q => zC_min (A := fun j => yb b j = true) a3 a4 q⟩)
  intro k
  induction k with
  | zero => intro p g b h1 h2; omega
  | succ k ih =>
    intro p g b h1 h2 a1 a2 a3 a4
    by_cases e : n ≤ p
    · refine br_t (nI_le e (by omega)) (fin b a1 a2 a3 ?_)
      rcases a4 with ⟨_, q⟩ | ⟨_, q⟩
      · exact q
      · have full := zc_full (p := yb b) (n := n) (by omega)
        intro h f x1 x2 x3 _ _ z
        exact full _ (by omega) (zO_F O x1 x2 x3)
    · refine br_f (nI_ge (by omega) (by omega)) ?_
      rcases a4 with ⟨q, r⟩ | ⟨q, r⟩
      · subst q
        exact br_t nI_0 (fin b a1 a2 a3 r)
      · subst q
        refine br_f (show ¬ nI 1 = 0 from za_10) ⟨n + 1, ?_⟩
        refine yk_20 (b0 := b) O HS HY (zC_cl A0) (fun g' b' H' => ?_) (n + 1) 0 0 b (Nat.zero_le _) (by omega) ⟨a1, a2, fun _ q => q, Or.inl ⟨rfl, rfl, fun h' f' q1 q2 => by omega⟩⟩
        obtain ⟨c1, c2, c3, c4⟩ := H'
        refine ih (p + 1) g' b' (by omega) (by omega) c1 c2 (fun j q => c3 j (a3 j q)) ?_
        rcases c4 with ⟨d1, d2, d3⟩ | ⟨d1, d2⟩
        · exact Or.inl ⟨d1, fun h f x1 x2 x3 x4 x5 x6 => d3 h f x1 (Or.inl x2) x3 x4 x5 x6⟩
        · exact Or.inr ⟨d1, by omega⟩
theorem yk_close {post : SY → Prop} {A0 : Nat → Prop} (O : zO n B K Z T F) (HS : zS n S last) (HY : zY n S K Z T P F bS bK bZ bP bT bF) (h01 : y01 n bM) (hA0 : ∀ j, A0 j → 1 ≤ j ∧ j ≤ n) (hM : ∀ h, 1 ≤ h → h ≤ n → (yb bM h = true ↔ A0 h))
    (hp : ∀ b : Nat → Int32, y01 n b → (∀ h, 1 ≤ h → h ≤ n → (yb b h = true ↔ zC n K Z F A0 h)) → post (yc, yr, yl, ys, nI n, yq, bS, bK, bZ, bP, bT, bF, bR, bQ, b, bA, bC, bD, bE)) : wpY_close post (yc, yr, yl, ys, nI n, yq, bS, bK, bZ, bP, bT, bF, bR, bQ, bM, bA, bC, bD, bE) :=
  ⟨n + 1, yk_4 O HS HY hp hA0 (n + 1) 0 1 bM (Nat.zero_le _) (by omega) h01 (fun j j1 jn q => zC_in ((hM j j1 jn).mp q)) (fun j q => (hM j (hA0 j q).1 (hA0 j q).2).mpr q) (Or.inr ⟨rfl, Nat.zero_le _⟩)⟩
end
end
section
/-! roots, candidates -/
def zR (rc ql : Nat) (R Q : Nat → Nat) (h : Nat) : Prop := (∃ r, r < rc ∧ R r = h) ∨ (∃ i, i < ql ∧ Q i = h)
theorem zR_r {rc ql h : Nat} {R Q : Nat → Nat} : zR (rc + 1) ql R Q h ↔ zR rc ql R Q h ∨ R rc = h := by
  constructor
  · intro q
    rcases q with ⟨r, a, b⟩ | w
    · rcases Nat.lt_or_ge r rc with c | c
      · exact Or.inl (Or.inl ⟨r, c, b⟩)
      · have : r = rc := by omega
        subst this; exact Or.inr b
    · exact Or.inl (Or.inr w)
  · intro q
    rcases q with (⟨r, a, b⟩ | w) | w
    · exact Or.inl ⟨r, by omega, b⟩
    · exact Or.inr w
    · exact Or.inl ⟨rc, by omega, w⟩
theorem zR_q {rc ql h : Nat} {R Q : Nat → Nat} : zR rc (ql + 1) R Q h ↔ zR rc ql R Q h ∨ Q ql = h := by
  constructor
  · intro q
    rcases q with w | ⟨r, a, b⟩
    · exact Or.inl (Or.inl w)
    · rcases Nat.lt_or_ge r ql with c | c
      · exact Or.inl (Or.inr ⟨r, c, b⟩)
      · have : r = ql := by omega
        subst this; exact Or.inr b
  · intro q
    rcases q with (w | ⟨r, a, b⟩) | w
    · exact Or.inl w
    · exact Or.inr ⟨r, by omega, b⟩
    · exact Or.inr ⟨ql, by omega, w⟩
theorem zR_0 {h : Nat} {R Q : Nat → Nat} : ¬ zR 0 0 R Q h := by
  intro q
  rcases q with ⟨r, a, _⟩ | ⟨r, a, _⟩ <;> omega
def zRt (n rc ql : Nat) (R Q : Nat → Nat) (h : Nat) : Prop := 1 ≤ h ∧ h ≤ n ∧ zR rc ql R Q h
/-- reached, candidates, retained, cones -/
def zre (n : Nat) (K Z : Nat → Nat) (F : Nat → Nat → Nat) (rc ql : Nat) (R Q : Nat → Nat) : Nat → Prop := zC n K Z F (zRt n rc ql R Q)
def zca (n : Nat) (T : Nat → Nat) (A : Nat → Prop) (h : Nat) : Prop := 1 ≤ h ∧ h ≤ n ∧ T h = 1 ∧ ¬ A h
def zrt (n : Nat) (K Z T : Nat → Nat) (F : Nat → Nat → Nat) (rc ql : Nat) (R Q : Nat → Nat) : Nat → Prop :=
  zC n K Z F (fun h => zRt n rc ql R Q h ∨ zca n T (zre n K Z F rc ql R Q) h)
def zco (n : Nat) (K Z : Nat → Nat) (F : Nat → Nat → Nat) (rc ql : Nat) (R Q : Nat → Nat) (c : Nat) : Nat → Prop :=
  zC n K Z F (fun h => zRt n rc ql R Q h ∨ h = c)
section
variable {cap rgc fln cnt usd lst qhd qln arm : Int32} {mrk : Int64} {dep : Int32} {aH aS aB aR aQ aK aW aN aF aC : Nat → Int32} {aE : Nat → Int64} {aL : Nat → Int32} {n rc ql hd : Nat} {B K Z T R Q : Nat → Nat} {P : Nat → Int32} {F : Nat → Nat → Nat}
theorem xk_r40 {post : Int64 → Prop} (n32 : n ≤ 32) (hd8 : hd < 8) (q8 : ql ≤ 8) (hQ : ∀ i, i < ql → 1 ≤ Q i ∧ Q i ≤ n) (eQ : ∀ i, i < ql → aQ ((hd + i) % 8) = nI (Q i)) (hp : ∀ s : Int64, (∀ h, bs s h = true ↔ 1 ≤ h ∧ zR rc ql R Q h) → post s) :
    ∀ (k i : Nat) (s : Int64), i ≤ ql → ql < i + k → (∀ h, bs s h = true ↔ 1 ≤ h ∧ zR rc i R Q h) → wX_rootSet_40 post cap rgc fln cnt usd lst (nI hd) (nI ql) arm mrk dep aH aS aB aR aQ aK aW aN aF aC aE aL k s (nI i) := by
  intro k
  induction k with
  | zero => intro i s a b; omega
  | succ k ih =>
    intro i s a b H
    by_cases e : ql ≤ i
    · have : i = ql := by omega
      subst this
      exact br_t (nI_le e (by omega)) (hp s H)
    · have er : (nI hd + nI i) - (nI hd + nI i) / 8 * 8 = nI ((hd + i) % 8) := by rw [nI_add, za_r8 (by omega)]
      have m8 : (hd + i) % 8 < 8 := Nat.mod_lt _ (by omega)
      obtain ⟨q1, q2⟩ := hQ i (by omega)
      refine br_f (nI_ge (by omega) (by omega)) ⟨za_80, by rw [er]; exact vp_in_nI m8 (by omega), nm_r (e' := nI (Q i)) (by rw [er, nI_clamp (by omega)]; exact eQ i (by omega)) (nm_r (e' := s ||| zb (Q i)) rfl (nm_r (nI_1 i) (ih (i + 1) _ (by omega) (by omega) (fun h => ?_))))⟩
      rw [bs_or, bs_zb (by omega), zR_q, Bool.or_eq_true, H h, decide_eq_true_iff]
      constructor
      · intro w
        rcases w with w | w
        · exact ⟨w.1, Or.inl w.2⟩
        · exact ⟨by omega, Or.inr w.symm⟩
      · intro ⟨w1, w2⟩
        rcases w2 with w | w
        · exact Or.inl ⟨w1, w⟩
        · exact Or.inr w.symm
theorem xk_r4 {post : Int64 → Prop} (n32 : n ≤ 32) (r8 : rc ≤ 8) (hd8 : hd < 8) (q8 : ql ≤ 8) (hR : ∀ i, i < rc → R i ≤ n) (eR : ∀ i, i < rc → aR i = nI (R i)) (hQ : ∀ i, i < ql → 1 ≤ Q i ∧ Q i ≤ n) (eQ : ∀ i, i < ql → aQ ((hd + i) % 8) = nI (Q i)) (hp : ∀ s : Int64, (∀ h, bs s h = true ↔ 1 ≤ h ∧ zR rc ql R Q h) → post s) :
    ∀ (k r : Nat) (s : Int64), r ≤ rc → rc < r + k → (∀ h, bs s h = true ↔ 1 ≤ h ∧ zR r 0 R Q h) → wX_rootSet_4 post cap (nI rc) fln cnt usd lst (nI hd) (nI ql) arm mrk dep aH aS aB aR aQ aK aW aN aF aC aE aL k s (nI r) := by
  intro k
  induction k with
  | zero => intro i s a b; omega
  | succ k ih =>
    intro i s a b H
    by_cases e : rc ≤ i
    · have : i = rc := by omega
      subst this
      exact br_t (nI_le e (by omega)) ⟨ql + 1, xk_r40 n32 hd8 q8 hQ eQ hp (ql + 1) 0 s (by omega) (by omega) H⟩
    · have ci : (nI i).toNatClampNeg = i := nI_clamp (by omega)
      have vi : vp_in (nI i) 8 := vp_in_nI (by omega) (by omega)
      have q1 := hR i (by omega)
      refine br_f (nI_ge (by omega) (by omega)) ⟨vi, ?_⟩
      rw [ci, eR i (by omega)]
      by_cases z : R i = 0
      · refine br_t (by rw [z]; exact nI_0) (nm_r (nI_1 i) (ih (i + 1) s (by omega) (by omega) (fun h => ?_)))
        rw [H h, zR_r]
        exact ⟨fun w => ⟨w.1, Or.inl w.2⟩, fun w => ⟨w.1, w.2.resolve_right (by omega)⟩⟩
      · refine br_f (nI_ne0 (by omega) (by omega)) ⟨vi, nm_r (e' := s ||| zb (R i)) rfl (nm_r (nI_1 i) (ih (i + 1) _ (by omega) (by omega) (fun h => ?_)))⟩
        rw [bs_or, bs_zb (by omega), zR_r, Bool.or_eq_true, H h, decide_eq_true_iff]
        constructor
        · intro w
          rcases w with w | w
          · exact ⟨w.1, Or.inl w.2⟩
          · exact ⟨by omega, Or.inr w.symm⟩
        · intro ⟨w1, w2⟩
          rcases w2 with w | w
          · exact Or.inl ⟨w1, w⟩
          · exact Or.inr w.symm
theorem xk_roots {post : Int64 → Prop} (n32 : n ≤ 32) (r8 : rc ≤ 8) (hd8 : hd < 8) (q8 : ql ≤ 8) (hR : ∀ i, i < rc → R i ≤ n) (eR : ∀ i, i < rc → aR i = nI (R i)) (hQ : ∀ i, i < ql → 1 ≤ Q i ∧ Q i ≤ n) (eQ : ∀ i, i < ql → aQ ((hd + i) % 8) = nI (Q i)) (hp : ∀ s : Int64, (∀ h, bs s h = true ↔ 1 ≤ h ∧ zR rc ql R Q h) → post s) : wpX_rootSet post (cap, nI rc, fln, cnt, usd, lst, nI hd, nI ql, arm, mrk, dep, aH, aS, aB, aR, aQ, aK, aW, aN, aF, aC, aE, aL) :=
  ⟨rc + 1, xk_r4 n32 r8 hd8 q8 hR eR hQ eQ hp (rc + 1) 0 0 (by omega) (by omega) (fun h => by
    rw [bs_0]
    exact ⟨fun q => (by cases q), fun q => absurd q.2 zR_0⟩)⟩
theorem xk_candL {post : Int64 → Prop} {m : Int64} (O : zO n B K Z T F) (HX : zX n B K Z T P F aH aB) (hp : ∀ s : Int64, (∀ h, bs s h = true ↔ 1 ≤ h ∧ h ≤ n ∧ T h = 1 ∧ bs m h = false) → post s) :
    ∀ (k x : Nat) (s : Int64), 1 ≤ x → x ≤ n + 1 → n + 1 < x + k → (∀ h, bs s h = true ↔ 1 ≤ h ∧ h < x ∧ T h = 1 ∧ bs m h = false) → wX_candidateSet_5 post m cap rgc fln (nI n) usd lst qhd qln arm mrk dep aH aS aB aR aQ aK aW aN aF aC aE aL k s (nI x) := by
  have n32 := zO_n O
  intro k
  induction k with
  | zero => intro i s _ a b; omega
  | succ k ih =>
    intro x s x1 a b H
    by_cases e : n < x
    · refine br_t (nI_lt e (by omega)) (hp s (fun h => ?_))
      rw [H h]
      exact ⟨fun w => ⟨w.1, by omega, w.2.2⟩, fun w => ⟨w.1, by omega, w.2.2⟩⟩
    · have t4 := zO_T O x1 (by omega)
      refine br_f (nI_nlt (by omega) (by omega)) ?_
      refine xk_state O HX x1 (by omega) ?_
      by_cases t1 : T x = 1
      · refine br_t (by rw [t1]; rfl) (xk_con (by omega) (fun w => ?_) (fun w => ?_))
        · refine br_t rfl (nm_r (e' := s ||| zb x) rfl (nm_r (nI_1 x) (ih (x + 1) _ (by omega) (by omega) (by omega) (fun h => ?_))))
          rw [bs_or, bs_zb (by omega), Bool.or_eq_true, H h, decide_eq_true_iff]
          constructor
          · intro u
            rcases u with u | u
            · exact ⟨u.1, by omega, u.2.2⟩
            · subst u; exact ⟨x1, by omega, t1, w⟩
          · intro u
            by_cases q : h = x
            · exact Or.inr q
            · exact Or.inl ⟨u.1, by omega, u.2.2⟩
        · refine br_f za_10 (nm_r (nI_1 x) (ih (x + 1) _ (by omega) (by omega) (by omega) (fun h => ?_)))
          rw [H h]
          constructor
          · intro u; exact ⟨u.1, by omega, u.2.2⟩
          · intro u
            refine ⟨u.1, ?_, u.2.2⟩
            by_cases q : h = x
            · subst q
              have := u.2.2.2
              rw [w] at this; cases this
            · omega
      · refine br_f (fun q => t1 ((nI_eq (b := 1) (by omega) (by decide)).mp q)) (nm_r (nI_1 x) (ih (x + 1) _ (by omega) (by omega) (by omega) (fun h => ?_)))
        rw [H h]
        constructor
        · intro u; exact ⟨u.1, by omega, u.2.2⟩
        · intro u
          refine ⟨u.1, ?_, u.2.2⟩
          by_cases q : h = x
          · subst q; exact absurd u.2.2.1 t1
          · omega
theorem xk_cand {post : Int64 → Prop} {m : Int64} (O : zO n B K Z T F) (HX : zX n B K Z T P F aH aB) (hp : ∀ s : Int64, (∀ h, bs s h = true ↔ 1 ≤ h ∧ h ≤ n ∧ T h = 1 ∧ bs m h = false) → post s) : wpX_candidateSet post (cap, rgc, fln, nI n, usd, lst, qhd, qln, arm, mrk, dep, aH, aS, aB, aR, aQ, aK, aW, aN, aF, aC, aE, aL) m :=
  ⟨n + 2, xk_candL O HX hp (n + 2) 1 0 (by omega) (by omega) (by omega) (fun h => by
    rw [bs_0]
    exact ⟨fun q => (by cases q), fun q => by omega⟩)⟩
end
section
variable {yc yr yl ys yn yq : Int32} {bS bK bZ bP bT bF bR bQ bM bA bC bD bE : Nat → Int32} {n last rc ql : Nat} {S B K Z T R Q : Nat → Nat} {P : Nat → Int32} {F : Nat → Nat → Nat}
/-- a root marked -/
theorem yk_rt {b : Nat → Int32} {p q : Nat → Prop} {h : Nat} (a : ∀ j, 1 ≤ j → j ≤ n → (yb b j = true ↔ p j)) (e : ∀ j, q j ↔ p j ∨ h = j) : (h = 0 → ∀ j, 1 ≤ j → j ≤ n → (yb b j = true ↔ q j)) ∧ (∀ x, h = x + 1 → ∀ j, 1 ≤ j → j ≤ n → (yb (upd b x 1) j = true ↔ q j)) := by
  constructor
  · intro z j j1 jn
    rw [a j j1 jn, e j]
    exact ⟨Or.inl, fun w => w.resolve_right (by omega)⟩
  · intro x z j j1 jn
    rw [e j]
    by_cases w : j = x + 1
    · subst w
      exact ⟨fun _ => Or.inr z, fun _ => yb_1⟩
    · rw [yb_u w, a j j1 jn]
      exact ⟨Or.inl, fun w => w.resolve_right (by omega)⟩
theorem yk_61 {post : SY → Prop} (n32 : n ≤ 32) (HS : zS n S last) (eS : ∀ x, x < n → bS x = nI (S (x + 1))) (q8 : ql ≤ 8) (hQ : ∀ i, i < ql → 1 ≤ Q i ∧ Q i ≤ n) (eQ : ∀ i, i < ql → bQ i = nI (S (Q i)))
    (hp : ∀ b : Nat → Int32, y01 n b → (∀ h, 1 ≤ h → h ≤ n → (yb b h = true ↔ zR rc ql R Q h)) → post (yc, yr, yl, ys, nI n, nI ql, bS, bK, bZ, bP, bT, bF, bR, bQ, b, bA, bC, bD, bE)) :
    ∀ (k i : Nat) (b : Nat → Int32), i ≤ ql → ql < i + k → y01 n b → (∀ h, 1 ≤ h → h ≤ n → (yb b h = true ↔ zR rc i R Q h)) → wY_markRoots_61 post yc yr yl ys (nI n) (nI ql) k (nI i) bS bK bZ bP bT bF bR bQ b bA bC bD bE := by
  intro k
  induction k with
  | zero => intro i s a b; omega
  | succ k ih =>
    intro i b h1 h2 h3 H
    by_cases e : ql ≤ i
    · have : i = ql := by omega
      subst this
      exact br_t (nI_le e (by omega)) (hp b h3 H)
    · have ci : (nI i).toNatClampNeg = i := nI_clamp (by omega)
      refine br_f (nI_ge (by omega) (by omega)) ⟨vp_in_nI (by omega) (by omega), ?_⟩
      rw [ci, eQ i (by omega)]
      obtain ⟨w1, w2⟩ := yk_rt (h := Q i) (q := zR rc (i + 1) R Q) H (fun j => zR_q)
      refine yk_pl n32 HS eS (hQ i (by omega)).2 (fun z => ?_) (fun x z => ?_)
      · exact br_t za_n1 (nm_r (nI_1 i) (ih (i + 1) b (by omega) (by omega) h3 (w1 z)))
      · have := (hQ i (by omega)).2
        have cx : (nI x).toNatClampNeg = x := nI_clamp (by omega)
        exact br_f (nI_pos (by omega)) ⟨vp_in_nI (by omega) (by omega), nm_r (e' := upd b x 1) (by rw [cx, za_b1]) (nm_r (nI_1 i) (ih (i + 1) _ (by omega) (by omega) (y01_u h3 (Or.inr rfl)) (w2 x z)))⟩
theorem yk_23 {post : SY → Prop} (n32 : n ≤ 32) (HS : zS n S last) (eS : ∀ x, x < n → bS x = nI (S (x + 1))) (r8 : rc ≤ 8) (hR : ∀ i, i < rc → R i ≤ n) (eR : ∀ i, i < rc → bR i = nI (S (R i))) (q8 : ql ≤ 8) (hQ : ∀ i, i < ql → 1 ≤ Q i ∧ Q i ≤ n) (eQ : ∀ i, i < ql → bQ i = nI (S (Q i)))
    (hp : ∀ b : Nat → Int32, y01 n b → (∀ h, 1 ≤ h → h ≤ n → (yb b h = true ↔ zR rc ql R Q h)) → post (yc, nI rc, yl, ys, nI n, nI ql, bS, bK, bZ, bP, bT, bF, bR, bQ, b, bA, bC, bD, bE)) :
    ∀ (k i : Nat) (b : Nat → Int32), i ≤ rc → rc < i + k → y01 n b → (∀ h, 1 ≤ h → h ≤ n → (yb b h = true ↔ zR i 0 R Q h)) → wY_markRoots_23 post yc (nI rc) yl ys (nI n) (nI ql) k (nI i) bS bK bZ bP bT bF bR bQ b bA bC bD bE := by
  intro k
  induction k with
  | zero => intro i s a b; omega
  | succ k ih =>
    intro i b h1 h2 h3 H
    by_cases e : rc ≤ i
    · have : i = rc := by omega
      subst this
      exact br_t (nI_le e (by omega)) ⟨ql + 1, yk_61 n32 HS eS q8 hQ eQ hp (ql + 1) 0 b (by omega) (by omega) h3 H⟩
    · have ci : (nI i).toNatClampNeg = i := nI_clamp (by omega)
      refine br_f (nI_ge (by omega) (by omega)) ⟨vp_in_nI (by omega) (by omega), ?_⟩
      rw [ci, eR i (by omega)]
      obtain ⟨w1, w2⟩ := yk_rt (h := R i) (q := zR (i + 1) 0 R Q) H (fun j => zR_r)
      refine yk_pl n32 HS eS (hR i (by omega)) (fun z => ?_) (fun x z => ?_)
      · exact br_t za_n1 (nm_r (nI_1 i) (ih (i + 1) b (by omega) (by omega) h3 (w1 z)))
      · have := hR i (by omega)
        have cx : (nI x).toNatClampNeg = x := nI_clamp (by omega)
        exact br_f (nI_pos (by omega)) ⟨vp_in_nI (by omega) (by omega), nm_r (e' := upd b x 1) (by rw [cx, za_b1]) (nm_r (nI_1 i) (ih (i + 1) _ (by omega) (by omega) (y01_u h3 (Or.inr rfl)) (w2 x z)))⟩
theorem yk_2 {post : SY → Prop} (n32 : n ≤ 32) (HS : zS n S last) (eS : ∀ x, x < n → bS x = nI (S (x + 1))) (r8 : rc ≤ 8) (hR : ∀ i, i < rc → R i ≤ n) (eR : ∀ i, i < rc → bR i = nI (S (R i))) (q8 : ql ≤ 8) (hQ : ∀ i, i < ql → 1 ≤ Q i ∧ Q i ≤ n) (eQ : ∀ i, i < ql → bQ i = nI (S (Q i)))
    (hp : ∀ b : Nat → Int32, y01 n b → (∀ h, 1 ≤ h → h ≤ n → (yb b h = true ↔ zR rc ql R Q h)) → post (yc, nI rc, yl, ys, nI n, nI ql, bS, bK, bZ, bP, bT, bF, bR, bQ, b, bA, bC, bD, bE)) :
    ∀ (k i : Nat) (b : Nat → Int32), i ≤ 32 → 32 < i + k → (∀ x, x < i → b x = 0) → wY_markRoots_2 post yc (nI rc) yl ys (nI n) (nI ql) k (nI i) bS bK bZ bP bT bF bR bQ b bA bC bD bE := by
  intro k
  induction k with
  | zero => intro i s a b; omega
  | succ k ih =>
    intro i b h1 h2 h3
    by_cases e : 32 ≤ i
    · refine br_t ((za_32le (by omega)).mpr e) ⟨rc + 1, yk_23 n32 HS eS r8 hR eR q8 hQ eQ hp (rc + 1) 0 b (by omega) (by omega) (fun x hx => Or.inl (h3 x (by omega))) (fun h a1 a2 => ?_)⟩
      obtain ⟨x, rfl⟩ : ∃ x, h = x + 1 := ⟨h - 1, by omega⟩
      rw [yb_f.mpr (h3 x (by omega))]
      exact ⟨fun q => (by cases q), fun q => absurd q zR_0⟩
    · have ci : (nI i).toNatClampNeg = i := nI_clamp (by omega)
      refine br_f (fun q => e ((za_32le (by omega)).mp q)) ⟨vp_in_nI (by omega) (by omega), nm_r (e' := upd b i 0) (by rw [ci, za_b0]) (nm_r (nI_1 i) (ih (i + 1) _ (by omega) (by omega) (fun x hx => ?_)))⟩
      by_cases q : x = i
      · rw [q, pk_us]
      · rw [pk_un q]; exact h3 x (by omega)
theorem yk_roots {post : SY → Prop} (n32 : n ≤ 32) (HS : zS n S last) (eS : ∀ x, x < n → bS x = nI (S (x + 1))) (r8 : rc ≤ 8) (hR : ∀ i, i < rc → R i ≤ n) (eR : ∀ i, i < rc → bR i = nI (S (R i))) (q8 : ql ≤ 8) (hQ : ∀ i, i < ql → 1 ≤ Q i ∧ Q i ≤ n) (eQ : ∀ i, i < ql → bQ i = nI (S (Q i)))
    (hp : ∀ b : Nat → Int32, y01 n b → (∀ h, 1 ≤ h → h ≤ n → (yb b h = true ↔ zR rc ql R Q h)) → post (yc, nI rc, yl, ys, nI n, nI ql, bS, bK, bZ, bP, bT, bF, bR, bQ, b, bA, bC, bD, bE)) : wpY_markRoots post (yc, nI rc, yl, ys, nI n, nI ql, bS, bK, bZ, bP, bT, bF, bR, bQ, bM, bA, bC, bD, bE) :=
  ⟨33, yk_2 n32 HS eS r8 hR eR q8 hQ eQ hp 33 0 bM (by omega) (by omega) (fun x q => by omega)⟩
end
end
section
section
variable {yc yr yl ys yn yq : Int32} {bS bK bZ bP bT bF bR bQ bM bA bC bD bE : Nat → Int32} {n last rc ql : Nat} {S B K Z T R Q : Nat → Nat} {P : Nat → Int32} {F : Nat → Nat → Nat}
theorem zRt_in {h : Nat} : zRt n rc ql R Q h → 1 ≤ h ∧ h ≤ n := fun q => ⟨q.1, q.2.1⟩
theorem yk_cone {post : SY → Prop} (O : zO n B K Z T F) (HS : zS n S last) (HY : zY n S K Z T P F bS bK bZ bP bT bF) (r8 : rc ≤ 8) (hR : ∀ i, i < rc → R i ≤ n) (eR : ∀ i, i < rc → bR i = nI (S (R i))) (q8 : ql ≤ 8) (hQ : ∀ i, i < ql → 1 ≤ Q i ∧ Q i ≤ n) (eQ : ∀ i, i < ql → bQ i = nI (S (Q i))) {c : Nat} (cn : c < n)
    (hp : ∀ b : Nat → Int32, y01 n b → (∀ h, 1 ≤ h → h ≤ n → (yb b h = true ↔ zco n K Z F rc ql R Q (c + 1) h)) → post (yc, nI rc, yl, ys, nI n, nI ql, bS, bK, bZ, bP, bT, bF, bR, bQ, b, bA, bC, bD, bE)) : wpY_markCone post (yc, nI rc, yl, ys, nI n, nI ql, bS, bK, bZ, bP, bT, bF, bR, bQ, bM, bA, bC, bD, bE) (nI c) := by
  have n32 := zO_n O
  unfold wpY_markCone
  refine yk_roots n32 HS (fun x hx => (HY x hx).1) r8 hR eR q8 hQ eQ ?_
  intro b b01 hb
  have cc : (nI c).toNatClampNeg = c := nI_clamp (by omega)
  refine ⟨vp_in_nI (by omega) (by omega), nm_r (e' := upd b c 1) (by rw [cc, za_b1]) ?_⟩
  refine yk_close (A0 := fun h => zRt n rc ql R Q h ∨ h = c + 1) O HS HY (y01_u b01 (Or.inr rfl)) (fun j q => ?_) (fun h h1 hn => ?_) ?_
  · rcases q with q | q
    · exact zRt_in q
    · omega
  · by_cases e : h = c + 1
    · subst e
      exact ⟨fun _ => Or.inr rfl, fun _ => yb_1⟩
    · rw [yb_u e, hb h h1 hn]
      exact ⟨fun q => Or.inl ⟨h1, hn, q⟩, fun q => (q.resolve_right e).2.2⟩
  · intro b' b01' hb'
    exact hp b' b01' hb'
theorem yk_108 {post : SY → Prop} (n32 : n ≤ 32) (m01 : y01 n bM) (hp : ∀ d : Nat → Int32, y01 n d → (∀ h, 1 ≤ h → h ≤ n → yb d h = yb bM h) → post (yc, yr, yl, ys, nI n, yq, bS, bK, bZ, bP, bT, bF, bR, bQ, bM, bA, bC, d, bE)) :
    ∀ (k x : Nat) (d : Nat → Int32), x ≤ n → n < x + k → (∀ y, y < x → d y = bM y) → wY_findSets_108 post yc yr yl ys (nI n) yq k (nI x) bS bK bZ bP bT bF bR bQ bM bA bC d bE := by
  intro k
  induction k with
  | zero => intro i s a b; omega
  | succ k ih =>
    intro x d h1 h2 H
    by_cases e : n ≤ x
    · refine br_t (nI_le e (by omega)) (hp d (fun y hy => by rw [H y (by omega)]; exact m01 y hy) (fun h a1 a2 => ?_))
      unfold yb
      rw [H (h - 1) (by omega)]
    · have cx : (nI x).toNatClampNeg = x := nI_clamp (by omega)
      have vx : vp_in (nI x) 32 := vp_in_nI (by omega) (by omega)
      refine br_f (nI_ge (by omega) (by omega)) ⟨vx, vx, nm_r (e' := upd d x (bM x)) (by rw [cx, y01_n m01 (by omega)]) (nm_r (nI_1 x) (ih (x + 1) _ (by omega) (by omega) (fun y hy => ?_)))⟩
      by_cases q : y = x
      · rw [q, pk_us]
      · rw [pk_un q]; exact H y (by omega)
theorem yk_72 {post : SY → Prop} (O : zO n B K Z T F) (HS : zS n S last) (HY : zY n S K Z T P F bS bK bZ bP bT bF) {A : Nat → Prop} (eA : A = zre n K Z F rc ql R Q) (hC : ∀ h, 1 ≤ h → h ≤ n → (yb bC h = true ↔ zca n T A h))
    (hp : ∀ b d : Nat → Int32, y01 n d → (∀ h, 1 ≤ h → h ≤ n → (yb d h = true ↔ zrt n K Z T F rc ql R Q h)) → post (yc, yr, yl, ys, nI n, yq, bS, bK, bZ, bP, bT, bF, bR, bQ, b, bA, bC, d, bE)) :
    ∀ (k x : Nat) (b : Nat → Int32), x ≤ n → n < x + k → y01 n b → (∀ h, 1 ≤ h → h ≤ n → (yb b h = true ↔ zR rc ql R Q h ∨ (h ≤ x ∧ zca n T A h))) → wY_findSets_72 post yc yr yl ys (nI n) yq k (nI x) bS bK bZ bP bT bF bR bQ b bA bC bD bE := by
  have n32 := zO_n O
  intro k
  induction k with
  | zero => intro i s a b; omega
  | succ k ih =>
    intro x b h1 h2 b01 H
    by_cases e : n ≤ x
    · refine br_t (nI_le e (by omega)) ?_
      refine yk_close (A0 := fun h => zRt n rc ql R Q h ∨ zca n T A h) O HS HY b01 (fun j q => ?_) (fun h a1 a2 => ?_) ?_
      · rcases q with q | q
        · exact zRt_in q
        · exact ⟨q.1, q.2.1⟩
      · rw [H h a1 a2]
        constructor
        · intro q
          rcases q with q | q
          · exact Or.inl ⟨a1, a2, q⟩
          · exact Or.inr q.2
        · intro q
          rcases q with q | q
          · exact Or.inl q.2.2
          · exact Or.inr ⟨by omega, q⟩
      · intro b' b01' hb'
        refine ⟨n + 1, yk_108 n32 b01' ?_ (n + 1) 0 bD (by omega) (by omega) (fun y q => by omega)⟩
        intro d d01 hd
        refine hp b' d d01 (fun h a1 a2 => ?_)
        rw [hd h a1 a2, hb' h a1 a2, eA]
        exact Iff.rfl
    · have cx : (nI x).toNatClampNeg = x := nI_clamp (by omega)
      have vx : vp_in (nI x) 32 := vp_in_nI (by omega) (by omega)
      refine br_f (nI_ge (by omega) (by omega)) ⟨vx, ?_⟩
      rw [cx]
      by_cases q : bC x = 0
      · refine br_t q (nm_r (nI_1 x) (ih (x + 1) b (by omega) (by omega) b01 (fun h a1 a2 => ?_)))
        rw [H h a1 a2]
        have nc : ¬ zca n T A (x + 1) := fun w => by
          have := (hC (x + 1) (by omega) (by omega)).mpr w
          exact yb_t.mp this q
        constructor
        · intro w
          rcases w with w | w
          · exact Or.inl w
          · exact Or.inr ⟨by omega, w.2⟩
        · intro w
          rcases w with w | w
          · exact Or.inl w
          · refine Or.inr ⟨?_, w.2⟩
            by_cases u : h = x + 1
            · rw [u] at w; exact absurd w.2 nc
            · omega
      · have pc : zca n T A (x + 1) := (hC (x + 1) (by omega) (by omega)).mp (yb_t.mpr q)
        refine br_f q ⟨vx, nm_r (e' := upd b x 1) (by rw [za_b1]) (nm_r (nI_1 x) (ih (x + 1) _ (by omega) (by omega) (y01_u b01 (Or.inr rfl)) (fun h a1 a2 => ?_)))⟩
        by_cases u : h = x + 1
        · subst u
          exact ⟨fun _ => Or.inr ⟨by omega, pc⟩, fun _ => yb_1⟩
        · rw [yb_u u, H h a1 a2]
          constructor
          · intro w
            rcases w with w | w
            · exact Or.inl w
            · exact Or.inr ⟨by omega, w.2⟩
          · intro w
            rcases w with w | w
            · exact Or.inl w
            · exact Or.inr ⟨by omega, w.2⟩
theorem yk_10 {post : SY → Prop} (O : zO n B K Z T F) (HS : zS n S last) (HY : zY n S K Z T P F bS bK bZ bP bT bF) (r8 : rc ≤ 8) (hR : ∀ i, i < rc → R i ≤ n) (eR : ∀ i, i < rc → bR i = nI (S (R i))) (q8 : ql ≤ 8) (hQ : ∀ i, i < ql → 1 ≤ Q i ∧ Q i ≤ n) (eQ : ∀ i, i < ql → bQ i = nI (S (Q i))) {A : Nat → Prop} (eA : A = zre n K Z F rc ql R Q) (m01 : y01 n bM) (hM : ∀ h, 1 ≤ h → h ≤ n → (yb bM h = true ↔ A h))
    (hp : ∀ b a c d : Nat → Int32, y01 n a → (∀ h, 1 ≤ h → h ≤ n → (yb a h = true ↔ A h)) → y01 n c → (∀ h, 1 ≤ h → h ≤ n → (yb c h = true ↔ zca n T A h)) → y01 n d → (∀ h, 1 ≤ h → h ≤ n → (yb d h = true ↔ zrt n K Z T F rc ql R Q h)) → post (yc, nI rc, yl, ys, nI n, nI ql, bS, bK, bZ, bP, bT, bF, bR, bQ, b, a, c, d, bE)) :
    ∀ (k x : Nat) (a c : Nat → Int32), x ≤ n → n < x + k → (∀ y, y < x → (a y = bM y) ∧ (c y = 0 ∨ c y = 1) ∧ (¬ c y = 0 ↔ zca n T A (y + 1))) → wY_findSets_10 post yc (nI rc) yl ys (nI n) (nI ql) k (nI x) bS bK bZ bP bT bF bR bQ bM a c bD bE := by
  have n32 := zO_n O
  intro k
  induction k with
  | zero => intro i s _ a b; omega
  | succ k ih =>
    intro x a c h1 h2 H
    by_cases e : n ≤ x
    · refine br_t (nI_le e (by omega)) ?_
      have a01 : y01 n a := fun y hy => by rw [(H y (by omega)).1]; exact m01 y hy
      have c01 : y01 n c := fun y hy => (H y (by omega)).2.1
      have ha : ∀ h, 1 ≤ h → h ≤ n → (yb a h = true ↔ A h) := fun h q1 q2 => by
        obtain ⟨y, rfl⟩ : ∃ y, h = y + 1 := ⟨h - 1, by omega⟩
        rw [← hM _ q1 q2, yb_t, yb_t, (H y (by omega)).1]
      have hc : ∀ h, 1 ≤ h → h ≤ n → (yb c h = true ↔ zca n T A h) := fun h q1 q2 => by
        obtain ⟨y, rfl⟩ : ∃ y, h = y + 1 := ⟨h - 1, by omega⟩
        rw [yb_t]; exact (H y (by omega)).2.2
      refine yk_roots n32 HS (fun x hx => (HY x hx).1) r8 hR eR q8 hQ eQ ?_
      intro b b01 hb
      refine ⟨n + 1, yk_72 O HS HY eA hc (fun b' d d01 hd => hp b' a c d a01 ha c01 hc d01 hd) (n + 1) 0 b (by omega) (by omega) b01 (fun h q1 q2 => ?_)⟩
      rw [hb h q1 q2]
      exact ⟨Or.inl, fun w => w.resolve_right (fun w => by omega)⟩
    · have cx : (nI x).toNatClampNeg = x := nI_clamp (by omega)
      have vx : vp_in (nI x) 32 := vp_in_nI (by omega) (by omega)
      have t4 := zO_T O (h := x + 1) (by omega) (by omega)
      have am : ∀ v : Int32, (v = 0 ∨ v = 1) → (¬ v = 0 ↔ zca n T A (x + 1)) → ∀ y, y < x + 1 → (upd a x (bM x) y = bM y) ∧ (upd c x v y = 0 ∨ upd c x v y = 1) ∧ (¬ upd c x v y = 0 ↔ zca n T A (y + 1)) := fun v v01 hv y hy => by
        by_cases q : y = x
        · subst q
          rw [pk_us, pk_us]; exact ⟨rfl, v01, hv⟩
        · rw [pk_un q, pk_un q]; exact H y (by omega)
      refine br_f (nI_ge (by omega) (by omega)) ⟨vx, vx, nm_r (e' := upd a x (bM x)) (by rw [cx, y01_n m01 (by omega)]) ⟨vx, ?_⟩⟩
      rw [cx, (HY x (by omega)).2.2.2.2.1]
      by_cases t1 : T (x + 1) = 1
      · refine br_t (by rw [t1]; rfl) ⟨vx, ?_⟩
        by_cases m : bM x = 0
        · refine br_t m ⟨vx, nm_r (e' := upd c x 1) (by rw [za_b1]) (nm_r (nI_1 x) (ih (x + 1) _ _ (by omega) (by omega) (am 1 (Or.inr rfl) ⟨fun _ => ?_, fun _ => by decide⟩)))⟩
          refine ⟨by omega, by omega, t1, fun w => ?_⟩
          exact yb_t.mp ((hM (x + 1) (by omega) (by omega)).mpr w) m
        · refine br_f m ⟨vx, nm_r (e' := upd c x 0) (by rw [za_b0]) (nm_r (nI_1 x) (ih (x + 1) _ _ (by omega) (by omega) (am 0 (Or.inl rfl) ⟨fun w => absurd rfl w, fun w => ?_⟩)))⟩
          exact absurd ((hM (x + 1) (by omega) (by omega)).mp (yb_t.mpr m)) w.2.2.2
      · refine br_f (fun q => t1 ((nI_eq (b := 1) (by omega) (by decide)).mp q)) ⟨vx, nm_r (e' := upd c x 0) (by rw [za_b0]) (nm_r (nI_1 x) (ih (x + 1) _ _ (by omega) (by omega) (am 0 (Or.inl rfl) ⟨fun w => absurd rfl w, fun w => absurd w.2.2.1 t1⟩)))⟩
theorem yk_sets {post : SY → Prop} (O : zO n B K Z T F) (HS : zS n S last) (HY : zY n S K Z T P F bS bK bZ bP bT bF) (r8 : rc ≤ 8) (hR : ∀ i, i < rc → R i ≤ n) (eR : ∀ i, i < rc → bR i = nI (S (R i))) (q8 : ql ≤ 8) (hQ : ∀ i, i < ql → 1 ≤ Q i ∧ Q i ≤ n) (eQ : ∀ i, i < ql → bQ i = nI (S (Q i)))
    (hp : ∀ b a c d : Nat → Int32, y01 n a → (∀ h, 1 ≤ h → h ≤ n → (yb a h = true ↔ zre n K Z F rc ql R Q h)) → y01 n c → (∀ h, 1 ≤ h → h ≤ n → (yb c h = true ↔ zca n T (zre n K Z F rc ql R Q) h)) → y01 n d → (∀ h, 1 ≤ h → h ≤ n → (yb d h = true ↔ zrt n K Z T F rc ql R Q h)) → post (yc, nI rc, yl, ys, nI n, nI ql, bS, bK, bZ, bP, bT, bF, bR, bQ, b, a, c, d, bE)) :
    wpY_findSets post (yc, nI rc, yl, ys, nI n, nI ql, bS, bK, bZ, bP, bT, bF, bR, bQ, bM, bA, bC, bD, bE) := by
  have n32 := zO_n O
  unfold wpY_findSets
  refine yk_roots n32 HS (fun x hx => (HY x hx).1) r8 hR eR q8 hQ eQ ?_
  intro b b01 hb
  refine yk_close (A0 := zRt n rc ql R Q) O HS HY b01 (fun j q => zRt_in q) (fun h h1 hn => ?_) ?_
  · rw [hb h h1 hn]
    exact ⟨fun q => ⟨h1, hn, q⟩, fun q => q.2.2⟩
  · intro b' b01' hb'
    exact ⟨n + 1, yk_10 O HS HY r8 hR eR q8 hQ eQ rfl b01' hb' hp (n + 1) 0 bA bC (by omega) (by omega) (fun y q => by omega)⟩
end
end
section
/-! the relation -/
def zQu (n ql ar lm : Nat) (T Q : Nat → Nat) : Prop :=
  (∀ i, i < ql → 1 ≤ Q i ∧ Q i ≤ n ∧ T (Q i) = 2) ∧ (∀ i j, i < j → j < ql → Q i ≠ Q j) ∧ (∀ h, 1 ≤ h → h ≤ n → T h = 2 → ∃ i, i < ql ∧ Q i = h) ∧ zc (fun h => decide (T h = 2)) n = ql ∧ zc (fun h => decide (T h = 1)) n + ql = ar ∧ ar ≤ lm
def zI (cp rc lm n la ql ar hd : Nat) (S B K Z T R Q : Nat → Nat) (F : Nat → Nat → Nat) : Prop :=
  (16 ≤ cp ∧ cp ≤ 96) ∧ rc ≤ 8 ∧ lm ≤ 8 ∧ hd < 8 ∧ zO n B K Z T F ∧ B (n + 1) ≤ cp ∧ zS n S la ∧ (∀ r, r < rc → R r ≤ n) ∧ zQu n ql ar lm T Q
def zU (n rc ql hd : Nat) (S B K Z T R Q : Nat → Nat) (P : Nat → Int32) (F : Nat → Nat → Nat) (aH aS aB aR aQ : Nat → Int32) : Prop :=
  zX n B K Z T P F aH aB ∧ (∀ h, h ≤ n → aS h = nI (S h)) ∧ (∀ r, r < rc → aR r = nI (R r)) ∧ (∀ i, i < ql → aQ ((hd + i) % 8) = nI (Q i))
def zV (n rc ql : Nat) (S K Z T R Q : Nat → Nat) (P : Nat → Int32) (F : Nat → Nat → Nat) (bS bK bZ bP bT bF bR bQ : Nat → Int32) : Prop :=
  zY n S K Z T P F bS bK bZ bP bT bF ∧ (∀ r, r < rc → bR r = nI (S (R r))) ∧ (∀ i, i < ql → bQ i = nI (S (Q i)))
def i_Rel (_ : Nat) (u : SX) (v : SY) : Prop := ∃ (cp rc lm n la ql ar hd : Nat) (S B K Z T R Q : Nat → Nat) (P : Nat → Int32) (F : Nat → Nat → Nat), zI cp rc lm n la ql ar hd S B K Z T R Q F ∧ (∃ (mrk : Int64) (dep : Int32) (aH aS aB aR aQ aK aW aN aF aC : Nat → Int32) (aE : Nat → Int64) (aL : Nat → Int32), u = (nI cp, nI rc, nI lm, nI n, nI (B (n + 1)), nI la, nI hd, nI ql, nI ar, mrk, dep, aH, aS, aB, aR, aQ, aK, aW, aN, aF, aC, aE, aL) ∧ zU n rc ql hd S B K Z T R Q P F aH aS aB aR aQ) ∧ (∃ (bS bK bZ bP bT bF bR bQ bM bA bC bD bE : Nat → Int32), v = (nI cp, nI rc, nI lm, nI la, nI n, nI ql, bS, bK, bZ, bP, bT, bF, bR, bQ, bM, bA, bC, bD, bE) ∧ zV n rc ql S K Z T R Q P F bS bK bZ bP bT bF bR bQ)
theorem i_up {k : Nat} {u : SX} {v : SY} (h : i_Rel k u v) : i_Rel (k + 5) u v := h
theorem zz_el {k : Nat} {u : SX} {v : SY} {Mt : SX → SY → Prop} (h : ∀ (cp rc lm n la ql ar hd : Nat) (S B K Z T R Q : Nat → Nat) (P : Nat → Int32) (F : Nat → Nat → Nat) (mrk : Int64) (dep : Int32) (aH aS aB aR aQ aK aW aN aF aC : Nat → Int32) (aE : Nat → Int64) (aL : Nat → Int32) (bS bK bZ bP bT bF bR bQ bM bA bC bD bE : Nat → Int32), zI cp rc lm n la ql ar hd S B K Z T R Q F → zU n rc ql hd S B K Z T R Q P F aH aS aB aR aQ → zV n rc ql S K Z T R Q P F bS bK bZ bP bT bF bR bQ → Mt (nI cp, nI rc, nI lm, nI n, nI (B (n + 1)), nI la, nI hd, nI ql, nI ar, mrk, dep, aH, aS, aB, aR, aQ, aK, aW, aN, aF, aC, aE, aL) (nI cp, nI rc, nI lm, nI la, nI n, nI ql, bS, bK, bZ, bP, bT, bF, bR, bQ, bM, bA, bC, bD, bE)) (I : i_Rel k u v) : Mt u v := by
  obtain ⟨cp, rc, lm, n, la, ql, ar, hd, S, B, K, Z, T, R, Q, P', F, hI, ⟨mrk, dep, aH, aS, aB, aR, aQ, aK, aW, aN, aF, aC, aE, aL, eu, hU⟩, ⟨bS, bK, bZ, bP, bT, bF, bR, bQ, bM, bA, bC, bD, bE, ev, hV⟩⟩ := I
  rw [eu, ev]
  exact h cp rc lm n la ql ar hd S B K Z T R Q P' F mrk dep aH aS aB aR aQ aK aW aN aF aC aE aL bS bK bZ bP bT bF bR bQ bM bA bC bD bE hI hU hV
section
variable {cp rc lm n la ql ar hd : Nat} {S B K Z T R Q : Nat → Nat} {P : Nat → Int32} {F : Nat → Nat → Nat} {cap rgc fln cnt usd lst qhd qln arm : Int32} {mrk : Int64} {dep : Int32} {aH aS aB aR aQ aK aW aN aF aC : Nat → Int32} {aE : Nat → Int64} {aL : Nat → Int32} {yc yr yl ys yn yq : Int32} {bS bK bZ bP bT bF bR bQ bM bA bC bD bE : Nat → Int32}
theorem zz_in (k : Nat) (hI : zI cp rc lm n la ql ar hd S B K Z T R Q F) (hU : zU n rc ql hd S B K Z T R Q P F aH aS aB aR aQ) (hV : zV n rc ql S K Z T R Q P F bS bK bZ bP bT bF bR bQ) : i_Rel k (nI cp, nI rc, nI lm, nI n, nI (B (n + 1)), nI la, nI hd, nI ql, nI ar, mrk, dep, aH, aS, aB, aR, aQ, aK, aW, aN, aF, aC, aE, aL) (nI cp, nI rc, nI lm, nI la, nI n, nI ql, bS, bK, bZ, bP, bT, bF, bR, bQ, bM, bA, bC, bD, bE) :=
  ⟨cp, rc, lm, n, la, ql, ar, hd, S, B, K, Z, T, R, Q, P, F, hI, ⟨mrk, dep, aH, aS, aB, aR, aQ, aK, aW, aN, aF, aC, aE, aL, rfl, hU⟩, ⟨bS, bK, bZ, bP, bT, bF, bR, bQ, bM, bA, bC, bD, bE, rfl, hV⟩⟩
theorem zQ_len (h : zQu n ql ar lm T Q) : ql ≤ lm := by
  have := h.2.2.2.2.1
  have := h.2.2.2.2.2
  omega
end
section
variable {cap rgc fln cnt usd lst qhd qln arm : Int32} {mrk : Int64} {dep : Int32} {aH aS aB aR aQ aK aW aN aF aC : Nat → Int32} {aE : Nat → Int64} {aL : Nat → Int32} {yc yr yl ys yn yq : Int32} {bS bK bZ bP bT bF bR bQ bM bA bC bD bE : Nat → Int32} {rc : Nat}
theorem xg_bad {post : Int32 → Prop} {v : Int32} (h : v < 0 ∨ nI rc ≤ v) (hp : post 0) : wpX_goodRegister post (cap, nI rc, fln, cnt, usd, lst, qhd, qln, arm, mrk, dep, aH, aS, aB, aR, aQ, aK, aW, aN, aF, aC, aE, aL) v := by
  by_cases q : v < 0
  · exact br_t q hp
  · exact br_f q (br_t (h.resolve_left q) hp)
theorem xg_ok {post : Int32 → Prop} {r : Nat} (h : r < rc) (r8 : rc ≤ 8) (hp : post 1) : wpX_goodRegister post (cap, nI rc, fln, cnt, usd, lst, qhd, qln, arm, mrk, dep, aH, aS, aB, aR, aQ, aK, aW, aN, aF, aC, aE, aL) (nI r) :=
  br_f (nI_pos (by omega)) (br_f (nI_ge h (by omega)) hp)
theorem yg_bad {post : Int32 → Prop} {v : Int32} (h : v < 0 ∨ nI rc ≤ v) (hp : post 0) : wpY_good post (yc, nI rc, yl, ys, yn, yq, bS, bK, bZ, bP, bT, bF, bR, bQ, bM, bA, bC, bD, bE) v := by
  by_cases q : v < 0
  · exact br_t q hp
  · exact br_f q (br_t (h.resolve_left q) hp)
theorem yg_ok {post : Int32 → Prop} {r : Nat} (h : r < rc) (r8 : rc ≤ 8) (hp : post 1) : wpY_good post (yc, nI rc, yl, ys, yn, yq, bS, bK, bZ, bP, bT, bF, bR, bQ, bM, bA, bC, bD, bE) (nI r) :=
  br_f (nI_pos (by omega)) (br_f (nI_ge h (by omega)) hp)
theorem zg_ix (v : Int32) (r8 : rc ≤ 8) : (v < 0 ∨ nI rc ≤ v) ∨ ∃ j : Nat, j < rc ∧ v = nI j := by
  rcases pk_ix v (n := rc) (by omega) with h | h | h
  · exact Or.inl (Or.inl h)
  · exact Or.inl (Or.inr h)
  · exact Or.inr h
end
/-! X: the search -/
section
variable {cap rgc fln cnt usd lst qhd qln arm : Int32} {mrk : Int64} {dep : Int32} {aH aS aB aR aQ aK aW aN aF aC : Nat → Int32} {aE : Nat → Int64} {aL : Nat → Int32} {n la : Nat} {S : Nat → Nat}
theorem zh_mid (s : Nat) (h : s < 200) : nI s >>> ((1 : Int32) &&& 31) = nI (s / 2) := pk_shrN (by omega) _ 1 (by decide)
theorem xf_yes {post : Int32 → Prop} (n32 : n ≤ 32) (HS : zS n S la) (eS : ∀ h, h ≤ n → aS h = nI (S h)) {h0 : Nat} (hp : post (nI h0)) :
    ∀ (j st lo hi : Nat), st + j = 6 → 1 ≤ lo → hi ≤ n → lo ≤ h0 → h0 ≤ hi → hi + 1 - lo < 2 ^ j → wX_find_10 post (nI (S h0)) cap rgc fln (nI n) usd lst qhd qln arm mrk dep aH aS aB aR aQ aK aW aN aF aC aE aL (j + 1) (nI lo) (nI hi) (nI st) := by
  intro j
  induction j with
  | zero => intro st lo hi h1 h2 h3 h4 h5 h6; omega
  | succ j ih =>
    intro st lo hi h1 h2 h3 h4 h5 h6
    have p2 : 2 ^ (j + 1) = 2 * 2 ^ j := by rw [Nat.pow_succ]; omega
    have sm := zS_lt HS (h := (lo + hi) / 2) (by omega)
    have s0 := zS_lt HS (h := h0) (by omega)
    refine br_f (fun q => absurd ((za_6le (by omega)).mp q) (by omega)) (br_f (nI_nlt (by omega) (by omega)) (nm_r (e' := nI ((lo + hi) / 2)) (by rw [nI_add, zh_mid _ (by omega)]) ⟨vp_in_nI (by omega) (by omega), nm_r (e' := nI (S ((lo + hi) / 2))) (by rw [nI_clamp (by omega)]; exact eS _ (by omega)) ?_⟩))
    rcases Nat.lt_trichotomy ((lo + hi) / 2) h0 with q | q | q
    · have w := HS.2.1 _ _ q (by omega)
      refine br_f (fun e => by rw [nI_eq (by omega) (by omega)] at e; omega) (br_f (nI_ge w (by omega)) (nm_r (nI_1 _) (nm_r (nI_1 st) (ih (st + 1) _ hi (by omega) (by omega) (by omega) (by omega) (by omega) (by omega)))))
    · rw [q]; exact br_t rfl hp
    · have w := HS.2.1 _ _ q (by omega)
      refine br_f (fun e => by rw [nI_eq (by omega) (by omega)] at e; omega) (br_t (nI_le (by omega) (by omega)) (nm_r (za_s (by omega)) (nm_r (nI_1 st) (ih (st + 1) lo _ (by omega) (by omega) (by omega) (by omega) (by omega) (by omega)))))
theorem xf_no {post : Int32 → Prop} (n32 : n ≤ 32) (eS : ∀ h, h ≤ n → aS h = nI (S h)) {v : Int32} (hv : ∀ h, 1 ≤ h → h ≤ n → ¬ nI (S h) = v) (hp : post 0) :
    ∀ (j st lo hi : Nat), st + j = 6 → 1 ≤ lo → hi ≤ n → lo ≤ n + 1 → wX_find_10 post v cap rgc fln (nI n) usd lst qhd qln arm mrk dep aH aS aB aR aQ aK aW aN aF aC aE aL (j + 1) (nI lo) (nI hi) (nI st) := by
  intro j
  induction j with
  | zero => intro st lo hi h1 h2 h3 h4; exact br_t ((za_6le (by omega)).mpr (by omega)) hp
  | succ j ih =>
    intro st lo hi h1 h2 h3 h4
    refine br_f (fun q => absurd ((za_6le (by omega)).mp q) (by omega)) ?_
    by_cases e : hi < lo
    · exact br_t (nI_lt e (by omega)) hp
    · refine br_f (nI_nlt (by omega) (by omega)) (nm_r (e' := nI ((lo + hi) / 2)) (by rw [nI_add, zh_mid _ (by omega)]) ⟨vp_in_nI (by omega) (by omega), nm_r (e' := nI (S ((lo + hi) / 2))) (by rw [nI_clamp (by omega)]; exact eS _ (by omega)) ?_⟩)
      refine br_f (hv _ (by omega) (by omega)) (br_c (fun _ => nm_r (za_s (by omega)) (nm_r (nI_1 st) (ih (st + 1) lo _ (by omega) (by omega) (by omega) (by omega)))) (fun _ => nm_r (nI_1 _) (nm_r (nI_1 st) (ih (st + 1) _ hi (by omega) (by omega) (by omega) (by omega)))))
theorem xk_find {post : Int32 → Prop} (n32 : n ≤ 32) (HS : zS n S la) (eS : ∀ h, h ≤ n → aS h = nI (S h)) (v : Int32) (a : ∀ h, 1 ≤ h → h ≤ n → v = nI (S h) → post (nI h)) (b : (∀ h, 1 ≤ h → h ≤ n → ¬ nI (S h) = v) → post 0) : wpX_find post (cap, rgc, fln, nI n, usd, lst, qhd, qln, arm, mrk, dep, aH, aS, aB, aR, aQ, aK, aW, aN, aF, aC, aE, aL) v := by
  by_cases q : ∃ h, 1 ≤ h ∧ h ≤ n ∧ v = nI (S h)
  · obtain ⟨h, h1, hn, e⟩ := q
    have := a h h1 hn e
    subst e
    exact ⟨7, xf_yes n32 HS eS this 6 0 1 n rfl (by omega) (by omega) h1 hn (by omega)⟩
  · exact ⟨7, xf_no n32 eS (fun h h1 hn e => q ⟨h, h1, hn, e.symm⟩) (b (fun h h1 hn e => q ⟨h, h1, hn, e.symm⟩)) 6 0 1 n rfl (by omega) (by omega) (by omega)⟩
end
/-- a serial on both sides -/
theorem zv_or {n : Nat} {S : Nat → Nat} (v : Int32) : (∃ h, 1 ≤ h ∧ h ≤ n ∧ v = nI (S h)) ∨ (∀ h, 1 ≤ h → h ≤ n → ¬ nI (S h) = v) := by
  by_cases q : ∃ h, 1 ≤ h ∧ h ≤ n ∧ v = nI (S h)
  · exact Or.inl q
  · exact Or.inr (fun h h1 hn e => q ⟨h, h1, hn, e.symm⟩)
section
variable {cap rgc fln cnt usd lst qhd qln arm : Int32} {mrk : Int64} {dep : Int32} {aH aS aB aR aQ aK aW aN aF aC : Nat → Int32} {aE : Nat → Int64} {aL : Nat → Int32} {yc yr yl ys yn yq : Int32} {bS bK bZ bP bT bF bR bQ bM bA bC bD bE : Nat → Int32} {n la : Nat} {S : Nat → Nat}
theorem xf_at {post : Int32 → Prop} (n32 : n ≤ 32) (HS : zS n S la) (eS : ∀ h, h ≤ n → aS h = nI (S h)) {h : Nat} (h1 : 1 ≤ h) (hn : h ≤ n) (hp : post (nI h)) : wpX_find post (cap, rgc, fln, nI n, usd, lst, qhd, qln, arm, mrk, dep, aH, aS, aB, aR, aQ, aK, aW, aN, aF, aC, aE, aL) (nI (S h)) := by
  refine xk_find n32 HS eS _ (fun j j1 jn e => ?_) (fun q => absurd rfl (q h h1 hn))
  have a := zS_lt HS hn
  have b := zS_lt HS jn
  have := zS_inj HS jn hn ((nI_eq (by omega) (by omega)).mp e.symm)
  rw [this]; exact hp
theorem xf_out {post : Int32 → Prop} (n32 : n ≤ 32) (HS : zS n S la) (eS : ∀ h, h ≤ n → aS h = nI (S h)) {v : Int32} (hv : ∀ h, 1 ≤ h → h ≤ n → ¬ nI (S h) = v) (hp : post 0) : wpX_find post (cap, rgc, fln, nI n, usd, lst, qhd, qln, arm, mrk, dep, aH, aS, aB, aR, aQ, aK, aW, aN, aF, aC, aE, aL) v :=
  xk_find n32 HS eS _ (fun j j1 jn e => absurd e.symm (hv j j1 jn)) (fun _ => hp)
theorem yf_at {post : Int32 → Prop} (n32 : n ≤ 32) (HS : zS n S la) (eS : ∀ x, x < n → bS x = nI (S (x + 1))) {x : Nat} (hx : x < n) (hp : post (nI x)) : wpY_place post (yc, yr, yl, ys, nI n, yq, bS, bK, bZ, bP, bT, bF, bR, bQ, bM, bA, bC, bD, bE) (nI (S (x + 1))) :=
  yk_pl n32 HS eS (by omega) (fun q => by omega) (fun y q => by rw [show y = x by omega]; exact hp)
theorem yf_out {post : Int32 → Prop} (n32 : n ≤ 32) (eS : ∀ x, x < n → bS x = nI (S (x + 1))) {v : Int32} (hv : ∀ h, 1 ≤ h → h ≤ n → ¬ nI (S h) = v) (hp : post (-1)) : wpY_place post (yc, yr, yl, ys, nI n, yq, bS, bK, bZ, bP, bT, bF, bR, bQ, bM, bA, bC, bD, bE) v :=
  yk_place n32 (fun x hx e _ => absurd (by rw [← eS x hx]; exact e) (hv (x + 1) (by omega) (by omega))) (fun _ => hp)
end
theorem zz_clamp (p : Int32) (lo hi : Nat) (lh : lo ≤ hi) (h31 : hi < 2 ^ 31) : ∃ c, lo ≤ c ∧ c ≤ hi ∧ (∀ (post : Int32 → Prop) (u : SX), post (nI c) → wpX_clamp post u p (nI lo) (nI hi)) ∧ (∀ (post : Int32 → Prop) (v : SY), post (nI c) → wpY_clamp post v p (nI lo) (nI hi)) := by
  by_cases a : nI lo ≤ p
  · by_cases b : p ≤ nI hi
    · have p0 : ¬ p < 0 := by
        have := nI_pos' (n := lo) (by omega)
        exact Int32.not_lt.mpr (Int32.le_trans this a)
      obtain ⟨c, c31, rfl⟩ := nI_of p0
      rw [nI_leI (by omega) c31] at a
      rw [nI_leI c31 (by omega)] at b
      refine ⟨c, a, b, fun post u hp => ?_, fun post v hp => ?_⟩
      · obtain ⟨_, _, _, _, _, _, _, _, _, _, _, _, _, _, _, _, _, _, _, _, _, _, _⟩ := u
        exact br_t (nI_le a c31) (br_t (nI_le b h31) hp)
      · obtain ⟨_, _, _, _, _, _, _, _, _, _, _, _, _, _, _, _, _, _, _⟩ := v
        exact br_t (nI_le a c31) (br_t (nI_le b h31) hp)
    · refine ⟨hi, lh, Nat.le_refl _, fun post u hp => ?_, fun post v hp => ?_⟩
      · obtain ⟨_, _, _, _, _, _, _, _, _, _, _, _, _, _, _, _, _, _, _, _, _, _, _⟩ := u
        exact br_t a (br_f b hp)
      · obtain ⟨_, _, _, _, _, _, _, _, _, _, _, _, _, _, _, _, _, _, _⟩ := v
        exact br_t a (br_f b hp)
  · refine ⟨lo, Nat.le_refl _, lh, fun post u hp => ?_, fun post v hp => ?_⟩
    · obtain ⟨_, _, _, _, _, _, _, _, _, _, _, _, _, _, _, _, _, _, _, _, _, _, _⟩ := u
      exact br_f a hp
    · obtain ⟨_, _, _, _, _, _, _, _, _, _, _, _, _, _, _, _, _, _, _⟩ := v
      exact br_f a hp
theorem i_vc0 (k0 : Int32) (k1 : Int32) (k2 : Int32) : wpX_init (fun u => wpY_init (fun v => i_Rel 3 u v) k0 k1 k2) k0 k1 k2 := by
  obtain ⟨c0, a0, b0, x0, y0⟩ := zz_clamp k0 16 96 (by omega) (by omega)
  obtain ⟨c1, a1, b1, x1, y1⟩ := zz_clamp k1 2 8 (by omega) (by omega)
  obtain ⟨c2, a2, b2, x2, y2⟩ := zz_clamp k2 1 8 (by omega) (by omega)
  unfold wpX_init
  refine x0 _ _ ?_
  refine x1 _ _ ?_
  refine x2 _ _ ?_
  unfold wpY_init
  refine y0 _ _ ?_
  refine y1 _ _ ?_
  refine y2 _ _ ?_
  refine zz_in (cp := c0) (rc := c1) (lm := c2) (n := 0) (la := 0) (ql := 0) (ar := 0) (hd := 0) (S := fun _ => 0) (B := fun _ => 0) (K := fun _ => 0) (Z := fun _ => 0) (T := fun _ => 0) (R := fun _ => 0) (Q := fun _ => 0) (P := fun _ => 0) (F := fun _ _ => 0) 3 ?_ ?_ ?_
  · exact ⟨⟨a0, b0⟩, b1, b2, by omega, ⟨rfl, Nat.zero_le _, fun h h1 hn => by omega⟩, Nat.zero_le _, ⟨rfl, fun i j ij jn => by omega, Nat.zero_le _, Nat.zero_le _⟩, fun r _ => Nat.le_refl _, fun i q => by omega, fun i j _ q => by omega, fun h h1 hn => by omega, rfl, rfl, by omega⟩
  · exact ⟨fun h h1 hn => by omega, fun _ _ => nI_0.symm, fun _ _ => nI_0.symm, fun i q => by omega⟩
  · exact ⟨fun x q => by omega, fun _ _ => nI_0.symm, fun i q => by omega⟩
end
section
section
variable {cap rgc fln cnt usd lst qhd qln arm : Int32} {mrk : Int64} {dep : Int32} {aH aS aB aR aQ aK aW aN aF aC : Nat → Int32} {aE : Nat → Int64} {aL : Nat → Int32} {yc yr yl ys yn yq : Int32} {bS bK bZ bP bT bF bR bQ bM bA bC bD bE : Nat → Int32} {n la ql ar lm : Nat} {S B K Z T Q : Nat → Nat} {P : Nat → Int32} {F : Nat → Nat → Nat}
theorem xg_fb {post : Int32 → Prop} (O : zO n B K Z T F) (HX : zX n B K Z T P F aH aB) {h : Nat} (h1 : 1 ≤ h) (hn : h ≤ n) {w : Int32} (q : w < 0 ∨ nI (Z h) ≤ w) (hp : post 0) : wpX_goodField post (cap, rgc, fln, cnt, usd, lst, qhd, qln, arm, mrk, dep, aH, aS, aB, aR, aQ, aK, aW, aN, aF, aC, aE, aL) (nI h) w := by
  by_cases q0 : w < 0
  · exact br_t q0 hp
  · exact br_f q0 (xk_fields O HX h1 hn (br_t (q.resolve_left q0) hp))
theorem xg_fo {post : Int32 → Prop} (O : zO n B K Z T F) (HX : zX n B K Z T P F aH aB) {h f : Nat} (h1 : 1 ≤ h) (hn : h ≤ n) (hf : f < Z h) (hp : post 1) : wpX_goodField post (cap, rgc, fln, cnt, usd, lst, qhd, qln, arm, mrk, dep, aH, aS, aB, aR, aQ, aK, aW, aN, aF, aC, aE, aL) (nI h) (nI f) := by
  have z6 := zO_Z6 O h1 hn
  exact br_f (nI_pos (by omega)) (xk_fields O HX h1 hn (br_f (nI_ge hf (by omega)) hp))
theorem zO_m2 (O : zO n B K Z T F) {i j : Nat} (i1 : 1 ≤ i) (ij : i ≤ j) (jn : j ≤ n + 1) : B i ≤ B j := by
  rcases Nat.lt_or_ge i j with q | q
  · have := zO_mn O i1 q jn; omega
  · rw [show i = j by omega]; exact Nat.le_refl _
theorem ya_L {post : Int32 → Prop} (O : zO n B K Z T F) (HS : zS n S la) (HY : zY n S K Z T P F bS bK bZ bP bT bF) {x : Nat} (hx : x + 1 ≤ n) (hp : post (nI (B (x + 1)))) :
    ∀ (k y : Nat), y ≤ n → n < y + k → wY_address_18 post (nI (S (x + 1))) yc yr yl ys (nI n) yq bS bK bZ bP bT bF bR bQ bM bA bC bD bE k (nI (B (if y ≤ x then y + 1 else x + 1))) (nI y) := by
  have n32 := zO_n O
  have sx := zS_lt HS hx
  intro k
  induction k with
  | zero => intro y a b; omega
  | succ k ih =>
    intro y a b
    by_cases e : n ≤ y
    · rw [if_neg (by omega)]
      exact br_t (nI_le e (by omega)) hp
    · have cy : (nI y).toNatClampNeg = y := nI_clamp (by omega)
      have vy : vp_in (nI y) 32 := vp_in_nI (by omega) (by omega)
      have i := ih (y + 1) (by omega) (by omega)
      refine br_f (nI_ge (by omega) (by omega)) ⟨vy, ?_⟩
      rw [cy, (HY y (by omega)).1]
      by_cases q : x ≤ y
      · have le : S (x + 1) ≤ S (y + 1) := by
          rcases Nat.lt_or_ge x y with r | r
          · have := HS.2.1 (x + 1) (y + 1) (by omega) (by omega); omega
          · rw [show x = y by omega]; exact Nat.le_refl _
        have sy := zS_lt HS (h := y + 1) (by omega)
        refine br_t (nI_le le (by omega)) (nm_r (nI_1 y) ?_)
        have e1 : (if y ≤ x then y + 1 else x + 1) = (if y + 1 ≤ x then y + 1 + 1 else x + 1) := by
          rw [if_neg (show ¬ y + 1 ≤ x by omega)]
          split <;> omega
        rw [e1]; exact i
      · have lt : S (y + 1) < S (x + 1) := HS.2.1 _ _ (by omega) (by omega)
        refine br_f (nI_ge lt (by omega)) ⟨vy, ?_⟩
        rw [(HY y (by omega)).2.2.1, if_pos (by omega)]
        refine nm_r (e' := nI (B (y + 1 + 1))) ?_ (nm_r (nI_1 y) ?_)
        · rw [za_2, nI_add, zO_B O (h := y + 1) (by omega) (by omega)]; rfl
        · rw [if_pos (by omega)] at i; exact i
theorem ya_0 {post : Int32 → Prop} (O : zO n B K Z T F) (HS : zS n S la) (HY : zY n S K Z T P F bS bK bZ bP bT bF) {x : Nat} (hx : x + 1 ≤ n) (hp : post (nI (B (x + 1)))) : ∃ k, wY_address_18 post (nI (S (x + 1))) yc yr yl ys (nI n) yq bS bK bZ bP bT bF bR bQ bM bA bC bD bE k 0 0 := by
  have h := ya_L (yc := yc) (yr := yr) (yl := yl) (ys := ys) (yq := yq) (bR := bR) (bQ := bQ) (bM := bM) (bA := bA) (bC := bC) (bD := bD) (bE := bE) O HS HY hx hp (n + 1) 0 (by omega) (by omega)
  rw [if_pos (Nat.zero_le _), O.1] at h
  exact ⟨n + 1, h⟩
theorem yr_L {post : Int32 → Prop} (O : zO n B K Z T F) (HY : zY n S K Z T P F bS bK bZ bP bT bF) (hp : post (yc - nI (B (n + 1)))) :
    ∀ (k y : Nat), y ≤ n → n < y + k → wY_freeCells_4 post yc yr yl ys (nI n) yq bS bK bZ bP bT bF bR bQ bM bA bC bD bE k (nI (B (y + 1))) (nI y) := by
  have n32 := zO_n O
  intro k
  induction k with
  | zero => intro y a b; omega
  | succ k ih =>
    intro y a b
    by_cases e : n ≤ y
    · have : y = n := by omega
      subst this
      exact br_t (nI_le e (by omega)) hp
    · have cy : (nI y).toNatClampNeg = y := nI_clamp (by omega)
      have vy : vp_in (nI y) 32 := vp_in_nI (by omega) (by omega)
      refine br_f (nI_ge (by omega) (by omega)) ⟨vy, ?_⟩
      rw [cy, (HY y (by omega)).2.2.1]
      refine nm_r (e' := nI (B (y + 1 + 1))) ?_ (nm_r (nI_1 y) (ih (y + 1) (by omega) (by omega)))
      rw [za_2, nI_add, zO_B O (h := y + 1) (by omega) (by omega)]; rfl
theorem yr_0 {post : Int32 → Prop} (O : zO n B K Z T F) (HY : zY n S K Z T P F bS bK bZ bP bT bF) (hp : post (yc - nI (B (n + 1)))) : ∃ k, wY_freeCells_4 post yc yr yl ys (nI n) yq bS bK bZ bP bT bF bR bQ bM bA bC bD bE k 0 0 := by
  have h := yr_L (yc := yc) (yr := yr) (yl := yl) (ys := ys) (yq := yq) (bR := bR) (bQ := bQ) (bM := bM) (bA := bA) (bC := bC) (bD := bD) (bE := bE) O HY hp (n + 1) 0 (by omega) (by omega)
  rw [O.1] at h
  exact ⟨n + 1, h⟩
theorem zc_add {p q r : Nat → Bool} (n : Nat) (h : ∀ j, 1 ≤ j → j ≤ n → (if r j = true then 1 else 0) = (if p j = true then 1 else 0) + (if q j = true then 1 else 0)) : zc r n = zc p n + zc q n := by
  induction n with
  | zero => rfl
  | succ n ih =>
    rw [zc_s, zc_s, zc_s, ih (fun j a b => h j a (by omega)), h (n + 1) (by omega) (by omega)]
    omega
theorem zt_ar (h : zQu n ql ar lm T Q) : zc (fun h => decide (T h = 1 ∨ T h = 2)) n = ar := by
  rw [← h.2.2.2.2.1, zc_add (p := fun h => decide (T h = 1)) (q := fun h => decide (T h = 2)) n (fun j _ _ => ?_), h.2.2.2.1]
  simp only [decide_eq_true_iff]
  by_cases a : T j = 1
  · rw [if_pos (Or.inl a), if_pos a, if_neg (by omega)]
  · by_cases b : T j = 2
    · rw [if_pos (Or.inr b), if_neg a, if_pos b]
    · rw [if_neg (by omega), if_neg a, if_neg b]
theorem yt_L {post : Int32 → Prop} (O : zO n B K Z T F) (HY : zY n S K Z T P F bS bK bZ bP bT bF) (hp : post (yl - nI (zc (fun h => decide (T h = 1 ∨ T h = 2)) n))) :
    ∀ (k y : Nat), y ≤ n → n < y + k → wY_armsLeft_4 post yc yr yl ys (nI n) yq bS bK bZ bP bT bF bR bQ bM bA bC bD bE k (nI (zc (fun h => decide (T h = 1 ∨ T h = 2)) y)) (nI y) := by
  have n32 := zO_n O
  intro k
  induction k with
  | zero => intro y a b; omega
  | succ k ih =>
    intro y a b
    by_cases e : n ≤ y
    · have : y = n := by omega
      subst this
      exact br_t (nI_le e (by omega)) hp
    · have cy : (nI y).toNatClampNeg = y := nI_clamp (by omega)
      have vy : vp_in (nI y) 32 := vp_in_nI (by omega) (by omega)
      have t4 := zO_T O (h := y + 1) (by omega) (by omega)
      have i := ih (y + 1) (by omega) (by omega)
      rw [zc_s] at i
      simp only [decide_eq_true_iff] at i
      refine br_f (nI_ge (by omega) (by omega)) ⟨vy, ?_⟩
      rw [cy, (HY y (by omega)).2.2.2.2.1]
      by_cases t1 : T (y + 1) = 1
      · rw [if_pos (Or.inl t1)] at i
        exact br_t (by rw [t1]; rfl) (nm_r (nI_1 _) (nm_r (nI_1 y) i))
      · refine br_f (fun q => t1 ((za_eq1 (by omega)).mp q)) ⟨vy, ?_⟩
        by_cases t2 : T (y + 1) = 2
        · rw [if_pos (Or.inr t2)] at i
          exact br_t (by rw [t2]; rfl) (nm_r (nI_1 _) (nm_r (nI_1 y) i))
        · rw [if_neg (by omega), Nat.add_zero] at i
          exact br_f (fun q => t2 ((za_eq2 (by omega)).mp q)) (nm_r (nI_1 y) i)
end
theorem i_vc_register {k : Nat} {u : SX} {v : SY} (I : i_Rel k u v) (hk : k + 5 ≤ 2563) (v1 : Int32) : wpX_register (fun r => wpY_register (fun r' => r' = r ∧ i_Rel (k + 5) u v) v v1) u v1 := by
  refine zz_el (Mt := fun u v => wpX_register (fun r => wpY_register (fun r' => r' = r ∧ i_Rel (k + 5) u v) v v1) u v1) ?_ I
  intro cp rc lm n la ql ar hd S B K Z T R Q P F mrk dep aH aS aB aR aQ aK aW aN aF aC aE aL bS bK bZ bP bT bF bR bQ bM bA bC bD bE hI hU hV
  have J := zz_in (k + 5) (mrk := mrk) (dep := dep) (aK := aK) (aW := aW) (aN := aN) (aF := aF) (aC := aC) (aE := aE) (aL := aL) (bM := bM) (bA := bA) (bC := bC) (bD := bD) (bE := bE) hI hU hV
  generalize i_Rel (k + 5) _ _ = J' at J ⊢
  obtain ⟨⟨c16, c96⟩, r8, l8, hd8, O, bc, HS, hR, hQu⟩ := hI
  obtain ⟨HX, eS, eR, eQ⟩ := hU
  obtain ⟨HY, fR, fQ⟩ := hV
  have n32 := zO_n O
  have q8 : ql ≤ 8 := Nat.le_trans (zQ_len hQu) l8
  have gS : ∀ x, x < n → bS x = nI (S (x + 1)) := fun x hx => (HY x hx).1
  unfold wpX_register
  rcases zg_ix v1 r8 with h | ⟨j, hj, rfl⟩
  · refine xg_bad h (br_t rfl ?_)
    unfold wpY_register
    exact yg_bad h (br_t rfl ⟨rfl, J⟩)
  · have cj : (nI j).toNatClampNeg = j := nI_clamp (by omega)
    have vj : vp_in (nI j) 8 := vp_in_nI (by omega) (by omega)
    have rj := hR j hj
    refine xg_ok hj r8 (br_f za_10 ⟨vj, ?_⟩)
    rw [cj, eR j hj, nI_clamp (by omega), eS _ rj]
    refine ⟨vp_in_nI (by omega) (by omega), ?_⟩
    unfold wpY_register
    refine yg_ok hj r8 (br_f za_10 ⟨vj, ?_⟩)
    rw [cj, fR j hj]
    exact ⟨rfl, J⟩
theorem i_vc_kind {k : Nat} {u : SX} {v : SY} (I : i_Rel k u v) (hk : k + 5 ≤ 2563) (v1 : Int32) : wpX_kind (fun r => wpY_kind (fun r' => r' = r ∧ i_Rel (k + 5) u v) v v1) u v1 := by
  refine zz_el (Mt := fun u v => wpX_kind (fun r => wpY_kind (fun r' => r' = r ∧ i_Rel (k + 5) u v) v v1) u v1) ?_ I
  intro cp rc lm n la ql ar hd S B K Z T R Q P F mrk dep aH aS aB aR aQ aK aW aN aF aC aE aL bS bK bZ bP bT bF bR bQ bM bA bC bD bE hI hU hV
  have J := zz_in (k + 5) (mrk := mrk) (dep := dep) (aK := aK) (aW := aW) (aN := aN) (aF := aF) (aC := aC) (aE := aE) (aL := aL) (bM := bM) (bA := bA) (bC := bC) (bD := bD) (bE := bE) hI hU hV
  generalize i_Rel (k + 5) _ _ = J' at J ⊢
  obtain ⟨⟨c16, c96⟩, r8, l8, hd8, O, bc, HS, hR, hQu⟩ := hI
  obtain ⟨HX, eS, eR, eQ⟩ := hU
  obtain ⟨HY, fR, fQ⟩ := hV
  have n32 := zO_n O
  have q8 : ql ≤ 8 := Nat.le_trans (zQ_len hQu) l8
  have gS : ∀ x, x < n → bS x = nI (S (x + 1)) := fun x hx => (HY x hx).1
  unfold wpX_kind
  rcases zv_or (n := n) (S := S) v1 with ⟨h, h1, hn, rfl⟩ | hv
  · obtain ⟨x, rfl⟩ : ∃ x, h = x + 1 := ⟨h - 1, by omega⟩
    have cx : (nI x).toNatClampNeg = x := nI_clamp (by omega)
    refine xf_at n32 HS eS h1 hn (br_f (nI_ne0 (by omega) (by omega)) ?_)
    refine xk_kind O HX h1 hn ?_
    unfold wpY_kind
    refine yf_at n32 HS gS (by omega) (br_t (nI_pos' (by omega)) ⟨vp_in_nI (by omega) (by omega), ?_⟩)
    rw [cx, (HY x (by omega)).2.1]
    exact ⟨rfl, J⟩
  · refine xf_out n32 HS eS hv (br_t rfl ?_)
    unfold wpY_kind
    exact yf_out n32 gS hv (br_f za_n0 ⟨rfl, J⟩)
theorem i_vc_fieldCount {k : Nat} {u : SX} {v : SY} (I : i_Rel k u v) (hk : k + 5 ≤ 2563) (v1 : Int32) : wpX_fieldCount (fun r => wpY_fieldCount (fun r' => r' = r ∧ i_Rel (k + 5) u v) v v1) u v1 := by
  refine zz_el (Mt := fun u v => wpX_fieldCount (fun r => wpY_fieldCount (fun r' => r' = r ∧ i_Rel (k + 5) u v) v v1) u v1) ?_ I
  intro cp rc lm n la ql ar hd S B K Z T R Q P F mrk dep aH aS aB aR aQ aK aW aN aF aC aE aL bS bK bZ bP bT bF bR bQ bM bA bC bD bE hI hU hV
  have J := zz_in (k + 5) (mrk := mrk) (dep := dep) (aK := aK) (aW := aW) (aN := aN) (aF := aF) (aC := aC) (aE := aE) (aL := aL) (bM := bM) (bA := bA) (bC := bC) (bD := bD) (bE := bE) hI hU hV
  generalize i_Rel (k + 5) _ _ = J' at J ⊢
  obtain ⟨⟨c16, c96⟩, r8, l8, hd8, O, bc, HS, hR, hQu⟩ := hI
  obtain ⟨HX, eS, eR, eQ⟩ := hU
  obtain ⟨HY, fR, fQ⟩ := hV
  have n32 := zO_n O
  have q8 : ql ≤ 8 := Nat.le_trans (zQ_len hQu) l8
  have gS : ∀ x, x < n → bS x = nI (S (x + 1)) := fun x hx => (HY x hx).1
  unfold wpX_fieldCount
  rcases zv_or (n := n) (S := S) v1 with ⟨h, h1, hn, rfl⟩ | hv
  · obtain ⟨x, rfl⟩ : ∃ x, h = x + 1 := ⟨h - 1, by omega⟩
    have cx : (nI x).toNatClampNeg = x := nI_clamp (by omega)
    refine xf_at n32 HS eS h1 hn (br_f (nI_ne0 (by omega) (by omega)) ?_)
    refine xk_fields O HX h1 hn ?_
    unfold wpY_fieldCount
    refine yf_at n32 HS gS (by omega) (br_t (nI_pos' (by omega)) ⟨vp_in_nI (by omega) (by omega), ?_⟩)
    rw [cx, (HY x (by omega)).2.2.1]
    exact ⟨rfl, J⟩
  · refine xf_out n32 HS eS hv (br_t rfl ?_)
    unfold wpY_fieldCount
    exact yf_out n32 gS hv (br_f za_n0 ⟨rfl, J⟩)
theorem i_vc_finalizerState {k : Nat} {u : SX} {v : SY} (I : i_Rel k u v) (hk : k + 5 ≤ 2563) (v1 : Int32) : wpX_finalizerState (fun r => wpY_finalizerState (fun r' => r' = r ∧ i_Rel (k + 5) u v) v v1) u v1 := by
  refine zz_el (Mt := fun u v => wpX_finalizerState (fun r => wpY_finalizerState (fun r' => r' = r ∧ i_Rel (k + 5) u v) v v1) u v1) ?_ I
  intro cp rc lm n la ql ar hd S B K Z T R Q P F mrk dep aH aS aB aR aQ aK aW aN aF aC aE aL bS bK bZ bP bT bF bR bQ bM bA bC bD bE hI hU hV
  have J := zz_in (k + 5) (mrk := mrk) (dep := dep) (aK := aK) (aW := aW) (aN := aN) (aF := aF) (aC := aC) (aE := aE) (aL := aL) (bM := bM) (bA := bA) (bC := bC) (bD := bD) (bE := bE) hI hU hV
  generalize i_Rel (k + 5) _ _ = J' at J ⊢
  obtain ⟨⟨c16, c96⟩, r8, l8, hd8, O, bc, HS, hR, hQu⟩ := hI
  obtain ⟨HX, eS, eR, eQ⟩ := hU
  obtain ⟨HY, fR, fQ⟩ := hV
  have n32 := zO_n O
  have q8 : ql ≤ 8 := Nat.le_trans (zQ_len hQu) l8
  have gS : ∀ x, x < n → bS x = nI (S (x + 1)) := fun x hx => (HY x hx).1
  unfold wpX_finalizerState
  rcases zv_or (n := n) (S := S) v1 with ⟨h, h1, hn, rfl⟩ | hv
  · obtain ⟨x, rfl⟩ : ∃ x, h = x + 1 := ⟨h - 1, by omega⟩
    have cx : (nI x).toNatClampNeg = x := nI_clamp (by omega)
    refine xf_at n32 HS eS h1 hn (br_f (nI_ne0 (by omega) (by omega)) ?_)
    refine xk_state O HX h1 hn ?_
    unfold wpY_finalizerState
    refine yf_at n32 HS gS (by omega) (br_t (nI_pos' (by omega)) ⟨vp_in_nI (by omega) (by omega), ?_⟩)
    rw [cx, (HY x (by omega)).2.2.2.2.1]
    exact ⟨rfl, J⟩
  · refine xf_out n32 HS eS hv (br_t rfl ?_)
    unfold wpY_finalizerState
    exact yf_out n32 gS hv (br_f za_n0 ⟨rfl, J⟩)
theorem i_vc_payload {k : Nat} {u : SX} {v : SY} (I : i_Rel k u v) (hk : k + 5 ≤ 2563) (v1 : Int32) : wpX_payload (fun r => wpY_payload (fun r' => r' = r ∧ i_Rel (k + 5) u v) v v1) u v1 := by
  refine zz_el (Mt := fun u v => wpX_payload (fun r => wpY_payload (fun r' => r' = r ∧ i_Rel (k + 5) u v) v v1) u v1) ?_ I
  intro cp rc lm n la ql ar hd S B K Z T R Q P F mrk dep aH aS aB aR aQ aK aW aN aF aC aE aL bS bK bZ bP bT bF bR bQ bM bA bC bD bE hI hU hV
  have J := zz_in (k + 5) (mrk := mrk) (dep := dep) (aK := aK) (aW := aW) (aN := aN) (aF := aF) (aC := aC) (aE := aE) (aL := aL) (bM := bM) (bA := bA) (bC := bC) (bD := bD) (bE := bE) hI hU hV
  generalize i_Rel (k + 5) _ _ = J' at J ⊢
  obtain ⟨⟨c16, c96⟩, r8, l8, hd8, O, bc, HS, hR, hQu⟩ := hI
  obtain ⟨HX, eS, eR, eQ⟩ := hU
  obtain ⟨HY, fR, fQ⟩ := hV
  have n32 := zO_n O
  have q8 : ql ≤ 8 := Nat.le_trans (zQ_len hQu) l8
  have gS : ∀ x, x < n → bS x = nI (S (x + 1)) := fun x hx => (HY x hx).1
  unfold wpX_payload
  rcases zv_or (n := n) (S := S) v1 with ⟨h, h1, hn, rfl⟩ | hv
  · obtain ⟨x, rfl⟩ : ∃ x, h = x + 1 := ⟨h - 1, by omega⟩
    have cx : (nI x).toNatClampNeg = x := nI_clamp (by omega)
    have tp := zO_top O h1 hn
    refine xf_at n32 HS eS h1 hn (br_f (nI_ne0 (by omega) (by omega)) ⟨vp_in_nI (by omega) (by omega), ?_⟩)
    rw [nI_clamp (n := x + 1) (by omega), (HX _ h1 hn).1, nI_1, nI_clamp (by omega), (HX _ h1 hn).2.2.1]
    refine ⟨vp_in_nI (by omega) (by omega), ?_⟩
    unfold wpY_payload
    refine yf_at n32 HS gS (by omega) (br_t (nI_pos' (by omega)) ⟨vp_in_nI (by omega) (by omega), ?_⟩)
    rw [cx, (HY x (by omega)).2.2.2.1]
    exact ⟨rfl, J⟩
  · refine xf_out n32 HS eS hv (br_t rfl ?_)
    unfold wpY_payload
    exact yf_out n32 gS hv (br_f za_n0 ⟨rfl, J⟩)
theorem i_vc_field {k : Nat} {u : SX} {v : SY} (I : i_Rel k u v) (hk : k + 5 ≤ 2563) (v1 : Int32) (v2 : Int32) : wpX_field (fun r => wpY_field (fun r' => r' = r ∧ i_Rel (k + 5) u v) v v1 v2) u v1 v2 := by
  refine zz_el (Mt := fun u v => wpX_field (fun r => wpY_field (fun r' => r' = r ∧ i_Rel (k + 5) u v) v v1 v2) u v1 v2) ?_ I
  intro cp rc lm n la ql ar hd S B K Z T R Q P F mrk dep aH aS aB aR aQ aK aW aN aF aC aE aL bS bK bZ bP bT bF bR bQ bM bA bC bD bE hI hU hV
  have J := zz_in (k + 5) (mrk := mrk) (dep := dep) (aK := aK) (aW := aW) (aN := aN) (aF := aF) (aC := aC) (aE := aE) (aL := aL) (bM := bM) (bA := bA) (bC := bC) (bD := bD) (bE := bE) hI hU hV
  generalize i_Rel (k + 5) _ _ = J' at J ⊢
  obtain ⟨⟨c16, c96⟩, r8, l8, hd8, O, bc, HS, hR, hQu⟩ := hI
  obtain ⟨HX, eS, eR, eQ⟩ := hU
  obtain ⟨HY, fR, fQ⟩ := hV
  have n32 := zO_n O
  have q8 : ql ≤ 8 := Nat.le_trans (zQ_len hQu) l8
  have gS : ∀ x, x < n → bS x = nI (S (x + 1)) := fun x hx => (HY x hx).1
  unfold wpX_field
  rcases zv_or (n := n) (S := S) v1 with ⟨h, h1, hn, rfl⟩ | hv
  · obtain ⟨x, rfl⟩ : ∃ x, h = x + 1 := ⟨h - 1, by omega⟩
    have cx : (nI x).toNatClampNeg = x := nI_clamp (by omega)
    have tp := zO_top O h1 hn
    have z6 := zO_Z6 O h1 hn
    refine xf_at n32 HS eS h1 hn (br_f (nI_ne0 (by omega) (by omega)) ?_)
    rcases zg_ix (rc := Z (x + 1)) v2 (by omega) with q | ⟨f, hf, rfl⟩
    · refine xg_fb O HX h1 hn q (br_t rfl ?_)
      unfold wpY_field
      refine yf_at n32 HS gS (by omega) (br_t (nI_pos' (by omega)) ?_)
      by_cases q0 : v2 < 0
      · exact br_t q0 ⟨rfl, J⟩
      · refine br_f q0 ⟨vp_in_nI (by omega) (by omega), ?_⟩
        rw [cx, (HY x (by omega)).2.2.1]
        exact br_f (Int32.not_lt.mpr (q.resolve_left q0)) ⟨rfl, J⟩
    · have fn := zO_F O h1 hn hf
      refine xg_fo O HX h1 hn hf (br_f za_10 ⟨vp_in_nI (by omega) (by omega), ?_⟩)
      have e1 : aB (nI (x + 1)).toNatClampNeg + 2 + nI f = nI (B (x + 1) + 2 + f) := by rw [nI_clamp (by omega), (HX _ h1 hn).1, za_2, nI_add]
      rw [e1, nI_clamp (by omega), (HX _ h1 hn).2.2.2 f hf]
      refine ⟨vp_in_nI (by omega) (by omega), nm_e ⟨vp_in_nI (by omega) (by omega), ?_⟩⟩
      rw [nI_clamp (by omega), eS _ fn]
      unfold wpY_field
      refine yf_at n32 HS gS (by omega) (br_t (nI_pos' (by omega)) (br_f (nI_pos (by omega)) ⟨vp_in_nI (by omega) (by omega), ?_⟩))
      rw [cx, (HY x (by omega)).2.2.1]
      refine br_t (nI_lt hf (by omega)) ?_
      rw [za_m6, nI_add, nI_clamp (by omega), (HY x (by omega)).2.2.2.2.2 f hf]
      exact ⟨vp_in_nI (by omega) (by omega), rfl, J⟩
  · refine xf_out n32 HS eS hv (br_t rfl ?_)
    unfold wpY_field
    exact yf_out n32 gS hv (br_f za_n0 ⟨rfl, J⟩)
theorem i_vc_address {k : Nat} {u : SX} {v : SY} (I : i_Rel k u v) (hk : k + 5 ≤ 2563) (v1 : Int32) : wpX_address (fun r => wpY_address (fun r' => r' = r ∧ i_Rel (k + 5) u v) v v1) u v1 := by
  refine zz_el (Mt := fun u v => wpX_address (fun r => wpY_address (fun r' => r' = r ∧ i_Rel (k + 5) u v) v v1) u v1) ?_ I
  intro cp rc lm n la ql ar hd S B K Z T R Q P F mrk dep aH aS aB aR aQ aK aW aN aF aC aE aL bS bK bZ bP bT bF bR bQ bM bA bC bD bE hI hU hV
  have J := zz_in (k + 5) (mrk := mrk) (dep := dep) (aK := aK) (aW := aW) (aN := aN) (aF := aF) (aC := aC) (aE := aE) (aL := aL) (bM := bM) (bA := bA) (bC := bC) (bD := bD) (bE := bE) hI hU hV
  generalize i_Rel (k + 5) _ _ = J' at J ⊢
  obtain ⟨⟨c16, c96⟩, r8, l8, hd8, O, bc, HS, hR, hQu⟩ := hI
  obtain ⟨HX, eS, eR, eQ⟩ := hU
  obtain ⟨HY, fR, fQ⟩ := hV
  have n32 := zO_n O
  have q8 : ql ≤ 8 := Nat.le_trans (zQ_len hQu) l8
  have gS : ∀ x, x < n → bS x = nI (S (x + 1)) := fun x hx => (HY x hx).1
  unfold wpX_address
  rcases zv_or (n := n) (S := S) v1 with ⟨h, h1, hn, rfl⟩ | hv
  · obtain ⟨x, rfl⟩ : ∃ x, h = x + 1 := ⟨h - 1, by omega⟩
    have tp := zO_top O h1 hn
    refine xf_at n32 HS eS h1 hn (br_f (nI_ne0 (by omega) (by omega)) ⟨vp_in_nI (by omega) (by omega), ?_⟩)
    rw [nI_clamp (n := x + 1) (by omega), (HX _ h1 hn).1]
    unfold wpY_address
    exact yf_at n32 HS gS (by omega) (br_t (nI_pos' (by omega)) (ya_0 O HS HY hn ⟨rfl, J⟩))
  · refine xf_out n32 HS eS hv (br_t rfl ?_)
    unfold wpY_address
    exact yf_out n32 gS hv (br_f za_n0 ⟨rfl, J⟩)
theorem i_vc_objectAt {k : Nat} {u : SX} {v : SY} (I : i_Rel k u v) (hk : k + 5 ≤ 2563) (v1 : Int32) : wpX_objectAt (fun r => wpY_objectAt (fun r' => r' = r ∧ i_Rel (k + 5) u v) v v1) u v1 := by
  refine zz_el (Mt := fun u v => wpX_objectAt (fun r => wpY_objectAt (fun r' => r' = r ∧ i_Rel (k + 5) u v) v v1) u v1) ?_ I
  intro cp rc lm n la ql ar hd S B K Z T R Q P F mrk dep aH aS aB aR aQ aK aW aN aF aC aE aL bS bK bZ bP bT bF bR bQ bM bA bC bD bE hI hU hV
  have J := zz_in (k + 5) (mrk := mrk) (dep := dep) (aK := aK) (aW := aW) (aN := aN) (aF := aF) (aC := aC) (aE := aE) (aL := aL) (bM := bM) (bA := bA) (bC := bC) (bD := bD) (bE := bE) hI hU hV
  generalize i_Rel (k + 5) _ _ = J' at J ⊢
  obtain ⟨⟨c16, c96⟩, r8, l8, hd8, O, bc, HS, hR, hQu⟩ := hI
  obtain ⟨HX, eS, eR, eQ⟩ := hU
  obtain ⟨HY, fR, fQ⟩ := hV
  have n32 := zO_n O
  have q8 : ql ≤ 8 := Nat.le_trans (zQ_len hQu) l8
  have gS : ∀ x, x < n → bS x = nI (S (x + 1)) := fun x hx => (HY x hx).1
  unfold wpX_objectAt
  rcases pk_ix v1 (n := n) (by omega) with q | q | ⟨x, hx, rfl⟩
  · refine br_t q ?_
    unfold wpY_objectAt
    exact br_t q ⟨rfl, J⟩
  · have q0 : ¬ v1 < 0 := Int32.not_lt.mpr (Int32.le_trans (nI_pos' (by omega)) q)
    refine br_f q0 (br_f (Int32.not_lt.mpr q) ?_)
    unfold wpY_objectAt
    exact br_f q0 (br_f (Int32.not_lt.mpr q) ⟨rfl, J⟩)
  · refine br_f (nI_pos (by omega)) (br_t (nI_lt hx (by omega)) ?_)
    rw [nI_1, nI_clamp (by omega), eS _ (by omega)]
    refine ⟨vp_in_nI (by omega) (by omega), ?_⟩
    unfold wpY_objectAt
    refine br_f (nI_pos (by omega)) (br_t (nI_lt hx (by omega)) ?_)
    rw [nI_clamp (by omega), gS _ hx]
    exact ⟨vp_in_nI (by omega) (by omega), rfl, J⟩
theorem i_vc_queueAt {k : Nat} {u : SX} {v : SY} (I : i_Rel k u v) (hk : k + 5 ≤ 2563) (v1 : Int32) : wpX_queueAt (fun r => wpY_queueAt (fun r' => r' = r ∧ i_Rel (k + 5) u v) v v1) u v1 := by
  refine zz_el (Mt := fun u v => wpX_queueAt (fun r => wpY_queueAt (fun r' => r' = r ∧ i_Rel (k + 5) u v) v v1) u v1) ?_ I
  intro cp rc lm n la ql ar hd S B K Z T R Q P F mrk dep aH aS aB aR aQ aK aW aN aF aC aE aL bS bK bZ bP bT bF bR bQ bM bA bC bD bE hI hU hV
  have J := zz_in (k + 5) (mrk := mrk) (dep := dep) (aK := aK) (aW := aW) (aN := aN) (aF := aF) (aC := aC) (aE := aE) (aL := aL) (bM := bM) (bA := bA) (bC := bC) (bD := bD) (bE := bE) hI hU hV
  generalize i_Rel (k + 5) _ _ = J' at J ⊢
  obtain ⟨⟨c16, c96⟩, r8, l8, hd8, O, bc, HS, hR, hQu⟩ := hI
  obtain ⟨HX, eS, eR, eQ⟩ := hU
  obtain ⟨HY, fR, fQ⟩ := hV
  have n32 := zO_n O
  have q8 : ql ≤ 8 := Nat.le_trans (zQ_len hQu) l8
  have gS : ∀ x, x < n → bS x = nI (S (x + 1)) := fun x hx => (HY x hx).1
  unfold wpX_queueAt
  rcases pk_ix v1 (n := ql) (by omega) with q | q | ⟨x, hx, rfl⟩
  · refine br_t q ?_
    unfold wpY_queueAt
    exact br_t q ⟨rfl, J⟩
  · have q0 : ¬ v1 < 0 := Int32.not_lt.mpr (Int32.le_trans (nI_pos' (by omega)) q)
    refine br_f q0 (br_f (Int32.not_lt.mpr q) ?_)
    unfold wpY_queueAt
    exact br_f q0 (br_f (Int32.not_lt.mpr q) ⟨rfl, J⟩)
  · obtain ⟨w1, w2, _⟩ := hQu.1 x hx
    have er : (nI hd + nI x) - (nI hd + nI x) / 8 * 8 = nI ((hd + x) % 8) := by rw [nI_add, za_r8 (by omega)]
    have m8 : (hd + x) % 8 < 8 := Nat.mod_lt _ (by omega)
    refine br_f (nI_pos (by omega)) (br_t (nI_lt hx (by omega)) ⟨za_80, ?_⟩)
    rw [er, nI_clamp (by omega), eQ x hx]
    refine ⟨vp_in_nI m8 (by omega), nm_e ⟨vp_in_nI (by omega) (by omega), ?_⟩⟩
    rw [nI_clamp (by omega), eS _ w2]
    unfold wpY_queueAt
    refine br_f (nI_pos (by omega)) (br_t (nI_lt hx (by omega)) ?_)
    rw [nI_clamp (by omega), fQ _ hx]
    exact ⟨vp_in_nI (by omega) (by omega), rfl, J⟩
theorem i_vc_freeCells {k : Nat} {u : SX} {v : SY} (I : i_Rel k u v) (hk : k + 5 ≤ 2563) : wpX_freeCells (fun r => wpY_freeCells (fun r' => r' = r ∧ i_Rel (k + 5) u v) v) u := by
  refine zz_el (Mt := fun u v => wpX_freeCells (fun r => wpY_freeCells (fun r' => r' = r ∧ i_Rel (k + 5) u v) v) u) ?_ I
  intro cp rc lm n la ql ar hd S B K Z T R Q P F mrk dep aH aS aB aR aQ aK aW aN aF aC aE aL bS bK bZ bP bT bF bR bQ bM bA bC bD bE hI hU hV
  have J := zz_in (k + 5) (mrk := mrk) (dep := dep) (aK := aK) (aW := aW) (aN := aN) (aF := aF) (aC := aC) (aE := aE) (aL := aL) (bM := bM) (bA := bA) (bC := bC) (bD := bD) (bE := bE) hI hU hV
  generalize i_Rel (k + 5) _ _ = J' at J ⊢
  obtain ⟨⟨c16, c96⟩, r8, l8, hd8, O, bc, HS, hR, hQu⟩ := hI
  obtain ⟨HX, eS, eR, eQ⟩ := hU
  obtain ⟨HY, fR, fQ⟩ := hV
  have n32 := zO_n O
  have q8 : ql ≤ 8 := Nat.le_trans (zQ_len hQu) l8
  have gS : ∀ x, x < n → bS x = nI (S (x + 1)) := fun x hx => (HY x hx).1
  unfold wpX_freeCells
  unfold wpY_freeCells
  exact yr_0 O HY ⟨rfl, J⟩
theorem i_vc_armsLeft {k : Nat} {u : SX} {v : SY} (I : i_Rel k u v) (hk : k + 5 ≤ 2563) : wpX_armsLeft (fun r => wpY_armsLeft (fun r' => r' = r ∧ i_Rel (k + 5) u v) v) u := by
  refine zz_el (Mt := fun u v => wpX_armsLeft (fun r => wpY_armsLeft (fun r' => r' = r ∧ i_Rel (k + 5) u v) v) u) ?_ I
  intro cp rc lm n la ql ar hd S B K Z T R Q P F mrk dep aH aS aB aR aQ aK aW aN aF aC aE aL bS bK bZ bP bT bF bR bQ bM bA bC bD bE hI hU hV
  have J := zz_in (k + 5) (mrk := mrk) (dep := dep) (aK := aK) (aW := aW) (aN := aN) (aF := aF) (aC := aC) (aE := aE) (aL := aL) (bM := bM) (bA := bA) (bC := bC) (bD := bD) (bE := bE) hI hU hV
  generalize i_Rel (k + 5) _ _ = J' at J ⊢
  obtain ⟨⟨c16, c96⟩, r8, l8, hd8, O, bc, HS, hR, hQu⟩ := hI
  obtain ⟨HX, eS, eR, eQ⟩ := hU
  obtain ⟨HY, fR, fQ⟩ := hV
  have n32 := zO_n O
  have q8 : ql ≤ 8 := Nat.le_trans (zQ_len hQu) l8
  have gS : ∀ x, x < n → bS x = nI (S (x + 1)) := fun x hx => (HY x hx).1
  unfold wpX_armsLeft
  unfold wpY_armsLeft
  exact ⟨n + 1, yt_L O HY (by rw [zt_ar hQu]; exact ⟨rfl, J⟩) (n + 1) 0 (by omega) (by omega)⟩
theorem i_vc_lastSerial {k : Nat} {u : SX} {v : SY} (I : i_Rel k u v) (hk : k + 5 ≤ 2563) : wpX_lastSerial (fun r => wpY_lastSerial (fun r' => r' = r ∧ i_Rel (k + 5) u v) v) u := by
  refine zz_el (Mt := fun u v => wpX_lastSerial (fun r => wpY_lastSerial (fun r' => r' = r ∧ i_Rel (k + 5) u v) v) u) ?_ I
  intro cp rc lm n la ql ar hd S B K Z T R Q P F mrk dep aH aS aB aR aQ aK aW aN aF aC aE aL bS bK bZ bP bT bF bR bQ bM bA bC bD bE hI hU hV
  have J := zz_in (k + 5) (mrk := mrk) (dep := dep) (aK := aK) (aW := aW) (aN := aN) (aF := aF) (aC := aC) (aE := aE) (aL := aL) (bM := bM) (bA := bA) (bC := bC) (bD := bD) (bE := bE) hI hU hV
  generalize i_Rel (k + 5) _ _ = J' at J ⊢
  obtain ⟨⟨c16, c96⟩, r8, l8, hd8, O, bc, HS, hR, hQu⟩ := hI
  obtain ⟨HX, eS, eR, eQ⟩ := hU
  obtain ⟨HY, fR, fQ⟩ := hV
  have n32 := zO_n O
  have q8 : ql ≤ 8 := Nat.le_trans (zQ_len hQu) l8
  have gS : ∀ x, x < n → bS x = nI (S (x + 1)) := fun x hx => (HY x hx).1
  unfold wpX_lastSerial
  unfold wpY_lastSerial
  exact ⟨rfl, J⟩
end
section
/-! small updates of the picture -/
theorem zr_up {α : Type} {rc d : Nat} {a : Nat → Int32} {R : Nat → Nat} (g : Nat → Int32) {v : Nat} {w : Int32} (h : ∀ r, r < rc → a r = g (R r)) (hw : w = g v) : ∀ r, r < rc → upd a d w r = g (zT R d v r) := by
  intro r hr
  unfold zT
  by_cases e : r = d
  · rw [e, pk_us, if_pos rfl]; exact hw
  · rw [pk_un e, if_neg e]; exact h r hr
theorem zr_le {rc d n : Nat} {R : Nat → Nat} {v : Nat} (h : ∀ r, r < rc → R r ≤ n) (hv : v ≤ n) : ∀ r, r < rc → zT R d v r ≤ n := by
  intro r hr
  unfold zT
  split
  · exact hv
  · exact h r hr
section
variable {yc yr yl ys yn yq : Int32} {bS bK bZ bP bT bF bR bQ bM bA bC bD bE : Nat → Int32} {n ql ar lm : Nat} {S B K Z T Q : Nat → Nat} {P : Nat → Int32} {F : Nat → Nat → Nat}
theorem zY_F (O : zO n B K Z T F) (HY : zY n S K Z T P F bS bK bZ bP bT bF) {x f v : Nat} (hx : x < n) (hf : f < Z (x + 1)) : zY n S K Z T P (zF F (x + 1) f v) bS bK bZ bP bT (upd bF (x * 6 + f) (nI (S v))) := by
  intro y hy
  obtain ⟨a, b, c, d, e, g⟩ := HY y hy
  refine ⟨a, b, c, d, e, fun i hi => ?_⟩
  have z1 := zO_Z6 O (h := y + 1) (by omega) (by omega)
  have z2 := zO_Z6 O (h := x + 1) (by omega) (by omega)
  unfold zF
  by_cases q : y = x ∧ i = f
  · obtain ⟨rfl, rfl⟩ := q
    rw [pk_us, if_pos ⟨rfl, rfl⟩]
  · rw [pk_un (by omega), if_neg (by omega)]
    exact g i hi
theorem zY_T (HY : zY n S K Z T P F bS bK bZ bP bT bF) {x s : Nat} : zY n S K Z (zT T (x + 1) s) P F bS bK bZ bP (upd bT x (nI s)) bF := by
  intro y hy
  obtain ⟨a, b, c, d, e, g⟩ := HY y hy
  refine ⟨a, b, c, d, ?_, g⟩
  unfold zT
  by_cases q : y = x
  · rw [q, pk_us, if_pos rfl]
  · rw [pk_un q, if_neg (by omega)]; exact e
theorem zY_congr {S' K' Z' T' : Nat → Nat} {P' : Nat → Int32} {F' : Nat → Nat → Nat} (HY : zY n S K Z T P F bS bK bZ bP bT bF) (e : ∀ h, 1 ≤ h → h ≤ n → S' h = S h ∧ K' h = K h ∧ Z' h = Z h ∧ T' h = T h ∧ P' h = P h ∧ ∀ f, f < Z h → S' (F' h f) = S (F h f)) : zY n S' K' Z' T' P' F' bS bK bZ bP bT bF := by
  intro x hx
  obtain ⟨a, b, c, d, i, g⟩ := HY x hx
  obtain ⟨q1, q2, q3, q4, q5, q6⟩ := e (x + 1) (by omega) (by omega)
  rw [q1, q2, q3, q4, q5]
  refine ⟨a, b, c, d, i, fun f hf => ?_⟩
  rw [g f hf, q6 f hf]
/-- arming -/
theorem zQ_arm (H : zQu n ql ar lm T Q) {h : Nat} (h1 : 1 ≤ h) (hn : h ≤ n) (t0 : T h = 0) (al : ar < lm) : zQu n ql (ar + 1) lm (zT T h 1) Q := by
  obtain ⟨a, b, c, d, e, f⟩ := H
  have ne : ∀ j, j ≠ h → zT T h 1 j = T j := fun j q => if_neg q
  have eh : zT T h 1 h = 1 := if_pos rfl
  refine ⟨fun i hi => ?_, b, fun j j1 jn q => ?_, ?_, ?_, by omega⟩
  · obtain ⟨x, y, z⟩ := a i hi
    exact ⟨x, y, by rw [ne _ (fun q => by rw [q, t0] at z; omega)]; exact z⟩
  · by_cases w : j = h
    · rw [w, eh] at q; omega
    · rw [ne j w] at q; exact c j j1 jn q
  · rw [← d]
    refine zc_congr (fun j _ _ => ?_)
    by_cases w : j = h
    · rw [w, eh, t0]; rfl
    · rw [ne j w]
  · have := zc_up (p := fun j => decide (T j = 1)) (q := fun j => decide (zT T h 1 j = 1)) (n := n) h1 hn (by rw [t0]; rfl) (by rw [eh]; rfl) (fun j _ _ w => by rw [ne j w])
    omega
/-- taking the queue's head -/
theorem zQ_take (H : zQu n (ql + 1) ar lm T Q) : zQu n ql (ar - 1) lm (zT T (Q 0) 3) (fun i => Q (i + 1)) ∧ 1 ≤ ar := by
  obtain ⟨a, b, c, d, e, f⟩ := H
  obtain ⟨h1, hn, t2⟩ := a 0 (by omega)
  have ne : ∀ j, j ≠ Q 0 → zT T (Q 0) 3 j = T j := fun j q => if_neg q
  have eh : zT T (Q 0) 3 (Q 0) = 3 := if_pos rfl
  refine ⟨⟨fun i hi => ?_, fun i j ij jq => b (i + 1) (j + 1) (by omega) (by omega), fun j j1 jn q => ?_, ?_, ?_, by omega⟩, by omega⟩
  · obtain ⟨x, y, z⟩ := a (i + 1) (by omega)
    exact ⟨x, y, by rw [ne _ (fun q => b 0 (i + 1) (by omega) (by omega) q.symm)]; exact z⟩
  · by_cases w : j = Q 0
    · rw [w, eh] at q; omega
    · rw [ne j w] at q
      obtain ⟨i, x, y⟩ := c j j1 jn q
      rcases Nat.eq_zero_or_pos i with r | r
      · rw [r] at y; exact absurd y.symm w
      · exact ⟨i - 1, by omega, by dsimp only; rw [show i - 1 + 1 = i by omega]; exact y⟩
  · have := zc_up (p := fun j => decide (zT T (Q 0) 3 j = 2)) (q := fun j => decide (T j = 2)) (n := n) h1 hn (by rw [eh]; rfl) (by rw [t2]; rfl) (fun j _ _ w => by rw [ne j w])
    omega
  · have : zc (fun j => decide (zT T (Q 0) 3 j = 1)) n = zc (fun j => decide (T j = 1)) n := zc_congr (fun j _ _ => by
      by_cases w : j = Q 0
      · rw [w, eh, t2]; rfl
      · rw [ne j w])
    omega
end
/-! a new object -/
def zNf (F : Nat → Nat → Nat) (h : Nat) : Nat → Nat → Nat := fun j g => if j = h then 0 else F j g
def zNp (P : Nat → Int32) (h : Nat) (p : Int32) : Nat → Int32 := fun j => if j = h then p else P j
section
variable {cap rgc fln cnt usd lst qhd qln arm : Int32} {mrk : Int64} {dep : Int32} {aH aS aB aR aQ aK aW aN aF aC : Nat → Int32} {aE : Nat → Int64} {aL : Nat → Int32} {yc yr yl ys yn yq : Int32} {bS bK bZ bP bT bF bR bQ bM bA bC bD bE : Nat → Int32} {n la ql ar lm : Nat} {S B K Z T Q : Nat → Nat} {P : Nat → Int32} {F : Nat → Nat → Nat}
theorem zN_O (O : zO n B K Z T F) {kd z : Nat} (k4 : kd < 4) (z1 : 1 ≤ z) (z6 : z ≤ 6) (z2 : kd = 3 → 2 ≤ z) (top : B (n + 1) + z + 2 ≤ 96) : zO (n + 1) (zT B (n + 2) (B (n + 1) + z + 2)) (zT K (n + 1) kd) (zT Z (n + 1) z) (zT T (n + 1) 0) (zNf F (n + 1)) := by
  have bo : ∀ j, j ≠ n + 2 → zT B (n + 2) (B (n + 1) + z + 2) j = B j := fun j q => if_neg q
  have bn : zT B (n + 2) (B (n + 1) + z + 2) (n + 1 + 1) = B (n + 1) + z + 2 := if_pos rfl
  have e0 : ∀ (V : Nat → Nat) (v j : Nat), j ≠ n + 1 → zT V (n + 1) v j = V j := fun _ _ _ q => if_neg q
  have e1 : ∀ (V : Nat → Nat) (v : Nat), zT V (n + 1) v (n + 1) = v := fun _ _ => if_pos rfl
  refine ⟨by rw [bo 1 (by omega)]; exact O.1, by rw [bn]; exact top, fun h h1 hn => ?_⟩
  by_cases q : h = n + 1
  · subst q
    rw [e1, e1, e1, bn, bo (n + 1) (by omega)]
    exact ⟨rfl, z1, z6, k4, by omega, z2, fun f hf => by unfold zNf; rw [if_pos rfl]; omega⟩
  · obtain ⟨a, b, c, d, e, f, g⟩ := O.2.2 h h1 (by omega)
    rw [e0 _ _ _ q, e0 _ _ _ q, e0 _ _ _ q, bo h (by omega), bo (h + 1) (by omega)]
    exact ⟨a, b, c, d, e, f, fun i hi => by
      unfold zNf
      rw [if_neg q]
      have := g i hi
      omega⟩
theorem zN_S (HS : zS n S la) (l : la < 30000) : zS (n + 1) (zT S (n + 1) (la + 1)) (la + 1) := by
  obtain ⟨a, b, c, d⟩ := HS
  have e0 : ∀ j, j ≠ n + 1 → zT S (n + 1) (la + 1) j = S j := fun j q => if_neg q
  have e1 : zT S (n + 1) (la + 1) (n + 1) = la + 1 := if_pos rfl
  refine ⟨by rw [e0 0 (by omega)]; exact a, fun i j ij jn => ?_, by rw [e1]; exact Nat.le_refl _, by omega⟩
  rw [e0 i (by omega)]
  by_cases q : j = n + 1
  · rw [q, e1]
    rcases Nat.lt_or_ge i n with r | r
    · have := b i n r (Nat.le_refl _); omega
    · rw [show i = n by omega]; omega
  · rw [e0 j q]; exact b i j ij (by omega)
theorem zN_Q (H : zQu n ql ar lm T Q) : zQu (n + 1) ql ar lm (zT T (n + 1) 0) Q := by
  obtain ⟨a, b, c, d, e, f⟩ := H
  have e0 : ∀ j, j ≠ n + 1 → zT T (n + 1) 0 j = T j := fun j q => if_neg q
  have e1 : zT T (n + 1) 0 (n + 1) = 0 := if_pos rfl
  have cc : ∀ s, s ≠ 0 → zc (fun j => decide (zT T (n + 1) 0 j = s)) (n + 1) = zc (fun j => decide (T j = s)) n := fun s hs => by
    rw [zc_s]
    simp only [e1, decide_eq_true_iff]
    rw [if_neg (fun q => hs q.symm), Nat.add_zero]
    exact zc_congr (fun j _ jn => by rw [e0 j (by omega)])
  refine ⟨fun i hi => ?_, b, fun j j1 jn q => ?_, by rw [cc 2 (by omega)]; exact d, by rw [cc 1 (by omega)]; exact e, f⟩
  · obtain ⟨x, y, z⟩ := a i hi
    exact ⟨x, by omega, by rw [e0 _ (by omega)]; exact z⟩
  · by_cases w : j = n + 1
    · rw [w, e1] at q; omega
    · rw [e0 j w] at q; exact c j j1 (by omega) q
theorem zN_X (O : zO n B K Z T F) (HX : zX n B K Z T P F aH aB) {kd z : Nat} {p : Int32} {aH' : Nat → Int32} (h1 : ∀ j, j < B (n + 1) → aH' j = aH j) (h2 : aH' (B (n + 1)) = nI (kd + 4 * z + 32 * 0)) (h3 : aH' (B (n + 1) + 1) = p) (h4 : ∀ f, f < z → aH' (B (n + 1) + 2 + f) = 0) : zX (n + 1) (zT B (n + 2) (B (n + 1) + z + 2)) (zT K (n + 1) kd) (zT Z (n + 1) z) (zT T (n + 1) 0) (zNp P (n + 1) p) (zNf F (n + 1)) aH' (upd aB (n + 1) (nI (B (n + 1)))) := by
  have bo : ∀ j, j ≠ n + 2 → zT B (n + 2) (B (n + 1) + z + 2) j = B j := fun j q => if_neg q
  have e0 : ∀ (V : Nat → Nat) (v j : Nat), j ≠ n + 1 → zT V (n + 1) v j = V j := fun _ _ _ q => if_neg q
  have e1 : ∀ (V : Nat → Nat) (v : Nat), zT V (n + 1) v (n + 1) = v := fun _ _ => if_pos rfl
  intro h i1 hn
  by_cases q : h = n + 1
  · subst q
    rw [e1, e1, e1, bo (n + 1) (by omega), pk_us]
    refine ⟨rfl, h2, ?_, fun f hf => ?_⟩
    · rw [h3]; exact (if_pos rfl).symm
    · rw [h4 f hf, show zNf F (n + 1) (n + 1) f = 0 from if_pos rfl]; exact nI_0.symm
  · obtain ⟨a, b, c, d⟩ := HX h i1 (by omega)
    have m := zO_mn O i1 (j := n + 1) (by omega) (by omega)
    rw [e0 _ _ _ q, e0 _ _ _ q, e0 _ _ _ q, bo h (by omega), pk_un q, h1 _ (by omega), h1 _ (by omega)]
    refine ⟨a, b, ?_, fun f hf => ?_⟩
    · rw [c]; exact (if_neg q).symm
    · rw [h1 _ (by omega), d f hf, show zNf F (n + 1) h f = F h f from if_neg q]
theorem zN_Y (O : zO n B K Z T F) (HY : zY n S K Z T P F bS bK bZ bP bT bF) {kd z s : Nat} {p : Int32} {bF' : Nat → Int32} (S0 : S 0 = 0) (z6 : z ≤ 6) (h1 : ∀ j, j < n * 6 → bF' j = bF j) (h2 : ∀ f, f < 6 → bF' (n * 6 + f) = 0) : zY (n + 1) (zT S (n + 1) s) (zT K (n + 1) kd) (zT Z (n + 1) z) (zT T (n + 1) 0) (zNp P (n + 1) p) (zNf F (n + 1)) (upd bS n (nI s)) (upd bK n (nI kd)) (upd bZ n (nI z)) (upd bP n p) (upd bT n 0) bF' := by
  have e0 : ∀ (V : Nat → Nat) (v j : Nat), j ≠ n + 1 → zT V (n + 1) v j = V j := fun _ _ _ q => if_neg q
  have e1 : ∀ (V : Nat → Nat) (v : Nat), zT V (n + 1) v (n + 1) = v := fun _ _ => if_pos rfl
  intro x hx
  by_cases q : x = n
  · subst q
    rw [e1, e1, e1, e1, pk_us, pk_us, pk_us, pk_us, pk_us]
    refine ⟨rfl, rfl, rfl, (if_pos rfl).symm, nI_0.symm, fun f hf => ?_⟩
    rw [h2 f (by omega), show zNf F (x + 1) (x + 1) f = 0 from if_pos rfl, e0 _ _ _ (by omega), S0]
    exact nI_0.symm
  · obtain ⟨a, b, c, d, e, g⟩ := HY x (by omega)
    have zz := zO_Z6 O (h := x + 1) (by omega) (by omega)
    rw [e0 _ _ _ (by omega), e0 _ _ _ (by omega), e0 _ _ _ (by omega), e0 _ _ _ (by omega), pk_un q, pk_un q, pk_un q, pk_un q, pk_un q]
    refine ⟨a, b, c, by rw [d]; exact (if_neg (by omega)).symm, e, fun f hf => ?_⟩
    have fn := zO_F O (h := x + 1) (by omega) (by omega) hf
    rw [h1 _ (by omega), g f hf, show zNf F (n + 1) (x + 1) f = F (x + 1) f from if_neg (by omega), e0 _ _ _ (by omega)]
end
end
section
theorem i_vc_load {k : Nat} {u : SX} {v : SY} (I : i_Rel k u v) (hk : k + 5 ≤ 2563) (v1 : Int32) (v2 : Int32) (v3 : Int32) : wpX_load (fun r u' => wpY_load (fun r' v' => r' = r ∧ i_Rel (k + 5) u' v') v v1 v2 v3) u v1 v2 v3 := by
  refine zz_el (Mt := fun u v => wpX_load (fun r u' => wpY_load (fun r' v' => r' = r ∧ i_Rel (k + 5) u' v') v v1 v2 v3) u v1 v2 v3) ?_ I
  intro cp rc lm n la ql ar hd S B K Z T R Q P F mrk dep aH aS aB aR aQ aK aW aN aF aC aE aL bS bK bZ bP bT bF bR bQ bM bA bC bD bE hI hU hV
  have J := zz_in (k + 5) (mrk := mrk) (dep := dep) (aK := aK) (aW := aW) (aN := aN) (aF := aF) (aC := aC) (aE := aE) (aL := aL) (bM := bM) (bA := bA) (bC := bC) (bD := bD) (bE := bE) hI hU hV
  obtain ⟨⟨c16, c96⟩, r8, l8, hd8, O, bc, HS, hR, hQu⟩ := hI
  obtain ⟨HX, eS, eR, eQ⟩ := hU
  obtain ⟨HY, fR, fQ⟩ := hV
  have n32 := zO_n O
  have q8 : ql ≤ 8 := Nat.le_trans (zQ_len hQu) l8
  have gS : ∀ x, x < n → bS x = nI (S (x + 1)) := fun x hx => (HY x hx).1
  unfold wpX_load
  rcases zg_ix v1 r8 with h | ⟨d, hd', rfl⟩
  · refine xg_bad h (br_t rfl ?_)
    unfold wpY_load
    exact yg_bad h (br_t rfl ⟨rfl, J⟩)
  · refine xg_ok hd' r8 (br_f za_10 ?_)
    rcases zg_ix v2 r8 with h | ⟨s, hs, rfl⟩
    · refine xg_bad h (br_t rfl ?_)
      unfold wpY_load
      refine yg_ok hd' r8 (br_f za_10 ?_)
      exact yg_bad h (br_t rfl ⟨rfl, J⟩)
    · have vs : vp_in (nI s) 8 := vp_in_nI (by omega) (by omega)
      have vd : vp_in (nI d) 8 := vp_in_nI (by omega) (by omega)
      have cs : (nI s).toNatClampNeg = s := nI_clamp (by omega)
      have cd : (nI d).toNatClampNeg = d := nI_clamp (by omega)
      have rs := hR s hs
      refine xg_ok hs r8 (br_f za_10 ⟨vs, nm_r (e' := nI (R s)) (by rw [cs]; exact eR s hs) ?_⟩)
      rcases Nat.eq_zero_or_pos (R s) with z | z
      · rw [z]
        refine br_t nI_0 ?_
        unfold wpY_load
        refine yg_ok hd' r8 (br_f za_10 ?_)
        refine yg_ok hs r8 (br_f za_10 ⟨vs, ?_⟩)
        rw [cs, fR s hs]
        exact yk_pl n32 HS gS rs (fun _ => br_f za_n0 ⟨rfl, J⟩) (fun x q => by omega)
      · refine br_f (nI_ne0 z (by omega)) ?_
        obtain ⟨x, ex⟩ : ∃ x, R s = x + 1 := ⟨R s - 1, by omega⟩
        rw [ex] at z rs ⊢
        have cx : (nI x).toNatClampNeg = x := nI_clamp (by omega)
        have tp := zO_top O z rs
        have z6 := zO_Z6 O z rs
        rcases zg_ix (rc := Z (x + 1)) v3 (by omega) with q | ⟨f, hf, rfl⟩
        · refine xg_fb O HX z rs q (br_t rfl ?_)
          unfold wpY_load
          refine yg_ok hd' r8 (br_f za_10 ?_)
          refine yg_ok hs r8 (br_f za_10 ⟨vs, ?_⟩)
          rw [cs, fR s hs, ex]
          refine yf_at n32 HS gS (by omega) (br_t (nI_pos' (by omega)) ?_)
          by_cases q0 : v3 < 0
          · exact br_t q0 ⟨rfl, J⟩
          · refine br_f q0 ⟨vp_in_nI (by omega) (by omega), ?_⟩
            rw [cx, (HY x (by omega)).2.2.1]
            exact br_f (Int32.not_lt.mpr (q.resolve_left q0)) ⟨rfl, J⟩
        · have fn := zO_F O z rs hf
          refine xg_fo O HX z rs hf (br_f za_10 ⟨vp_in_nI (by omega) (by omega), ?_⟩)
          have e1 : aB (nI (x + 1)).toNatClampNeg + 2 + nI f = nI (B (x + 1) + 2 + f) := by rw [nI_clamp (by omega), (HX _ z rs).1, za_2, nI_add]
          rw [e1, nI_clamp (by omega), (HX _ z rs).2.2.2 f hf]
          refine ⟨vp_in_nI (by omega) (by omega), nm_e ⟨vd, nm_e ⟨vp_in_nI (by omega) (by omega), ?_⟩⟩⟩
          rw [nI_clamp (by omega), eS _ fn, cd]
          unfold wpY_load
          refine yg_ok hd' r8 (br_f za_10 ?_)
          refine yg_ok hs r8 (br_f za_10 ⟨vs, ?_⟩)
          rw [cs, fR s hs, ex]
          refine yf_at n32 HS gS (by omega) (br_t (nI_pos' (by omega)) (br_f (nI_pos (by omega)) ⟨vp_in_nI (by omega) (by omega), ?_⟩))
          rw [cx, (HY x (by omega)).2.2.1]
          refine br_t (nI_lt hf (by omega)) ?_
          rw [za_m6, nI_add, nI_clamp (n := x * 6 + f) (by omega), (HY x (by omega)).2.2.2.2.2 f hf, cd]
          refine ⟨vp_in_nI (by omega) (by omega), vd, nm_e ⟨vd, ?_⟩⟩
          rw [pk_us]
          exact ⟨rfl, zz_in (B := B) (R := zT R d (F (x + 1) f)) (k + 5) ⟨⟨c16, c96⟩, r8, l8, hd8, O, bc, HS, zr_le hR fn, hQu⟩ ⟨HX, eS, zr_up (α := Nat) nI eR rfl, eQ⟩ ⟨HY, zr_up (α := Nat) (fun h => nI (S h)) fR rfl, fQ⟩⟩
theorem i_vc_store {k : Nat} {u : SX} {v : SY} (I : i_Rel k u v) (hk : k + 5 ≤ 2563) (v1 : Int32) (v2 : Int32) (v3 : Int32) : wpX_store (fun r u' => wpY_store (fun r' v' => r' = r ∧ i_Rel (k + 5) u' v') v v1 v2 v3) u v1 v2 v3 := by
  refine zz_el (Mt := fun u v => wpX_store (fun r u' => wpY_store (fun r' v' => r' = r ∧ i_Rel (k + 5) u' v') v v1 v2 v3) u v1 v2 v3) ?_ I
  intro cp rc lm n la ql ar hd S B K Z T R Q P F mrk dep aH aS aB aR aQ aK aW aN aF aC aE aL bS bK bZ bP bT bF bR bQ bM bA bC bD bE hI hU hV
  have J := zz_in (k + 5) (mrk := mrk) (dep := dep) (aK := aK) (aW := aW) (aN := aN) (aF := aF) (aC := aC) (aE := aE) (aL := aL) (bM := bM) (bA := bA) (bC := bC) (bD := bD) (bE := bE) hI hU hV
  obtain ⟨⟨c16, c96⟩, r8, l8, hd8, O, bc, HS, hR, hQu⟩ := hI
  obtain ⟨HX, eS, eR, eQ⟩ := hU
  obtain ⟨HY, fR, fQ⟩ := hV
  have n32 := zO_n O
  have q8 : ql ≤ 8 := Nat.le_trans (zQ_len hQu) l8
  have gS : ∀ x, x < n → bS x = nI (S (x + 1)) := fun x hx => (HY x hx).1
  unfold wpX_store
  rcases zg_ix v1 r8 with h | ⟨d, hd', rfl⟩
  · refine xg_bad h (br_t rfl ?_)
    unfold wpY_store
    exact yg_bad h (br_t rfl ⟨rfl, J⟩)
  · refine xg_ok hd' r8 (br_f za_10 ?_)
    rcases zg_ix v3 r8 with h | ⟨s, hs, rfl⟩
    · refine xg_bad h (br_t rfl ?_)
      unfold wpY_store
      refine yg_ok hd' r8 (br_f za_10 ?_)
      exact yg_bad h (br_t rfl ⟨rfl, J⟩)
    · have vs : vp_in (nI s) 8 := vp_in_nI (by omega) (by omega)
      have vd : vp_in (nI d) 8 := vp_in_nI (by omega) (by omega)
      have cs : (nI s).toNatClampNeg = s := nI_clamp (by omega)
      have cd : (nI d).toNatClampNeg = d := nI_clamp (by omega)
      have rs := hR d hd'
      refine xg_ok hs r8 (br_f za_10 ⟨vd, nm_r (e' := nI (R d)) (by rw [cd]; exact eR d hd') ?_⟩)
      rcases Nat.eq_zero_or_pos (R d) with z | z
      · rw [z]
        refine br_t nI_0 ?_
        unfold wpY_store
        refine yg_ok hd' r8 (br_f za_10 ?_)
        refine yg_ok hs r8 (br_f za_10 ⟨vd, ?_⟩)
        rw [cd, fR d hd']
        exact yk_pl n32 HS gS rs (fun _ => br_f za_n0 ⟨rfl, J⟩) (fun x q => by omega)
      · refine br_f (nI_ne0 z (by omega)) ?_
        obtain ⟨x, ex⟩ : ∃ x, R d = x + 1 := ⟨R d - 1, by omega⟩
        rw [ex] at z rs ⊢
        have cx : (nI x).toNatClampNeg = x := nI_clamp (by omega)
        have tp := zO_top O z rs
        have z6 := zO_Z6 O z rs
        rcases zg_ix (rc := Z (x + 1)) v2 (by omega) with q | ⟨f, hf, rfl⟩
        · refine xg_fb O HX z rs q (br_t rfl ?_)
          unfold wpY_store
          refine yg_ok hd' r8 (br_f za_10 ?_)
          refine yg_ok hs r8 (br_f za_10 ⟨vd, ?_⟩)
          rw [cd, fR d hd', ex]
          refine yf_at n32 HS gS (by omega) (br_t (nI_pos' (by omega)) ?_)
          by_cases q0 : v2 < 0
          · exact br_t q0 ⟨rfl, J⟩
          · refine br_f q0 ⟨vp_in_nI (by omega) (by omega), ?_⟩
            rw [cx, (HY x (by omega)).2.2.1]
            exact br_f (Int32.not_lt.mpr (q.resolve_left q0)) ⟨rfl, J⟩
        · have fn := hR s hs
          refine xg_fo O HX z rs hf (br_f za_10 ⟨vp_in_nI (by omega) (by omega), vs, ?_⟩)
          have e1 : aB (nI (x + 1)).toNatClampNeg + 2 + nI f = nI (B (x + 1) + 2 + f) := by rw [nI_clamp (by omega), (HX _ z rs).1, za_2, nI_add]
          rw [e1, nI_clamp (n := B (x + 1) + 2 + f) (by omega), cs, eR s hs]
          refine ⟨vp_in_nI (by omega) (by omega), nm_e ?_⟩
          unfold wpY_store
          refine yg_ok hd' r8 (br_f za_10 ?_)
          refine yg_ok hs r8 (br_f za_10 ⟨vd, ?_⟩)
          rw [cd, fR d hd', ex]
          refine yf_at n32 HS gS (by omega) (br_t (nI_pos' (by omega)) (br_f (nI_pos (by omega)) ⟨vp_in_nI (by omega) (by omega), ?_⟩))
          rw [cx, (HY x (by omega)).2.2.1]
          refine br_t (nI_lt hf (by omega)) ⟨vs, ?_⟩
          rw [za_m6, nI_add, nI_clamp (n := x * 6 + f) (by omega), cs, fR s hs]
          refine ⟨vp_in_nI (by omega) (by omega), nm_e ?_⟩
          exact ⟨rfl, zz_in (B := B) (F := zF F (x + 1) f (R s)) (k + 5) ⟨⟨c16, c96⟩, r8, l8, hd8, zO_F' O fn, bc, HS, hR, hQu⟩ ⟨zX_F O HX z rs hf, eS, eR, eQ⟩ ⟨zY_F O HY (by omega) hf, fR, fQ⟩⟩
theorem i_vc_copy {k : Nat} {u : SX} {v : SY} (I : i_Rel k u v) (hk : k + 5 ≤ 2563) (v1 : Int32) (v2 : Int32) : wpX_copy (fun r u' => wpY_copy (fun r' v' => r' = r ∧ i_Rel (k + 5) u' v') v v1 v2) u v1 v2 := by
  refine zz_el (Mt := fun u v => wpX_copy (fun r u' => wpY_copy (fun r' v' => r' = r ∧ i_Rel (k + 5) u' v') v v1 v2) u v1 v2) ?_ I
  intro cp rc lm n la ql ar hd S B K Z T R Q P F mrk dep aH aS aB aR aQ aK aW aN aF aC aE aL bS bK bZ bP bT bF bR bQ bM bA bC bD bE hI hU hV
  have J := zz_in (k + 5) (mrk := mrk) (dep := dep) (aK := aK) (aW := aW) (aN := aN) (aF := aF) (aC := aC) (aE := aE) (aL := aL) (bM := bM) (bA := bA) (bC := bC) (bD := bD) (bE := bE) hI hU hV
  obtain ⟨⟨c16, c96⟩, r8, l8, hd8, O, bc, HS, hR, hQu⟩ := hI
  obtain ⟨HX, eS, eR, eQ⟩ := hU
  obtain ⟨HY, fR, fQ⟩ := hV
  have n32 := zO_n O
  have q8 : ql ≤ 8 := Nat.le_trans (zQ_len hQu) l8
  have gS : ∀ x, x < n → bS x = nI (S (x + 1)) := fun x hx => (HY x hx).1
  unfold wpX_copy
  rcases zg_ix v1 r8 with h | ⟨d, hd', rfl⟩
  · refine xg_bad h (br_t rfl ?_)
    unfold wpY_copy
    exact yg_bad h (br_t rfl ⟨rfl, J⟩)
  · refine xg_ok hd' r8 (br_f za_10 ?_)
    rcases zg_ix v2 r8 with h | ⟨s, hs, rfl⟩
    · refine xg_bad h (br_t rfl ?_)
      unfold wpY_copy
      refine yg_ok hd' r8 (br_f za_10 ?_)
      exact yg_bad h (br_t rfl ⟨rfl, J⟩)
    · have vs : vp_in (nI s) 8 := vp_in_nI (by omega) (by omega)
      have vd : vp_in (nI d) 8 := vp_in_nI (by omega) (by omega)
      have cs : (nI s).toNatClampNeg = s := nI_clamp (by omega)
      have cd : (nI d).toNatClampNeg = d := nI_clamp (by omega)
      have rs := hR s hs
      refine xg_ok hs r8 (br_f za_10 ⟨vs, nm_r (e' := nI (R s)) (by rw [cs]; exact eR s hs) ⟨vd, nm_e ⟨vp_in_nI (by omega) (by omega), ?_⟩⟩⟩)
      rw [nI_clamp (n := R s) (by omega), eS _ rs, cd]
      unfold wpY_copy
      refine yg_ok hd' r8 (br_f za_10 ?_)
      refine yg_ok hs r8 (br_f za_10 ⟨vs, vd, ?_⟩)
      rw [cs, cd, fR s hs]
      refine nm_e ⟨vd, ?_⟩
      rw [pk_us]
      exact ⟨rfl, zz_in (B := B) (R := zT R d (R s)) (k + 5) ⟨⟨c16, c96⟩, r8, l8, hd8, O, bc, HS, zr_le hR rs, hQu⟩ ⟨HX, eS, zr_up (α := Nat) nI eR rfl, eQ⟩ ⟨HY, zr_up (α := Nat) (fun h => nI (S h)) fR rfl, fQ⟩⟩
theorem i_vc_clear {k : Nat} {u : SX} {v : SY} (I : i_Rel k u v) (hk : k + 5 ≤ 2563) (v1 : Int32) : wpX_clear (fun r u' => wpY_clear (fun r' v' => r' = r ∧ i_Rel (k + 5) u' v') v v1) u v1 := by
  refine zz_el (Mt := fun u v => wpX_clear (fun r u' => wpY_clear (fun r' v' => r' = r ∧ i_Rel (k + 5) u' v') v v1) u v1) ?_ I
  intro cp rc lm n la ql ar hd S B K Z T R Q P F mrk dep aH aS aB aR aQ aK aW aN aF aC aE aL bS bK bZ bP bT bF bR bQ bM bA bC bD bE hI hU hV
  have J := zz_in (k + 5) (mrk := mrk) (dep := dep) (aK := aK) (aW := aW) (aN := aN) (aF := aF) (aC := aC) (aE := aE) (aL := aL) (bM := bM) (bA := bA) (bC := bC) (bD := bD) (bE := bE) hI hU hV
  obtain ⟨⟨c16, c96⟩, r8, l8, hd8, O, bc, HS, hR, hQu⟩ := hI
  obtain ⟨HX, eS, eR, eQ⟩ := hU
  obtain ⟨HY, fR, fQ⟩ := hV
  have n32 := zO_n O
  have q8 : ql ≤ 8 := Nat.le_trans (zQ_len hQu) l8
  have gS : ∀ x, x < n → bS x = nI (S (x + 1)) := fun x hx => (HY x hx).1
  unfold wpX_clear
  rcases zg_ix v1 r8 with h | ⟨d, hd', rfl⟩
  · refine xg_bad h (br_t rfl ?_)
    unfold wpY_clear
    exact yg_bad h (br_t rfl ⟨rfl, J⟩)
  · have vd : vp_in (nI d) 8 := vp_in_nI (by omega) (by omega)
    have cd : (nI d).toNatClampNeg = d := nI_clamp (by omega)
    refine xg_ok hd' r8 (br_f za_10 ⟨vd, nm_e ?_⟩)
    rw [cd]
    unfold wpY_clear
    refine yg_ok hd' r8 (br_f za_10 ⟨vd, nm_e ?_⟩)
    rw [cd]
    exact ⟨rfl, zz_in (B := B) (R := zT R d 0) (k + 5) ⟨⟨c16, c96⟩, r8, l8, hd8, O, bc, HS, zr_le hR (Nat.zero_le _), hQu⟩ ⟨HX, eS, zr_up (α := Nat) nI eR nI_0.symm, eQ⟩ ⟨HY, zr_up (α := Nat) (fun h => nI (S h)) fR (by rw [HS.1]; exact nI_0.symm), fQ⟩⟩
theorem i_vc_arm {k : Nat} {u : SX} {v : SY} (I : i_Rel k u v) (hk : k + 5 ≤ 2563) (v1 : Int32) : wpX_arm (fun r u' => wpY_arm (fun r' v' => r' = r ∧ i_Rel (k + 5) u' v') v v1) u v1 := by
  refine zz_el (Mt := fun u v => wpX_arm (fun r u' => wpY_arm (fun r' v' => r' = r ∧ i_Rel (k + 5) u' v') v v1) u v1) ?_ I
  intro cp rc lm n la ql ar hd S B K Z T R Q P F mrk dep aH aS aB aR aQ aK aW aN aF aC aE aL bS bK bZ bP bT bF bR bQ bM bA bC bD bE hI hU hV
  have J := zz_in (k + 5) (mrk := mrk) (dep := dep) (aK := aK) (aW := aW) (aN := aN) (aF := aF) (aC := aC) (aE := aE) (aL := aL) (bM := bM) (bA := bA) (bC := bC) (bD := bD) (bE := bE) hI hU hV
  obtain ⟨⟨c16, c96⟩, r8, l8, hd8, O, bc, HS, hR, hQu⟩ := hI
  obtain ⟨HX, eS, eR, eQ⟩ := hU
  obtain ⟨HY, fR, fQ⟩ := hV
  have n32 := zO_n O
  have q8 : ql ≤ 8 := Nat.le_trans (zQ_len hQu) l8
  have gS : ∀ x, x < n → bS x = nI (S (x + 1)) := fun x hx => (HY x hx).1
  unfold wpX_arm
  rcases zg_ix v1 r8 with h | ⟨d, hd', rfl⟩
  · refine xg_bad h (br_t rfl ?_)
    unfold wpY_arm
    exact yg_bad h (br_t rfl ⟨rfl, J⟩)
  · have vd : vp_in (nI d) 8 := vp_in_nI (by omega) (by omega)
    have cd : (nI d).toNatClampNeg = d := nI_clamp (by omega)
    have rs := hR d hd'
    refine xg_ok hd' r8 (br_f za_10 ⟨vd, nm_r (e' := nI (R d)) (by rw [cd]; exact eR d hd') ?_⟩)
    rcases Nat.eq_zero_or_pos (R d) with z | z
    · rw [z]
      refine br_t nI_0 ?_
      unfold wpY_arm
      refine yg_ok hd' r8 (br_f za_10 ⟨vd, ?_⟩)
      rw [cd, fR d hd']
      exact yk_pl n32 HS gS rs (fun _ => br_f za_n0 ⟨rfl, J⟩) (fun x q => by omega)
    · refine br_f (nI_ne0 z (by omega)) ?_
      obtain ⟨x, ex⟩ : ∃ x, R d = x + 1 := ⟨R d - 1, by omega⟩
      rw [ex] at z rs ⊢
      have cx : (nI x).toNatClampNeg = x := nI_clamp (by omega)
      have vx : vp_in (nI x) 32 := vp_in_nI (by omega) (by omega)
      have t4 := zO_T O z rs
      have al := hQu.2.2.2.2.2
      have es : nI lm - nI ar = nI (lm - ar) := pk_sub al
      refine xk_state O HX z rs ?_
      by_cases t0 : T (x + 1) = 0
      · refine br_t (by rw [t0]; exact nI_0) ?_
        by_cases q : ar < lm
        · refine br_t (nI_lt q (by omega)) ?_
          refine xk_setS (s := 1) O HX z rs (by omega) ?_
          intro aH' HX'
          refine nm_r (nI_1 ar) ?_
          unfold wpY_arm
          refine yg_ok hd' r8 (br_f za_10 ⟨vd, ?_⟩)
          rw [cd, fR d hd', ex]
          refine yf_at n32 HS gS (by omega) (br_t (nI_pos' (by omega)) ⟨vx, ?_⟩)
          rw [cx, (HY x (by omega)).2.2.2.2.1, t0]
          refine br_t nI_0 ?_
          refine ⟨n + 1, yt_L O HY ?_ (n + 1) 0 (by omega) (by omega)⟩
          rw [zt_ar hQu, es]
          refine br_t (show nI 0 < nI (lm - ar) from nI_lt (by omega) (by omega)) ⟨vx, nm_e ⟨rfl, ?_⟩⟩
          exact zz_in (B := B) (T := zT T (x + 1) 1) (k + 5) ⟨⟨c16, c96⟩, r8, l8, hd8, zO_T' O (by omega), bc, HS, hR, zQ_arm hQu z rs t0 q⟩ ⟨HX', eS, eR, eQ⟩ ⟨zY_T HY, fR, fQ⟩
        · refine br_f (nI_nlt (by omega) (by omega)) ?_
          unfold wpY_arm
          refine yg_ok hd' r8 (br_f za_10 ⟨vd, ?_⟩)
          rw [cd, fR d hd', ex]
          refine yf_at n32 HS gS (by omega) (br_t (nI_pos' (by omega)) ⟨vx, ?_⟩)
          rw [cx, (HY x (by omega)).2.2.2.2.1, t0]
          refine br_t nI_0 ?_
          refine ⟨n + 1, yt_L O HY ?_ (n + 1) 0 (by omega) (by omega)⟩
          rw [zt_ar hQu, es]
          exact br_f (show ¬ nI 0 < nI (lm - ar) from nI_nlt (by omega) (by omega)) ⟨rfl, J⟩
      · refine br_f (nI_ne0 (by omega) (by omega)) ?_
        unfold wpY_arm
        refine yg_ok hd' r8 (br_f za_10 ⟨vd, ?_⟩)
        rw [cd, fR d hd', ex]
        refine yf_at n32 HS gS (by omega) (br_t (nI_pos' (by omega)) ⟨vx, ?_⟩)
        rw [cx, (HY x (by omega)).2.2.2.2.1]
        exact br_f (nI_ne0 (by omega) (by omega)) ⟨rfl, J⟩
end
section
section
variable {cap rgc fln cnt usd lst qhd qln arm : Int32} {mrk : Int64} {dep : Int32} {aH aS aB aR aQ aK aW aN aF aC : Nat → Int32} {aE : Nat → Int64} {aL : Nat → Int32} {yc yr yl ys yn yq : Int32} {bS bK bZ bP bT bF bR bQ bM bA bC bD bE : Nat → Int32} {n la : Nat} {S B K Z T : Nat → Nat} {P : Nat → Int32} {F : Nat → Nat → Nat}
theorem yq_L {post : Int32 → SY → Prop} {x1 : Int32} {ql : Nat} (q8 : ql + 1 ≤ 8) (n32 : n ≤ 32) (HS : zS n S la) (eS : ∀ x, x < n → bS x = nI (S (x + 1))) {x r : Nat} (hx : x < n) (er : x1 = nI r) (hr : r < 8)
    (hp : ∀ q : Nat → Int32, (∀ i, i < ql → q i = bQ (i + 1)) → post (nI (S (x + 1))) (yc, yr, yl, ys, nI n, nI ql, bS, bK, bZ, bP, upd bT x 3, bF, upd bR r (nI (S (x + 1))), q, bM, bA, bC, bD, bE)) :
    ∀ (k i : Nat) (q : Nat → Int32), 1 ≤ i → i ≤ ql + 1 → ql + 1 < i + k → (∀ j, j + 1 < i → q j = bQ (j + 1)) → (∀ j, i ≤ j → q j = bQ j) → wY_takeFinalizer_29 post x1 (nI (S (x + 1))) yc yr yl ys (nI n) (nI (ql + 1)) k (nI i) bS bK bZ bP bT bF bR q bM bA bC bD bE := by
  intro k
  induction k with
  | zero => intro i q a b c; omega
  | succ k ih =>
    intro i q a b c h1 h2
    by_cases e : ql + 1 ≤ i
    · refine br_t (nI_le e (by omega)) (nm_r (nI_pred ql) ?_)
      refine yf_at n32 HS eS hx (br_f (nI_pos (by omega)) ⟨vp_in_nI (by omega) (by omega), nm_r (e' := upd bT x 3) (by rw [nI_clamp (by omega)]) ⟨by rw [er]; exact vp_in_nI (by omega) (by omega), nm_r (e' := upd bR r (nI (S (x + 1)))) (by rw [er, nI_clamp (by omega)]) ?_⟩⟩)
      exact hp q (fun j hj => h1 j (by omega))
    · have e1 : nI i - 1 = nI (i - 1) := za_s (by omega)
      refine br_f (nI_ge (by omega) (by omega)) ⟨vp_in_nI (by omega) (by omega), by rw [e1]; exact vp_in_nI (by omega) (by omega), nm_r (e' := upd q (i - 1) (bQ i)) ?_ (nm_r (nI_1 i) (ih (i + 1) _ (by omega) (by omega) (by omega) (fun j hj => ?_) (fun j hj => ?_)))⟩
      · rw [e1, nI_clamp (by omega), nI_clamp (by omega), h2 i (Nat.le_refl _)]
      · by_cases w : j = i - 1
        · rw [w, pk_us, show i - 1 + 1 = i by omega]
        · rw [pk_un w]; exact h1 j (by omega)
      · rw [pk_un (by omega)]; exact h2 j (by omega)
theorem xa_L {post : Int32 → SX → Prop} {r z us : Nat} {hp0 : Nat → Int32} (r8 : r < 8) (z6 : z ≤ 6) (top : us + z + 2 ≤ 96) (eu : usd = nI us)
    (hp : ∀ hp1 : Nat → Int32, (∀ j, j < us + 2 → hp1 j = hp0 j) → (∀ f, f < z → hp1 (us + 2 + f) = 0) → post lst (cap, rgc, fln, cnt, nI (us + z + 2), lst, qhd, qln, arm, mrk, dep, hp1, aS, aB, upd aR r cnt, aQ, aK, aW, aN, aF, aC, aE, aL)) :
    ∀ (k f : Nat) (hp1 : Nat → Int32), f ≤ z → z < f + k → (∀ j, j < us + 2 → hp1 j = hp0 j) → (∀ g, g < f → hp1 (us + 2 + g) = 0) → wX_alloc_157 post (nI r) (nI z) cap rgc fln cnt usd lst qhd qln arm mrk dep k (nI f) hp1 aS aB aR aQ aK aW aN aF aC aE aL := by
  subst eu
  intro k
  induction k with
  | zero => intro f hp1 a b; omega
  | succ k ih =>
    intro f hp1 a b h1 h2
    by_cases e : z ≤ f
    · refine br_t (nI_le e (by omega)) (nm_r (e' := nI (us + z + 2)) (by rw [za_2, nI_add]; exact congrArg nI (by omega)) ⟨vp_in_nI (by omega) (by omega), nm_r (e' := upd aR r cnt) (by rw [nI_clamp (by omega)]) ?_⟩)
      exact hp hp1 h1 (fun g hg => h2 g (by omega))
    · have e1 : nI us + 2 + nI f = nI (us + 2 + f) := by rw [za_2, nI_add]
      refine br_f (nI_ge (by omega) (by omega)) ⟨by rw [e1]; exact vp_in_nI (by omega) (by omega), nm_r (e' := upd hp1 (us + 2 + f) 0) (by rw [e1, nI_clamp (by omega)]) (nm_r (nI_1 f) (ih (f + 1) _ (by omega) (by omega) (fun j hj => ?_) (fun g hg => ?_)))⟩
      · rw [pk_un (by omega)]; exact h1 j hj
      · by_cases w : g = f
        · rw [w, pk_us]
        · rw [pk_un (by omega)]; exact h2 g (by omega)
theorem yl_L {post : Int32 → SY → Prop} {r : Nat} {bF0 : Nat → Int32} (n32 : n < 32) (r8 : r < 8)
    (hp : ∀ f1 : Nat → Int32, (∀ j, j < n * 6 → f1 j = bF0 j) → (∀ f, f < 6 → f1 (n * 6 + f) = 0) → post ys (yc, yr, yl, ys, nI (n + 1), yq, bS, bK, bZ, bP, bT, f1, upd bR r ys, bQ, bM, bA, bC, bD, bE)) :
    ∀ (k f : Nat) (f1 : Nat → Int32), f ≤ 6 → 6 < f + k → (∀ j, j < n * 6 → f1 j = bF0 j) → (∀ g, g < f → f1 (n * 6 + g) = 0) → wY_alloc_142 post (nI r) yc yr yl ys (nI n) yq k (nI f) bS bK bZ bP bT f1 bR bQ bM bA bC bD bE := by
  intro k
  induction k with
  | zero => intro f hp1 a b; omega
  | succ k ih =>
    intro f f1 a b h1 h2
    by_cases e : 6 ≤ f
    · refine br_t ((za_6le (by omega)).mpr e) (nm_r (nI_1 n) ⟨vp_in_nI (by omega) (by omega), nm_r (e' := upd bR r ys) (by rw [nI_clamp (by omega)]) ?_⟩)
      exact hp f1 h1 (fun g hg => h2 g (by omega))
    · have e1 : nI n * 6 + nI f = nI (n * 6 + f) := by rw [za_m6, nI_add]
      refine br_f (fun q => e ((za_6le (by omega)).mp q)) ⟨by rw [e1]; exact vp_in_nI (by omega) (by omega), nm_r (e' := upd f1 (n * 6 + f) 0) (by rw [e1, nI_clamp (by omega)]) (nm_r (nI_1 f) (ih (f + 1) _ (by omega) (by omega) (fun j hj => ?_) (fun g hg => ?_)))⟩
      · rw [pk_un (by omega)]; exact h1 j hj
      · by_cases w : g = f
        · rw [w, pk_us]
        · rw [pk_un (by omega)]; exact h2 g (by omega)
end
theorem i_vc_takeFinalizer {k : Nat} {u : SX} {v : SY} (I : i_Rel k u v) (hk : k + 5 ≤ 2563) (v1 : Int32) : wpX_takeFinalizer (fun r u' => wpY_takeFinalizer (fun r' v' => r' = r ∧ i_Rel (k + 5) u' v') v v1) u v1 := by
  refine zz_el (Mt := fun u v => wpX_takeFinalizer (fun r u' => wpY_takeFinalizer (fun r' v' => r' = r ∧ i_Rel (k + 5) u' v') v v1) u v1) ?_ I
  intro cp rc lm n la ql ar hd S B K Z T R Q P F mrk dep aH aS aB aR aQ aK aW aN aF aC aE aL bS bK bZ bP bT bF bR bQ bM bA bC bD bE hI hU hV
  have J := zz_in (k + 5) (mrk := mrk) (dep := dep) (aK := aK) (aW := aW) (aN := aN) (aF := aF) (aC := aC) (aE := aE) (aL := aL) (bM := bM) (bA := bA) (bC := bC) (bD := bD) (bE := bE) hI hU hV
  obtain ⟨⟨c16, c96⟩, r8, l8, hd8, O, bc, HS, hR, hQu⟩ := hI
  obtain ⟨HX, eS, eR, eQ⟩ := hU
  obtain ⟨HY, fR, fQ⟩ := hV
  have n32 := zO_n O
  have q8 : ql ≤ 8 := Nat.le_trans (zQ_len hQu) l8
  have gS : ∀ x, x < n → bS x = nI (S (x + 1)) := fun x hx => (HY x hx).1
  unfold wpX_takeFinalizer
  rcases zg_ix v1 r8 with h | ⟨d, hd', rfl⟩
  · refine xg_bad h (br_t rfl ?_)
    unfold wpY_takeFinalizer
    exact yg_bad h (br_t rfl ⟨rfl, J⟩)
  · have vd : vp_in (nI d) 8 := vp_in_nI (by omega) (by omega)
    have cd : (nI d).toNatClampNeg = d := nI_clamp (by omega)
    refine xg_ok hd' r8 (br_f za_10 ?_)
    rcases Nat.eq_zero_or_pos ql with q | q
    · subst q
      refine br_t nI_0 ?_
      unfold wpY_takeFinalizer
      exact yg_ok hd' r8 (br_f za_10 (br_t nI_0 ⟨rfl, J⟩))
    · obtain ⟨ql, rfl⟩ : ∃ i, ql = i + 1 := ⟨ql - 1, by omega⟩
      obtain ⟨w1, w2, w3⟩ := hQu.1 0 (by omega)
      obtain ⟨hQt, a1⟩ := zQ_take hQu
      obtain ⟨x, ex⟩ : ∃ x, Q 0 = x + 1 := ⟨Q 0 - 1, by omega⟩
      have e0 : aQ (nI hd).toNatClampNeg = nI (Q 0) := by
        have := eQ 0 (by omega)
        rw [show (hd + 0) % 8 = hd by omega] at this
        rw [nI_clamp (by omega)]; exact this
      refine br_f (nI_ne0 (by omega) (by omega)) ⟨vp_in_nI (by omega) (by omega), nm_r e0 ⟨za_80, nm_r (e' := nI ((hd + 1) % 8)) (by rw [nI_1, za_r8 (by omega)]) (nm_r (nI_pred ql) ?_)⟩⟩
      refine xk_setS (s := 3) O HX w1 w2 (by omega) ?_
      intro aH' HX'
      refine nm_r (za_s a1) ⟨vd, nm_e ⟨vp_in_nI (by omega) (by omega), ?_⟩⟩
      rw [nI_clamp (n := Q 0) (by omega), eS _ w2, cd]
      unfold wpY_takeFinalizer
      refine yg_ok hd' r8 (br_f za_10 (br_f (nI_ne0 (by omega) (by omega)) (nm_r (e' := nI (S (x + 1))) (by rw [fQ 0 (by omega), ex]) ⟨ql + 2, ?_⟩)))
      refine yq_L q8 n32 HS gS (x := x) (r := d) (by omega) rfl (by omega) ?_ (ql + 2) 1 bQ (by omega) (by omega) (by omega) (fun j hj => by omega) (fun _ _ => rfl)
      intro q hq
      refine ⟨by rw [ex], ?_⟩
      refine zz_in (B := B) (T := zT T (Q 0) 3) (R := zT R d (Q 0)) (Q := fun i => Q (i + 1)) (k + 5) ⟨⟨c16, c96⟩, r8, l8, Nat.mod_lt _ (by omega), zO_T' O (by omega), bc, HS, zr_le hR w2, hQt⟩ ⟨HX', eS, zr_up (α := Nat) nI eR rfl, fun i hi => ?_⟩ ⟨?_, zr_up (α := Nat) (fun h => nI (S h)) fR (by rw [ex]), fun i hi => ?_⟩
      · rw [show ((hd + 1) % 8 + i) % 8 = (hd + (i + 1)) % 8 by omega]
        exact eQ (i + 1) (by omega)
      · rw [ex]; exact zY_T HY
      · rw [hq i hi]; exact fQ (i + 1) (by omega)
end
section
theorem zl_3 {v : Int32} (h : nI 4 ≤ v) : ¬ v ≤ 3 ∧ ¬ v < 0 := by
  have e4 : (nI 4).toInt = 4 := by decide
  have e3 : (3 : Int32).toInt = 3 := by decide
  have e0 : (0 : Int32).toInt = 0 := by decide
  rw [Int32.le_iff_toInt_le] at h
  constructor
  · rw [Int32.le_iff_toInt_le]; omega
  · rw [Int32.lt_iff_toInt_lt]; omega
theorem zl_6 {v : Int32} (h : nI 7 ≤ v) : 6 < v := by
  have e4 : (nI 7).toInt = 7 := by decide
  have e3 : (6 : Int32).toInt = 6 := by decide
  rw [Int32.le_iff_toInt_le] at h
  rw [Int32.lt_iff_toInt_lt]; omega
theorem zl_n {v : Int32} (h : v < 0) : ¬ 6 < v ∧ ¬ 1 ≤ v ∧ ¬ 2 ≤ v := by
  have e6 : (6 : Int32).toInt = 6 := by decide
  have e1 : (1 : Int32).toInt = 1 := by decide
  have e2 : (2 : Int32).toInt = 2 := by decide
  have e0 : (0 : Int32).toInt = 0 := by decide
  rw [Int32.lt_iff_toInt_lt] at h
  refine ⟨?_, ?_, ?_⟩
  · rw [Int32.lt_iff_toInt_lt]; omega
  · rw [Int32.le_iff_toInt_le]; omega
  · rw [Int32.le_iff_toInt_le]; omega
theorem zl_30 {a : Nat} (h : a ≤ 30000) : (nI a < 30000 ↔ a < 30000) ∧ (nI a = 30000 ↔ a = 30000) :=
  ⟨nI_ltI (b := 30000) (by omega) (by decide), nI_eq (b := 30000) (by omega) (by decide)⟩
section
variable {cp rc lm n la ql ar hd : Nat} {S B K Z T R Q : Nat → Nat} {P : Nat → Int32} {F : Nat → Nat → Nat} {cap rgc fln cnt usd lst qhd qln arm : Int32} {mrk : Int64} {dep : Int32} {aH aS aB aR aQ aK aW aN aF aC : Nat → Int32} {aE : Nat → Int64} {aL : Nat → Int32} {yc yr yl ys yn yq : Int32} {bS bK bZ bP bT bF bR bQ bM bA bC bD bE : Nat → Int32}
theorem xa_ok {post : Int32 → SX → Prop} {r kd z le : Nat} {v4 : Int32} (O : zO n B K Z T F) (c96 : cp ≤ 96) (bc : B (n + 1) ≤ cp) (l30 : la ≤ 30000) (r8 : r < 8) (k4 : kd < 4) (z1 : 1 ≤ z) (z6 : z ≤ 6) (lz : le ≤ z)
    (h6 : la = 30000 → post (-6) (nI cp, nI rc, nI lm, nI n, nI (B (n + 1)), nI la, nI hd, nI ql, nI ar, mrk, dep, aH, aS, aB, aR, aQ, aK, aW, aN, aF, aC, aE, aL)) (h7 : la < 30000 → cp < B (n + 1) + z + 2 → post (-7) (nI cp, nI rc, nI lm, nI n, nI (B (n + 1)), nI la, nI hd, nI ql, nI ar, mrk, dep, aH, aS, aB, aR, aQ, aK, aW, aN, aF, aC, aE, aL))
    (hp : la < 30000 → B (n + 1) + z + 2 ≤ cp → ∀ aH' : Nat → Int32, (∀ j, j < B (n + 1) → aH' j = aH j) → aH' (B (n + 1)) = nI (kd + 4 * z + 32 * 0) → aH' (B (n + 1) + 1) = v4 → (∀ f, f < z → aH' (B (n + 1) + 2 + f) = 0) → post (nI (la + 1)) (nI cp, nI rc, nI lm, nI (n + 1), nI (B (n + 1) + z + 2), nI (la + 1), nI hd, nI ql, nI ar, mrk, dep, aH', upd aS (n + 1) (nI (la + 1)), upd aB (n + 1) (nI (B (n + 1))), upd aR r (nI (n + 1)), aQ, aK, aW, aN, aF, aC, aE, aL)) :
    wX_alloc_33 post (nI r) (nI kd) (nI z) v4 (nI le) (nI cp) (nI rc) (nI lm) (nI n) (nI (B (n + 1))) (nI la) (nI hd) (nI ql) (nI ar) mrk dep aH aS aB aR aQ aK aW aN aF aC aE aL := by
  have lo := zO_low O n (Nat.le_refl _)
  have n32 := zO_n O
  have e2 : (nI (B (n + 1)) + nI z) + 2 = nI (B (n + 1) + z + 2) := by rw [nI_add, za_2]
  refine br_f (show ¬ nI 6 < nI z from nI_nlt z6 (by omega)) (br_t (nI_le lz (by omega)) ?_)
  by_cases l : la < 30000
  · refine br_t ((zl_30 l30).1.mpr l) ?_
    rw [e2]
    by_cases q : B (n + 1) + z + 2 ≤ cp
    · have vn : vp_in (nI (n + 1)) 33 := vp_in_nI (by omega) (by omega)
      have vu : vp_in (nI (B (n + 1))) 96 := vp_in_nI (by omega) (by omega)
      refine br_t (nI_le q (by omega)) (nm_r (nI_1 n) (nm_r (nI_1 la) ⟨vn, nm_r (e' := upd aS (n + 1) (nI (la + 1))) (by rw [nI_clamp (by omega)]) ⟨vn, nm_r (e' := upd aB (n + 1) (nI (B (n + 1)))) (by rw [nI_clamp (by omega)]) ⟨vu, nm_r (e' := upd aH (B (n + 1)) (nI (kd + 4 * z + 32 * 0))) (by rw [nI_clamp (by omega), zh_new kd k4 z (by omega)]) ⟨by rw [nI_1]; exact vp_in_nI (by omega) (by omega), nm_r (e' := upd (upd aH (B (n + 1)) (nI (kd + 4 * z + 32 * 0))) (B (n + 1) + 1) v4) (by rw [nI_1, nI_clamp (by omega)]) ⟨z + 1, ?_⟩⟩⟩⟩⟩))
      refine xa_L (us := B (n + 1)) (hp0 := upd (upd aH (B (n + 1)) (nI (kd + 4 * z + 32 * 0))) (B (n + 1) + 1) v4) r8 z6 (by omega) rfl ?_ (z + 1) 0 _ (by omega) (by omega) (fun _ _ => rfl) (fun g hg => by omega)
      intro aH' g1 g2
      refine hp l q aH' (fun j hj => ?_) ?_ ?_ g2
      · rw [g1 j (by omega), pk_un (by omega), pk_un (by omega)]
      · rw [g1 _ (by omega), pk_un (by omega), pk_us]
      · rw [g1 _ (by omega), pk_us]
    · exact br_f (nI_ge (by omega) (by omega)) (h7 l (by omega))
  · exact br_f (fun q => l ((zl_30 l30).1.mp q)) (h6 (by omega))
theorem ya_ok {post : Int32 → SY → Prop} {r kd z : Nat} {v4 : Int32} (O : zO n B K Z T F) (HY : zY n S K Z T P F bS bK bZ bP bT bF) (c96 : cp ≤ 96) (bc : B (n + 1) ≤ cp) (l30 : la ≤ 30000) (r8 : r < 8) (z1 : 1 ≤ z) (z6 : z ≤ 6)
    (h6 : la = 30000 → post (-6) (nI cp, nI rc, nI lm, nI la, nI n, nI ql, bS, bK, bZ, bP, bT, bF, bR, bQ, bM, bA, bC, bD, bE)) (h7 : la < 30000 → cp < B (n + 1) + z + 2 → post (-7) (nI cp, nI rc, nI lm, nI la, nI n, nI ql, bS, bK, bZ, bP, bT, bF, bR, bQ, bM, bA, bC, bD, bE))
    (hp : la < 30000 → B (n + 1) + z + 2 ≤ cp → ∀ f1 : Nat → Int32, (∀ j, j < n * 6 → f1 j = bF j) → (∀ f, f < 6 → f1 (n * 6 + f) = 0) → post (nI (la + 1)) (nI cp, nI rc, nI lm, nI (la + 1), nI (n + 1), nI ql, upd bS n (nI (la + 1)), upd bK n (nI kd), upd bZ n (nI z), upd bP n v4, upd bT n 0, f1, upd bR r (nI (la + 1)), bQ, bM, bA, bC, bD, bE)) :
    wY_alloc_49 post (nI r) (nI kd) (nI z) v4 (nI cp) (nI rc) (nI lm) (nI la) (nI n) (nI ql) bS bK bZ bP bT bF bR bQ bM bA bC bD bE := by
  have lo := zO_low O n (Nat.le_refl _)
  have n32 := zO_n O
  by_cases l : la = 30000
  · exact br_t ((zl_30 l30).2.mpr l) (h6 l)
  · refine br_f (fun q => l ((zl_30 l30).2.mp q)) ?_
    refine yr_0 O HY ?_
    rw [pk_sub bc, za_2]
    by_cases q : B (n + 1) + z + 2 ≤ cp
    · have vn : vp_in (nI n) 32 := vp_in_nI (by omega) (by omega)
      have cn : (nI n).toNatClampNeg = n := nI_clamp (by omega)
      refine br_t (nI_le (by omega) (by omega)) (nm_r (nI_1 la) ⟨vn, nm_r (e' := upd bS n (nI (la + 1))) (by rw [cn]) ⟨vn, nm_r (e' := upd bK n (nI kd)) (by rw [cn]) ⟨vn, nm_r (e' := upd bZ n (nI z)) (by rw [cn]) ⟨vn, nm_r (e' := upd bP n v4) (by rw [cn]) ⟨vn, nm_r (e' := upd bT n 0) (by rw [cn]) ⟨7, ?_⟩⟩⟩⟩⟩⟩)
      exact yl_L (bF0 := bF) (by omega) r8 (fun f1 g1 g2 => hp (by omega) q f1 g1 g2) 7 0 bF (by omega) (by omega) (fun _ _ => rfl) (fun g hg => by omega)
    · exact br_f (nI_ge (by omega) (by omega)) (h7 (by omega) (by omega))
end
theorem i_vc_alloc {k : Nat} {u : SX} {v : SY} (I : i_Rel k u v) (hk : k + 5 ≤ 2563) (v1 : Int32) (v2 : Int32) (v3 : Int32) (v4 : Int32) : wpX_alloc (fun r u' => wpY_alloc (fun r' v' => r' = r ∧ i_Rel (k + 5) u' v') v v1 v2 v3 v4) u v1 v2 v3 v4 := by
  refine zz_el (Mt := fun u v => wpX_alloc (fun r u' => wpY_alloc (fun r' v' => r' = r ∧ i_Rel (k + 5) u' v') v v1 v2 v3 v4) u v1 v2 v3 v4) ?_ I
  intro cp rc lm n la ql ar hd S B K Z T R Q P F mrk dep aH aS aB aR aQ aK aW aN aF aC aE aL bS bK bZ bP bT bF bR bQ bM bA bC bD bE hI hU hV
  have J := zz_in (k + 5) (mrk := mrk) (dep := dep) (aK := aK) (aW := aW) (aN := aN) (aF := aF) (aC := aC) (aE := aE) (aL := aL) (bM := bM) (bA := bA) (bC := bC) (bD := bD) (bE := bE) hI hU hV
  obtain ⟨⟨c16, c96⟩, r8, l8, hd8, O, bc, HS, hR, hQu⟩ := hI
  obtain ⟨HX, eS, eR, eQ⟩ := hU
  obtain ⟨HY, fR, fQ⟩ := hV
  have n32 := zO_n O
  have q8 : ql ≤ 8 := Nat.le_trans (zQ_len hQu) l8
  have gS : ∀ x, x < n → bS x = nI (S (x + 1)) := fun x hx => (HY x hx).1
  unfold wpX_alloc
  have l30 := HS.2.2.2
  rcases zg_ix v1 r8 with h | ⟨r, hr, rfl⟩
  · refine xg_bad h (br_t rfl ?_)
    unfold wpY_alloc
    exact yg_bad h (br_t rfl ⟨rfl, J⟩)
  refine xg_ok hr r8 (br_f za_10 ?_)
  rcases pk_ix v2 (n := 4) (by decide) with q | q | ⟨kd, k4, rfl⟩
  · refine br_t q ?_
    unfold wpY_alloc
    exact yg_ok hr r8 (br_f za_10 (br_t q ⟨rfl, J⟩))
  · obtain ⟨q3, q0⟩ := zl_3 q
    refine br_f q0 (br_f q3 ?_)
    unfold wpY_alloc
    exact yg_ok hr r8 (br_f za_10 (br_f q0 (br_f q3 ⟨rfl, J⟩)))
  have k0 : ¬ nI kd < 0 := nI_pos (by omega)
  have k3 : nI kd ≤ 3 := nI_le (b := 3) (by omega) (by decide)
  refine br_f k0 (br_t k3 ?_)
  rcases pk_ix v3 (n := 7) (by decide) with q | q | ⟨z, z7, rfl⟩
  · obtain ⟨g6, g1, g2⟩ := zl_n q
    refine br_c (fun _ => br_f g6 (br_f g2 ?_)) (fun _ => br_f g6 (br_f g1 ?_))
    · unfold wpY_alloc
      exact yg_ok hr r8 (br_f za_10 (br_f k0 (br_t k3 (br_f g6 (br_f g1 ⟨rfl, J⟩)))))
    · unfold wpY_alloc
      exact yg_ok hr r8 (br_f za_10 (br_f k0 (br_t k3 (br_f g6 (br_f g1 ⟨rfl, J⟩)))))
  · have g6 := zl_6 q
    refine br_c (fun _ => br_t g6 ?_) (fun _ => br_t g6 ?_)
    · unfold wpY_alloc
      exact yg_ok hr r8 (br_f za_10 (br_f k0 (br_t k3 (br_t g6 ⟨rfl, J⟩))))
    · unfold wpY_alloc
      exact yg_ok hr r8 (br_f za_10 (br_f k0 (br_t k3 (br_t g6 ⟨rfl, J⟩))))
  have g6 : ¬ (6 : Int32) < nI z := nI_nlt (a := 6) (by omega) (by decide)
  by_cases z0 : z = 0
  · have g1 : ¬ (1 : Int32) ≤ nI z := nI_ge (b := 1) (by omega) (by omega)
    have g2 : ¬ (2 : Int32) ≤ nI z := nI_ge (b := 2) (by omega) (by omega)
    refine br_c (fun _ => br_f g6 (br_f g2 ?_)) (fun _ => br_f g6 (br_f g1 ?_))
    · unfold wpY_alloc
      exact yg_ok hr r8 (br_f za_10 (br_f k0 (br_t k3 (br_f g6 (br_f g1 ⟨rfl, J⟩)))))
    · unfold wpY_alloc
      exact yg_ok hr r8 (br_f za_10 (br_f k0 (br_t k3 (br_f g6 (br_f g1 ⟨rfl, J⟩)))))
  have g1 : (1 : Int32) ≤ nI z := nI_le (a := 1) (by omega) (by omega)
  have main : (kd = 3 → 2 ≤ z) → ∀ le, le ≤ z → wX_alloc_33 (fun r_1 u' => wpY_alloc (fun r' v' => r' = r_1 ∧ i_Rel (k + 5) u' v') (nI cp, nI rc, nI lm, nI la, nI n, nI ql, bS, bK, bZ, bP, bT, bF, bR, bQ, bM, bA, bC, bD, bE) (nI r) (nI kd) (nI z) v4) (nI r) (nI kd) (nI z) v4 (nI le) (nI cp) (nI rc) (nI lm) (nI n) (nI (B (n + 1))) (nI la) (nI hd) (nI ql) (nI ar) mrk dep aH aS aB aR aQ aK aW aN aF aC aE aL := by
    intro kz le lez
    have toY : ∀ post : Int32 → SY → Prop, wY_alloc_49 post (nI r) (nI kd) (nI z) v4 (nI cp) (nI rc) (nI lm) (nI la) (nI n) (nI ql) bS bK bZ bP bT bF bR bQ bM bA bC bD bE → wpY_alloc post (nI cp, nI rc, nI lm, nI la, nI n, nI ql, bS, bK, bZ, bP, bT, bF, bR, bQ, bM, bA, bC, bD, bE) (nI r) (nI kd) (nI z) v4 := by
      intro post w
      unfold wpY_alloc
      refine yg_ok hr r8 (br_f za_10 (br_f k0 (br_t k3 (br_f g6 (br_t g1 ?_)))))
      exact br_c (fun e => br_t (nI_le (a := 2) (kz ((za_eq3 (by omega)).mp e)) (by omega)) w) (fun _ => w)
    refine xa_ok O c96 bc l30 (by omega) k4 (by omega) (by omega) lez (fun h => toY _ ?_) (fun h h' => toY _ ?_) (fun h h' aH' f1 f2 f3 f4 => toY _ ?_)
    · exact ya_ok O HY c96 bc l30 (by omega) (by omega) (by omega) (fun _ => ⟨rfl, J⟩) (fun q => by omega) (fun q => by omega)
    · exact ya_ok O HY c96 bc l30 (by omega) (by omega) (by omega) (fun q => by omega) (fun _ _ => ⟨rfl, J⟩) (fun q q' => by omega)
    · refine ya_ok O HY c96 bc l30 (by omega) (by omega) (by omega) (fun q => by omega) (fun q q' => by omega) (fun _ _ bF' y1 y2 => ⟨rfl, ?_⟩)
      have bn : zT B (n + 2) (B (n + 1) + z + 2) (n + 1 + 1) = B (n + 1) + z + 2 := if_pos rfl
      have sn : zT S (n + 1) (la + 1) (n + 1) = la + 1 := if_pos rfl
      have so : ∀ j, j ≤ n → zT S (n + 1) (la + 1) j = S j := fun j hj => if_neg (by omega)
      have hh := zz_in (n := n + 1) (la := la + 1) (S := zT S (n + 1) (la + 1)) (B := zT B (n + 2) (B (n + 1) + z + 2)) (K := zT K (n + 1) kd) (Z := zT Z (n + 1) z) (T := zT T (n + 1) 0) (R := zT R r (n + 1)) (P := zNp P (n + 1) v4) (F := zNf F (n + 1)) (mrk := mrk) (dep := dep) (aK := aK) (aW := aW) (aN := aN) (aF := aF) (aC := aC) (aE := aE) (aL := aL) (bM := bM) (bA := bA) (bC := bC) (bD := bD) (bE := bE) (aR := upd aR r (nI (n + 1))) (aQ := aQ) (aS := upd aS (n + 1) (nI (la + 1))) (bR := upd bR r (nI (la + 1))) (bQ := bQ) (k + 5) ⟨⟨c16, c96⟩, r8, l8, hd8, zN_O O k4 (by omega) (by omega) kz (by omega), by rw [bn]; exact h', zN_S HS h, zr_le (fun i hi => Nat.le_succ_of_le (hR i hi)) (Nat.le_refl _), zN_Q hQu⟩ ⟨zN_X O HX f1 f2 f3 f4, fun i hi => ?_, zr_up (α := Nat) nI eR rfl, eQ⟩ ⟨zN_Y O HY HS.1 (by omega) y1 y2, zr_up (α := Nat) (fun h => nI (zT S (n + 1) (la + 1) h)) (fun i hi => ?_) (by rw [sn]), fun i hi => ?_⟩
      · rw [bn] at hh
        exact hh
      · by_cases e : i = n + 1
        · rw [e, pk_us, sn]
        · rw [pk_un e, so i (by omega)]; exact eS i (by omega)
      · rw [so _ (hR i hi)]; exact fR i hi
      · rw [so _ (hQu.1 i hi).2.1]; exact fQ i hi
  refine br_c (fun e => ?_) (fun e => ?_)
  · have k33 := (za_eq3 (by omega)).mp e
    by_cases z2 : z = 1
    · have g2 : ¬ (2 : Int32) ≤ nI z := nI_ge (b := 2) (by omega) (by omega)
      refine br_f g6 (br_f g2 ?_)
      unfold wpY_alloc
      exact yg_ok hr r8 (br_f za_10 (br_f k0 (br_t k3 (br_f g6 (br_t g1 (br_t e (br_f g2 ⟨rfl, J⟩)))))))
    · exact main (fun _ => by omega) 2 (by omega)
  · exact main (fun q => absurd ((za_eq3 (by omega)).mpr q) e) 1 (by omega)
end
section
section
variable {n rc ql : Nat} {B K Z T R Q : Nat → Nat} {F : Nat → Nat → Nat}
theorem zre_in (O : zO n B K Z T F) {h : Nat} (w : zre n K Z F rc ql R Q h) : 1 ≤ h ∧ h ≤ n :=
  zC_rng (fun _ q => ⟨q.1, q.2.1⟩) (fun _ _ a b c => zO_F O a b c) w
theorem zrt_in (O : zO n B K Z T F) {h : Nat} (w : zrt n K Z T F rc ql R Q h) : 1 ≤ h ∧ h ≤ n :=
  zC_rng (fun _ q => q.elim (fun q => ⟨q.1, q.2.1⟩) (fun q => ⟨q.1, q.2.1⟩)) (fun _ _ a b c => zO_F O a b c) w
theorem zco_in (O : zO n B K Z T F) {c h : Nat} (c1 : 1 ≤ c) (cn : c ≤ n) (w : zco n K Z F rc ql R Q c h) : 1 ≤ h ∧ h ≤ n :=
  zC_rng (fun _ q => q.elim (fun q => ⟨q.1, q.2.1⟩) (fun q => by rw [q]; exact ⟨c1, cn⟩)) (fun _ _ a b c => zO_F O a b c) w
theorem zs_re {s m : Int64} (hs : ∀ h, bs s h = true ↔ 1 ≤ h ∧ zR rc ql R Q h) (hm : ∀ j, bs m j = true ↔ zC n K Z F (fun h => 1 ≤ h ∧ h ≤ n ∧ bs s h = true) j) : ∀ j, bs m j = true ↔ zre n K Z F rc ql R Q j := fun j =>
  (hm j).trans (zC_iff (fun h => ⟨fun q => ⟨q.1, q.2.1, ((hs h).mp q.2.2).2⟩, fun q => ⟨q.1, q.2.1, (hs h).mpr ⟨q.1, q.2.2⟩⟩⟩) j)
theorem zs_ca {m c : Int64} (hm : ∀ j, bs m j = true ↔ zre n K Z F rc ql R Q j) (hc : ∀ h, bs c h = true ↔ 1 ≤ h ∧ h ≤ n ∧ T h = 1 ∧ bs m h = false) : ∀ h, bs c h = true ↔ zca n T (zre n K Z F rc ql R Q) h := fun h => by
  rw [hc h]
  unfold zca
  rw [← hm h, Bool.not_eq_true]
theorem zs_rt (O : zO n B K Z T F) {m c m2 : Int64} (hm : ∀ j, bs m j = true ↔ zre n K Z F rc ql R Q j) (hc : ∀ h, bs c h = true ↔ zca n T (zre n K Z F rc ql R Q) h) (h2 : ∀ j, bs m2 j = true ↔ zC n K Z F (fun h => 1 ≤ h ∧ h ≤ n ∧ bs (m ||| c) h = true) j) : ∀ j, bs m2 j = true ↔ zrt n K Z T F rc ql R Q j := fun j => by
  rw [h2 j]
  refine Iff.trans (zC_iff (B0 := fun h => zre n K Z F rc ql R Q h ∨ zca n T (zre n K Z F rc ql R Q) h) (fun h => ?_) j) (zC_idem j)
  rw [bs_or, Bool.or_eq_true, hm h, hc h]
  exact ⟨fun q => q.2.2, fun q => by
    have w : 1 ≤ h ∧ h ≤ n := q.elim (zre_in O) (fun q => ⟨q.1, q.2.1⟩)
    exact ⟨w.1, w.2, q⟩⟩
theorem zs_co (O : zO n B K Z T F) {m m2 : Int64} {c : Nat} (c1 : 1 ≤ c) (cn : c ≤ n) (hm : ∀ j, bs m j = true ↔ zre n K Z F rc ql R Q j) (h2 : ∀ j, bs m2 j = true ↔ zC n K Z F (fun h => 1 ≤ h ∧ h ≤ n ∧ bs (m ||| zb c) h = true) j) : ∀ j, bs m2 j = true ↔ zco n K Z F rc ql R Q c j := fun j => by
  have n32 := zO_n O
  rw [h2 j]
  refine Iff.trans (zC_iff (B0 := fun h => zre n K Z F rc ql R Q h ∨ h = c) (fun h => ?_) j) (zC_idem j)
  rw [bs_or, bs_zb (by omega), Bool.or_eq_true, hm h, decide_eq_true_iff]
  exact ⟨fun q => q.2.2, fun q => by
    have w : 1 ≤ h ∧ h ≤ n := q.elim (zre_in O) (fun q => by rw [q]; exact ⟨c1, cn⟩)
    exact ⟨w.1, w.2, q⟩⟩
theorem zs_cr (n32 : n ≤ 32) {s m2 : Int64} {c : Nat} (c1 : 1 ≤ c) (cn : c ≤ n) (hs : ∀ h, bs s h = true ↔ 1 ≤ h ∧ zR rc ql R Q h) (h2 : ∀ j, bs m2 j = true ↔ zC n K Z F (fun h => 1 ≤ h ∧ h ≤ n ∧ bs (s ||| zb c) h = true) j) : ∀ j, bs m2 j = true ↔ zco n K Z F rc ql R Q c j := fun j => by
  rw [h2 j]
  refine zC_iff (fun h => ?_) j
  rw [bs_or, bs_zb (by omega), Bool.or_eq_true, hs h, decide_eq_true_iff]
  constructor
  · intro ⟨a, b, c⟩
    rcases c with c | c
    · exact Or.inl ⟨a, b, c.2⟩
    · exact Or.inr c
  · intro q
    rcases q with q | q
    · exact ⟨q.1, q.2.1, Or.inl ⟨q.1, q.2.2⟩⟩
    · exact ⟨by omega, by omega, Or.inr q⟩
end
theorem i_vc_fate {k : Nat} {u : SX} {v : SY} (I : i_Rel k u v) (hk : k + 5 ≤ 2563) (v1 : Int32) : wpX_fate (fun r u' => wpY_fate (fun r' v' => r' = r ∧ i_Rel (k + 5) u' v') v v1) u v1 := by
  refine zz_el (Mt := fun u v => wpX_fate (fun r u' => wpY_fate (fun r' v' => r' = r ∧ i_Rel (k + 5) u' v') v v1) u v1) ?_ I
  intro cp rc lm n la ql ar hd S B K Z T R Q P F mrk dep aH aS aB aR aQ aK aW aN aF aC aE aL bS bK bZ bP bT bF bR bQ bM bA bC bD bE hI hU hV
  have J := zz_in (k + 5) (mrk := mrk) (dep := dep) (aK := aK) (aW := aW) (aN := aN) (aF := aF) (aC := aC) (aE := aE) (aL := aL) (bM := bM) (bA := bA) (bC := bC) (bD := bD) (bE := bE) hI hU hV
  obtain ⟨⟨c16, c96⟩, r8, l8, hd8, O, bc, HS, hR, hQu⟩ := id hI
  obtain ⟨HX, eS, eR, eQ⟩ := id hU
  obtain ⟨HY, fR, fQ⟩ := id hV
  have n32 := zO_n O
  have q8 : ql ≤ 8 := Nat.le_trans (zQ_len hQu) l8
  have gS : ∀ x, x < n → bS x = nI (S (x + 1)) := fun x hx => (HY x hx).1
  unfold wpX_fate
  have hQ : ∀ i, i < ql → 1 ≤ Q i ∧ Q i ≤ n := fun i hi => ⟨(hQu.1 i hi).1, (hQu.1 i hi).2.1⟩
  rcases zv_or (n := n) (S := S) v1 with ⟨h, h1, hn, rfl⟩ | hv
  · obtain ⟨x, rfl⟩ : ∃ x, h = x + 1 := ⟨h - 1, by omega⟩
    have cx : (nI x).toNatClampNeg = x := nI_clamp (by omega)
    have vx : vp_in (nI x) 32 := vp_in_nI (by omega) (by omega)
    refine xf_at n32 HS eS h1 hn (br_f (nI_ne0 (by omega) (by omega)) ?_)
    refine xk_roots n32 r8 hd8 q8 hR eR hQ eQ ?_
    intro s hs
    refine xk_closure O HX ?_
    intro m d st wh wn hm
    have hre := zs_re hs hm
    refine xk_con (by omega) (fun e => ?_) (fun e => ?_)
    · refine br_t rfl ?_
      refine xk_cand O HX ?_
      intro c hc
      have hca := zs_ca hre hc
      refine xk_closure O HX ?_
      intro m2 d2 st2 wh2 wn2 hm2
      have hrt := zs_rt O hre hca hm2
      refine xk_con (by omega) (fun e2 => ?_) (fun e2 => ?_)
      · refine br_t rfl ?_
        unfold wpY_fate
        refine yf_at n32 HS gS (by omega) (br_t (nI_pos' (by omega)) ?_)
        refine yk_sets O HS HY r8 hR fR q8 hQ fQ ?_
        intro b a cc dd _ ha _ _ _ hd2
        refine ⟨vx, ?_⟩
        rw [cx]
        have z1 : a x = 0 := yb_f.mp (Bool.eq_false_iff.mpr (fun q => by
          have := (hre _).mpr ((ha _ h1 hn).mp q)
          rw [e] at this; cases this))
        have z2 : dd x = 0 := yb_f.mp (Bool.eq_false_iff.mpr (fun q => by
          have := (hrt _).mpr ((hd2 _ h1 hn).mp q)
          rw [e2] at this; cases this))
        refine br_t z1 ⟨vx, br_t z2 ⟨rfl, zz_in (B := B) (k + 5) hI hU hV⟩⟩
      · refine br_f za_10 ?_
        unfold wpY_fate
        refine yf_at n32 HS gS (by omega) (br_t (nI_pos' (by omega)) ?_)
        refine yk_sets O HS HY r8 hR fR q8 hQ fQ ?_
        intro b a cc dd _ ha _ _ _ hd2
        refine ⟨vx, ?_⟩
        rw [cx]
        have z1 : a x = 0 := yb_f.mp (Bool.eq_false_iff.mpr (fun q => by
          have := (hre _).mpr ((ha _ h1 hn).mp q)
          rw [e] at this; cases this))
        have z2 : ¬ dd x = 0 := yb_t.mp ((hd2 _ h1 hn).mpr ((hrt _).mp e2))
        refine br_t z1 ⟨vx, br_f z2 ⟨rfl, zz_in (B := B) (k + 5) hI hU hV⟩⟩
    · refine br_f za_10 ?_
      unfold wpY_fate
      refine yf_at n32 HS gS (by omega) (br_t (nI_pos' (by omega)) ?_)
      refine yk_sets O HS HY r8 hR fR q8 hQ fQ ?_
      intro b a cc dd _ ha _ _ _ hd2
      refine ⟨vx, ?_⟩
      rw [cx]
      have z1 : ¬ a x = 0 := yb_t.mp ((ha _ h1 hn).mpr ((hre _).mp e))
      refine br_f z1 ⟨rfl, zz_in (B := B) (k + 5) hI hU hV⟩
  · refine xf_out n32 HS eS hv (br_t rfl ?_)
    unfold wpY_fate
    exact yf_out n32 gS hv (br_f za_n0 ⟨rfl, J⟩)
theorem i_vc_leads {k : Nat} {u : SX} {v : SY} (I : i_Rel k u v) (hk : k + 5 ≤ 2563) (v1 : Int32) (v2 : Int32) : wpX_leads (fun r u' => wpY_leads (fun r' v' => r' = r ∧ i_Rel (k + 5) u' v') v v1 v2) u v1 v2 := by
  refine zz_el (Mt := fun u v => wpX_leads (fun r u' => wpY_leads (fun r' v' => r' = r ∧ i_Rel (k + 5) u' v') v v1 v2) u v1 v2) ?_ I
  intro cp rc lm n la ql ar hd S B K Z T R Q P F mrk dep aH aS aB aR aQ aK aW aN aF aC aE aL bS bK bZ bP bT bF bR bQ bM bA bC bD bE hI hU hV
  have J := zz_in (k + 5) (mrk := mrk) (dep := dep) (aK := aK) (aW := aW) (aN := aN) (aF := aF) (aC := aC) (aE := aE) (aL := aL) (bM := bM) (bA := bA) (bC := bC) (bD := bD) (bE := bE) hI hU hV
  obtain ⟨⟨c16, c96⟩, r8, l8, hd8, O, bc, HS, hR, hQu⟩ := id hI
  obtain ⟨HX, eS, eR, eQ⟩ := id hU
  obtain ⟨HY, fR, fQ⟩ := id hV
  have n32 := zO_n O
  have q8 : ql ≤ 8 := Nat.le_trans (zQ_len hQu) l8
  have gS : ∀ x, x < n → bS x = nI (S (x + 1)) := fun x hx => (HY x hx).1
  unfold wpX_leads
  have hQ : ∀ i, i < ql → 1 ≤ Q i ∧ Q i ≤ n := fun i hi => ⟨(hQu.1 i hi).1, (hQu.1 i hi).2.1⟩
  rcases zv_or (n := n) (S := S) v1 with ⟨c, c1, cn, rfl⟩ | hv
  · obtain ⟨y, rfl⟩ : ∃ x, c = x + 1 := ⟨c - 1, by omega⟩
    refine xf_at n32 HS eS c1 cn (br_f (nI_ne0 (by omega) (by omega)) ?_)
    rcases zv_or (n := n) (S := S) v2 with ⟨h, h1, hn, rfl⟩ | hv
    · obtain ⟨x, rfl⟩ : ∃ x, h = x + 1 := ⟨h - 1, by omega⟩
      have cx : (nI x).toNatClampNeg = x := nI_clamp (by omega)
      have vx : vp_in (nI x) 32 := vp_in_nI (by omega) (by omega)
      refine xf_at n32 HS eS h1 hn (br_f (nI_ne0 (by omega) (by omega)) ?_)
      refine xk_roots n32 r8 hd8 q8 hR eR hQ eQ ?_
      intro s hs
      refine xk_closure O HX ?_
      intro m d st wh wn hm
      have hco := zs_cr n32 c1 cn hs hm
      refine xk_con (by omega) (fun e => ?_) (fun e => ?_)
      · refine br_t rfl ?_
        unfold wpY_leads
        refine yf_at n32 HS gS (by omega) (br_t (nI_pos' (by omega)) ?_)
        refine yf_at n32 HS gS (by omega) (br_t (nI_pos' (by omega)) ?_)
        refine yk_cone O HS HY r8 hR fR q8 hQ fQ (by omega) ?_
        intro b _ hb
        refine ⟨vx, ?_⟩
        rw [cx]
        have z1 : b x = 0 := yb_f.mp (Bool.eq_false_iff.mpr (fun q => by
          have := (hco _).mpr ((hb _ h1 hn).mp q)
          rw [e] at this; cases this))
        exact br_t z1 ⟨rfl, zz_in (B := B) (k + 5) hI hU hV⟩
      · refine br_f za_10 ?_
        unfold wpY_leads
        refine yf_at n32 HS gS (by omega) (br_t (nI_pos' (by omega)) ?_)
        refine yf_at n32 HS gS (by omega) (br_t (nI_pos' (by omega)) ?_)
        refine yk_cone O HS HY r8 hR fR q8 hQ fQ (by omega) ?_
        intro b _ hb
        refine ⟨vx, ?_⟩
        rw [cx]
        have z1 : ¬ b x = 0 := yb_t.mp ((hb _ h1 hn).mpr ((hco _).mp e))
        exact br_f z1 ⟨rfl, zz_in (B := B) (k + 5) hI hU hV⟩
    · refine xf_out n32 HS eS hv (br_t rfl ?_)
      unfold wpY_leads
      refine yf_at n32 HS gS (by omega) (br_t (nI_pos' (by omega)) ?_)
      exact yf_out n32 gS hv (br_f za_n0 ⟨rfl, J⟩)
  · refine xf_out n32 HS eS hv (br_t rfl ?_)
    unfold wpY_leads
    exact yf_out n32 gS hv (br_f za_n0 ⟨rfl, J⟩)
end
section
/-! a collection: the pure picture -/
def zT1 (Cb r : Nat → Bool) (T : Nat → Nat) : Nat → Nat := fun h => if Cb h = true ∧ r h = false then 2 else T h
def zF1 (K : Nat → Nat) (F : Nat → Nat → Nat) (A D : Nat → Bool) : Nat → Nat → Nat := fun h f =>
  if K h ≠ 0 ∧ (if K h = 1 then A (F h 0) else D (F h 0)) = false ∧ (f = 0 ∨ (f = 1 ∧ K h = 3)) then 0 else F h f
def zFx (D : Nat → Bool) (x : Nat) (F F1 : Nat → Nat → Nat) : Nat → Nat → Nat := fun h f => if h < x ∧ D h = true then F1 h f else F h f
def zBs (Z : Nat → Nat) : Nat → Nat
  | 0 => 0
  | k + 1 => if k = 0 then 0 else zBs Z k + Z k + 2
theorem zBs_s {Z : Nat → Nat} {k : Nat} (h : 1 ≤ k) : zBs Z (k + 1) = zBs Z k + Z k + 2 := if_neg (by omega)
theorem zBs_1 {Z : Nat → Nat} : zBs Z 1 = 0 := if_pos rfl
section
variable {n rc ql ar lm la : Nat} {S B K Z T R Q : Nat → Nat} {F : Nat → Nat → Nat} {A Cb D r : Nat → Bool}
theorem zF1_le (O : zO n B K Z T F) {h f : Nat} (h1 : 1 ≤ h) (hn : h ≤ n) (hf : f < Z h) : zF1 K F A D h f ≤ n := by
  by_cases c : K h ≠ 0 ∧ (if K h = 1 then A (F h 0) else D (F h 0)) = false ∧ (f = 0 ∨ (f = 1 ∧ K h = 3))
  · rw [show zF1 K F A D h f = 0 from if_pos c]; exact Nat.zero_le _
  · rw [show zF1 K F A D h f = F h f from if_neg c]; exact zO_F O h1 hn hf
/-- what a survivor holds after the clearing survives -/
theorem zF1_D (O : zO n B K Z T F) (D0 : D 0 = false) (hA : ∀ j, A j = true → D j = true) (cD : zcl n K Z F (fun j => D j = true)) {h f : Nat} (h1 : 1 ≤ h) (hn : h ≤ n) (hf : f < Z h) (d : D h = true) : zF1 K F A D h f = 0 ∨ D (zF1 K F A D h f) = true := by
  by_cases c : K h ≠ 0 ∧ (if K h = 1 then A (F h 0) else D (F h 0)) = false ∧ (f = 0 ∨ (f = 1 ∧ K h = 3))
  · exact Or.inl (if_pos c)
  · rw [show zF1 K F A D h f = F h f from if_neg c]
    by_cases z : F h f = 0
    · exact Or.inl z
    · refine Or.inr ?_
      by_cases k0 : K h = 0
      · exact cD h f h1 hn hf d ⟨fun _ => k0, fun _ q => by omega⟩ z
      · by_cases f0 : f = 0
        · subst f0
          have w : ¬ (if K h = 1 then A (F h 0) else D (F h 0)) = false := fun q => c ⟨k0, q, Or.inl rfl⟩
          by_cases k1 : K h = 1
          · rw [if_pos k1] at w
            exact hA _ (by simpa using w)
          · rw [if_neg k1] at w
            simpa using w
        · by_cases f1 : f = 1 ∧ K h = 3
          · have w : ¬ (if K h = 1 then A (F h 0) else D (F h 0)) = false := fun q => c ⟨k0, q, Or.inr f1⟩
            rw [if_neg (by omega)] at w
            have w' : D (F h 0) = true := by simpa using w
            by_cases z0 : F h 0 = 0
            · rw [z0, D0] at w'; cases w'
            · exact cD h f h1 hn hf d ⟨fun q => absurd q f0, fun _ _ => ⟨z0, w'⟩⟩ z
          · exact cD h f h1 hn hf d ⟨fun q => absurd q f0, fun q q' => absurd ⟨q, q'⟩ f1⟩ z
/-- the queue after the queueing -/
theorem zT1_i {h : Nat} (a : Cb h = true) (b : r h = false) : zT1 Cb r T h = 2 := if_pos ⟨a, b⟩
theorem zT1_o {h : Nat} (a : ¬ (Cb h = true ∧ r h = false)) : zT1 Cb r T h = T h := if_neg a
theorem zQ_col {C : Nat → Nat → Bool} {i : Nat} (H : zQu n ql ar lm T Q) (hCb : ∀ h, Cb h = true → 1 ≤ h ∧ h ≤ n ∧ T h = 1) : zQu n (zq n C Cb Q ql i).2.2 ar lm (zT1 Cb (zq n C Cb Q ql i).1 T) (zq n C Cb Q ql i).2.1 := by
  obtain ⟨a, b, c, d, e, f⟩ := H
  obtain ⟨v1, v2, v3, v4⟩ := zq_inv (n := n) (C := C) (r := Cb) (Q := Q) (l := ql) i
  have vl := zq_l (n := n) (C := C) (r := Cb) (Q := Q) (l := ql) i
  have vs := zq_sum (n := n) (C := C) (r := Cb) (Q := Q) (l := ql) i
  have vb := fun j => zq_sub (n := n) (C := C) (r := Cb) (Q := Q) (l := ql) i j
  generalize zq n C Cb Q ql i = w at *
  obtain ⟨w1, w2, w3⟩ := w
  dsimp only at *
  have co : ∀ j, j < ql → Cb (w2 j) = false := fun j hj => by
    rw [v1 j hj]
    have t2 := (a j hj).2.2
    by_cases q : Cb (Q j) = true
    · have := (hCb _ q).2.2; omega
    · simpa using q
  have c1 : zc (fun h => decide (zT1 Cb w1 T h = 2)) n = zc (fun h => decide (T h = 2)) n + zc (fun h => Cb h && !w1 h) n := zc_add n (fun j _ _ => by
    by_cases q : Cb j = true ∧ w1 j = false
    · have := (hCb j q.1).2.2
      simp [zT1_i q.1 q.2, q.1, q.2, this]
    · have z : (Cb j && !w1 j) = false := by
        by_cases q1 : Cb j = true
        · have : w1 j = true := by
            by_cases q2 : w1 j = true
            · exact q2
            · exact absurd ⟨q1, by simpa using q2⟩ q
          simp [this]
        · simp at q1; simp [q1]
      simp [zT1_o q, z])
  have c2 : zc (fun h => decide (T h = 1)) n = zc (fun h => decide (zT1 Cb w1 T h = 1)) n + zc (fun h => Cb h && !w1 h) n := zc_add n (fun j _ _ => by
    by_cases q : Cb j = true ∧ w1 j = false
    · have := (hCb j q.1).2.2
      simp [zT1_i q.1 q.2, q.1, q.2, this]
    · have z : (Cb j && !w1 j) = false := by
        by_cases q1 : Cb j = true
        · have : w1 j = true := by
            by_cases q2 : w1 j = true
            · exact q2
            · exact absurd ⟨q1, by simpa using q2⟩ q
          simp [this]
        · simp at q1; simp [q1]
      simp [zT1_o q, z])
  have c3 : zc Cb n = zc w1 n + zc (fun h => Cb h && !w1 h) n := zc_add n (fun j _ _ => by
    have := vb j
    by_cases q : w1 j = true
    · simp [q, this q]
    · simp at q
      simp [q])
  refine ⟨fun j hj => ?_, fun j k jk hk => ?_, fun h h1 hn t => ?_, by omega, by omega, f⟩
  · rcases Nat.lt_or_ge j ql with q | q
    · have z := co j q
      obtain ⟨x, y, t2⟩ := a j q
      rw [zT1_o (fun w => by rw [z] at w; cases w.1), v1 j q]
      exact ⟨x, y, t2⟩
    · obtain ⟨x, y, z, u⟩ := v2 j q hj
      exact ⟨x, y, zT1_i z u⟩
  · rcases Nat.lt_or_ge k ql with q | q
    · rw [v1 j (by omega), v1 k q]; exact b j k jk q
    · rcases Nat.lt_or_ge j ql with p | p
      · intro e
        have z := co j p
        rw [e, (v2 k q hk).2.2.1] at z
        cases z
      · exact v4 j k p jk hk
  · by_cases q : Cb h = true ∧ w1 h = false
    · obtain ⟨j, x, y, z⟩ := v3 h q.1 q.2
      exact ⟨j, y, z⟩
    · rw [zT1_o q] at t
      obtain ⟨j, x, y⟩ := c h h1 hn t
      exact ⟨j, by omega, by rw [v1 j x]; exact y⟩
/-- renumbering the survivors -/
theorem zr_S (HS : zS n S la) : zS (zc D n) (fun k => S (zE D n k)) la := by
  refine ⟨by dsimp only; rw [zE_0]; exact HS.1, fun i j ij jn => ?_, ?_, HS.2.2.2⟩
  · dsimp only
    rcases Nat.eq_zero_or_pos i with q | q
    · subst q
      obtain ⟨x, y, _, _⟩ := zE_sp (D := D) (n := n) (k := j) (by omega) jn
      rw [zE_0]
      exact HS.2.1 0 _ (by omega) y
    · obtain ⟨x, y, _, _⟩ := zE_sp (D := D) (n := n) (k := j) (by omega) jn
      exact HS.2.1 _ _ (zE_mn q ij jn) y
  · dsimp only
    have l := HS.2.2.1
    rcases Nat.eq_zero_or_pos (zc D n) with q | q
    · rw [q, zE_0, HS.1]; omega
    · obtain ⟨x, y, _, _⟩ := zE_sp (D := D) (n := n) (k := zc D n) q (Nat.le_refl _)
      rcases Nat.lt_or_ge (zE D n (zc D n)) n with w | w
      · have := HS.2.1 _ _ w (Nat.le_refl _); omega
      · rw [show zE D n (zc D n) = n by omega]; omega
theorem zr_B (O : zO n B K Z T F) : ∀ m, m ≤ n → zBs (fun k => Z (zE D n k)) (zc D m + 1) ≤ B (m + 1) := by
  intro m
  induction m with
  | zero => intro _; show zBs _ 1 ≤ _; rw [zBs_1]; omega
  | succ m ih =>
    intro hm
    have i := ih (by omega)
    have b := zO_B O (h := m + 1) (by omega) hm
    by_cases d : D (m + 1) = true
    · have e : zc D (m + 1) = zc D m + 1 := by rw [zc_s, if_pos d]
      have w : zE D n (zc D m + 1) = m + 1 := by rw [← e]; exact zE_of (by omega) hm d
      rw [e, zBs_s (by omega), w]
      omega
    · have e : zc D (m + 1) = zc D m := by rw [zc_s, if_neg d]; rfl
      rw [e]; omega
theorem zr_O {T' : Nat → Nat} {F' : Nat → Nat → Nat} (O : zO n B K Z T F) (hT : ∀ h, 1 ≤ h → h ≤ n → T' h < 4) (hF : ∀ h f, 1 ≤ h → h ≤ n → f < Z h → F' h f ≤ zc D n) : zO (zc D n) (zBs (fun k => Z (zE D n k))) (fun k => K (zE D n k)) (fun k => Z (zE D n k)) (fun k => T' (zE D n k)) (fun k f => F' (zE D n k) f) := by
  refine ⟨zBs_1, Nat.le_trans (zr_B O n (Nat.le_refl _)) O.2.1, fun k k1 kn => ?_⟩
  obtain ⟨x, y, _, _⟩ := zE_sp (D := D) (n := n) k1 kn
  obtain ⟨_, b, c, d, e, f, g⟩ := O.2.2 _ x y
  exact ⟨zBs_s k1, b, c, d, hT _ x y, f, fun i hi => hF _ i x y hi⟩
theorem zr_Q (H : zQu n ql ar lm T Q) (D0 : D 0 = false) (h12 : ∀ h, 1 ≤ h → h ≤ n → T h = 1 ∨ T h = 2 → D h = true) : zQu (zc D n) ql ar lm (fun k => T (zE D n k)) (fun i => zf D (Q i)) := by
  obtain ⟨a, b, c, d, e, f⟩ := H
  have dq : ∀ i, i < ql → D (Q i) = true := fun i hi => by
    obtain ⟨x, y, z⟩ := a i hi
    exact h12 _ x y (Or.inr z)
  refine ⟨fun i hi => ?_, fun i j ij jq => ?_, fun k k1 kn t => ?_, ?_, ?_, f⟩
  · obtain ⟨x, y, z⟩ := a i hi
    dsimp only
    refine ⟨?_, zf_le y, by rw [zE_f y (dq i hi) D0]; exact z⟩
    rw [zf_t (dq i hi), zc_at x (dq i hi)]; omega
  · dsimp only
    rw [zf_t (dq i (by omega)), zf_t (dq j jq)]
    intro q
    exact b i j ij jq (zc_inj (a i (by omega)).1 (a j jq).1 (dq i (by omega)) (dq j jq) q)
  · dsimp only at t
    obtain ⟨x, y, z, w⟩ := zE_sp (D := D) (n := n) k1 kn
    obtain ⟨i, u, v⟩ := c _ x y t
    exact ⟨i, u, by dsimp only; rw [v, zf_t z, w]⟩
  · have := zc_ren (D := D) (p := fun h => decide (T h = 2)) (n := n) (fun j j1 jn q => h12 j j1 jn (Or.inr (by simpa using q))) n (Nat.le_refl _)
    rw [this]; exact d
  · have := zc_ren (D := D) (p := fun h => decide (T h = 1)) (n := n) (fun j j1 jn q => h12 j j1 jn (Or.inl (by simpa using q))) n (Nat.le_refl _)
    rw [this]; exact e
end
end
section
/-! small bit sets in an int -/
theorem bt_one {k : Nat} (hk : k < 32) (j : Nat) : bt ((1 : Int32) <<< (nI k &&& 31)) j = decide (j = k) := by
  unfold bt
  rw [nf_sh k hk, BitVec.getLsbD_twoPow]
  by_cases e : j = k
  · subst e; simp [hk]
  · simp [e, show ¬ k = j from fun z => e z.symm]
theorem bt_0 {x : Int32} : x = 0 ↔ ∀ i, i < 32 → bt x i = false :=
  ⟨fun e i _ => by rw [e]; exact b_0 i, fun h => b_ext (fun i hi => by rw [h i hi, b_0])⟩
theorem bt_t {m : Int32} {k : Nat} (hk : k < 32) : (m &&& ((1 : Int32) <<< (nI k &&& 31))) = 0 ↔ bt m k = false := by
  rw [bt_0]
  constructor
  · intro h
    have := h k hk
    rw [b_and, bt_one hk] at this
    simpa using this
  · intro e i _
    rw [b_and, bt_one hk]
    by_cases q : i = k
    · subst q; rw [e]; rfl
    · simp [q]
theorem bt_all : ∀ n, n < 9 → ∀ j, j < 32 → bt (((1 : Int32) <<< (nI n &&& 31)) - 1) j = decide (j < n) := by decide +kernel
theorem bt_rm {w : Int32} {k j : Nat} (hk : k < 32) (hj : j < 32) : bt (w &&& (((1 : Int32) <<< (nI k &&& 31)) ^^^ (-1))) j = (bt w j && !decide (j = k)) := by
  rw [b_and, b_xor, bt_one hk, b_m1 j hj]
  cases decide (j = k) <;> simp
section
variable {cap rgc fln cnt usd lst qhd qln arm : Int32} {mrk : Int64} {dep : Int32} {aH aS aB aR aQ aK aW aN aF aC : Nat → Int32} {aE : Nat → Int64} {aL : Nat → Int32} {n ql hd n0 : Nat} {B K Z T R Q e : Nat → Nat} {P : Nat → Int32} {F : Nat → Nat → Nat} {Cb r : Nat → Bool} {C : Nat → Nat → Bool}
theorem xq_list {post : Int32 → SX → Prop} {c : Int64} (n32 : n ≤ 32) (c8 : zc Cb n ≤ 8) (hc : ∀ h, bs c h = Cb h) (hp : ∀ ca : Nat → Int32, (∀ j, 1 ≤ j → j ≤ n → Cb j = true → ca (zc Cb j - 1) = nI j) → post (nI (zc Cb n)) (cap, rgc, fln, nI n, usd, lst, qhd, qln, arm, mrk, dep, aH, aS, aB, aR, aQ, aK, aW, aN, aF, ca, aE, aL)) :
    ∀ (k x : Nat) (ca : Nat → Int32), 1 ≤ x → x ≤ n + 1 → n + 1 < x + k → (∀ j, 1 ≤ j → j < x → Cb j = true → ca (zc Cb j - 1) = nI j) → wX_listCandidates_5 post c cap rgc fln (nI n) usd lst qhd qln arm mrk dep k (nI (zc Cb (x - 1))) (nI x) aH aS aB aR aQ aK aW aN aF ca aE aL := by
  intro k
  induction k with
  | zero => intro x ca a b; omega
  | succ k ih =>
    intro x ca x1 xn xk H
    by_cases q : n < x
    · have : x = n + 1 := by omega
      subst this
      exact br_t (nI_lt q (by omega)) (hp ca (fun j j1 jn cj => H j j1 (by omega) cj))
    · have lx := zc_le Cb (x - 1)
      refine br_f (nI_nlt (by omega) (by omega)) (xk_con (by omega) (fun w => ?_) (fun w => ?_))
      · rw [hc x] at w
        have i := ih (x + 1) ca (by omega) (by omega) (by omega) (fun j j1 jx cj => by
          by_cases z : j = x
          · rw [z, w] at cj; cases cj
          · exact H j j1 (by omega) cj)
        rw [show x + 1 - 1 = x from rfl, zc_an x1 w] at i
        exact br_t rfl (nm_r (nI_1 x) i)
      · rw [hc x] at w
        have zx := zc_at x1 w
        have zl := zc_mn Cb (i := x) (j := n) (by omega)
        have i := ih (x + 1) (upd ca (zc Cb (x - 1)) (nI x)) (by omega) (by omega) (by omega) (fun j j1 jx cj => by
          by_cases z : j = x
          · rw [z, zx, Nat.add_sub_cancel, pk_us]
          · have m := zc_mn Cb (i := j) (j := x - 1) (by omega)
            have a := zc_at j1 cj
            rw [pk_un (by omega)]
            exact H j j1 (by omega) cj)
        rw [show x + 1 - 1 = x from rfl, zx] at i
        exact br_f za_10 (br_f (fun z => absurd ((za_8le (by omega)).mp z) (by omega)) ⟨vp_in_nI (by omega) (by omega), nm_r (e' := upd ca (zc Cb (x - 1)) (nI x)) (by rw [nI_clamp (by omega)]) (nm_r (nI_1 _) (nm_r (nI_1 x) i))⟩)
/-- the leaders of candidate i -/
theorem xq_12 {post : SX → Prop} {J2 : Int32 → (Nat → Int32) → (Nat → Int32) → (Nat → Int32) → (Nat → Int32) → (Nat → Int32) → (Nat → Int32) → (Nat → Int32) → (Nat → Int32) → (Nat → Int32) → (Nat → Int32) → (Nat → Int64) → (Nat → Int32) → Prop} {i : Nat} (n8 : n0 ≤ 8) (n32 : n ≤ 32) (hi : i < n0) (he : ∀ j, j < n0 → e j ≤ n) (eC : ∀ j, j < n0 → aC j = nI (e j)) (eE : ∀ j, j < n0 → ∀ h, bs (aE j) h = C (e j) h)
    (hJ : ∀ s : Int32, (∀ b, b < 32 → bt s b = (decide (b < n0) && (C (e b) (e i) && !C (e i) (e b)))) → J2 (nI (i + 1)) aH aS aB aR aQ aK aW aN aF aC aE (upd aL i s)) :
    ∀ (k j : Nat) (s : Int32), j ≤ n0 → n0 < j + k → (∀ b, b < 32 → bt s b = (decide (b < j) && (C (e b) (e i) && !C (e i) (e b)))) → wX_findLeaders_12 post J2 (nI n0) (nI i) cap rgc fln cnt usd lst qhd qln arm mrk dep aH aS aB aR aQ aK aW aN aF aC aE aL k s (nI j) := by
  have ci : (nI i).toNatClampNeg = i := nI_clamp (by omega)
  have vi : vp_in (nI i) 8 := vp_in_nI (by omega) (by omega)
  intro k
  induction k with
  | zero => intro j s a b; omega
  | succ k ih =>
    intro j s a b H
    by_cases q : n0 ≤ j
    · have : j = n0 := by omega
      subst this
      exact br_t (nI_le q (by omega)) ⟨vi, nm_r (e' := upd aL i s) (by rw [ci]) (nm_r (nI_1 i) (hJ s H))⟩
    · have cj : (nI j).toNatClampNeg = j := nI_clamp (by omega)
      have vj : vp_in (nI j) 8 := vp_in_nI (by omega) (by omega)
      have e1 := he i hi
      have e2 := he j (by omega)
      have key : ∀ s' : Int32, (∀ b, b < 32 → bt s' b = (decide (b < j + 1) && (C (e b) (e i) && !C (e i) (e b)))) → wX_findLeaders_12 post J2 (nI n0) (nI i) cap rgc fln cnt usd lst qhd qln arm mrk dep aH aS aB aR aQ aK aW aN aF aC aE aL k s' (nI (j + 1)) := fun s' h' => ih (j + 1) s' (by omega) (by omega) h'
      have same : (C (e j) (e i) && !C (e i) (e j)) = false → ∀ b, b < 32 → bt s b = (decide (b < j + 1) && (C (e b) (e i) && !C (e i) (e b))) := fun z b hb => by
        rw [H b hb]
        by_cases w : b = j
        · subst w; simp [z]
        · have : (b < j + 1) ↔ b < j := by omega
          simp only [this]
      refine br_f (nI_ge (by omega) (by omega)) ⟨vj, vi, ?_⟩
      rw [ci, cj, eC i hi, eC j (by omega)]
      refine xk_con (by omega) (fun w => ?_) (fun w => ?_)
      · rw [eE j (by omega)] at w
        refine ⟨vi, vj, xk_con (by omega) (fun w2 => ?_) (fun w2 => ?_)⟩
        · exact br_t rfl (nm_r (nI_1 j) (key s (same (by rw [w]; rfl))))
        · exact br_t rfl (nm_r (nI_1 j) (key s (same (by rw [w]; rfl))))
      · rw [eE j (by omega)] at w
        refine ⟨vi, vj, xk_con (by omega) (fun w2 => ?_) (fun w2 => ?_)⟩
        · rw [eE i hi] at w2
          refine br_f za_10 (br_t rfl (nm_e (nm_r (nI_1 j) (key _ (fun b hb => ?_)))))
          rw [b_or, bt_one (by omega), H b hb]
          by_cases z : b = j
          · subst z; simp [w, w2]
          · have : (b < j + 1) ↔ b < j := by omega
            simp [z, this]
        · rw [eE i hi] at w2
          exact br_f za_10 (br_f za_10 (nm_r (nI_1 j) (key s (same (by rw [w2]; simp)))))
theorem xq_lead {post : SX → Prop} (n8 : n0 ≤ 8) (n32 : n ≤ 32) (he : ∀ j, j < n0 → e j ≤ n) (eC : ∀ j, j < n0 → aC j = nI (e j)) (eE : ∀ j, j < n0 → ∀ h, bs (aE j) h = C (e j) h)
    (hp : ∀ l : Nat → Int32, (∀ i, i < n0 → ∀ b, b < 32 → bt (l i) b = (decide (b < n0) && (C (e b) (e i) && !C (e i) (e b)))) → post (cap, rgc, fln, cnt, usd, lst, qhd, qln, arm, mrk, dep, aH, aS, aB, aR, aQ, aK, aW, aN, aF, aC, aE, l)) :
    wpX_findLeaders post (cap, rgc, fln, cnt, usd, lst, qhd, qln, arm, mrk, dep, aH, aS, aB, aR, aQ, aK, aW, aN, aF, aC, aE, aL) (nI n0) := by
  have L : ∀ (k i : Nat) (l : Nat → Int32), i ≤ n0 → n0 < i + k → (∀ i', i' < i → ∀ b, b < 32 → bt (l i') b = (decide (b < n0) && (C (e b) (e i') && !C (e i') (e b)))) → wX_findLeaders_2 post (nI n0) cap rgc fln cnt usd lst qhd qln arm mrk dep k (nI i) aH aS aB aR aQ aK aW aN aF aC aE l := by
    intro k
    induction k with
    | zero => intro i l a b; omega
    | succ k ih =>
      intro i l a b H
      by_cases q : n0 ≤ i
      · have : i = n0 := by omega
        subst this
        exact br_t (nI_le q (by omega)) (hp l H)
      · refine br_f (nI_ge (by omega) (by omega)) ⟨n0 + 1, ?_⟩
        refine xq_12 n8 n32 (by omega) he eC eE (fun s hs => ?_) (n0 + 1) 0 0 (by omega) (by omega) (fun b hb => by rw [b_0]; simp)
        refine ih (i + 1) _ (by omega) (by omega) (fun i' hi' b hb => ?_)
        by_cases w : i' = i
        · rw [w, pk_us]; exact hs b hb
        · rw [pk_un w]; exact H i' (by omega) b hb
  exact ⟨n0 + 1, L (n0 + 1) 0 aL (by omega) (by omega) (fun i' q => by omega)⟩
/-- the next one to be queued -/
theorem xq_next {post : Int32 → Prop} {w : Int32} (n8 : n0 ≤ 8) (he : ∀ j, j < n0 → 1 ≤ e j ∧ e j ≤ n) (em : ∀ i j, i < j → j < n0 → e i < e j) (es : ∀ d, r d = true → ∃ j, j < n0 ∧ e j = d) (eL : ∀ i, i < n0 → ∀ b, b < 32 → bt (aL i) b = (decide (b < n0) && (C (e b) (e i) && !C (e i) (e b)))) (hw : ∀ b, b < 32 → bt w b = (decide (b < n0) && r (e b)))
    (h0 : zk n C r = 0 → post (-1)) (hs : ∀ j, j < n0 → zk n C r = e j → post (nI j)) : wpX_nextCandidate post (cap, rgc, fln, cnt, usd, lst, qhd, qln, arm, mrk, dep, aH, aS, aB, aR, aQ, aK, aW, aN, aF, aC, aE, aL) (nI n0) w := by
  have L : ∀ (k i : Nat), i ≤ n0 → n0 < i + k → (∀ i', i' < i → ¬ zu n C r (e i')) → wX_nextCandidate_2 post (nI n0) w cap rgc fln cnt usd lst qhd qln arm mrk dep aH aS aB aR aQ aK aW aN aF aC aE aL k (nI i) := by
    intro k
    induction k with
    | zero => intro i a b; omega
    | succ k ih =>
      intro i a b H
      by_cases q : n0 ≤ i
      · refine br_t (nI_le q (by omega)) (h0 (zk_no (fun j j1 jn u => ?_)))
        obtain ⟨j', x, y⟩ := es j u.1
        rw [← y] at u
        exact H j' (by omega) u
      · have ci : (nI i).toNatClampNeg = i := nI_clamp (by omega)
        have vi : vp_in (nI i) 8 := vp_in_nI (by omega) (by omega)
        have nx : ¬ zu n C r (e i) → wX_nextCandidate_2 post (nI n0) w cap rgc fln cnt usd lst qhd qln arm mrk dep aH aS aB aR aQ aK aW aN aF aC aE aL k (nI (i + 1)) := fun u => ih (i + 1) (by omega) (by omega) (fun i' hi' => by
          by_cases z : i' = i
          · rw [z]; exact u
          · exact H i' (by omega))
        have wi : bt w i = r (e i) := by
          rw [hw i (by omega), decide_eq_true (show i < n0 by omega), Bool.true_and]
        refine br_f (nI_ge (by omega) (by omega)) ?_
        rw [bt_t (by omega), wi]
        refine br_c (fun z => ?_) (fun z => ?_)
        · exact br_t rfl (nm_r (nI_1 i) (nx (fun u => by rw [u.1] at z; cases z)))
        · have ri : r (e i) = true := by simpa using z
          refine br_f za_10 ⟨vi, ?_⟩
          rw [ci, bt_0]
          have char : (∀ b, b < 32 → bt (aL i &&& w) b = false) ↔ zu n C r (e i) := by
            constructor
            · intro h
              refine ⟨ri, fun d d1 dn rd cd => ?_⟩
              obtain ⟨j, x, y⟩ := es d rd
              have := h j (by omega)
              rw [b_and, eL i (by omega) j (by omega), hw j (by omega), decide_eq_true x, y, rd, cd] at this
              simpa using this
            · intro u b hb
              rw [b_and, eL i (by omega) b hb, hw b hb]
              by_cases z1 : b < n0
              · by_cases z2 : r (e b) = true
                · by_cases z3 : C (e b) (e i) = true
                  · have := u.2 _ (he b z1).1 (he b z1).2 z2 z3
                    simp [this]
                  · simp at z3; simp [z3]
                · simp at z2; simp [z2]
              · simp [z1]
          rw [char]
          refine br_c (fun u => hs i (by omega) (zk_of ⟨(he i (by omega)).1, (he i (by omega)).2, u, fun j j1 jl uj => ?_⟩)) (fun u => nm_r (nI_1 i) (nx u))
          obtain ⟨j', x, y⟩ := es j uj.1
          rw [← y] at uj jl
          rcases Nat.lt_or_ge j' i with t | t
          · exact H j' t uj
          · rcases Nat.lt_or_ge i j' with t2 | t2
            · have := em i j' t2 x; omega
            · rw [show j' = i by omega] at jl; omega
  exact ⟨n0 + 1, L (n0 + 1) 0 (by omega) (by omega) (fun i' q => by omega)⟩
theorem xq_enq {post : SX → Prop} {h : Nat} (O : zO n B K Z T F) (HX : zX n B K Z T P F aH aB) (h1 : 1 ≤ h) (hn : h ≤ n) (hd8 : hd < 8) (q8 : ql < 8) (hp : ∀ aH', zX n B K Z (zT T h 2) P F aH' aB → post (cap, rgc, fln, cnt, usd, lst, nI hd, nI (ql + 1), arm, mrk, dep, aH', aS, aB, aR, upd aQ ((hd + ql) % 8) (nI h), aK, aW, aN, aF, aC, aE, aL)) : wpX_enqueue post (cap, rgc, fln, cnt, usd, lst, nI hd, nI ql, arm, mrk, dep, aH, aS, aB, aR, aQ, aK, aW, aN, aF, aC, aE, aL) (nI h) := by
  have er : (nI hd + nI ql) - (nI hd + nI ql) / 8 * 8 = nI ((hd + ql) % 8) := by rw [nI_add, za_r8 (by omega)]
  have m8 : (hd + ql) % 8 < 8 := Nat.mod_lt _ (by omega)
  refine br_f (fun z => absurd ((za_8le (by omega)).mp z) (by omega)) ⟨za_80, by rw [er]; exact vp_in_nI m8 (by omega), nm_r (e' := upd aQ ((hd + ql) % 8) (nI h)) (by rw [er, nI_clamp (by omega)]) (nm_r (nI_1 ql) ?_)⟩
  refine xk_setS (s := 2) O HX h1 hn (by omega) ?_
  intro aH' HX'
  exact hp aH' HX'
end
theorem zT1_s {Cb r : Nat → Bool} {T : Nat → Nat} {p : Nat} (h : Cb p = true) : zT (zT1 Cb r T) p 2 = zT1 Cb (zr r p) T := by
  funext j
  unfold zT zT1 zr
  by_cases e : j = p
  · subst e; simp [h]
  · simp [e]
theorem zO_T1 {n : Nat} {B K Z T : Nat → Nat} {F : Nat → Nat → Nat} {Cb r : Nat → Bool} (O : zO n B K Z T F) : zO n B K Z (zT1 Cb r T) F :=
  zO_congr O ⟨rfl, rfl⟩ fun j j1 jn => ⟨rfl, rfl, rfl, rfl, by
    unfold zT1
    split
    · omega
    · exact zO_T O j1 jn, fun g hg => zO_F O j1 jn hg⟩
end
section
section
variable {cap rgc fln cnt usd lst qhd qln arm : Int32} {mrk : Int64} {dep : Int32} {aH aS aB aR aQ aK aW aN aF aC : Nat → Int32} {aE : Nat → Int64} {aL : Nat → Int32} {n rc ql hd n0 : Nat} {B K Z T R Q e : Nat → Nat} {P : Nat → Int32} {F : Nat → Nat → Nat} {Cb : Nat → Bool} {C : Nat → Nat → Bool}
theorem xq_62 {post : SX → Prop} (O : zO n B K Z T F) (hd8 : hd < 8) (en : n0 = zc Cb n) (sum : zc Cb n + ql ≤ 8) (he : ∀ j, j < n0 → 1 ≤ e j ∧ e j ≤ n) (em : ∀ i j, i < j → j < n0 → e i < e j) (es : ∀ d, Cb d = true → ∃ j, j < n0 ∧ e j = d) (hcb : ∀ j, j < n0 → Cb (e j) = true) (eC : ∀ j, j < n0 → aC j = nI (e j)) (eL : ∀ i, i < n0 → ∀ b, b < 32 → bt (aL i) b = (decide (b < n0) && (C (e b) (e i) && !C (e i) (e b))))
    (hp : ∀ aH' aQ' : Nat → Int32, zX n B K Z (zT1 Cb (zq n C Cb Q ql n0).1 T) P F aH' aB → (∀ j, j < (zq n C Cb Q ql n0).2.2 → aQ' ((hd + j) % 8) = nI ((zq n C Cb Q ql n0).2.1 j)) → post (cap, rgc, fln, nI n, usd, lst, nI hd, nI (zq n C Cb Q ql n0).2.2, arm, mrk, dep, aH', aS, aB, aR, aQ', aK, aW, aN, aF, aC, aE, aL)) :
    ∀ (k i : Nat) (w : Int32) (aH' aQ' : Nat → Int32), i ≤ n0 → n0 < i + k → zX n B K Z (zT1 Cb (zq n C Cb Q ql i).1 T) P F aH' aB → (∀ b, b < 32 → bt w b = (decide (b < n0) && (zq n C Cb Q ql i).1 (e b))) → (∀ j, j < (zq n C Cb Q ql i).2.2 → aQ' ((hd + j) % 8) = nI ((zq n C Cb Q ql i).2.1 j)) →
    wX_queueCandidates_62 post (nI n0) k w (nI i) cap rgc fln (nI n) usd lst (nI hd) (nI (zq n C Cb Q ql i).2.2) arm mrk dep aH' aS aB aR aQ' aK aW aN aF aC aE aL := by
  have n32 := zO_n O
  intro k
  induction k with
  | zero => intro i w aH' aQ' a b; omega
  | succ k ih =>
    intro i w aH' aQ' a b HX hw hq
    have vs := zq_sum (n := n) (C := C) (r := Cb) (Q := Q) (l := ql) i
    by_cases q : n0 ≤ i
    · have ei : i = n0 := by omega
      subst ei
      exact br_t (nI_le q (by omega)) (hp aH' aQ' HX hq)
    · refine br_f (nI_ge (by omega) (by omega)) ?_
      refine xq_next (r := (zq n C Cb Q ql i).1) (C := C) (e := e) (n := n) (by omega) he em (fun d hd' => es d (zq_sub i d hd')) eL hw (fun z => ?_) (fun j hj z => ?_)
      · have ii := ih (i + 1) w aH' aQ' (by omega) (by omega)
        rw [zq_n z] at ii
        exact br_t za_n1 (nm_r (nI_1 i) (ii HX hw hq))
      · have ej := he j hj
        have nz : e j ≠ 0 := by omega
        have sp := zk_sp (n := n) (C := C) (r := (zq n C Cb Q ql i).1) (by rw [z]; exact nz)
        rw [z] at sp
        have zp1 := zc_pos sp.1 sp.2.1 sp.2.2.1.1
        have cj : (nI j).toNatClampNeg = j := nI_clamp (by omega)
        refine br_f (nI_pos (by omega)) (nm_e ⟨vp_in_nI (by omega) (by omega), nm_r (e' := nI (e j)) (by rw [cj]; exact eC j hj) ?_⟩)
        refine xq_enq (zO_T1 O) HX ej.1 ej.2 hd8 (by omega) ?_
        intro aH2 HX2
        rw [zT1_s (hcb j hj)] at HX2
        have ii := ih (i + 1) (w &&& (((1 : Int32) <<< (nI j &&& 31)) ^^^ (-1))) aH2 (upd aQ' ((hd + (zq n C Cb Q ql i).2.2) % 8) (nI (e j))) (by omega) (by omega)
        rw [zq_s z nz] at ii
        refine nm_r (nI_1 i) (ii HX2 (fun b hb => ?_) (fun m hm => ?_))
        · rw [bt_rm (by omega) hb, hw b hb]
          dsimp only [zr]
          by_cases u : b = j
          · subst u; simp
          · by_cases v : b < n0
            · have ne : e b ≠ e j := fun t => by
                rcases Nat.lt_trichotomy b j with l | l | l
                · have := em b j l hj; omega
                · exact u l
                · have := em j b l v; omega
              simp [u, v, ne]
            · simp [v]
        · dsimp only at hm ⊢
          by_cases u : m = (zq n C Cb Q ql i).2.2
          · rw [u, pk_us, if_pos rfl]
          · rw [if_neg u, pk_un (by omega)]
            exact hq m (by omega)
theorem xq_10 {post : SX → Prop} {m1 : Int64} (O : zO n B K Z T F) (HX : zX n B K Z T P F aH aB) (hd8 : hd < 8) (en : n0 = zc Cb n) (sum : zc Cb n + ql ≤ 8) (he : ∀ j, j < n0 → 1 ≤ e j ∧ e j ≤ n) (em : ∀ i j, i < j → j < n0 → e i < e j) (es : ∀ d, Cb d = true → ∃ j, j < n0 ∧ e j = d) (hcb : ∀ j, j < n0 → Cb (e j) = true) (eC : ∀ j, j < n0 → aC j = nI (e j)) (eQ : ∀ i, i < ql → aQ ((hd + i) % 8) = nI (Q i))
    (hre : ∀ j, bs m1 j = true ↔ zre n K Z F rc ql R Q j) (hC : C = fun c h => zd (zco n K Z F rc ql R Q c h))
    (hp : ∀ (mrk : Int64) (dep : Int32) (aK aW aN aL aH' aQ' : Nat → Int32) (aE : Nat → Int64), zX n B K Z (zT1 Cb (zq n C Cb Q ql n0).1 T) P F aH' aB → (∀ j, j < (zq n C Cb Q ql n0).2.2 → aQ' ((hd + j) % 8) = nI ((zq n C Cb Q ql n0).2.1 j)) → post (cap, rgc, fln, nI n, usd, lst, nI hd, nI (zq n C Cb Q ql n0).2.2, arm, mrk, dep, aH', aS, aB, aR, aQ', aK, aW, aN, aF, aC, aE, aL)) :
    ∀ (k i : Nat) (mrk : Int64) (dep : Int32) (aK aW aN : Nat → Int32) (aE : Nat → Int64), i ≤ n0 → n0 < i + k → (∀ j, j < i → ∀ h, bs (aE j) h = C (e j) h) → wX_queueCandidates_10 post m1 (nI n0) k (nI i) cap rgc fln (nI n) usd lst (nI hd) (nI ql) arm mrk dep aH aS aB aR aQ aK aW aN aF aC aE aL := by
  have n32 := zO_n O
  intro k
  induction k with
  | zero => intro i mrk dep aK aW aN aE a b; omega
  | succ k ih =>
    intro i mrk dep aK aW aN aE a b H
    by_cases q : n0 ≤ i
    · have ei : i = n0 := by omega
      subst ei
      refine br_t (nI_le q (by omega)) ?_
      refine xq_lead (n := n) (C := C) (e := e) (by omega) n32 (fun j hj => (he j hj).2) eC H ?_
      intro l hl
      refine nm_e ⟨i + 1, ?_⟩
      refine xq_62 (Q := Q) (ql := ql) O hd8 en sum he em es hcb eC hl (fun aH' aQ' x1 x2 => hp mrk dep aK aW aN l aH' aQ' aE x1 x2) (i + 1) 0 _ aH aQ (by omega) (by omega) ?_ (fun b hb => ?_) eQ
      · have : zT1 Cb (zq n C Cb Q ql 0).1 T = T := by
          funext h
          exact zT1_o (fun w => by
            have a := w.1
            have b : Cb h = false := w.2
            rw [a] at b; cases b)
        rw [this]; exact HX
      · rw [bt_all i (by omega) b hb, zq_0]
        by_cases u : b < i
        · simp [u, hcb b u]
        · simp [u]
    · have ci : (nI i).toNatClampNeg = i := nI_clamp (by omega)
      have vi : vp_in (nI i) 8 := vp_in_nI (by omega) (by omega)
      have ei := he i (by omega)
      refine br_f (nI_ge (by omega) (by omega)) ⟨vi, ?_⟩
      rw [ci, eC i (by omega)]
      refine xk_closure O HX ?_
      intro m2 d2 st2 wh2 wn2 hm2
      have hco := zs_co O ei.1 ei.2 hre hm2
      refine ⟨vi, nm_e (nm_r (nI_1 i) (ih (i + 1) m2 d2 st2 wh2 wn2 _ (by omega) (by omega) (fun j hj h => ?_)))⟩
      by_cases u : j = i
      · subst u
        rw [pk_uLs, hC]
        dsimp only
        by_cases v : bs m2 h = true
        · rw [v, zd_of ((hco h).mp v)]
        · rw [zd_n (fun z => v ((hco h).mpr z))]; simpa using v
      · rw [pk_uLn u]; exact H j (by omega) h
theorem xq_all {post : SX → Prop} {m1 c : Int64} (O : zO n B K Z T F) (HX : zX n B K Z T P F aH aB) (hd8 : hd < 8) (sum : zc Cb n + ql ≤ 8) (eQ : ∀ i, i < ql → aQ ((hd + i) % 8) = nI (Q i)) (hCb : ∀ h, Cb h = true → 1 ≤ h ∧ h ≤ n) (hc : ∀ h, bs c h = Cb h)
    (hre : ∀ j, bs m1 j = true ↔ zre n K Z F rc ql R Q j) (hC : C = fun c h => zd (zco n K Z F rc ql R Q c h))
    (hp : ∀ (mrk : Int64) (dep : Int32) (aK aW aN aL aH' aQ' aC : Nat → Int32) (aE : Nat → Int64), zX n B K Z (zT1 Cb (zq n C Cb Q ql (zc Cb n)).1 T) P F aH' aB → (∀ j, j < (zq n C Cb Q ql (zc Cb n)).2.2 → aQ' ((hd + j) % 8) = nI ((zq n C Cb Q ql (zc Cb n)).2.1 j)) → post (cap, rgc, fln, nI n, usd, lst, nI hd, nI (zq n C Cb Q ql (zc Cb n)).2.2, arm, mrk, dep, aH', aS, aB, aR, aQ', aK, aW, aN, aF, aC, aE, aL)) :
    wpX_queueCandidates post (cap, rgc, fln, nI n, usd, lst, nI hd, nI ql, arm, mrk, dep, aH, aS, aB, aR, aQ, aK, aW, aN, aF, aC, aE, aL) m1 c := by
  have n32 := zO_n O
  unfold wpX_queueCandidates
  refine ⟨n + 2, ?_⟩
  refine xq_list (Cb := Cb) n32 (by omega) hc ?_ (n + 2) 1 aC (by omega) (by omega) (by omega) (fun j a b => by omega)
  intro ca hca
  refine ⟨zc Cb n + 1, ?_⟩
  have sp : ∀ j, j < zc Cb n → 1 ≤ zE Cb n (j + 1) ∧ zE Cb n (j + 1) ≤ n ∧ Cb (zE Cb n (j + 1)) = true ∧ zc Cb (zE Cb n (j + 1)) = j + 1 := fun j hj => zE_sp (by omega) (by omega)
  refine xq_10 (e := fun j => zE Cb n (j + 1)) (rc := rc) (R := R) O HX hd8 rfl sum (fun j hj => ⟨(sp j hj).1, (sp j hj).2.1⟩) (fun i j ij hj => zE_mn (by omega) (by omega) (by omega)) (fun d cd => ?_) (fun j hj => (sp j hj).2.2.1) (fun j hj => ?_) eQ hre hC ?_ (zc Cb n + 1) 0 mrk dep aK aW aN aE (by omega) (by omega) (fun j hj => by omega)
  · obtain ⟨d1, dn⟩ := hCb d cd
    have z := zc_at d1 cd
    have l := zc_mn Cb dn
    refine ⟨zc Cb d - 1, by omega, ?_⟩
    rw [show zc Cb d - 1 + 1 = zc Cb d by omega]
    exact zE_of d1 dn cd
  · have := hca _ (sp j hj).1 (sp j hj).2.1 (sp j hj).2.2.1
    rw [(sp j hj).2.2.2] at this
    exact this
  · intro mrk dep aK aW aN aL aH' aQ' aE x1 x2
    exact hp mrk dep aK aW aN aL aH' aQ' ca aE x1 x2
end
end
section
theorem zF1_c {K : Nat → Nat} {F F' : Nat → Nat → Nat} {A D : Nat → Bool} {h f : Nat} (e : ∀ g, F' h g = F h g) : zF1 K F' A D h f = zF1 K F A D h f := by
  unfold zF1
  rw [e 0, e f]
section
variable {cap rgc fln cnt usd lst qhd qln arm : Int32} {mrk : Int64} {dep : Int32} {aH aS aB aR aQ aK aW aN aF aC : Nat → Int32} {aE : Nat → Int64} {aL : Nat → Int32} {n rc ql hd : Nat} {B K Z T R Q : Nat → Nat} {P : Nat → Int32} {F : Nat → Nat → Nat} {A D : Nat → Bool}
theorem xc_45 {post : SX → Prop} {x : Nat} {mk : Int64} (O : zO n B K Z T F) (HX : zX n B K Z T P F aH aB) (x1 : 1 ≤ x) (xn : x ≤ n) (k0 : K x ≠ 0) (hk : bs mk (F x 0) = (if K x = 1 then A (F x 0) else D (F x 0)))
    (hp : ∀ aH' : Nat → Int32, zX n B K Z T P (fun h f => if h = x then zF1 K F A D h f else F h f) aH' aB → post (cap, rgc, fln, cnt, usd, lst, qhd, qln, arm, mrk, dep, aH', aS, aB, aR, aQ, aK, aW, aN, aF, aC, aE, aL)) : wX_clearObject_45 post (nI (K x)) (nI (B x + 2)) (nI (F x 0)) mk cap rgc fln cnt usd lst qhd qln arm mrk dep aH aS aB aR aQ aK aW aN aF aC aE aL := by
  have n32 := zO_n O
  have tp := zO_top O x1 xn
  have z1 := zO_Z1 O x1 xn
  have k4 := zO_K O x1 xn
  have f0 := zO_F O x1 xn (f := 0) (by omega)
  have c2 : (nI (B x + 2)).toNatClampNeg = B x + 2 := nI_clamp (by omega)
  unfold wX_clearObject_45
  refine xk_con (by omega) (fun w => ?_) (fun w => ?_)
  · rw [hk] at w
    have X1 := zX_F O HX (v := 0) x1 xn (f := 0) (by omega)
    refine br_t rfl ⟨vp_in_nI (by omega) (by omega), nm_r (e' := upd aH (B x + 2 + 0) (nI 0)) (by rw [c2]; rfl) ?_⟩
    by_cases k3 : K x = 3
    · have z2 := zO_K3 O x1 xn k3
      have X2 := zX_F (zO_F' O (Nat.zero_le _)) X1 (v := 0) x1 xn (f := 1) (by omega)
      refine br_t (by rw [k3]; rfl) ⟨by rw [nI_1]; exact vp_in_nI (by omega) (by omega), nm_r (e' := upd (upd aH (B x + 2 + 0) (nI 0)) (B x + 2 + 1) (nI 0)) (by rw [nI_1, nI_clamp (by omega)]; rfl) (hp _ (zX_congr X2 (fun h h1 hn => ⟨rfl, rfl, rfl, rfl, rfl, fun f hf => ?_⟩)))⟩
      unfold zF
      by_cases e : h = x
      · subst e
        rw [if_pos rfl]
        by_cases e1 : f = 1
        · rw [if_pos ⟨rfl, e1⟩]
          exact if_pos ⟨k0, w, Or.inr ⟨e1, k3⟩⟩
        · rw [if_neg (fun q => e1 q.2)]
          by_cases e0 : f = 0
          · rw [if_pos ⟨rfl, e0⟩]
            exact if_pos ⟨k0, w, Or.inl e0⟩
          · rw [if_neg (fun q => e0 q.2)]
            exact if_neg (fun q => by omega)
      · rw [if_neg e, if_neg (fun q => e q.1), if_neg (fun q => e q.1)]
    · refine br_f (fun q => k3 ((za_eq3 (by omega)).mp q)) (hp _ (zX_congr X1 (fun h h1 hn => ⟨rfl, rfl, rfl, rfl, rfl, fun f hf => ?_⟩)))
      unfold zF
      by_cases e : h = x
      · subst e
        rw [if_pos rfl]
        by_cases e0 : f = 0
        · rw [if_pos ⟨rfl, e0⟩]
          exact if_pos ⟨k0, w, Or.inl e0⟩
        · rw [if_neg (fun q => e0 q.2)]
          exact if_neg (fun q => by omega)
      · rw [if_neg e, if_neg (fun q => e q.1)]
  · rw [hk] at w
    refine br_f za_10 (hp aH (zX_congr HX (fun h h1 hn => ⟨rfl, rfl, rfl, rfl, rfl, fun f hf => ?_⟩)))
    by_cases e : h = x
    · subst e
      rw [if_pos rfl]
      exact if_neg (fun q => by rw [w] at q; cases q.2.1)
    · rw [if_neg e]
theorem xc_obj {post : SX → Prop} {x : Nat} {m1 m2 : Int64} (O : zO n B K Z T F) (HX : zX n B K Z T P F aH aB) (x1 : 1 ≤ x) (xn : x ≤ n) (h1 : ∀ j, bs m1 j = A j) (h2 : ∀ j, bs m2 j = D j)
    (hp : ∀ aH' : Nat → Int32, zX n B K Z T P (fun h f => if h = x then zF1 K F A D h f else F h f) aH' aB → post (cap, rgc, fln, cnt, usd, lst, qhd, qln, arm, mrk, dep, aH', aS, aB, aR, aQ, aK, aW, aN, aF, aC, aE, aL)) : wpX_clearObject post (cap, rgc, fln, cnt, usd, lst, qhd, qln, arm, mrk, dep, aH, aS, aB, aR, aQ, aK, aW, aN, aF, aC, aE, aL) (nI x) m1 m2 := by
  have n32 := zO_n O
  have tp := zO_top O x1 xn
  have z1 := zO_Z1 O x1 xn
  have k4 := zO_K O x1 xn
  unfold wpX_clearObject
  refine xk_kind O HX x1 xn ?_
  by_cases k0 : K x = 0
  · refine br_t (by rw [k0]; exact nI_0) (hp aH (zX_congr HX (fun h h1 hn => ⟨rfl, rfl, rfl, rfl, rfl, fun f hf => ?_⟩)))
    by_cases e : h = x
    · subst e
      rw [if_pos rfl]
      exact if_neg (fun q => q.1 k0)
    · rw [if_neg e]
  · have ec : aB (nI x).toNatClampNeg + 2 = nI (B x + 2) := by rw [nI_clamp (by omega), (HX x x1 xn).1, za_2]
    have e0 : aH (B x + 2) = nI (F x 0) := (HX x x1 xn).2.2.2 0 (by omega)
    refine br_f (nI_ne0 (by omega) (by omega)) ⟨vp_in_nI (by omega) (by omega), nm_r ec ⟨vp_in_nI (by omega) (by omega), nm_r (e' := nI (F x 0)) (by rw [nI_clamp (by omega)]; exact e0) ?_⟩⟩
    by_cases k1 : K x = 1
    · refine br_t (by rw [k1]; rfl) ?_
      exact xc_45 O HX x1 xn k0 (by rw [if_pos k1]; exact h1 _) hp
    · refine br_f (fun q => k1 ((za_eq1 (by omega)).mp q)) ?_
      exact xc_45 O HX x1 xn k0 (by rw [if_neg k1]; exact h2 _) hp
theorem xc_all {post : SX → Prop} {m1 m2 : Int64} (O : zO n B K Z T F) (HX : zX n B K Z T P F aH aB) (h1 : ∀ j, bs m1 j = A j) (h2 : ∀ j, bs m2 j = D j)
    (hp : ∀ aH' : Nat → Int32, zX n B K Z T P (zFx D (n + 1) F (zF1 K F A D)) aH' aB → post (cap, rgc, fln, nI n, usd, lst, qhd, qln, arm, mrk, dep, aH', aS, aB, aR, aQ, aK, aW, aN, aF, aC, aE, aL)) : wpX_clearBroken post (cap, rgc, fln, nI n, usd, lst, qhd, qln, arm, mrk, dep, aH, aS, aB, aR, aQ, aK, aW, aN, aF, aC, aE, aL) m1 m2 := by
  have n32 := zO_n O
  have ox : ∀ x, zO n B K Z T (zFx D x F (zF1 K F A D)) := fun x => zO_congr O ⟨rfl, rfl⟩ fun j j1 jn => ⟨rfl, rfl, rfl, rfl, zO_T O j1 jn, fun g hg => by
    unfold zFx
    split
    · exact zF1_le O j1 jn hg
    · exact zO_F O j1 jn hg⟩
  have L : ∀ (k x : Nat) (aH' : Nat → Int32), 1 ≤ x → x ≤ n + 1 → n + 1 < x + k → zX n B K Z T P (zFx D x F (zF1 K F A D)) aH' aB → wX_clearBroken_3 post m1 m2 k (nI x) cap rgc fln (nI n) usd lst qhd qln arm mrk dep aH' aS aB aR aQ aK aW aN aF aC aE aL := by
    intro k
    induction k with
    | zero => intro x aH' a b; omega
    | succ k ih =>
      intro x aH' x1 xn xk HX'
      by_cases e : n < x
      · have : x = n + 1 := by omega
        subst this
        exact br_t (nI_lt e (by omega)) (hp aH' HX')
      · have nx : ∀ h, h < x + 1 ↔ h < x ∨ h = x := fun h => by omega
        refine br_f (nI_nlt (by omega) (by omega)) (xk_con (by omega) (fun w => ?_) (fun w => ?_))
        · rw [h2 x] at w
          refine br_t rfl (nm_r (nI_1 x) (ih (x + 1) aH' (by omega) (by omega) (by omega) (zX_congr HX' (fun h q1 qn => ⟨rfl, rfl, rfl, rfl, rfl, fun f hf => ?_⟩))))
          unfold zFx
          by_cases d : h = x
          · subst d; simp [w]
          · simp [nx, d]
        · rw [h2 x] at w
          refine br_f za_10 ?_
          refine xc_obj (ox x) HX' x1 (by omega) h1 h2 ?_
          intro aH2 HX2
          refine nm_r (nI_1 x) (ih (x + 1) aH2 (by omega) (by omega) (by omega) (zX_congr HX2 (fun h q1 qn => ⟨rfl, rfl, rfl, rfl, rfl, fun f hf => ?_⟩)))
          by_cases d : h = x
          · subst d
            have e0 : ∀ g, zFx D h F (zF1 K F A D) h g = F h g := fun g => if_neg (by omega)
            rw [if_pos rfl, show zFx D (h + 1) F (zF1 K F A D) h f = zF1 K F A D h f from if_pos ⟨by omega, w⟩]
            exact (zF1_c e0).symm
          · rw [if_neg d]
            unfold zFx
            simp [nx, d]
  refine ⟨n + 2, L (n + 2) 1 aH (by omega) (by omega) (by omega) (zX_congr HX (fun h q1 qn => ⟨rfl, rfl, rfl, rfl, rfl, fun f hf => ?_⟩))⟩
  exact if_neg (fun q => by omega)
/-! freeing -/
theorem xp_plan {post : Int32 → SX → Prop} {m2 : Int64} (n32 : n ≤ 32) (D0 : D 0 = false) (h2 : ∀ j, bs m2 j = D j) (hp : ∀ fo : Nat → Int32, (∀ j, j ≤ n → fo j = nI (zf D j)) → post (nI (zc D n)) (cap, rgc, fln, nI n, usd, lst, qhd, qln, arm, mrk, dep, aH, aS, aB, aR, aQ, aK, aW, aN, fo, aC, aE, aL)) : wpX_planForwarding post (cap, rgc, fln, nI n, usd, lst, qhd, qln, arm, mrk, dep, aH, aS, aB, aR, aQ, aK, aW, aN, aF, aC, aE, aL) m2 := by
  have L : ∀ (k x : Nat) (fo : Nat → Int32), 1 ≤ x → x ≤ n + 1 → n + 1 < x + k → (∀ j, j < x → fo j = nI (zf D j)) → wX_planForwarding_12 post m2 cap rgc fln (nI n) usd lst qhd qln arm mrk dep k (nI (zc D (x - 1))) (nI x) aH aS aB aR aQ aK aW aN fo aC aE aL := by
    intro k
    induction k with
    | zero => intro x fo a b; omega
    | succ k ih =>
      intro x fo x1 xn xk H
      have lx := zc_le D (x - 1)
      by_cases e : n < x
      · have : x = n + 1 := by omega
        subst this
        exact br_t (nI_lt e (by omega)) (hp fo (fun j jn => H j (by omega)))
      · have cx : (nI x).toNatClampNeg = x := nI_clamp (by omega)
        have vx : vp_in (nI x) 33 := vp_in_nI (by omega) (by omega)
        refine br_f (nI_nlt (by omega) (by omega)) (xk_con (by omega) (fun w => ?_) (fun w => ?_))
        · rw [h2 x] at w
          have i := ih (x + 1) (upd fo x 0) (by omega) (by omega) (by omega) (fun j jx => by
            by_cases d : j = x
            · rw [d, pk_us, zf_f w]; exact nI_0.symm
            · rw [pk_un d]; exact H j (by omega))
          rw [show x + 1 - 1 = x from rfl, zc_an x1 w] at i
          exact br_t rfl ⟨vx, nm_r (e' := upd fo x 0) (by rw [cx]) (nm_r (nI_1 x) i)⟩
        · rw [h2 x] at w
          have zx := zc_at x1 w
          have i := ih (x + 1) (upd fo x (nI (zc D x))) (by omega) (by omega) (by omega) (fun j jx => by
            by_cases d : j = x
            · rw [d, pk_us, zf_t w]
            · rw [pk_un d]; exact H j (by omega))
          rw [show x + 1 - 1 = x from rfl] at i
          exact br_f za_10 (nm_r (e' := nI (zc D x)) (by rw [nI_1, zx]) ⟨vx, nm_r (e' := upd fo x (nI (zc D x))) (by rw [cx]) (nm_r (nI_1 x) i)⟩)
  refine nm_e ⟨n + 2, L (n + 2) 1 _ (by omega) (by omega) (by omega) (fun j jx => ?_)⟩
  have : j = 0 := by omega
  subst this
  rw [pk_us, zf_f D0]; exact nI_0.symm
end
end
section
section
variable {cap rgc fln cnt usd lst qhd qln arm : Int32} {mrk : Int64} {dep : Int32} {aH aS aB aR aQ aK aW aN aF aC : Nat → Int32} {aE : Nat → Int64} {aL : Nat → Int32} {n rc ql hd : Nat} {B K Z T R Q : Nat → Nat} {P : Nat → Int32} {F : Nat → Nat → Nat} {D : Nat → Bool}
theorem xr_37 {post : SX → Prop} {J2 : Int32 → (Nat → Int32) → (Nat → Int32) → (Nat → Int32) → (Nat → Int32) → (Nat → Int32) → (Nat → Int32) → (Nat → Int32) → (Nat → Int32) → (Nat → Int32) → (Nat → Int32) → (Nat → Int64) → (Nat → Int32) → Prop} {h : Nat} (O : zO n B K Z T F) (h1 : 1 ≤ h) (hn : h ≤ n) (eF : ∀ j, j ≤ n → aF j = nI (zf D j))
    (hJ : ∀ aH' : Nat → Int32, zX n B K Z T P (fun j g => if j = h then zf D (F j g) else F j g) aH' aB → J2 (nI (h + 1)) aH' aS aB aR aQ aK aW aN aF aC aE aL) :
    ∀ (k f : Nat) (aH' : Nat → Int32), f ≤ Z h → Z h < f + k → zX n B K Z T P (fun j g => if j = h ∧ g < f then zf D (F j g) else F j g) aH' aB → wX_redirectFields_37 post J2 (nI h) (nI (Z h)) (nI (B h + 2)) cap rgc fln cnt usd lst qhd qln arm mrk dep k (nI f) aH' aS aB aR aQ aK aW aN aF aC aE aL := by
  have n32 := zO_n O
  have tp := zO_top O h1 hn
  have z6 := zO_Z6 O h1 hn
  have dn := zc_le D n
  intro k
  induction k with
  | zero => intro f aH' a b; omega
  | succ k ih =>
    intro f aH' a b HX
    by_cases q : Z h ≤ f
    · refine br_t (nI_le q (by omega)) (nm_r (nI_1 h) (hJ aH' (zX_congr HX (fun j j1 jn => ⟨rfl, rfl, rfl, rfl, rfl, fun g hg => ?_⟩))))
      by_cases e : j = h
      · subst e
        rw [if_pos rfl, if_pos ⟨rfl, by omega⟩]
      · rw [if_neg e, if_neg (fun q => e q.1)]
    · have fn := zO_F O h1 hn (f := f) (by omega)
      have Of : zO n B K Z T (fun j g => if j = h ∧ g < f then zf D (F j g) else F j g) := zO_congr O ⟨rfl, rfl⟩ fun j j1 jn => ⟨rfl, rfl, rfl, rfl, zO_T O j1 jn, fun g hg => by
        have := zO_F O j1 jn hg
        split
        · exact Nat.le_trans (zf_le this) dn
        · exact this⟩
      have ei : nI (B h + 2) + nI f = nI (B h + 2 + f) := nI_add _ _
      have eh : aH' (B h + 2 + f) = nI (F h f) := by
        have := (HX h h1 hn).2.2.2 f (by omega)
        dsimp only at this
        rw [if_neg (fun q => by omega)] at this
        exact this
      have X2 := zX_F Of HX (v := zf D (F h f)) h1 hn (f := f) (by omega)
      refine br_f (nI_ge (by omega) (by omega)) ?_
      rw [ei, nI_clamp (n := B h + 2 + f) (by omega), eh]
      have vi : vp_in (nI (B h + 2 + f)) 96 := vp_in_nI (by omega) (by omega)
      refine ⟨vi, nm_e ⟨vp_in_nI (by omega) (by omega), vi, nm_r (e' := upd aH' (B h + 2 + f) (nI (zf D (F h f)))) (by rw [nI_clamp (n := F h f) (by omega), eF _ fn]) (nm_r (nI_1 f) (ih (f + 1) _ (by omega) (by omega) (zX_congr X2 (fun j j1 jn => ⟨rfl, rfl, rfl, rfl, rfl, fun g hg => ?_⟩))))⟩⟩
      show (if j = h ∧ g < f + 1 then zf D (F j g) else F j g) = (if j = h ∧ g = f then zf D (F h f) else (if j = h ∧ g < f then zf D (F j g) else F j g))
      by_cases e : j = h
      · subst e
        by_cases e2 : g = f
        · subst e2; simp
        · have : g < f + 1 ↔ g < f := by omega
          simp [e2, this]
      · simp [e]
theorem xr_fields {post : SX → Prop} (O : zO n B K Z T F) (HX : zX n B K Z T P F aH aB) (eF : ∀ j, j ≤ n → aF j = nI (zf D j))
    (hp : ∀ aH' : Nat → Int32, zX n B K Z T P (zFx D (n + 1) F (fun h f => zf D (F h f))) aH' aB → post (cap, rgc, fln, nI n, usd, lst, qhd, qln, arm, mrk, dep, aH', aS, aB, aR, aQ, aK, aW, aN, aF, aC, aE, aL)) : wpX_redirectFields post (cap, rgc, fln, nI n, usd, lst, qhd, qln, arm, mrk, dep, aH, aS, aB, aR, aQ, aK, aW, aN, aF, aC, aE, aL) := by
  have n32 := zO_n O
  have dn := zc_le D n
  have ox : ∀ x, zO n B K Z T (zFx D x F (fun h f => zf D (F h f))) := fun x => zO_congr O ⟨rfl, rfl⟩ fun j j1 jn => ⟨rfl, rfl, rfl, rfl, zO_T O j1 jn, fun g hg => by
    have := zO_F O j1 jn hg
    unfold zFx
    split
    · exact Nat.le_trans (zf_le this) dn
    · exact this⟩
  have L : ∀ (k x : Nat) (aH' : Nat → Int32), 1 ≤ x → x ≤ n + 1 → n + 1 < x + k → zX n B K Z T P (zFx D x F (fun h f => zf D (F h f))) aH' aB → wX_redirectFields_2 post cap rgc fln (nI n) usd lst qhd qln arm mrk dep k (nI x) aH' aS aB aR aQ aK aW aN aF aC aE aL := by
    intro k
    induction k with
    | zero => intro x aH' a b; omega
    | succ k ih =>
      intro x aH' x1 xn xk HX'
      by_cases e : n < x
      · have : x = n + 1 := by omega
        subst this
        exact br_t (nI_lt e (by omega)) (hp aH' HX')
      · have nx : ∀ h, h < x + 1 ↔ h < x ∨ h = x := fun h => by omega
        have cx : (nI x).toNatClampNeg = x := nI_clamp (by omega)
        have vx : vp_in (nI x) 33 := vp_in_nI (by omega) (by omega)
        refine br_f (nI_nlt (by omega) (by omega)) ⟨vx, ?_⟩
        rw [cx, eF x (by omega)]
        by_cases w : D x = true
        · have zx := zc_at x1 w
          have lx := zc_le D x
          rw [zf_t w]
          refine br_f (nI_ne0 (by omega) (by omega)) ?_
          refine xk_fields (ox x) HX' x1 (by omega) ?_
          refine ⟨vx, nm_r (e' := nI (B x + 2)) (by rw [(HX' x x1 (by omega)).1, za_2]) ⟨Z x + 1, ?_⟩⟩
          refine xr_37 (F := zFx D x F (fun h f => zf D (F h f))) (D := D) (ox x) x1 (by omega) eF (fun aH2 HX2 => ?_) (Z x + 1) 0 aH' (by omega) (by omega) (zX_congr HX' (fun h q1 qn => ⟨rfl, rfl, rfl, rfl, rfl, fun f hf => if_neg (fun q => by omega)⟩))
          refine ih (x + 1) aH2 (by omega) (by omega) (by omega) (zX_congr HX2 (fun h q1 qn => ⟨rfl, rfl, rfl, rfl, rfl, fun f hf => ?_⟩))
          by_cases d : h = x
          · subst d
            rw [if_pos rfl, show zFx D h F (fun h f => zf D (F h f)) h f = F h f from if_neg (by omega)]
            exact if_pos ⟨by omega, w⟩
          · rw [if_neg d]
            unfold zFx
            simp [nx, d]
        · have w' : D x = false := by simpa using w
          rw [zf_f w']
          refine br_t nI_0 (nm_r (nI_1 x) (ih (x + 1) aH' (by omega) (by omega) (by omega) (zX_congr HX' (fun h q1 qn => ⟨rfl, rfl, rfl, rfl, rfl, fun f hf => ?_⟩))))
          unfold zFx
          by_cases d : h = x
          · subst d; simp [w']
          · simp [nx, d]
  refine ⟨n + 2, L (n + 2) 1 aH (by omega) (by omega) (by omega) (zX_congr HX (fun h q1 qn => ⟨rfl, rfl, rfl, rfl, rfl, fun f hf => ?_⟩))⟩
  exact if_neg (fun q => by omega)
theorem xr_roots {post : SX → Prop} (n32 : n ≤ 32) (r8 : rc ≤ 8) (hd8 : hd < 8) (q8 : ql ≤ 8) (hR : ∀ i, i < rc → R i ≤ n) (eR : ∀ i, i < rc → aR i = nI (R i)) (hQ : ∀ i, i < ql → Q i ≤ n) (eQ : ∀ i, i < ql → aQ ((hd + i) % 8) = nI (Q i)) (eF : ∀ j, j ≤ n → aF j = nI (zf D j))
    (hp : ∀ aR' aQ' : Nat → Int32, (∀ i, i < rc → aR' i = nI (zf D (R i))) → (∀ i, i < ql → aQ' ((hd + i) % 8) = nI (zf D (Q i))) → post (cap, nI rc, fln, cnt, usd, lst, nI hd, nI ql, arm, mrk, dep, aH, aS, aB, aR', aQ', aK, aW, aN, aF, aC, aE, aL)) : wpX_redirectRoots post (cap, nI rc, fln, cnt, usd, lst, nI hd, nI ql, arm, mrk, dep, aH, aS, aB, aR, aQ, aK, aW, aN, aF, aC, aE, aL) := by
  have LQ : ∀ (aR' : Nat → Int32), (∀ i, i < rc → aR' i = nI (zf D (R i))) → ∀ (k i : Nat) (aQ' : Nat → Int32), i ≤ ql → ql < i + k → (∀ j, j < ql → aQ' ((hd + j) % 8) = nI (if j < i then zf D (Q j) else Q j)) → wX_redirectRoots_35 post cap (nI rc) fln cnt usd lst (nI hd) (nI ql) arm mrk dep k (nI i) aH aS aB aR' aQ' aK aW aN aF aC aE aL := by
    intro aR' hR' k
    induction k with
    | zero => intro i aQ' a b; omega
    | succ k ih =>
      intro i aQ' a b H
      by_cases q : ql ≤ i
      · have : i = ql := by omega
        subst this
        refine br_t (nI_le q (by omega)) (hp aR' aQ' hR' (fun j hj => ?_))
        rw [H j hj, if_pos hj]
      · have er : (nI hd + nI i) - (nI hd + nI i) / 8 * 8 = nI ((hd + i) % 8) := by rw [nI_add, za_r8 (by omega)]
        have m8 : (hd + i) % 8 < 8 := Nat.mod_lt _ (by omega)
        have vi : vp_in (nI ((hd + i) % 8)) 8 := vp_in_nI m8 (by omega)
        have qi := hQ i (by omega)
        have ea : aQ' ((hd + i) % 8) = nI (Q i) := by rw [H i (by omega), if_neg (by omega)]
        refine br_f (nI_ge (by omega) (by omega)) ⟨za_80, nm_r er ⟨vi, ?_⟩⟩
        rw [nI_clamp (n := (hd + i) % 8) (by omega), ea]
        refine ⟨vp_in_nI (by omega) (by omega), vi, nm_r (e' := upd aQ' ((hd + i) % 8) (nI (zf D (Q i)))) (by rw [nI_clamp (by omega), eF _ qi]) (nm_r (nI_1 i) (ih (i + 1) _ (by omega) (by omega) (fun j hj => ?_)))⟩
        by_cases w : j = i
        · rw [w, pk_us, if_pos (by omega)]
        · rw [pk_un (by omega), H j hj]
          by_cases u : j < i
          · rw [if_pos u, if_pos (by omega)]
          · rw [if_neg u, if_neg (by omega)]
  have LR : ∀ (k i : Nat) (aR' : Nat → Int32), i ≤ rc → rc < i + k → (∀ j, j < rc → aR' j = nI (if j < i then zf D (R j) else R j)) → wX_redirectRoots_2 post cap (nI rc) fln cnt usd lst (nI hd) (nI ql) arm mrk dep k (nI i) aH aS aB aR' aQ aK aW aN aF aC aE aL := by
    intro k
    induction k with
    | zero => intro i aR' a b; omega
    | succ k ih =>
      intro i aR' a b H
      by_cases q : rc ≤ i
      · have : i = rc := by omega
        subst this
        refine br_t (nI_le q (by omega)) ⟨ql + 1, LQ aR' (fun j hj => ?_) (ql + 1) 0 aQ (by omega) (by omega) (fun j hj => ?_)⟩
        · rw [H j hj, if_pos hj]
        · rw [if_neg (by omega)]; exact eQ j hj
      · have ci : (nI i).toNatClampNeg = i := nI_clamp (by omega)
        have vi : vp_in (nI i) 8 := vp_in_nI (by omega) (by omega)
        have ri := hR i (by omega)
        have ea : aR' i = nI (R i) := by rw [H i (by omega), if_neg (by omega)]
        refine br_f (nI_ge (by omega) (by omega)) ⟨vi, ?_⟩
        rw [ci, ea]
        refine ⟨vp_in_nI (by omega) (by omega), vi, nm_r (e' := upd aR' i (nI (zf D (R i)))) (by rw [nI_clamp (by omega), eF _ ri]) (nm_r (nI_1 i) (ih (i + 1) _ (by omega) (by omega) (fun j hj => ?_)))⟩
        by_cases w : j = i
        · rw [w, pk_us, if_pos (by omega)]
        · rw [pk_un w, H j hj]
          by_cases u : j < i
          · rw [if_pos u, if_pos (by omega)]
          · rw [if_neg u, if_neg (by omega)]
  exact ⟨rc + 1, LR (rc + 1) 0 aR (by omega) (by omega) (fun j hj => by rw [if_neg (by omega)]; exact eR j hj)⟩
end
end
section
section
variable {cap rgc fln cnt usd lst qhd qln arm : Int32} {mrk : Int64} {dep : Int32} {aH aS aB aR aQ aK aW aN aF aC : Nat → Int32} {aE : Nat → Int64} {aL : Nat → Int32} {n rc ql hd : Nat} {S B K Z T R Q : Nat → Nat} {P : Nat → Int32} {F : Nat → Nat → Nat} {D : Nat → Bool}
theorem xk_fat {post : Int32 → Prop} {h b kd z t : Nat} (h33 : h < 33) (b96 : b < 96) (k4 : kd < 4) (z7 : z < 7) (t4 : t < 4) (eB : aB h = nI b) (eH : aH b = nI (kd + 4 * z + 32 * t)) (hp : post (nI z)) : wpX_fieldsOf post (cap, rgc, fln, cnt, usd, lst, qhd, qln, arm, mrk, dep, aH, aS, aB, aR, aQ, aK, aW, aN, aF, aC, aE, aL) (nI h) := by
  have hd := zh_all kd k4 z z7 t t4
  simp (disch := omega) only [wpX_fieldsOf, nI_clamp, vp_in_nI, eB, eH, hd.2.1, true_and]
  exact hp
theorem xs_43 {post : Int32 → SX → Prop} {J4 : Int32 → Int32 → (Nat → Int32) → (Nat → Int32) → (Nat → Int32) → (Nat → Int32) → (Nat → Int32) → (Nat → Int32) → (Nat → Int32) → (Nat → Int32) → (Nat → Int32) → (Nat → Int32) → (Nat → Int64) → (Nat → Int32) → Prop} {tp fr sz x to : Nat} {H0 : Nat → Int32} (x33 : x < 33) (t33 : to < 33) (tf : tp ≤ fr) (top : fr + sz ≤ 96)
    (hJ : ∀ aH' : Nat → Int32, (∀ a, a < tp → aH' a = H0 a) → (∀ j, j < sz → aH' (tp + j) = H0 (fr + j)) → (∀ a, tp + sz ≤ a → aH' a = H0 a) → J4 (nI (tp + sz)) (nI (x + 1)) aH' (upd aS to (aS x)) (upd aB to (nI tp)) aR aQ aK aW aN aF aC aE aL) :
    ∀ (k i : Nat) (aH' : Nat → Int32), i ≤ sz → sz < i + k → (∀ a, a < tp → aH' a = H0 a) → (∀ j, j < i → aH' (tp + j) = H0 (fr + j)) → (∀ a, tp + i ≤ a → aH' a = H0 a) → wX_slide_43 post J4 (nI tp) (nI x) (nI to) (nI fr) (nI sz) cap rgc fln cnt usd lst qhd qln arm mrk dep k (nI i) aH' aS aB aR aQ aK aW aN aF aC aE aL := by
  intro k
  induction k with
  | zero => intro i aH' a b; omega
  | succ k ih =>
    intro i aH' a b h1 h2 h3
    by_cases q : sz ≤ i
    · have : i = sz := by omega
      subst this
      refine br_t (nI_le q (by omega)) ⟨vp_in_nI (by omega) (by omega), vp_in_nI (by omega) (by omega), nm_r (e' := upd aS to (aS x)) (by rw [nI_clamp (by omega), nI_clamp (by omega)]) ⟨vp_in_nI (by omega) (by omega), nm_r (e' := upd aB to (nI tp)) (by rw [nI_clamp (by omega)]) (nm_r (nI_add _ _) (nm_r (nI_1 x) (hJ aH' h1 h2 h3)))⟩⟩
    · have e1 : nI fr + nI i = nI (fr + i) := nI_add _ _
      have e2 : nI tp + nI i = nI (tp + i) := nI_add _ _
      refine br_f (nI_ge (by omega) (by omega)) ⟨by rw [e1]; exact vp_in_nI (by omega) (by omega), by rw [e2]; exact vp_in_nI (by omega) (by omega), nm_r (e' := upd aH' (tp + i) (H0 (fr + i))) (by rw [e1, e2, nI_clamp (by omega), nI_clamp (by omega), h3 (fr + i) (by omega)]) (nm_r (nI_1 i) (ih (i + 1) _ (by omega) (by omega) (fun a ha => ?_) (fun j hj => ?_) (fun a ha => ?_)))⟩
      · rw [pk_un (by omega)]; exact h1 a ha
      · by_cases w : j = i
        · rw [w, pk_us]
        · rw [pk_un (by omega)]; exact h2 j (by omega)
      · rw [pk_un (by omega)]; exact h3 a (by omega)
theorem xs_slide {post : Int32 → SX → Prop} (O : zO n B K Z T F) (HX : zX n B K Z T P F aH aB) (eS : ∀ h, h ≤ n → aS h = nI (S h)) (eF : ∀ j, j ≤ n → aF j = nI (zf D j))
    (hp : ∀ aH' aS' aB' : Nat → Int32, zX (zc D n) (zBs (fun k => Z (zE D n k))) (fun k => K (zE D n k)) (fun k => Z (zE D n k)) (fun k => T (zE D n k)) (fun k => P (zE D n k)) (fun k f => F (zE D n k) f) aH' aB' → (∀ h, h ≤ zc D n → aS' h = nI (S (zE D n h))) → post (nI (zBs (fun k => Z (zE D n k)) (zc D n + 1))) (cap, rgc, fln, nI n, usd, lst, qhd, qln, arm, mrk, dep, aH', aS', aB', aR, aQ, aK, aW, aN, aF, aC, aE, aL)) : wpX_slide post (cap, rgc, fln, nI n, usd, lst, qhd, qln, arm, mrk, dep, aH, aS, aB, aR, aQ, aK, aW, aN, aF, aC, aE, aL) := by
  have n32 := zO_n O
  have O' : zO (zc D n) (zBs (fun k => Z (zE D n k))) (fun k => K (zE D n k)) (fun k => Z (zE D n k)) (fun k => T (zE D n k)) (fun _ _ => 0) := zr_O O (fun h h1 hn => zO_T O h1 hn) (F' := fun _ _ => 0) (fun _ _ _ _ _ => Nat.zero_le _)
  have L : ∀ (k x : Nat) (aH' aS' aB' : Nat → Int32), 1 ≤ x → x ≤ n + 1 → n + 1 < x + k → zX (zc D (x - 1)) (zBs (fun k => Z (zE D n k))) (fun k => K (zE D n k)) (fun k => Z (zE D n k)) (fun k => T (zE D n k)) (fun k => P (zE D n k)) (fun k f => F (zE D n k) f) aH' aB' → (∀ h, h ≤ zc D (x - 1) → aS' h = nI (S (zE D n h))) → (∀ h, x ≤ h → h ≤ n → aB' h = nI (B h) ∧ aS' h = nI (S h)) → (∀ a, B x ≤ a → aH' a = aH a) → wX_slide_4 post cap rgc fln (nI n) usd lst qhd qln arm mrk dep k (nI (zBs (fun k => Z (zE D n k)) (zc D (x - 1) + 1))) (nI x) aH' aS' aB' aR aQ aK aW aN aF aC aE aL := by
    intro k
    induction k with
    | zero => intro x aH' aS' aB' a b; omega
    | succ k ih =>
      intro x aH' aS' aB' x1 xn xk H1 H2 H3 H4
      by_cases e : n < x
      · have : x = n + 1 := by omega
        subst this
        exact br_t (nI_lt e (by omega)) (hp aH' aS' aB' H1 H2)
      · have cx : (nI x).toNatClampNeg = x := nI_clamp (by omega)
        have vx : vp_in (nI x) 33 := vp_in_nI (by omega) (by omega)
        have bx := zO_B O x1 (by omega)
        refine br_f (nI_nlt (by omega) (by omega)) ⟨vx, nm_r (e' := nI (zf D x)) (by rw [cx]; exact eF x (by omega)) ?_⟩
        by_cases w : D x = true
        · have zx := zc_at x1 w
          have lx := zc_le D (x - 1)
          have ld := zc_mn D (i := x) (j := n) (by omega)
          have ex : zE D n (zc D (x - 1) + 1) = x := by rw [← zx]; exact zE_of x1 (by omega) w
          have tb := zr_B (D := D) O (x - 1) (by omega)
          rw [show x - 1 + 1 = x by omega] at tb
          have tpx := zO_top O x1 (by omega)
          have z6 := zO_Z6 O x1 (by omega)
          obtain ⟨g1, g2⟩ := H3 x (Nat.le_refl _) (by omega)
          obtain ⟨_, o1, o2, o3⟩ := HX x x1 (by omega)
          rw [zf_t w]
          refine br_f (nI_ne0 (by omega) (by omega)) ⟨vx, nm_r (e' := nI (B x)) (by rw [cx]; exact g1) ?_⟩
          refine xk_fat (b := B x) (by omega) (by omega) (zO_K O x1 (by omega)) (by omega : Z x < 7) (zO_T O x1 (by omega)) g1 (by rw [H4 _ (Nat.le_refl _)]; exact o1) ?_
          refine nm_r (za_2 (Z x)) ⟨Z x + 3, ?_⟩
          refine xs_43 (H0 := aH') (by omega) (by omega) tb (by omega) (fun aH2 f1 f2 f3 => ?_) (Z x + 3) 0 aH' (by omega) (by omega) (fun _ _ => rfl) (fun j hj => by omega) (fun _ _ => rfl)
          have i := ih (x + 1) aH2 (upd aS' (zc D x) (aS' x)) (upd aB' (zc D x) (nI (zBs (fun k => Z (zE D n k)) (zc D (x - 1) + 1)))) (by omega) (by omega) (by omega)
          rw [show x + 1 - 1 = x from rfl] at i
          have eb : zBs (fun k => Z (zE D n k)) (zc D x + 1) = zBs (fun k => Z (zE D n k)) (zc D (x - 1) + 1) + (Z x + 2) := by
            rw [zx, zBs_s (by omega), ex]; omega
          rw [eb] at i
          refine i (fun h h1 hn => ?_) (fun h hn => ?_) (fun h h1 hn => ?_) (fun a ha => ?_)
          · by_cases d : h = zc D x
            · subst d
              have ex' : zE D n (zc D x) = x := zE_of x1 (by omega) w
              have q2 : zBs (fun k => Z (zE D n k)) (zc D x) = zBs (fun k => Z (zE D n k)) (zc D (x - 1) + 1) := by rw [zx]
              dsimp only
              rw [pk_us, ex', q2]
              refine ⟨rfl, ?_, ?_, fun f hf => ?_⟩
              · exact (f2 0 (by omega)).trans ((H4 _ (Nat.le_refl _)).trans o1)
              · rw [f2 1 (by omega), H4 _ (by omega), o2]
              · rw [Nat.add_assoc, f2 (2 + f) (by omega), ← Nat.add_assoc, H4 _ (by omega), o3 f hf]
            · obtain ⟨y1, y2, y3, y4⟩ := H1 h h1 (by omega)
              have m := zO_mn O' h1 (j := zc D (x - 1) + 1) (by omega) (by omega)
              rw [pk_un d, f1 _ (by omega), f1 _ (by omega)]
              refine ⟨y1, y2, y3, fun f hf => ?_⟩
              dsimp only at hf
              rw [f1 _ (by omega)]
              exact y4 f hf
          · by_cases d : h = zc D x
            · rw [d, pk_us, g2, zE_of x1 (by omega) w]
            · rw [pk_un d]; exact H2 h (by omega)
          · rw [pk_un (by omega), pk_un (by omega)]; exact H3 h (by omega) hn
          · rw [f3 a (by omega)]; exact H4 a (by omega)
        · have w' : D x = false := by simpa using w
          rw [zf_f w']
          have i := ih (x + 1) aH' aS' aB' (by omega) (by omega) (by omega)
          rw [show x + 1 - 1 = x from rfl, zc_an x1 w'] at i
          exact br_t nI_0 (nm_r (nI_1 x) (i H1 H2 (fun h h1 hn => H3 h (by omega) hn) (fun a ha => H4 a (by omega))))
  have h0 := L (n + 2) 1 aH aS aB (by omega) (by omega) (by omega) (fun h h1 hn => by
    have : h = 0 := Nat.le_zero.mp hn
    omega) (fun h hn => by
    have : h = 0 := Nat.le_zero.mp hn
    rw [this, zE_0]; exact eS 0 (by omega)) (fun h h1 hn => ⟨(HX h h1 hn).1, eS h hn⟩) (fun _ _ => rfl)
  have e0 : zBs (fun k => Z (zE D n k)) (zc D (1 - 1) + 1) = 0 := zBs_1
  rw [e0] at h0
  exact ⟨n + 2, h0⟩
end
end
section
section
variable {cap rgc fln cnt usd lst qhd qln arm : Int32} {mrk : Int64} {dep : Int32} {aH aS aB aR aQ aK aW aN aF aC : Nat → Int32} {aE : Nat → Int64} {aL : Nat → Int32} {n rc ql hd : Nat} {S B K Z T R Q : Nat → Nat} {P : Nat → Int32} {F : Nat → Nat → Nat} {D : Nat → Bool}
theorem zf_id (D0 : D 0 = false) (h : ∀ j, 1 ≤ j → j ≤ n → D j = true) : ∀ j, j ≤ n → zf D j = j := by
  intro j jn
  rcases Nat.eq_zero_or_pos j with q | q
  · rw [q, zf_f D0]
  · rw [zf_t (h j q jn), zc_all h j jn]
theorem zE_id (h : ∀ j, 1 ≤ j → j ≤ n → D j = true) : ∀ j, j ≤ n → zE D n j = j := by
  intro j jn
  rcases Nat.eq_zero_or_pos j with q | q
  · rw [q, zE_0]
  · have := zE_of (D := D) (n := n) q jn (h j q jn)
    rw [zc_all h j jn] at this
    exact this
theorem zBs_id (O : zO n B K Z T F) (h : ∀ j, 1 ≤ j → j ≤ n → D j = true) : ∀ j, j ≤ n → zBs (fun k => Z (zE D n k)) (j + 1) = B (j + 1) := by
  intro j
  induction j with
  | zero => intro _; rw [O.1]; exact zBs_1
  | succ j ih =>
    intro jn
    rw [zBs_s (by omega), ih (by omega), zE_id h (j + 1) jn, zO_B O (h := j + 1) (by omega) jn]
theorem xp_compact {post : Int32 → SX → Prop} {m2 : Int64} (O : zO n B K Z T F) (HU : zU n rc ql hd S B K Z T R Q P F aH aS aB aR aQ) (r8 : rc ≤ 8) (hd8 : hd < 8) (q8 : ql ≤ 8) (hR : ∀ i, i < rc → R i ≤ n) (hQ : ∀ i, i < ql → Q i ≤ n) (D0 : D 0 = false) (h2 : ∀ j, bs m2 j = D j)
    (hp : ∀ aH' aS' aB' aR' aQ' aF' : Nat → Int32, zU (zc D n) rc ql hd (fun k => S (zE D n k)) (zBs (fun k => Z (zE D n k))) (fun k => K (zE D n k)) (fun k => Z (zE D n k)) (fun k => T (zE D n k)) (fun r => zf D (R r)) (fun i => zf D (Q i)) (fun k => P (zE D n k)) (fun k f => zf D (F (zE D n k) f)) aH' aS' aB' aR' aQ' → post (nI (n - zc D n)) (cap, nI rc, fln, nI (zc D n), nI (zBs (fun k => Z (zE D n k)) (zc D n + 1)), lst, nI hd, nI ql, arm, mrk, dep, aH', aS', aB', aR', aQ', aK, aW, aN, aF', aC, aE, aL)) :
    wpX_compact post (cap, nI rc, fln, nI n, nI (B (n + 1)), lst, nI hd, nI ql, arm, mrk, dep, aH, aS, aB, aR, aQ, aK, aW, aN, aF, aC, aE, aL) m2 := by
  obtain ⟨HX, eS, eR, eQ⟩ := HU
  have n32 := zO_n O
  have dn := zc_le D n
  unfold wpX_compact
  refine xp_plan n32 D0 h2 ?_
  intro fo hfo
  refine nm_r (pk_sub dn) ?_
  by_cases e : n - zc D n = 0
  · have full := zc_full (p := D) (n := n) (by omega)
    have zn : zc D n = n := by omega
    rw [e]
    refine br_t nI_0 ?_
    have hh := hp aH aS aB aR aQ fo
    rw [e, zn, zBs_id O full n (Nat.le_refl _)] at hh
    refine hh ⟨zX_congr HX (fun h h1 hn => ?_), fun h hn => ?_, fun r hr => ?_, fun i hi => ?_⟩
    · obtain ⟨h', rfl⟩ : ∃ x, h = x + 1 := ⟨h - 1, by omega⟩
      rw [zE_id full _ hn]
      refine ⟨zBs_id O full h' (by omega), rfl, rfl, rfl, rfl, fun f hf => ?_⟩
      exact zf_id D0 full _ (zO_F O h1 hn hf)
    · dsimp only; rw [zE_id full _ hn]; exact eS h hn
    · dsimp only; rw [zf_id D0 full _ (hR r hr)]; exact eR r hr
    · dsimp only; rw [zf_id D0 full _ (hQ i hi)]; exact eQ i hi
  · refine br_f (nI_ne0 (by omega) (by omega)) ?_
    refine xr_fields O HX hfo ?_
    intro aH1 HX1
    have O1 : zO n B K Z T (zFx D (n + 1) F (fun h f => zf D (F h f))) := zO_congr O ⟨rfl, rfl⟩ fun j j1 jn => ⟨rfl, rfl, rfl, rfl, zO_T O j1 jn, fun g hg => by
      have := zO_F O j1 jn hg
      unfold zFx
      split
      · exact Nat.le_trans (zf_le this) dn
      · exact this⟩
    refine xr_roots n32 r8 hd8 q8 hR eR hQ eQ hfo ?_
    intro aR1 aQ1 hR1 hQ1
    refine xs_slide O1 HX1 eS hfo ?_
    intro aH2 aS2 aB2 HX2 hS2
    refine hp aH2 aS2 aB2 aR1 aQ1 fo ⟨zX_congr HX2 (fun h h1 hn => ⟨rfl, rfl, rfl, rfl, rfl, fun f hf => ?_⟩), hS2, hR1, hQ1⟩
    obtain ⟨x, y, z, _⟩ := zE_sp (D := D) (n := n) h1 hn
    exact (if_pos ⟨by omega, z⟩).symm
theorem bs_zd {m : Int64} {p : Nat → Prop} (h : ∀ j, bs m j = true ↔ p j) (j : Nat) : bs m j = zd (p j) := by
  by_cases q : bs m j = true
  · rw [q, zd_of ((h j).mp q)]
  · rw [zd_n (fun z => q ((h j).mpr z))]; simpa using q
/-- X's collection -/
theorem xz_collect {post : Int32 → SX → Prop} {A Cb : Nat → Bool} {C : Nat → Nat → Bool} (O : zO n B K Z T F) (HU : zU n rc ql hd S B K Z T R Q P F aH aS aB aR aQ) (r8 : rc ≤ 8) (hd8 : hd < 8) (hR : ∀ i, i < rc → R i ≤ n) (hQ : ∀ i, i < ql → 1 ≤ Q i ∧ Q i ≤ n) (sum : zc Cb n + ql ≤ 8)
    (eA : A = fun h => zd (zre n K Z F rc ql R Q h)) (eCb : Cb = fun h => zd (zca n T (zre n K Z F rc ql R Q) h)) (eD : D = fun h => zd (zrt n K Z T F rc ql R Q h)) (eC : C = fun c h => zd (zco n K Z F rc ql R Q c h))
    (hp : ∀ (mrk : Int64) (dep : Int32) (aH' aS' aB' aR' aQ' aK aW aN aF aC aL : Nat → Int32) (aE : Nat → Int64), zU (zc D n) rc (zq n C Cb Q ql (zc Cb n)).2.2 hd (fun k => S (zE D n k)) (zBs (fun k => Z (zE D n k))) (fun k => K (zE D n k)) (fun k => Z (zE D n k)) (fun k => zT1 Cb (zq n C Cb Q ql (zc Cb n)).1 T (zE D n k)) (fun r => zf D (R r)) (fun i => zf D ((zq n C Cb Q ql (zc Cb n)).2.1 i)) (fun k => P (zE D n k)) (fun k f => zf D (zF1 K F A D (zE D n k) f)) aH' aS' aB' aR' aQ' → post (nI (n - zc D n)) (cap, nI rc, fln, nI (zc D n), nI (zBs (fun k => Z (zE D n k)) (zc D n + 1)), lst, nI hd, nI (zq n C Cb Q ql (zc Cb n)).2.2, arm, mrk, dep, aH', aS', aB', aR', aQ', aK, aW, aN, aF, aC, aE, aL)) :
    wpX_collect post (cap, nI rc, fln, nI n, nI (B (n + 1)), lst, nI hd, nI ql, arm, mrk, dep, aH, aS, aB, aR, aQ, aK, aW, aN, aF, aC, aE, aL) := by
  obtain ⟨HX, eS, eR, eQ⟩ := HU
  have n32 := zO_n O
  unfold wpX_collect
  refine xk_roots n32 r8 hd8 (by omega) hR eR hQ eQ ?_
  intro s hs
  refine xk_closure O HX ?_
  intro m1 d1 st1 wh1 wn1 hm1
  have hre := zs_re hs hm1
  refine xk_cand O HX ?_
  intro c hc
  have hca := zs_ca hre hc
  refine xk_closure O HX ?_
  intro m2 d2 st2 wh2 wn2 hm2
  have hrt := zs_rt O hre hca hm2
  have a1 : ∀ j, bs m1 j = A j := fun j => by rw [eA]; exact bs_zd hre j
  have a2 : ∀ j, bs c j = Cb j := fun j => by rw [eCb]; exact bs_zd hca j
  have a3 : ∀ j, bs m2 j = D j := fun j => by rw [eD]; exact bs_zd hrt j
  have D0 : D 0 = false := by
    rw [eD]
    exact zd_n (fun z => by have := zrt_in O z; omega)
  have hCb : ∀ h, Cb h = true → 1 ≤ h ∧ h ≤ n := fun h q => by
    rw [eCb] at q
    have := zd_t.mp q
    exact ⟨this.1, this.2.1⟩
  refine xq_all (C := C) (R := R) (rc := rc) O HX hd8 sum eQ hCb a2 hre eC ?_
  intro mrk3 dep3 aK3 aW3 aN3 aL3 aH3 aQ3 aC3 aE3 HX3 eQ3
  refine xc_all (A := A) (D := D) (zO_T1 O) HX3 a1 a3 ?_
  intro aH4 HX4
  have vs := zq_sum (n := n) (C := C) (r := Cb) (Q := Q) (l := ql) (zc Cb n)
  obtain ⟨v1, v2, v3, v4⟩ := zq_inv (n := n) (C := C) (r := Cb) (Q := Q) (l := ql) (zc Cb n)
  have O4 : zO n B K Z (zT1 Cb (zq n C Cb Q ql (zc Cb n)).1 T) (zFx D (n + 1) F (zF1 K F A D)) := zO_congr (zO_T1 (Cb := Cb) (r := (zq n C Cb Q ql (zc Cb n)).1) O) ⟨rfl, rfl⟩ fun j j1 jn => ⟨rfl, rfl, rfl, rfl, zO_T (zO_T1 O) j1 jn, fun g hg => by
    unfold zFx
    split
    · exact zF1_le O j1 jn hg
    · exact zO_F O j1 jn hg⟩
  refine xp_compact (D := D) (S := S) (R := R) (Q := (zq n C Cb Q ql (zc Cb n)).2.1) O4 ⟨HX4, eS, eR, eQ3⟩ r8 hd8 (by omega) hR (fun i hi => ?_) D0 a3 ?_
  · rcases Nat.lt_or_ge i ql with q | q
    · rw [v1 i q]; exact (hQ i q).2
    · exact (v2 i q hi).2.1
  · intro aH5 aS5 aB5 aR5 aQ5 aF5 HU5
    obtain ⟨w1, w2, w3, w4⟩ := HU5
    refine hp mrk3 dep3 aH5 aS5 aB5 aR5 aQ5 aK3 aW3 aN3 aF5 aC3 aL3 aE3 ⟨zX_congr w1 (fun h h1 hn => ⟨rfl, rfl, rfl, rfl, rfl, fun f hf => ?_⟩), w2, w3, w4⟩
    obtain ⟨x, y, z, _⟩ := zE_sp (D := D) (n := n) h1 hn
    exact congrArg (zf D) (if_pos ⟨by omega, z⟩).symm
end
end
section
/-! Y: freeing -/
def zYr (g n : Nat) (D : Nat → Bool) (S K Z T : Nat → Nat) (P : Nat → Int32) (F : Nat → Nat → Nat) (bS bK bZ bP bT bF : Nat → Int32) : Prop :=
  ∀ k, k < g → bS k = nI (S (zE D n (k + 1))) ∧ bK k = nI (K (zE D n (k + 1))) ∧ bZ k = nI (Z (zE D n (k + 1))) ∧ bP k = P (zE D n (k + 1)) ∧ bT k = nI (T (zE D n (k + 1))) ∧ ∀ f, f < Z (zE D n (k + 1)) → bF (k * 6 + f) = nI (S (F (zE D n (k + 1)) f))
section
variable {yc yr yl ys yn yq : Int32} {bS bK bZ bP bT bF bR bQ bM bA bC bD bE : Nat → Int32} {n rc ql la : Nat} {S B K Z T R Q : Nat → Nat} {P : Nat → Int32} {F : Nat → Nat → Nat} {A D Cb r : Nat → Bool} {C : Nat → Nat → Bool}
theorem yc_253 {post : Int32 → SY → Prop} {J : Int32 → Int32 → (Nat → Int32) → (Nat → Int32) → (Nat → Int32) → (Nat → Int32) → (Nat → Int32) → (Nat → Int32) → (Nat → Int32) → (Nat → Int32) → (Nat → Int32) → (Nat → Int32) → (Nat → Int32) → (Nat → Int32) → (Nat → Int32) → Prop} {g x : Nat} (gx : g ≤ x) (x32 : x < 32)
    (hJ : ∀ f1 : Nat → Int32, (∀ f, f < 6 → f1 (g * 6 + f) = bF (x * 6 + f)) → (∀ a, (a < g * 6 ∨ g * 6 + 6 ≤ a) → f1 a = bF a) → J (nI (g + 1)) (nI (x + 1)) bS bK bZ bP bT f1 bR bQ bM bA bC bD bE) :
    ∀ (k i : Nat) (f1 : Nat → Int32), i ≤ 6 → 6 < i + k → (∀ f, f < i → f1 (g * 6 + f) = bF (x * 6 + f)) → (∀ a, (a < g * 6 ∨ g * 6 + i ≤ a) → f1 a = bF a) → wY_collect_253 post J (nI g) (nI x) yc yr yl ys yn yq k (nI i) bS bK bZ bP bT f1 bR bQ bM bA bC bD bE := by
  intro k
  induction k with
  | zero => intro i f1 a b; omega
  | succ k ih =>
    intro i f1 a b h1 h2
    by_cases e : 6 ≤ i
    · have : i = 6 := by omega
      subst this
      exact br_t ((za_6le (by omega)).mpr e) (nm_r (nI_1 g) (nm_r (nI_1 x) (hJ f1 h1 h2)))
    · have e1 : nI x * 6 + nI i = nI (x * 6 + i) := by rw [za_m6, nI_add]
      have e2 : nI g * 6 + nI i = nI (g * 6 + i) := by rw [za_m6, nI_add]
      refine br_f (fun q => e ((za_6le (by omega)).mp q)) ⟨by rw [e1]; exact vp_in_nI (by omega) (by omega), by rw [e2]; exact vp_in_nI (by omega) (by omega), nm_r (e' := upd f1 (g * 6 + i) (bF (x * 6 + i))) (by rw [e1, e2, nI_clamp (by omega), nI_clamp (by omega), h2 (x * 6 + i) (by omega)]) (nm_r (nI_1 i) (ih (i + 1) _ (by omega) (by omega) (fun f hf => ?_) (fun a ha => ?_)))⟩
      · by_cases w : f = i
        · rw [w, pk_us]
        · rw [pk_un (by omega)]; exact h1 f (by omega)
      · rw [pk_un (by omega)]; exact h2 a (by omega)
theorem yc_174 {post : Int32 → SY → Prop} (O : zO n B K Z T F) (HY : zY n S K Z T P F bS bK bZ bP bT bF) (hD : ∀ x, x < n → (¬ bD x = 0 ↔ D (x + 1) = true))
    (hp : ∀ cS cK cZ cP cT cF : Nat → Int32, zYr (zc D n) n D S K Z T P F cS cK cZ cP cT cF → post (nI (n - zc D n)) (yc, yr, yl, ys, nI (zc D n), yq, cS, cK, cZ, cP, cT, cF, bR, bQ, bM, bA, bC, bD, bE)) :
    ∀ (k x : Nat) (cS cK cZ cP cT cF : Nat → Int32), x ≤ n → n < x + k → zYr (zc D x) n D S K Z T P F cS cK cZ cP cT cF → (∀ y, x ≤ y → y < n → cS y = bS y ∧ cK y = bK y ∧ cZ y = bZ y ∧ cP y = bP y ∧ cT y = bT y ∧ ∀ f, f < 6 → cF (y * 6 + f) = bF (y * 6 + f)) → wY_collect_174 post yc yr yl ys (nI n) yq k (nI (zc D x)) (nI x) cS cK cZ cP cT cF bR bQ bM bA bC bD bE := by
  have n32 := zO_n O
  intro k
  induction k with
  | zero => intro x cS cK cZ cP cT cF a b; omega
  | succ k ih =>
    intro x cS cK cZ cP cT cF a b H1 H2
    have lx := zc_le D x
    by_cases e : n ≤ x
    · have : x = n := by omega
      subst this
      exact br_t (nI_le e (by omega)) (nm_r (pk_sub lx) (hp cS cK cZ cP cT cF H1))
    · have cx : (nI x).toNatClampNeg = x := nI_clamp (by omega)
      have vx : vp_in (nI x) 32 := vp_in_nI (by omega) (by omega)
      have cg : (nI (zc D x)).toNatClampNeg = zc D x := nI_clamp (by omega)
      have vg : vp_in (nI (zc D x)) 32 := vp_in_nI (by omega) (by omega)
      refine br_f (nI_ge (by omega) (by omega)) ⟨vx, ?_⟩
      rw [cx]
      by_cases w : bD x = 0
      · have d : D (x + 1) = false := by
          have := hD x (by omega)
          by_cases q : D (x + 1) = true
          · exact absurd w (this.mpr q)
          · simpa using q
        have i := ih (x + 1) cS cK cZ cP cT cF (by omega) (by omega)
        rw [zc_s, d] at i
        exact br_t w (nm_r (nI_1 x) (i H1 (fun y h1 h2 => H2 y (by omega) h2)))
      · have d : D (x + 1) = true := (hD x (by omega)).mp w
        have zx : zc D (x + 1) = zc D x + 1 := by rw [zc_s, if_pos d]
        have ex : zE D n (zc D x + 1) = x + 1 := by rw [← zx]; exact zE_of (by omega) (by omega) d
        have z6 := zO_Z6 O (h := x + 1) (by omega) (by omega)
        obtain ⟨g1, g2, g3, g4, g5, g6⟩ := H2 x (Nat.le_refl _) (by omega)
        obtain ⟨y1, y2, y3, y4, y5, y6⟩ := HY x (by omega)
        refine br_f w ⟨vx, vg, nm_r (e' := upd cS (zc D x) (bS x)) (by rw [cg, g1]) ⟨vx, vg, nm_r (e' := upd cK (zc D x) (bK x)) (by rw [cg, g2]) ⟨vx, vg, nm_r (e' := upd cZ (zc D x) (bZ x)) (by rw [cg, g3]) ⟨vx, vg, nm_r (e' := upd cP (zc D x) (bP x)) (by rw [cg, g4]) ⟨vx, vg, nm_r (e' := upd cT (zc D x) (bT x)) (by rw [cg, g5]) ⟨7, ?_⟩⟩⟩⟩⟩⟩
        refine yc_253 (bF := cF) lx (by omega) (fun f1 h1 h2 => ?_) 7 0 cF (by omega) (by omega) (fun f hf => by omega) (fun _ _ => rfl)
        have i := ih (x + 1) (upd cS (zc D x) (bS x)) (upd cK (zc D x) (bK x)) (upd cZ (zc D x) (bZ x)) (upd cP (zc D x) (bP x)) (upd cT (zc D x) (bT x)) f1 (by omega) (by omega)
        rw [zx] at i
        refine i (fun j hj => ?_) (fun y h3 h4 => ?_)
        · by_cases q : j = zc D x
          · subst q
            rw [pk_us, pk_us, pk_us, pk_us, pk_us, ex]
            refine ⟨y1, y2, y3, y4, y5, fun f hf => ?_⟩
            rw [h1 f (by omega), g6 f (by omega)]
            exact y6 f hf
          · rw [pk_un q, pk_un q, pk_un q, pk_un q, pk_un q]
            obtain ⟨u1, u2, u3, u4, u5, u6⟩ := H1 j (by omega)
            refine ⟨u1, u2, u3, u4, u5, fun f hf => ?_⟩
            have ld := zc_mn D (i := x + 1) (j := n) (by omega)
            obtain ⟨v1, v2, _, _⟩ := zE_sp (D := D) (n := n) (k := j + 1) (by omega) (by omega)
            have zz := zO_Z6 O v1 v2
            rw [h2 _ (by omega)]
            exact u6 f hf
        · obtain ⟨u1, u2, u3, u4, u5, u6⟩ := H2 y (by omega) h4
          rw [pk_un (by omega), pk_un (by omega), pk_un (by omega), pk_un (by omega), pk_un (by omega)]
          refine ⟨u1, u2, u3, u4, u5, fun f hf => ?_⟩
          rw [h2 _ (by omega)]
          exact u6 f hf
/-! Y: clearing -/
theorem yl_br {rr : Int32} {fl : Nat → Int32} {q : Bool} {X Y' : Prop} (h : (q = false ∧ (rr = -1 ∨ ∃ y, y < 32 ∧ rr = nI y ∧ fl y = 0)) ∨ (q = true ∧ ∃ y, y < 32 ∧ rr = nI y ∧ ¬ fl y = 0)) (a : q = false → X) (b : q = true → Y') : (rr < 0 → X) ∧ (¬ rr < 0 → (vp_in rr 32 ∧ ((fl rr.toNatClampNeg = 0 → X) ∧ (¬ fl rr.toNatClampNeg = 0 → Y')))) := by
  rcases h with ⟨h, h' | ⟨y, y32, h', f⟩⟩ | ⟨h, y, y32, h', f⟩
  · rw [h']; exact br_t za_n1 (a h)
  · rw [h']
    refine br_f (nI_pos (by omega)) ⟨vp_in_nI y32 (by omega), ?_⟩
    rw [nI_clamp (by omega)]
    exact br_t f (a h)
  · rw [h']
    refine br_f (nI_pos (by omega)) ⟨vp_in_nI y32 (by omega), ?_⟩
    rw [nI_clamp (by omega)]
    exact br_f f (b h)
theorem yc_obj {post : SY → Prop} {x : Nat} (O : zO n B K Z T F) (HS : zS n S la) (HY : zY n S K Z T P F bS bK bZ bP bT bF) (hx : x < n) (A0 : A 0 = false) (D0 : D 0 = false) (hA : ∀ x, x < n → (¬ bA x = 0 ↔ A (x + 1) = true)) (hD : ∀ x, x < n → (¬ bD x = 0 ↔ D (x + 1) = true))
    (hp : ∀ f1 : Nat → Int32, zY n S K Z T P (fun h f => if h = x + 1 then zF1 K F A D h f else F h f) bS bK bZ bP bT f1 → post (yc, yr, yl, ys, nI n, yq, bS, bK, bZ, bP, bT, f1, bR, bQ, bM, bA, bC, bD, bE)) : wpY_clearFields post (yc, yr, yl, ys, nI n, yq, bS, bK, bZ, bP, bT, bF, bR, bQ, bM, bA, bC, bD, bE) (nI x) := by
  have n32 := zO_n O
  have z1 := zO_Z1 O (h := x + 1) (by omega) (by omega)
  have k4 := zO_K O (h := x + 1) (by omega) (by omega)
  have f0 := zO_F O (h := x + 1) (f := 0) (by omega) (by omega) (by omega)
  have cx : (nI x).toNatClampNeg = x := nI_clamp (by omega)
  have vx : vp_in (nI x) 32 := vp_in_nI (by omega) (by omega)
  have c6 : (nI x * 6).toNatClampNeg = x * 6 := by rw [za_m6, nI_clamp (by omega)]
  have v6 : vp_in (nI x * 6) 192 := by rw [za_m6]; exact vp_in_nI (by omega) (by omega)
  have c7 : (nI x * 6 + 1).toNatClampNeg = x * 6 + 1 := by rw [za_m6, nI_1, nI_clamp (by omega)]
  have v7 : vp_in (nI x * 6 + 1) 192 := by rw [za_m6, nI_1]; exact vp_in_nI (by omega) (by omega)
  obtain ⟨_, eK, _, _, _, eF⟩ := HY x hx
  have e0 : bF (x * 6) = nI (S (F (x + 1) 0)) := eF 0 (by omega)
  have s0 : nI (S 0) = 0 := by rw [HS.1]; exact nI_0
  have ek : ∀ c : Nat, c < 4 → (bK (nI x).toNatClampNeg = nI c ↔ K (x + 1) = c) := fun c hc => by rw [cx, eK, nI_eq (by omega) (by omega)]
  -- the outcomes
  have Y0 : (¬ (K (x + 1) ≠ 0 ∧ (if K (x + 1) = 1 then A (F (x + 1) 0) else D (F (x + 1) 0)) = false)) → post (yc, yr, yl, ys, nI n, yq, bS, bK, bZ, bP, bT, bF, bR, bQ, bM, bA, bC, bD, bE) := fun w => hp bF (zY_congr HY (fun h h1 hn => ⟨rfl, rfl, rfl, rfl, rfl, fun f hf => by
    by_cases e : h = x + 1
    · subst e
      rw [if_pos rfl, show zF1 K F A D (x + 1) f = F (x + 1) f from if_neg (fun q => w ⟨q.1, q.2.1⟩)]
    · rw [if_neg e]⟩))
  have Y1 : K (x + 1) ≠ 0 → K (x + 1) ≠ 3 → (if K (x + 1) = 1 then A (F (x + 1) 0) else D (F (x + 1) 0)) = false → post (yc, yr, yl, ys, nI n, yq, bS, bK, bZ, bP, bT, upd bF (x * 6) 0, bR, bQ, bM, bA, bC, bD, bE) := fun k0 k3 w => by
    have y1 := zY_F O HY (v := 0) hx (f := 0) (by omega)
    rw [s0] at y1
    refine hp _ (zY_congr y1 (fun h h1 hn => ⟨rfl, rfl, rfl, rfl, rfl, fun f hf => congrArg S ?_⟩))
    unfold zF
    by_cases e : h = x + 1
    · subst e
      rw [if_pos rfl]
      by_cases e0 : f = 0
      · rw [if_pos ⟨rfl, e0⟩]
        exact if_pos ⟨k0, w, Or.inl e0⟩
      · rw [if_neg (fun q => e0 q.2)]
        exact if_neg (fun q => by omega)
    · rw [if_neg e, if_neg (fun q => e q.1)]
  have Y3 : K (x + 1) = 3 → (if K (x + 1) = 1 then A (F (x + 1) 0) else D (F (x + 1) 0)) = false → post (yc, yr, yl, ys, nI n, yq, bS, bK, bZ, bP, bT, upd (upd bF (x * 6) 0) (x * 6 + 1) 0, bR, bQ, bM, bA, bC, bD, bE) := fun k3 w => by
    have z2 := zO_K3 O (h := x + 1) (by omega) (by omega) k3
    have y1 := zY_F O HY (v := 0) hx (f := 0) (by omega)
    have y2 := zY_F (zO_F' O (Nat.zero_le _)) y1 (v := 0) hx (f := 1) (by omega)
    rw [s0] at y2
    refine hp _ (zY_congr y2 (fun h h1 hn => ⟨rfl, rfl, rfl, rfl, rfl, fun f hf => congrArg S ?_⟩))
    unfold zF
    by_cases e : h = x + 1
    · subst e
      rw [if_pos rfl]
      by_cases e1 : f = 1
      · rw [if_pos ⟨rfl, e1⟩]
        exact if_pos ⟨by omega, w, Or.inr ⟨e1, k3⟩⟩
      · rw [if_neg (fun q => e1 q.2)]
        by_cases e0 : f = 0
        · rw [if_pos ⟨rfl, e0⟩]
          exact if_pos ⟨by omega, w, Or.inl e0⟩
        · rw [if_neg (fun q => e0 q.2)]
          exact if_neg (fun q => by omega)
    · rw [if_neg e, if_neg (fun q => e q.1), if_neg (fun q => e q.1)]
  refine ⟨v6, ?_⟩
  rw [c6, e0]
  have main : ∀ rr : Int32, ((F (x + 1) 0 = 0 ∧ rr = -1) ∨ ∃ y, y < n ∧ F (x + 1) 0 = y + 1 ∧ rr = nI y) → vp_in (nI x) 32 ∧ ((((bK (nI x).toNatClampNeg) = 1 → (((rr < 0 → (wY_clearFields_37 post (nI x) rr yc yr yl ys (nI n) yq bS bK bZ bP bT bF bR bQ bM bA bC bD bE)) ∧ (¬ rr < 0 → (vp_in rr 32 ∧ ((((bA rr.toNatClampNeg) = 0 → (wY_clearFields_37 post (nI x) rr yc yr yl ys (nI n) yq bS bK bZ bP bT bF bR bQ bM bA bC bD bE)) ∧ (¬ (bA rr.toNatClampNeg) = 0 → (wY_clearFields_47 post (nI x) rr yc yr yl ys (nI n) yq bS bK bZ bP bT bF bR bQ bM bA bC bD bE))))))))) ∧ (¬ (bK (nI x).toNatClampNeg) = 1 → (wY_clearFields_47 post (nI x) rr yc yr yl ys (nI n) yq bS bK bZ bP bT bF bR bQ bM bA bC bD bE)))) := by
    intro rr hr
    have fl : ∀ (V : Nat → Bool) (b : Nat → Int32), V 0 = false → (∀ x, x < n → (¬ b x = 0 ↔ V (x + 1) = true)) → ((V (F (x + 1) 0) = false ∧ (rr = -1 ∨ ∃ y, y < 32 ∧ rr = nI y ∧ b y = 0)) ∨ (V (F (x + 1) 0) = true ∧ ∃ y, y < 32 ∧ rr = nI y ∧ ¬ b y = 0)) := fun V b V0 hV => by
      rcases hr with ⟨z, e⟩ | ⟨y, yn, z, e⟩
      · exact Or.inl ⟨by rw [z]; exact V0, Or.inl e⟩
      · by_cases w : b y = 0
        · refine Or.inl ⟨?_, Or.inr ⟨y, by omega, e, w⟩⟩
          rw [z]
          by_cases u : V (y + 1) = true
          · exact absurd w ((hV y yn).mpr u)
          · simpa using u
        · exact Or.inr ⟨by rw [z]; exact (hV y yn).mp w, y, by omega, e, w⟩
    refine ⟨vx, ?_⟩
    by_cases k1 : K (x + 1) = 1
    · have n2 : ¬ bK (nI x).toNatClampNeg = 2 := fun q => by have := (ek 2 (by omega)).mp q; omega
      have n3 : ¬ bK (nI x).toNatClampNeg = 3 := fun q => by have := (ek 3 (by omega)).mp q; omega
      refine br_t ((ek 1 (by omega)).mpr k1) (yl_br (fl A bA A0 hA) (fun w => ?_) (fun w => ?_))
      · refine ⟨v6, nm_r (e' := upd bF (x * 6) 0) (by rw [c6]) ⟨vx, br_f n2 ⟨vx, br_f n3 (Y1 (by omega) (by omega) (by rw [if_pos k1]; exact w))⟩⟩⟩
      · exact ⟨vx, br_f n2 ⟨vx, br_f n3 (Y0 (fun q => by rw [if_pos k1, w] at q; cases q.2))⟩⟩
    · refine br_f (fun q => k1 ((ek 1 (by omega)).mp q)) ⟨vx, ?_⟩
      by_cases k2 : K (x + 1) = 2
      · have n3 : ¬ bK (nI x).toNatClampNeg = 3 := fun q => by have := (ek 3 (by omega)).mp q; omega
        refine br_t ((ek 2 (by omega)).mpr k2) (yl_br (fl D bD D0 hD) (fun w => ?_) (fun w => ?_))
        · refine ⟨v6, nm_r (e' := upd bF (x * 6) 0) (by rw [c6]) ⟨vx, br_f n3 (Y1 (by omega) (by omega) (by rw [if_neg k1]; exact w))⟩⟩
        · exact ⟨vx, br_f n3 (Y0 (fun q => by rw [if_neg k1, w] at q; cases q.2))⟩
      · refine br_f (fun q => k2 ((ek 2 (by omega)).mp q)) ⟨vx, ?_⟩
        by_cases k3 : K (x + 1) = 3
        · refine br_t ((ek 3 (by omega)).mpr k3) (yl_br (fl D bD D0 hD) (fun w => ?_) (fun w => ?_))
          · exact ⟨v6, nm_r (e' := upd bF (x * 6) 0) (by rw [c6]) ⟨v7, nm_r (e' := upd (upd bF (x * 6) 0) (x * 6 + 1) 0) (by rw [c7]) (Y3 k3 (by rw [if_neg k1]; exact w))⟩⟩
          · exact Y0 (fun q => by rw [if_neg k1, w] at q; cases q.2)
        · exact br_f (fun q => k3 ((ek 3 (by omega)).mp q)) (Y0 (fun q => by omega))
  refine yk_pl n32 HS (fun x hx => (HY x hx).1) f0 (fun q => ?_) (fun y q => ?_)
  · exact main (-1) (Or.inl ⟨q, rfl⟩)
  · exact main (nI y) (Or.inr ⟨y, by omega, q, rfl⟩)
end
end
section
section
variable {yc yr yl ys yn yq : Int32} {bS bK bZ bP bT bF bR bQ bM bA bC bD bE : Nat → Int32} {n rc ql la : Nat} {S B K Z T R Q : Nat → Nat} {P : Nat → Int32} {F : Nat → Nat → Nat} {A D Cb r : Nat → Bool} {C : Nat → Nat → Bool}
theorem yc_142 {post : Int32 → SY → Prop} (O : zO n B K Z T F) (HS : zS n S la) (A0 : A 0 = false) (D0 : D 0 = false) (hA : ∀ x, x < n → (¬ bA x = 0 ↔ A (x + 1) = true)) (hD : ∀ x, x < n → (¬ bD x = 0 ↔ D (x + 1) = true))
    (hp : ∀ cS cK cZ cP cT cF : Nat → Int32, zYr (zc D n) n D S K Z T P (zF1 K F A D) cS cK cZ cP cT cF → post (nI (n - zc D n)) (yc, yr, yl, ys, nI (zc D n), yq, cS, cK, cZ, cP, cT, cF, bR, bQ, bM, bA, bC, bD, bE)) :
    ∀ (k x : Nat) (f1 : Nat → Int32), x ≤ n → n < x + k → zY n S K Z T P (zFx D (x + 1) F (zF1 K F A D)) bS bK bZ bP bT f1 → wY_collect_142 post k (nI x) yc yr yl ys (nI n) yq bS bK bZ bP bT f1 bR bQ bM bA bC bD bE := by
  have n32 := zO_n O
  have ox : ∀ x, zO n B K Z T (zFx D x F (zF1 K F A D)) := fun x => zO_congr O ⟨rfl, rfl⟩ fun j j1 jn => ⟨rfl, rfl, rfl, rfl, zO_T O j1 jn, fun g hg => by
    unfold zFx
    split
    · exact zF1_le O j1 jn hg
    · exact zO_F O j1 jn hg⟩
  intro k
  induction k with
  | zero => intro x f1 a b; omega
  | succ k ih =>
    intro x f1 a b H
    by_cases e : n ≤ x
    · have : x = n := by omega
      subst this
      refine br_t (nI_le e (by omega)) ⟨x + 1, ?_⟩
      have h0 : zc D 0 = 0 := rfl
      have i := yc_174 (yc := yc) (yr := yr) (yl := yl) (ys := ys) (yq := yq) (bR := bR) (bQ := bQ) (bM := bM) (bA := bA) (bC := bC) (bE := bE) (D := D) (post := post) (ox (x + 1)) H hD (fun cS cK cZ cP cT cF w => hp cS cK cZ cP cT cF (fun j hj => ?_)) (x + 1) 0 bS bK bZ bP bT f1 (by omega) (by omega) (fun j hj => by rw [h0] at hj; omega) (fun _ _ _ => ⟨rfl, rfl, rfl, rfl, rfl, fun _ _ => rfl⟩)
      · exact i
      · obtain ⟨u1, u2, u3, u4, u5, u6⟩ := w j hj
        obtain ⟨v1, v2, v3, _⟩ := zE_sp (D := D) (n := x) (k := j + 1) (by omega) (by omega)
        refine ⟨u1, u2, u3, u4, u5, fun f hf => ?_⟩
        rw [u6 f hf, show zFx D (x + 1) F (zF1 K F A D) (zE D x (j + 1)) f = zF1 K F A D (zE D x (j + 1)) f from if_pos ⟨by omega, v3⟩]
    · have cx : (nI x).toNatClampNeg = x := nI_clamp (by omega)
      have vx : vp_in (nI x) 32 := vp_in_nI (by omega) (by omega)
      have nx : ∀ h, h < x + 1 + 1 ↔ h < x + 1 ∨ h = x + 1 := fun h => by omega
      refine br_f (nI_ge (by omega) (by omega)) ⟨vx, ?_⟩
      rw [cx]
      by_cases w : bD x = 0
      · have d : D (x + 1) = false := by
          have := hD x (by omega)
          by_cases q : D (x + 1) = true
          · exact absurd w (this.mpr q)
          · simpa using q
        refine br_t w (nm_r (nI_1 x) (ih (x + 1) f1 (by omega) (by omega) (zY_congr H (fun h q1 qn => ⟨rfl, rfl, rfl, rfl, rfl, fun f hf => congrArg S ?_⟩))))
        unfold zFx
        by_cases u : h = x + 1
        · subst u; simp [d]
        · simp [nx, u]
      · have d : D (x + 1) = true := (hD x (by omega)).mp w
        refine br_f w ?_
        refine yc_obj (ox (x + 1)) HS H (by omega) A0 D0 hA hD ?_
        intro f2 H2
        refine nm_r (nI_1 x) (ih (x + 1) f2 (by omega) (by omega) (zY_congr H2 (fun h q1 qn => ⟨rfl, rfl, rfl, rfl, rfl, fun f hf => congrArg S ?_⟩)))
        by_cases u : h = x + 1
        · subst u
          have e0 : ∀ g, zFx D (x + 1) F (zF1 K F A D) (x + 1) g = F (x + 1) g := fun g => if_neg (by omega)
          rw [if_pos rfl, show zFx D (x + 1 + 1) F (zF1 K F A D) (x + 1) f = zF1 K F A D (x + 1) f from if_pos ⟨by omega, d⟩]
          exact (zF1_c e0).symm
        · rw [if_neg u]
          unfold zFx
          simp [nx, u]
/-! Y: the next one to be queued -/
theorem yc_19 {post : Int32 → Prop} {J2 : Int32 → Prop} {c : Nat} (n32 : n ≤ 32) (hc : c < n) (hr : ∀ x, x < n → (¬ bC x = 0 ↔ r (x + 1) = true)) (hE : ∀ c, c < n → r (c + 1) = true → ∀ d, d < n → (¬ bE (c * 32 + d) = 0 ↔ C (c + 1) (d + 1) = true))
    (h1 : ¬ zu n C r (c + 1) → J2 (nI (c + 1))) (h2 : zu n C r (c + 1) → post (nI c)) :
    ∀ (k d : Nat) (fr : Int32), d ≤ n → n < d + k → (¬ fr = 0 ↔ r (c + 1) = true ∧ ∀ d', 1 ≤ d' → d' ≤ d → r d' = true → C d' (c + 1) = true → C (c + 1) d' = true) → wY_firstUnled_19 post J2 (nI c) yc yr yl ys (nI n) yq bS bK bZ bP bT bF bR bQ bM bA bC bD bE k fr (nI d) := by
  intro k
  induction k with
  | zero => intro d fr a b; omega
  | succ k ih =>
    intro d fr a b H
    by_cases e : n ≤ d
    · have : d = n := by omega
      subst this
      refine br_t (nI_le e (by omega)) (br_c (fun z => nm_r (nI_1 c) (h1 (fun u => H.mpr u z))) (fun z => h2 (H.mp z)))
    · have cd : (nI d).toNatClampNeg = d := nI_clamp (by omega)
      have vd : vp_in (nI d) 32 := vp_in_nI (by omega) (by omega)
      have e1 : nI d * 32 + nI c = nI (d * 32 + c) := by rw [za_m32, nI_add]
      have e2 : nI c * 32 + nI d = nI (c * 32 + d) := by rw [za_m32, nI_add]
      have same : (r (d + 1) = true → C (d + 1) (c + 1) = true → r (c + 1) = true → C (c + 1) (d + 1) = true) → (¬ fr = 0 ↔ r (c + 1) = true ∧ ∀ d', 1 ≤ d' → d' ≤ d + 1 → r d' = true → C d' (c + 1) = true → C (c + 1) d' = true) := fun w => by
        rw [H]
        constructor
        · intro ⟨p, q⟩
          refine ⟨p, fun d' x1 x2 x3 x4 => ?_⟩
          by_cases u : d' = d + 1
          · subst u; exact w x3 x4 p
          · exact q d' x1 (by omega) x3 x4
        · intro ⟨p, q⟩
          exact ⟨p, fun d' x1 x2 x3 x4 => q d' x1 (by omega) x3 x4⟩
      have go : ∀ fr' : Int32, (¬ fr' = 0 ↔ r (c + 1) = true ∧ ∀ d', 1 ≤ d' → d' ≤ d + 1 → r d' = true → C d' (c + 1) = true → C (c + 1) d' = true) → wY_firstUnled_19 post J2 (nI c) yc yr yl ys (nI n) yq bS bK bZ bP bT bF bR bQ bM bA bC bD bE k fr' (nI (d + 1)) := fun fr' h => ih (d + 1) fr' (by omega) (by omega) h
      refine br_f (nI_ge (by omega) (by omega)) ⟨vd, ?_⟩
      rw [cd]
      by_cases w : bC d = 0
      · refine br_t w (nm_r (nI_1 d) (go fr (same (fun q => absurd w ((hr d (by omega)).mpr q)))))
      · have rd := (hr d (by omega)).mp w
        refine br_f w ⟨by rw [e1]; exact vp_in_nI (by omega) (by omega), ?_⟩
        rw [e1, nI_clamp (n := d * 32 + c) (by omega)]
        by_cases w2 : bE (d * 32 + c) = 0
        · exact br_t w2 (nm_r (nI_1 d) (go fr (same (fun _ q => absurd w2 ((hE d (by omega) rd c hc).mpr q)))))
        · have cd' := (hE d (by omega) rd c hc).mp w2
          refine br_f w2 ⟨by rw [e2]; exact vp_in_nI (by omega) (by omega), ?_⟩
          rw [e2, nI_clamp (n := c * 32 + d) (by omega)]
          by_cases rc' : r (c + 1) = true
          · by_cases w3 : bE (c * 32 + d) = 0
            · refine br_t w3 (nm_r (nI_1 d) (go 0 ⟨fun q => absurd rfl q, fun q => ?_⟩))
              have := q.2 (d + 1) (by omega) (by omega) rd cd'
              exact absurd w3 ((hE c hc rc' d (by omega)).mpr this)
            · exact br_f w3 (nm_r (nI_1 d) (go fr (same (fun _ _ _ => (hE c hc rc' d (by omega)).mp w3))))
          · refine br_c (fun _ => nm_r (nI_1 d) (go 0 ⟨fun q => absurd rfl q, fun q => absurd q.1 rc'⟩)) (fun _ => nm_r (nI_1 d) (go fr (same (fun _ _ q => absurd q rc'))))
theorem yc_first {post : Int32 → Prop} (n32 : n ≤ 32) (hr : ∀ x, x < n → (¬ bC x = 0 ↔ r (x + 1) = true)) (hE : ∀ c, c < n → r (c + 1) = true → ∀ d, d < n → (¬ bE (c * 32 + d) = 0 ↔ C (c + 1) (d + 1) = true))
    (h0 : zk n C r = 0 → post (-1)) (hs : ∀ x, x < n → zk n C r = x + 1 → post (nI x)) : wpY_firstUnled post (yc, yr, yl, ys, nI n, yq, bS, bK, bZ, bP, bT, bF, bR, bQ, bM, bA, bC, bD, bE) := by
  have L : ∀ (k c : Nat), c ≤ n → n < c + k → (∀ j, 1 ≤ j → j ≤ c → ¬ zu n C r j) → wY_firstUnled_2 post yc yr yl ys (nI n) yq bS bK bZ bP bT bF bR bQ bM bA bC bD bE k (nI c) := by
    intro k
    induction k with
    | zero => intro c a b; omega
    | succ k ih =>
      intro c a b H
      by_cases e : n ≤ c
      · exact br_t (nI_le e (by omega)) (h0 (zk_no (fun j j1 jn => H j j1 (by omega))))
      · refine br_f (nI_ge (by omega) (by omega)) ⟨vp_in_nI (by omega) (by omega), nm_r (e' := bC c) (by rw [nI_clamp (by omega)]) ⟨n + 1, ?_⟩⟩
        refine yc_19 (r := r) (C := C) n32 (by omega) hr hE (fun u => ?_) (fun u => ?_) (n + 1) 0 (bC c) (by omega) (by omega) ?_
        · refine ih (c + 1) (by omega) (by omega) (fun j j1 jc => ?_)
          by_cases w : j = c + 1
          · subst w; exact u
          · exact H j j1 (by omega)
        · exact hs c (by omega) (zk_of ⟨by omega, by omega, u, fun j j1 jc => H j j1 (by omega)⟩)
        · rw [hr c (by omega)]
          exact ⟨fun q => ⟨q, fun d' x1 x2 => by omega⟩, fun q => q.1⟩
  exact ⟨n + 1, L (n + 1) 0 (by omega) (by omega) (fun j j1 j0 => by omega)⟩
/-! Y: the rounds -/
theorem yc_69 {post : Int32 → SY → Prop} (O : zO n B K Z T F) (sum : zc Cb n + ql ≤ 8) (hcb : ∀ h, Cb h = true → 1 ≤ h ∧ h ≤ n) (eS : ∀ x, x < n → bS x = nI (S (x + 1))) (hE : ∀ c, c < n → Cb (c + 1) = true → ∀ d, d < n → (¬ bE (c * 32 + d) = 0 ↔ C (c + 1) (d + 1) = true))
    (hp : ∀ cC cT cQ : Nat → Int32, (∀ x, x < n → cT x = nI (zT1 Cb (zq n C Cb Q ql n).1 T (x + 1))) → (∀ i, i < (zq n C Cb Q ql n).2.2 → cQ i = nI (S ((zq n C Cb Q ql n).2.1 i))) → ∃ k, wY_collect_142 post k 0 yc yr yl ys (nI n) (nI (zq n C Cb Q ql n).2.2) bS bK bZ bP cT bF bR cQ bM bA cC bD bE) :
    ∀ (k i : Nat) (cC cT cQ : Nat → Int32), i ≤ n → n < i + k → (∀ x, x < n → (¬ cC x = 0 ↔ (zq n C Cb Q ql i).1 (x + 1) = true)) → (∀ x, x < n → cT x = nI (zT1 Cb (zq n C Cb Q ql i).1 T (x + 1))) → (∀ j, j < (zq n C Cb Q ql i).2.2 → cQ j = nI (S ((zq n C Cb Q ql i).2.1 j))) → wY_collect_69 post yc yr yl ys (nI n) k (nI i) (nI (zq n C Cb Q ql i).2.2) bS bK bZ bP cT bF bR cQ bM bA cC bD bE := by
  have n32 := zO_n O
  intro k
  induction k with
  | zero => intro i cC cT cQ a b; omega
  | succ k ih =>
    intro i cC cT cQ a b H1 H2 H3
    have vs := zq_sum (n := n) (C := C) (r := Cb) (Q := Q) (l := ql) i
    by_cases e : n ≤ i
    · have : i = n := by omega
      subst this
      exact br_t (nI_le e (by omega)) (hp cC cT cQ H2 H3)
    · refine br_f (nI_ge (by omega) (by omega)) ?_
      refine yc_first (r := (zq n C Cb Q ql i).1) (C := C) n32 H1 (fun c hc rc' => hE c hc (zq_sub i _ rc')) (fun z => ?_) (fun x hx z => ?_)
      · have ii := ih (i + 1) cC cT cQ (by omega) (by omega)
        rw [zq_n z] at ii
        exact br_t za_n1 (nm_r (nI_1 i) (ii H1 H2 H3))
      · have sp := zk_sp (n := n) (C := C) (r := (zq n C Cb Q ql i).1) (by rw [z]; omega)
        rw [z] at sp
        have zp1 := zc_pos sp.1 sp.2.1 sp.2.2.1.1
        have cbx : Cb (x + 1) = true := zq_sub i _ sp.2.2.1.1
        have cx : (nI x).toNatClampNeg = x := nI_clamp (by omega)
        have vx : vp_in (nI x) 32 := vp_in_nI (by omega) (by omega)
        have cq : (nI (zq n C Cb Q ql i).2.2).toNatClampNeg = (zq n C Cb Q ql i).2.2 := nI_clamp (by omega)
        have ii := ih (i + 1) (upd cC x 0) (upd cT x 2) (upd cQ (zq n C Cb Q ql i).2.2 (nI (S (x + 1)))) (by omega) (by omega)
        rw [zq_s z (by omega)] at ii
        refine br_f (nI_pos (by omega)) (br_f (fun q => absurd ((za_8le (by omega)).mp q) (by omega)) ⟨vx, vp_in_nI (by omega) (by omega), nm_r (e' := upd cQ (zq n C Cb Q ql i).2.2 (nI (S (x + 1)))) (by rw [cq, cx, eS x hx]) (nm_r (nI_1 _) ⟨vx, nm_r (e' := upd cT x 2) (by rw [cx]) ⟨vx, nm_r (e' := upd cC x 0) (by rw [cx, za_b0]) (nm_r (nI_1 i) (ii (fun y hy => ?_) (fun y hy => ?_) (fun j hj => ?_)))⟩⟩)⟩)
        · dsimp only [zr]
          by_cases u : y = x
          · subst u
            rw [pk_us, if_pos rfl]
            exact ⟨fun q => absurd rfl q, fun q => (by cases q)⟩
          · rw [pk_un u, if_neg (by omega)]
            exact H1 y hy
        · dsimp only
          rw [← zT1_s cbx]
          unfold zT
          by_cases u : y = x
          · subst u
            rw [pk_us, if_pos rfl]; rfl
          · rw [pk_un u, if_neg (by omega)]
            exact H2 y hy
        · dsimp only at hj ⊢
          by_cases u : j = (zq n C Cb Q ql i).2.2
          · rw [u, pk_us, if_pos rfl]
          · rw [if_neg u, pk_un u]
            exact H3 j (by omega)
/-! Y: the cones -/
theorem yc_30 {post : Int32 → SY → Prop} {J : Int32 → Int32 → Int32 → Int32 → Int32 → Int32 → Int32 → (Nat → Int32) → (Nat → Int32) → (Nat → Int32) → (Nat → Int32) → (Nat → Int32) → (Nat → Int32) → (Nat → Int32) → (Nat → Int32) → (Nat → Int32) → (Nat → Int32) → (Nat → Int32) → (Nat → Int32) → (Nat → Int32) → Prop} {c : Nat} (n32 : n ≤ 32) (hc : c < n) (m01 : y01 n bM)
    (hJ : ∀ e1 : Nat → Int32, (∀ d, d < n → e1 (c * 32 + d) = bM d) → (∀ a, (a < c * 32 ∨ c * 32 + 32 ≤ a) → e1 a = bE a) → J (nI (c + 1)) yc yr yl ys (nI n) yq bS bK bZ bP bT bF bR bQ bM bA bC bD e1) :
    ∀ (k d : Nat) (e1 : Nat → Int32), d ≤ n → n < d + k → (∀ d', d' < d → e1 (c * 32 + d') = bM d') → (∀ a, (a < c * 32 ∨ c * 32 + 32 ≤ a) → e1 a = bE a) → wY_collect_30 post J (nI c) yc yr yl ys (nI n) yq k (nI d) bS bK bZ bP bT bF bR bQ bM bA bC bD e1 := by
  intro k
  induction k with
  | zero => intro d e1 a b; omega
  | succ k ih =>
    intro d e1 a b h1 h2
    by_cases e : n ≤ d
    · exact br_t (nI_le e (by omega)) (nm_r (nI_1 c) (hJ e1 (fun d' hd' => h1 d' (by omega)) h2))
    · have e2 : nI c * 32 + nI d = nI (c * 32 + d) := by rw [za_m32, nI_add]
      refine br_f (nI_ge (by omega) (by omega)) ⟨vp_in_nI (by omega) (by omega), by rw [e2]; exact vp_in_nI (by omega) (by omega), nm_r (e' := upd e1 (c * 32 + d) (bM d)) (by rw [e2, nI_clamp (by omega), nI_clamp (by omega), y01_n m01 (by omega)]) (nm_r (nI_1 d) (ih (d + 1) _ (by omega) (by omega) (fun d' hd' => ?_) (fun a ha => ?_)))⟩
      · by_cases w : d' = d
        · rw [w, pk_us]
        · rw [pk_un (by omega)]; exact h1 d' (by omega)
      · rw [pk_un (by omega)]; exact h2 a ha
theorem yc_6 {post : Int32 → SY → Prop} (O : zO n B K Z T F) (HS : zS n S la) (HY : zY n S K Z T P F bS bK bZ bP bT bF) (r8 : rc ≤ 8) (hR : ∀ i, i < rc → R i ≤ n) (eR : ∀ i, i < rc → bR i = nI (S (R i))) (q8 : ql ≤ 8) (hQ : ∀ i, i < ql → 1 ≤ Q i ∧ Q i ≤ n) (eQ : ∀ i, i < ql → bQ i = nI (S (Q i))) (hC' : ∀ x, x < n → (¬ bC x = 0 ↔ Cb (x + 1) = true)) (eC : C = fun c h => zd (zco n K Z F rc ql R Q c h))
    (hp : ∀ m e1 : Nat → Int32, (∀ c, c < n → Cb (c + 1) = true → ∀ d, d < n → (¬ e1 (c * 32 + d) = 0 ↔ C (c + 1) (d + 1) = true)) → ∃ k, wY_collect_69 post yc (nI rc) yl ys (nI n) k 0 (nI ql) bS bK bZ bP bT bF bR bQ m bA bC bD e1) :
    ∀ (k x : Nat) (m e1 : Nat → Int32), x ≤ n → n < x + k → (∀ c, c < x → Cb (c + 1) = true → ∀ d, d < n → (¬ e1 (c * 32 + d) = 0 ↔ C (c + 1) (d + 1) = true)) → wY_collect_6 post k (nI x) yc (nI rc) yl ys (nI n) (nI ql) bS bK bZ bP bT bF bR bQ m bA bC bD e1 := by
  have n32 := zO_n O
  intro k
  induction k with
  | zero => intro x m e1 a b; omega
  | succ k ih =>
    intro x m e1 a b H
    by_cases e : n ≤ x
    · have : x = n := by omega
      subst this
      exact br_t (nI_le e (by omega)) (hp m e1 H)
    · have cx : (nI x).toNatClampNeg = x := nI_clamp (by omega)
      have vx : vp_in (nI x) 32 := vp_in_nI (by omega) (by omega)
      refine br_f (nI_ge (by omega) (by omega)) ⟨vx, ?_⟩
      rw [cx]
      by_cases w : bC x = 0
      · refine br_t w (nm_r (nI_1 x) (ih (x + 1) m e1 (by omega) (by omega) (fun c hc cb => ?_)))
        by_cases u : c = x
        · subst u; exact absurd w ((hC' c (by omega)).mpr cb)
        · exact H c (by omega) cb
      · refine br_f w ?_
        refine yk_cone O HS HY r8 hR eR q8 hQ eQ (by omega) ?_
        intro b b01 hb
        refine ⟨n + 1, ?_⟩
        refine yc_30 (bE := e1) n32 (by omega) b01 (fun e2 f1 f2 => ?_) (n + 1) 0 e1 (by omega) (by omega) (fun d hd => by omega) (fun _ _ => rfl)
        refine ih (x + 1) b e2 (by omega) (by omega) (fun c hc cb d hd => ?_)
        by_cases u : c = x
        · subst u
          rw [f1 d hd, eC]
          dsimp only
          rw [← yb_t, hb (d + 1) (by omega) (by omega)]
          exact zd_t.symm
        · rw [f2 _ (by omega)]
          exact H c (by omega) cb d hd
end
end
section
section
variable {yc yr yl ys yn yq : Int32} {bS bK bZ bP bT bF bR bQ bM bA bC bD bE : Nat → Int32} {n rc ql la : Nat} {S B K Z T R Q : Nat → Nat} {P : Nat → Int32} {F : Nat → Nat → Nat} {A D Cb : Nat → Bool} {C : Nat → Nat → Bool}
theorem yb_x {b : Nat → Int32} {p : Nat → Prop} (h : ∀ h, 1 ≤ h → h ≤ n → (yb b h = true ↔ p h)) : ∀ x, x < n → (¬ b x = 0 ↔ zd (p (x + 1)) = true) := fun x hx => by
  rw [← yb_t, h (x + 1) (by omega) (by omega)]
  exact zd_t.symm
/-- Y's collection -/
theorem yz_collect {post : Int32 → SY → Prop} (O : zO n B K Z T F) (HS : zS n S la) (HY : zY n S K Z T P F bS bK bZ bP bT bF) (r8 : rc ≤ 8) (hR : ∀ i, i < rc → R i ≤ n) (eR : ∀ i, i < rc → bR i = nI (S (R i))) (hQ : ∀ i, i < ql → 1 ≤ Q i ∧ Q i ≤ n) (eQ : ∀ i, i < ql → bQ i = nI (S (Q i))) (sum : zc Cb n + ql ≤ 8)
    (eA : A = fun h => zd (zre n K Z F rc ql R Q h)) (eCb : Cb = fun h => zd (zca n T (zre n K Z F rc ql R Q) h)) (eD : D = fun h => zd (zrt n K Z T F rc ql R Q h)) (eC : C = fun c h => zd (zco n K Z F rc ql R Q c h))
    (hp : ∀ bM bA bC bD bE cS cK cZ cP cT cF cQ : Nat → Int32, zYr (zc D n) n D S K Z (zT1 Cb (zq n C Cb Q ql n).1 T) P (zF1 K F A D) cS cK cZ cP cT cF → (∀ i, i < (zq n C Cb Q ql n).2.2 → cQ i = nI (S ((zq n C Cb Q ql n).2.1 i))) → post (nI (n - zc D n)) (yc, nI rc, yl, ys, nI (zc D n), nI (zq n C Cb Q ql n).2.2, cS, cK, cZ, cP, cT, cF, bR, cQ, bM, bA, bC, bD, bE)) :
    wpY_collect post (yc, nI rc, yl, ys, nI n, nI ql, bS, bK, bZ, bP, bT, bF, bR, bQ, bM, bA, bC, bD, bE) := by
  have n32 := zO_n O
  have q8 : ql ≤ 8 := by omega
  have A0 : A 0 = false := by
    rw [eA]
    exact zd_n (fun z => by have := zre_in O z; omega)
  have D0 : D 0 = false := by
    rw [eD]
    exact zd_n (fun z => by have := zrt_in O z; omega)
  have hCb : ∀ h, Cb h = true → 1 ≤ h ∧ h ≤ n := fun h q => by
    rw [eCb] at q
    have := zd_t.mp q
    exact ⟨this.1, this.2.1⟩
  unfold wpY_collect
  refine yk_sets O HS HY r8 hR eR q8 hQ eQ ?_
  intro b a c d _ ha _ hc _ hd
  have a1 : ∀ x, x < n → (¬ a x = 0 ↔ A (x + 1) = true) := by rw [eA]; exact yb_x ha
  have a2 : ∀ x, x < n → (¬ c x = 0 ↔ Cb (x + 1) = true) := by rw [eCb]; exact yb_x hc
  have a3 : ∀ x, x < n → (¬ d x = 0 ↔ D (x + 1) = true) := by rw [eD]; exact yb_x hd
  refine ⟨n + 1, yc_6 (Cb := Cb) (C := C) O HS HY r8 hR eR q8 hQ eQ a2 eC (fun m e1 hE => ?_) (n + 1) 0 b bE (by omega) (by omega) (fun c' h => by omega)⟩
  refine ⟨n + 1, yc_69 (S := S) (Q := Q) (T := T) O sum hCb (fun x hx => (HY x hx).1) hE (fun cC cT cQ h1 h2 => ?_) (n + 1) 0 c bT bQ (by omega) (by omega) a2 (fun x hx => ?_) eQ⟩
  · refine ⟨n + 1, yc_142 (la := la) (A := A) (D := D) (F := F) (zO_T1 (Cb := Cb) (r := (zq n C Cb Q ql n).1) O) HS A0 D0 a1 a3 (fun cS cK cZ cP cT' cF w => hp m a cC d e1 cS cK cZ cP cT' cF cQ w h2) (n + 1) 0 bF (by omega) (by omega) (fun x hx => ?_)⟩
    obtain ⟨y1, y2, y3, y4, y5, y6⟩ := HY x hx
    refine ⟨y1, y2, y3, y4, h1 x hx, fun f hf => ?_⟩
    rw [show zFx D (0 + 1) F (zF1 K F A D) (x + 1) f = F (x + 1) f from if_neg (by omega)]
    exact y6 f hf
  · rw [zT1_o (fun w => by
      have p := w.1
      have q : Cb (x + 1) = false := w.2
      rw [p] at q; cases q)]
    exact (HY x hx).2.2.2.2.1
end
theorem i_vc_collect {k : Nat} {u : SX} {v : SY} (I : i_Rel k u v) (hk : k + 5 ≤ 2563) : wpX_collect (fun r u' => wpY_collect (fun r' v' => r' = r ∧ i_Rel (k + 5) u' v') v) u := by
  refine zz_el (Mt := fun u v => wpX_collect (fun r u' => wpY_collect (fun r' v' => r' = r ∧ i_Rel (k + 5) u' v') v) u) ?_ I
  intro cp rc lm n la ql ar hd S B K Z T R Q P F mrk dep aH aS aB aR aQ aK aW aN aF aC aE aL bS bK bZ bP bT bF bR bQ bM bA bC bD bE hI hU hV
  obtain ⟨⟨c16, c96⟩, r8, l8, hd8, O, bc, HS, hR, hQu⟩ := id hI
  obtain ⟨HX, eS, eR, eQ⟩ := id hU
  obtain ⟨HY, fR, fQ⟩ := id hV
  have n32 := zO_n O
  have q8 : ql ≤ 8 := Nat.le_trans (zQ_len hQu) l8
  have gS : ∀ x, x < n → bS x = nI (S (x + 1)) := fun x hx => (HY x hx).1
  have hQ : ∀ i, i < ql → 1 ≤ Q i ∧ Q i ≤ n := fun i hi => ⟨(hQu.1 i hi).1, (hQu.1 i hi).2.1⟩
  have dA : ∀ j, zre n K Z F rc ql R Q j → zrt n K Z T F rc ql R Q j := fun j q => zC_mono (fun _ a => zC_in (Or.inl a)) q
  have dC : ∀ j, zca n T (zre n K Z F rc ql R Q) j → zrt n K Z T F rc ql R Q j := fun j q => zC_in (Or.inr q)
  obtain ⟨A, eA⟩ : ∃ A : Nat → Bool, A = fun h => zd (zre n K Z F rc ql R Q h) := ⟨_, rfl⟩
  obtain ⟨Cb, eCb⟩ : ∃ A : Nat → Bool, A = fun h => zd (zca n T (zre n K Z F rc ql R Q) h) := ⟨_, rfl⟩
  obtain ⟨D, eD⟩ : ∃ A : Nat → Bool, A = fun h => zd (zrt n K Z T F rc ql R Q h) := ⟨_, rfl⟩
  obtain ⟨C, eC⟩ : ∃ A : Nat → Nat → Bool, A = fun c h => zd (zco n K Z F rc ql R Q c h) := ⟨_, rfl⟩
  have Dt : ∀ j, D j = true ↔ zrt n K Z T F rc ql R Q j := fun j => by rw [eD]; exact zd_t
  have At : ∀ j, A j = true ↔ zre n K Z F rc ql R Q j := fun j => by rw [eA]; exact zd_t
  have Ct : ∀ j, Cb j = true ↔ zca n T (zre n K Z F rc ql R Q) j := fun j => by rw [eCb]; exact zd_t
  have D0 : D 0 = false := by
    rw [eD]
    exact zd_n (fun z => by have := zrt_in O z; omega)
  have cD : zcl n K Z F (fun j => D j = true) := fun h f h1 hn hf a w z => (Dt _).mpr (zC_cl _ h f h1 hn hf ((Dt _).mp a) (zh_mono (fun _ q => (Dt _).mp q) w) z)
  have hAD : ∀ j, A j = true → D j = true := fun j q => (Dt j).mpr (dA j ((At j).mp q))
  have hCb : ∀ h, Cb h = true → 1 ≤ h ∧ h ≤ n ∧ T h = 1 := fun h q => by
    have := (Ct h).mp q
    exact ⟨this.1, this.2.1, this.2.2.1⟩
  have sum : zc Cb n + ql ≤ 8 := by
    have i := zc_imp (p := Cb) (q := fun h => decide (T h = 1)) (n := n) (fun j _ _ q => by simp [(hCb j q).2.2])
    have := hQu.2.2.2.2.1
    have := hQu.2.2.2.2.2
    omega
  have dR : ∀ r, r < rc → R r = 0 ∨ D (R r) = true := fun r hr => by
    rcases Nat.eq_zero_or_pos (R r) with q | q
    · exact Or.inl q
    · exact Or.inr ((Dt _).mpr (zC_in (Or.inl ⟨q, hR r hr, Or.inl ⟨r, hr, rfl⟩⟩)))
  have dq : ∀ i, i < ql → D (Q i) = true := fun i hi => (Dt _).mpr (zC_in (Or.inl ⟨(hQ i hi).1, (hQ i hi).2, Or.inr ⟨i, hi, rfl⟩⟩))
  have fx : zq n C Cb Q ql n = zq n C Cb Q ql (zc Cb n) := zq_fix (zc_le Cb n)
  have h12 : ∀ h, 1 ≤ h → h ≤ n → zT1 Cb (zq n C Cb Q ql (zc Cb n)).1 T h = 1 ∨ zT1 Cb (zq n C Cb Q ql (zc Cb n)).1 T h = 2 → D h = true := fun h h1 hn q => by
    by_cases w : Cb h = true ∧ (zq n C Cb Q ql (zc Cb n)).1 h = false
    · exact (Dt h).mpr (dC h ((Ct h).mp w.1))
    · rw [zT1_o w] at q
      rcases q with q | q
      · by_cases a : A h = true
        · exact hAD h a
        · exact (Dt h).mpr (dC h ⟨h1, hn, q, fun z => a ((At h).mpr z)⟩)
      · obtain ⟨i, x, y⟩ := hQu.2.2.1 h h1 hn q
        rw [← y]; exact dq i x
  have hQ1 := zQ_col (C := C) (Cb := Cb) (i := zc Cb n) hQu hCb
  have Ef : ∀ j, j ≤ n → (j = 0 ∨ D j = true) → zE D n (zf D j) = j := fun j jn q => by
    rcases q with q | q
    · rw [q, zf_f D0, zE_0]
    · exact zE_f jn q D0
  refine xz_collect (A := A) (Cb := Cb) (D := D) (C := C) O hU r8 hd8 hR hQ sum eA eCb eD eC ?_
  intro mrk' dep' aH' aS' aB' aR' aQ' aK' aW' aN' aF' aC' aL' aE' HU'
  refine yz_collect (A := A) (Cb := Cb) (D := D) (C := C) O HS HY r8 hR fR hQ fQ sum eA eCb eD eC ?_
  intro bM' bA' bC' bD' bE' cS cK cZ cP cT cF cQ HY' hcQ
  rw [fx] at HY' hcQ ⊢
  refine ⟨rfl, zz_in (k + 5) ⟨⟨c16, c96⟩, r8, l8, hd8, zr_O O (T' := zT1 Cb (zq n C Cb Q ql (zc Cb n)).1 T) (F' := fun h f => zf D (zF1 K F A D h f)) (fun h h1 hn => zO_T (zO_T1 O) h1 hn) (fun h f h1 hn hf => zf_le (zF1_le O h1 hn hf)), Nat.le_trans (zr_B O n (Nat.le_refl _)) bc, zr_S HS, fun r hr => zf_le (hR r hr), zr_Q hQ1 D0 h12⟩ HU' ⟨fun x hx => ?_, fun r hr => ?_, fun i hi => ?_⟩⟩
  · obtain ⟨u1, u2, u3, u4, u5, u6⟩ := HY' x hx
    obtain ⟨v1, v2, v3, _⟩ := zE_sp (D := D) (n := n) (k := x + 1) (by omega) (by omega)
    refine ⟨u1, u2, u3, u4, u5, fun f hf => ?_⟩
    rw [u6 f hf]
    dsimp only
    rw [Ef _ (zF1_le O v1 v2 hf) (zF1_D O D0 hAD cD v1 v2 hf v3)]
  · dsimp only
    rw [Ef _ (hR r hr) (dR r hr)]
    exact fR r hr
  · obtain ⟨w1, w2, w3⟩ := hQ1.1 i hi
    dsimp only
    rw [Ef _ w2 (Or.inr (h12 _ w1 w2 (Or.inr w3)))]
    exact hcQ i hi
end
