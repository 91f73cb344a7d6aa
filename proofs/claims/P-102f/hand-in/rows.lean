section
theorem pk_us {f : Nat → Int32} {k : Nat} {x : Int32} : upd f k x k = x := if_pos rfl
theorem pk_un {f : Nat → Int32} {k j : Nat} {x : Int32} (h : j ≠ k) : upd f k x j = f j := if_neg h
theorem pk_uLs {f : Nat → Int64} {k : Nat} {x : Int64} : vp_updL f k x k = x := if_pos rfl
theorem pk_uLn {f : Nat → Int64} {k j : Nat} {x : Int64} (h : j ≠ k) : vp_updL f k x j = f j := if_neg h
theorem pk_sub {a b : Nat} (h : b ≤ a) : nI a - nI b = nI (a - b) := by
  obtain ⟨c, rfl⟩ : ∃ c, a = c + b := ⟨a - b, by omega⟩
  rw [← nI_add, Int32.add_sub_cancel, Nat.add_sub_cancel]
theorem pk_m1 (n : Nat) : nI (n + 1) + (-1) = nI n := by
  rw [← nI_1, Int32.add_assoc, show (1 : Int32) + (-1) = 0 from rfl, Int32.add_zero]
theorem pk_mul (a b : Nat) : nI a * nI b = nI (a * b) := (Int32.ofNat_mul a b).symm
theorem pk_div {a d : Nat} (ha : a < 2 ^ 31) (h0 : 0 < d) (hd : d < 2 ^ 31) : nI a / nI d = nI (a / d) := by
  apply Int32.toInt_inj.mp
  rw [lg_idiv_nonneg (by rw [nI_toInt ha]; omega) (by rw [nI_toInt hd]; omega), nI_toInt ha, nI_toInt hd, nI_toInt (Nat.lt_of_le_of_lt (Nat.div_le_self a d) ha)]
  first | rfl | exact (Int.natCast_ediv _ _).symm
theorem pk_rem {a d : Nat} (ha : a < 2 ^ 31) (h0 : 0 < d) (hd : d < 2 ^ 31) : nI a - nI a / nI d * nI d = nI (a % d) := by
  rw [pk_div ha h0 hd, pk_mul, pk_sub (Nat.div_mul_le_self a d)]
  exact congrArg nI (by have := Nat.div_add_mod' a d; omega)
theorem pk_sub_toInt {a b : Nat} (ha : a < 2 ^ 30) (hb : b < 2 ^ 30) : (nI a - nI b).toInt = (a : Int) - b := by
  rw [Int32.toInt_sub, nI_toInt (by omega), nI_toInt (by omega)]
  exact Int.bmod_eq_of_le (by omega) (by omega)
theorem pk_sneg {a b : Nat} (hb : b < 2 ^ 30) (h : a < b) : nI a - nI b < 0 := by
  rw [Int32.lt_iff_toInt_lt, pk_sub_toInt (by omega) hb, show (0 : Int32).toInt = 0 from by decide]
  omega
theorem pk_ix (x : Int32) {n : Nat} (hn : n < 2 ^ 31) : x < 0 ∨ nI n ≤ x ∨ ∃ j : Nat, j < n ∧ x = nI j := by
  by_cases h : x < 0
  · exact Or.inl h
  · obtain ⟨j, hj, rfl⟩ := nI_of h
    by_cases h2 : j < n
    · exact Or.inr (Or.inr ⟨j, h2, rfl⟩)
    · exact Or.inr (Or.inl (nI_le (by omega) hj))
theorem pk_le {x y : Int32} {A B : Prop} (a b : Nat) (f : a ≤ b → A) (g : b < a → B) (hx : x = nI a := by rfl) (hy : y = nI b := by rfl) (ha : a < 2 ^ 31 := by omega) (hb : b < 2 ^ 31 := by omega) : (x ≤ y → A) ∧ (¬ x ≤ y → B) := by
  subst hx hy
  rw [nI_leI ha hb]
  exact ⟨f, fun z => g (by omega)⟩
theorem pk_lt {x y : Int32} {A B : Prop} (a b : Nat) (f : a < b → A) (g : b ≤ a → B) (hx : x = nI a := by rfl) (hy : y = nI b := by rfl) (ha : a < 2 ^ 31 := by omega) (hb : b < 2 ^ 31 := by omega) : (x < y → A) ∧ (¬ x < y → B) := by
  subst hx hy
  rw [nI_ltI ha hb]
  exact ⟨f, fun z => g (by omega)⟩
theorem pk_eq {x y : Int32} {A B : Prop} (a b : Nat) (f : a = b → A) (g : a ≠ b → B) (hx : x = nI a := by rfl) (hy : y = nI b := by rfl) (ha : a < 2 ^ 31 := by omega) (hb : b < 2 ^ 31 := by omega) : (x = y → A) ∧ (¬ x = y → B) := by
  subst hx hy
  rw [nI_eq ha hb]
  exact ⟨f, g⟩
theorem pk_in {x : Int32} (n N : Nat) (h : n < N) (hx : x = nI n := by rfl) (hN : N < 2 ^ 31 := by omega) : vp_in x N := by
  subst hx
  exact vp_in_nI h hN
theorem pk_cl {x : Int32} (n : Nat) (hx : x = nI n := by rfl) (h : n < 2 ^ 31 := by omega) : x.toNatClampNeg = n := by
  subst hx
  exact nI_clamp h
theorem pk_tn {n : Nat} (h : n < 2 ^ 32) : (nI n).toBitVec.toNat = n := Nat.mod_eq_of_lt h
theorem pk_and (x : Int32) {m : Int32} (k : Nat) (hm : m.toBitVec.toNat = 2 ^ k - 1) : x &&& m = nI (x.toBitVec.toNat % 2 ^ k) := by
  apply Int32.toBitVec_inj.mp
  apply BitVec.eq_of_toNat_eq
  rw [Int32.toBitVec_and, BitVec.toNat_and, hm, Nat.and_two_pow_sub_one_eq_mod]
  show _ = (BitVec.ofNat 32 _).toNat
  rw [BitVec.toNat_ofNat]
  exact (Nat.mod_eq_of_lt (Nat.lt_of_le_of_lt (Nat.mod_le _ _) x.toBitVec.isLt)).symm
theorem pk_andN {n : Nat} (h : n < 2 ^ 32) {m : Int32} (k : Nat) (hm : m.toBitVec.toNat = 2 ^ k - 1) : nI n &&& m = nI (n % 2 ^ k) := by
  rw [pk_and _ k hm, pk_tn h]
theorem pk_andE (x : Int32) {m : Int32} (k : Nat) (hm : m.toBitVec.toNat = 2 ^ k - 1) : ∃ j : Nat, j < 2 ^ k ∧ x &&& m = nI j := ⟨_, Nat.mod_lt _ (Nat.two_pow_pos k), pk_and x k hm⟩
theorem pk_andIn (x : Int32) {m : Int32} (k : Nat) (hm : m.toBitVec.toNat = 2 ^ k - 1) (hk : k ≤ 30) : vp_in (x &&& m) (2 ^ k) := by
  obtain ⟨j, hj, e⟩ := pk_andE x k hm
  rw [e]
  exact vp_in_nI hj (Nat.lt_of_le_of_lt (Nat.pow_le_pow_right (by decide) hk) (by decide))
theorem pk_shl (a s : Int32) (k : Nat) (hs : (s.toBitVec.smod 32).toNat = k) : (a <<< s).toBitVec.toNat = a.toBitVec.toNat * 2 ^ k % 2 ^ 32 := by
  show (a.toBitVec <<< (s.toBitVec.smod 32).toNat).toNat = _
  rw [hs, BitVec.toNat_shiftLeft, Nat.shiftLeft_eq]
theorem pk_shlN {n : Nat} (s : Int32) (k : Nat) (hs : (s.toBitVec.smod 32).toNat = k) (h : n * 2 ^ k < 2 ^ 32) : nI n <<< s = nI (n * 2 ^ k) := by
  apply Int32.toBitVec_inj.mp
  apply BitVec.eq_of_toNat_eq
  have hn : n < 2 ^ 32 := Nat.lt_of_le_of_lt (Nat.le_mul_of_pos_right n (Nat.two_pow_pos k)) h
  rw [pk_shl _ _ k hs, pk_tn hn, pk_tn h, Nat.mod_eq_of_lt h]
theorem pk_shr (a s : Int32) (k : Nat) (hs : (s.toBitVec.smod 32).toNat = k) : (a >>> s).toInt = a.toInt >>> k := by
  show (a.toBitVec.sshiftRight (s.toBitVec.smod 32).toNat).toInt = _
  rw [hs, BitVec.toInt_sshiftRight]
  rfl
theorem pk_shrN {n : Nat} (h : n < 2 ^ 31) (s : Int32) (k : Nat) (hs : (s.toBitVec.smod 32).toNat = k) : nI n >>> s = nI (n / 2 ^ k) := by
  apply Int32.toInt_inj.mp
  have h2 : n / 2 ^ k ≤ n := Nat.div_le_self _ _
  rw [pk_shr _ _ k hs, nI_toInt h, nI_toInt (by omega), Int.shiftRight_eq_div_pow]
  rfl
theorem pk_ushr (x s : Int32) (k : Nat) (hs : ((s.toUInt32 &&& Int32.toUInt32 31).toBitVec % 32).toNat = k) : (x.toUInt32 >>> (s.toUInt32 &&& Int32.toUInt32 31)).toInt32.toBitVec.toNat = x.toBitVec.toNat / 2 ^ k := by
  have e : (x.toUInt32 >>> (s.toUInt32 &&& Int32.toUInt32 31)).toInt32.toBitVec = x.toBitVec >>> k := by
    rw [← hs]
    exact UInt32.toBitVec_shiftRight _ _
  rw [e, BitVec.toNat_ushiftRight, Nat.shiftRight_eq_div_pow]
theorem pk_ushrN {n : Nat} (hn : n < 2 ^ 32) (s : Int32) (k : Nat) (hs : ((s.toUInt32 &&& Int32.toUInt32 31).toBitVec % 32).toNat = k) : ((nI n).toUInt32 >>> (s.toUInt32 &&& Int32.toUInt32 31)).toInt32 = nI (n / 2 ^ k) := by
  apply Int32.toBitVec_inj.mp
  apply BitVec.eq_of_toNat_eq
  rw [pk_ushr _ s k hs, pk_tn hn, pk_tn (Nat.lt_of_le_of_lt (Nat.div_le_self _ _) hn)]
theorem pk_nb (z : Int32) : narrow .byte (.int z.toInt8.toInt32) = .int z.toInt8.toInt32 := congrArg Value.int (by simp)
theorem pk_ns (z : Int32) : narrow .short (.int z.toInt16.toInt32) = .int z.toInt16.toInt32 := congrArg Value.int (by simp)
theorem pk_fb (r : Int32) : fits .byte (.int r.toInt8.toInt32) = true := by
  have ⟨a, b⟩ := lg_i2b_range r
  have h1 : (-128 : Int32).toInt = -128 := by decide
  have h2 : (127 : Int32).toInt = 127 := by decide
  simp only [fits, Bool.and_eq_true, decide_eq_true_eq, Int32.le_iff_toInt_le, h1, h2]
  omega
theorem pk_fs (r : Int32) : fits .short (.int r.toInt16.toInt32) = true := by
  have ⟨a, b⟩ := lg_i2s_range r
  have h1 : (-32768 : Int32).toInt = -32768 := by decide
  have h2 : (32767 : Int32).toInt = 32767 := by decide
  simp only [fits, Bool.and_eq_true, decide_eq_true_eq, Int32.le_iff_toInt_le, h1, h2]
  omega
theorem pk_charN {q : Nat} (hq : q < 65536) : narrow .char (.int (nI q)) = .int (nI q) ∧ fits .char (.int (nI q)) = true := by
  constructor
  · have e : (nI q).toUInt32.toUInt16.toUInt32.toInt32 = nI q := by
      apply Int32.toBitVec_inj.mp
      apply BitVec.eq_of_toNat_eq
      show (nI q).toUInt32.toUInt16.toUInt32.toNat = q % 2 ^ 32
      rw [UInt16.toNat_toUInt32, UInt32.toNat_toUInt16, show (nI q).toUInt32.toNat = q % 2 ^ 32 from rfl]
      omega
    exact congrArg Value.int e
  · have a : (0 : Int32) ≤ nI q := nI_pos' (by omega)
    have b : nI q ≤ 65535 := nI_le (b := 65535) (by omega) (by decide)
    show (decide ((0 : Int32) ≤ nI q) && decide (nI q ≤ 65535)) = true
    rw [decide_eq_true a, decide_eq_true b]
    rfl
theorem pk_char (x : Int32) : (x.toUInt32 % 65536).toInt32 = nI (x.toBitVec.toNat % 65536) := by
  apply Int32.toBitVec_inj.mp
  apply BitVec.eq_of_toNat_eq
  rw [pk_tn (by omega)]
  show (x.toUInt32 % 65536).toNat = _
  rw [UInt32.toNat_mod]
  rfl
theorem pk_nc (x : Int32) : narrow .char (.int (x.toUInt32 % 65536).toInt32) = .int (x.toUInt32 % 65536).toInt32 := by
  rw [pk_char]
  exact (pk_charN (Nat.mod_lt _ (by decide))).1
theorem pk_fc (x : Int32) : fits .char (.int (x.toUInt32 % 65536).toInt32) = true := by
  rw [pk_char]
  exact (pk_charN (Nat.mod_lt _ (by decide))).2
theorem pk_vb (z : Int32) : vp_nar .byte z.toInt8.toInt32 = z.toInt8.toInt32 := by rw [vp_nar_byte]; simp
theorem pk_vs (z : Int32) : vp_nar .short z.toInt16.toInt32 = z.toInt16.toInt32 := by rw [vp_nar_short]; simp
theorem pk_vc (z : Int32) : vp_nar .char (z.toUInt32 % 65536).toInt32 = (z.toUInt32 % 65536).toInt32 := Value.int.inj (pk_nc z)
end
section
/-! the relation, its elimination, small facts -/
def rf_V (c : Nat) (x : Int32) : Prop := x = -1 ∨ ∃ r, r < c ∧ x = nI r
def rf_C (c : Nat) (su cf el : Nat → Int32) : Prop :=
  1 ≤ c ∧ c ≤ 8 ∧ (cf 0 &&& 8) = 0 ∧ su 0 = -1 ∧ (∀ i, 0 < i → i < c → ∃ p, p < i ∧ su i = nI p) ∧
    (∀ i, i < c → ¬ (cf i &&& 8) = 0 → su i = 0 ∧ ∃ e, e < i ∧ el i = nI e)
def rf_M (c m : Nat) (de mf px py : Nat → Int32) : Prop :=
  m ≤ 8 ∧ ∀ j, j < m → (∃ d, d < c ∧ de j = nI d) ∧ ∃ f, f < 32 ∧ mf j = nI f ∧ ∀ i, i < f / 8 → ∃ t, t < c ∧ px (j * 3 + i) = nI t ∧ py (j * 3 + i) = nI t
def rf_A (c a : Nat) (ar : Nat → Int32) : Prop := a ≤ 4 ∧ ∀ i, i < a → rf_V c (ar i)
def i_Rel (_ : Nat) (u : SX) (v : SY) : Prop :=
  ∃ (c m a : Nat) (rc ix ln : Int32) (tm : Int64) (bi : Int32) (su cf el de mf px py ar : Nat → Int32) (tr : Nat → Int64) (ps pt : Nat → Int32),
    u = (nI c, nI m, nI a, rc, ix, ln, tm, bi, su, cf, el, de, mf, px, ar, tr) ∧ v = (nI c, nI m, nI a, ix, ln, bi, rc, tm, su, cf, el, de, mf, py, ar, tr, ps, pt) ∧ rf_C c su cf el ∧ rf_M c m de mf px py ∧ rf_A c a ar ∧ rf_V c rc
theorem i_up {k : Nat} {u : SX} {v : SY} (h : i_Rel k u v) : i_Rel (k + 4) u v := h
theorem rf_el {k : Nat} {u : SX} {v : SY} {P : SX → SY → Prop}
    (h : ∀ (c m a : Nat) (rc ix ln : Int32) (tm : Int64) (bi : Int32) (su cf el de mf px py ar : Nat → Int32) (tr : Nat → Int64) (ps pt : Nat → Int32),
      rf_C c su cf el → rf_M c m de mf px py → rf_A c a ar → rf_V c rc → P (nI c, nI m, nI a, rc, ix, ln, tm, bi, su, cf, el, de, mf, px, ar, tr) (nI c, nI m, nI a, ix, ln, bi, rc, tm, su, cf, el, de, mf, py, ar, tr, ps, pt)) (I : i_Rel k u v) : P u v := by
  obtain ⟨c, m, a, rc, ix, ln, tm, bi, su, cf, el, de, mf, px, py, ar, tr, ps, pt, e1, e2, hC, hM, hA, hV⟩ := I
  subst e1 e2
  exact h c m a rc ix ln tm bi su cf el de mf px py ar tr ps pt hC hM hA hV
section
variable {k c m a : Nat} {rc ix ln : Int32} {tm : Int64} {bi : Int32} {su cf el de mf px py ar : Nat → Int32} {tr : Nat → Int64} {ps pt : Nat → Int32}
theorem rf_mk (hC : rf_C c su cf el) (hM : rf_M c m de mf px py) (hA : rf_A c a ar) (hV : rf_V c rc) : i_Rel k (nI c, nI m, nI a, rc, ix, ln, tm, bi, su, cf, el, de, mf, px, ar, tr) (nI c, nI m, nI a, ix, ln, bi, rc, tm, su, cf, el, de, mf, py, ar, tr, ps, pt) :=
  ⟨c, m, a, rc, ix, ln, tm, bi, su, cf, el, de, mf, px, py, ar, tr, ps, pt, rfl, rfl, hC, hM, hA, hV⟩
end
theorem rf_cl0 : (0 : Int32).toNatClampNeg = 0 := by decide
theorem rf_m1ne {t : Nat} (h : t < 2 ^ 31) : ¬ (-1 : Int32) = nI t := by
  intro e
  have := congrArg Int32.toInt e
  rw [nI_toInt h, show (-1 : Int32).toInt = -1 from by decide] at this
  omega
theorem rf_m1neg : (-1 : Int32) < 0 := by decide
theorem rf_m1nn : ¬ (0 : Int32) ≤ -1 := by decide
theorem rf_Vpos {c : Nat} {x : Int32} (h : rf_V c x) (h0 : ¬ x < 0) : ∃ r, r < c ∧ x = nI r :=
  h.elim (fun e => absurd (e ▸ rf_m1neg) h0) id
theorem rf_Vge {c : Nat} {x : Int32} (h : rf_V c x) (h0 : 0 ≤ x) : ∃ r, r < c ∧ x = nI r := rf_Vpos h (Int32.not_lt.mpr h0)
theorem rf_Vs {c : Nat} {x : Int32} (h : rf_V c x) : rf_V (c + 1) x :=
  h.elim Or.inl (fun ⟨r, hr, e⟩ => Or.inr ⟨r, Nat.lt_succ_of_lt hr, e⟩)
theorem rf_b8 (x : Int32) : (x &&& 8) = 0 ↔ x.toBitVec.getLsbD 3 = false := by
  rw [← Int32.toBitVec_inj, Int32.toBitVec_and]
  show x.toBitVec &&& 8#32 = 0#32 ↔ _
  constructor
  · intro h
    have t := congrArg (fun z => z.getLsbD 3) h
    simpa using t
  · intro h
    apply BitVec.eq_of_getLsbD_eq
    intro i hi
    rw [BitVec.getLsbD_and, show (8#32) = BitVec.twoPow 32 3 from by decide, BitVec.getLsbD_twoPow]
    by_cases e : 3 = i
    · subst e
      rw [h]
      simp
    · simp [e]
theorem rf_and8 {x y : Int32} : ((x &&& y) &&& 8) = 0 ↔ ((x &&& 8) = 0 ∨ (y &&& 8) = 0) := by
  rw [rf_b8, rf_b8, rf_b8, Int32.toBitVec_and, BitVec.getLsbD_and, Bool.and_eq_false_iff]
theorem rf_exF (P : Prop) : ∃ b : Bool, b = false ↔ P := by
  by_cases h : P
  · exact ⟨false, fun _ => h, fun _ => rfl⟩
  · exact ⟨true, fun e => (nomatch e), fun z => absurd z h⟩
theorem rf_exT (P : Prop) : ∃ b : Bool, b = true ↔ P := by
  by_cases h : P
  · exact ⟨true, fun _ => h, fun _ => rfl⟩
  · exact ⟨false, fun e => (nomatch e), fun z => absurd z h⟩
theorem rf_0 {C A B : Prop} {b : Bool} (hb : b = false ↔ C) (f : b = false → A) (g : b = true → B) : (C → A) ∧ (¬ C → B) :=
  ⟨fun z => f (hb.mpr z), fun z => g (by cases b with
    | true => rfl
    | false => exact absurd (hb.mp rfl) z)⟩
theorem rf_1 {C A B : Prop} {b : Bool} (hb : b = true ↔ C) (f : b = true → A) (g : b = false → B) : (C → A) ∧ (¬ C → B) :=
  ⟨fun z => f (hb.mpr z), fun z => g (by cases b with
    | false => rfl
    | true => exact absurd (hb.mp rfl) z)⟩
end
section
/-! assignable against sub -/
def rf_as (su cf el : Nat → Int32) : Nat → Int32 → Int32 → Int32
  | 0, _, _ => 0
  | n + 1, s, t => if s = t then 1 else if (cf s.toNatClampNeg &&& 8) = 0 then (if 0 ≤ su s.toNatClampNeg then rf_as su cf el n (su s.toNatClampNeg) t else 0) else if (cf t.toNatClampNeg &&& 8) = 0 then (if t = 0 then 1 else 0) else rf_as su cf el n (el s.toNatClampNeg) (el t.toNatClampNeg)
def rf_P (c : Nat) (cf : Nat → Int32) (q : Nat) (ps pt : Nat → Int32) : Prop :=
  ∀ i, i < q → ps i = 0 ∧ ∃ t, t < c ∧ pt i = nI t ∧ ¬ (cf t &&& 8) = 0
section
variable {c m a : Nat} {rc ix ln : Int32} {tm : Int64} {bi : Int32} {su cf el de mf px py ar : Nat → Int32} {tr : Nat → Int64} {ps pt : Nat → Int32}
theorem rx_as0 {post : Int32 → Prop} (hC : rf_C c su cf el) : ∀ n s t, s < n → s < c → t < c → post (rf_as su cf el n (nI s) (nI t)) → wX_assignable_0 post (nI c) (nI m) (nI a) rc ix ln tm bi su cf el de mf px ar tr n (nI s) (nI t) := by
  obtain ⟨c1, c8, f0, s0, hs, ha⟩ := hC
  intro n
  induction n with
  | zero => intro s t h; omega
  | succ n ih =>
    intro s t hn hsc htc hp
    have es : (nI s).toNatClampNeg = s := nI_clamp (by omega)
    have et : (nI t).toNatClampNeg = t := nI_clamp (by omega)
    have i1 : vp_in (nI s) 8 := vp_in_nI (by omega) (by decide)
    have i2 : vp_in (nI t) 8 := vp_in_nI (by omega) (by decide)
    rw [rf_as] at hp
    by_cases h : nI s = nI t
    · rw [if_pos h] at hp
      exact br_t h hp
    · rw [if_neg h] at hp
      refine br_f h ⟨i1, ?_⟩
      by_cases h1 : (cf (nI s).toNatClampNeg &&& 8) = 0
      · rw [if_pos h1] at hp
        refine br_t h1 ⟨i1, ?_⟩
        by_cases z : s = 0
        · subst z
          have e0 : su (nI 0).toNatClampNeg = -1 := by rw [es]; exact s0
          have n0 : ¬ (0 : Int32) ≤ su (nI 0).toNatClampNeg := by rw [e0]; exact rf_m1nn
          rw [if_neg n0] at hp
          exact nm_e (br_f n0 hp)
        · obtain ⟨p, hps, e⟩ := hs s (by omega) hsc
          have e' : su (nI s).toNatClampNeg = nI p := by rw [es]; exact e
          have y0 : (0 : Int32) ≤ su (nI s).toNatClampNeg := by rw [e']; exact nI_pos' (by omega)
          rw [if_pos y0, e'] at hp
          exact nm_r e' (br_t (nI_pos' (by omega)) (ih p t (by omega) (by omega) htc hp))
      · rw [if_neg h1] at hp
        obtain ⟨_, e, he, ee⟩ := ha s hsc (by rw [es] at h1; exact h1)
        refine br_f h1 ⟨i2, ?_⟩
        by_cases h2 : (cf (nI t).toNatClampNeg &&& 8) = 0
        · rw [if_pos h2] at hp
          refine br_t h2 ?_
          by_cases z : nI t = 0
          · rw [if_pos z] at hp
            exact br_t z hp
          · rw [if_neg z] at hp
            exact br_f z hp
        · rw [if_neg h2] at hp
          obtain ⟨_, e2, he2, ee2⟩ := ha t htc (by rw [et] at h2; exact h2)
          have q1 : el (nI s).toNatClampNeg = nI e := by rw [es]; exact ee
          have q2 : el (nI t).toNatClampNeg = nI e2 := by rw [et]; exact ee2
          rw [q1, q2] at hp
          exact br_f h2 ⟨i1, nm_r q1 ⟨i2, nm_r q2 (ih e e2 (by omega) (by omega) (by omega) hp)⟩⟩
theorem rx_as {post : Int32 → Prop} {s t : Nat} (hC : rf_C c su cf el) (hs : s < c) (ht : t < c) (hp : post (rf_as su cf el 8 (nI s) (nI t))) : wpX_assignable post (nI c, nI m, nI a, rc, ix, ln, tm, bi, su, cf, el, de, mf, px, ar, tr) (nI s) (nI t) := by
  show ∃ n0 : Nat, wX_assignable_0 post (nI c) (nI m) (nI a) rc ix ln tm bi su cf el de mf px ar tr n0 (nI s) (nI t)
  exact ⟨8, rx_as0 hC 8 s t (by have := hC.2.1; omega) hs ht hp⟩
theorem ry_dr {post : Int32 → SY → Prop} (c8 : c ≤ 8) (f0 : (cf 0 &&& 8) = 0) (s0 : su 0 = -1) (hp : ∀ ps pt, post 0 (nI c, nI m, nI a, ix, ln, bi, rc, tm, su, cf, el, de, mf, py, ar, tr, ps, pt)) :
    ∀ (q t g : Nat) (ps pt : Nat → Int32), 2 * q + 1 ≤ g → t < c → q ≤ 7 → rf_P c cf q ps pt → wY_sub_2 post (nI c) (nI m) (nI a) ix ln bi rc tm g (-1) (nI t) (nI q) su cf el de mf py ar tr ps pt := by
  intro q
  induction q with
  | zero =>
    intro t g ps pt hg ht _ _
    obtain ⟨g, rfl⟩ : ∃ g', g = g' + 1 := ⟨g - 1, by omega⟩
    exact br_f (rf_m1ne (by omega)) (br_f rf_m1nn (br_t nI_0 (hp ps pt)))
  | succ q ih =>
    intro t g ps pt hg ht hq hP
    obtain ⟨g, rfl⟩ : ∃ g', g = g' + 1 + 1 := ⟨g - 2, by omega⟩
    obtain ⟨e1, t', ht', e2, e3⟩ := hP q (by omega)
    have eq : (nI q).toNatClampNeg = q := nI_clamp (by omega)
    have iq : vp_in (nI q) 8 := vp_in_nI (by omega) (by decide)
    have i0 : vp_in (0 : Int32) 8 := vp_in_nI (n := 0) (by decide) (by decide)
    have it : vp_in (nI t') 8 := vp_in_nI (by omega) (by decide)
    have n0 : ¬ (0 : Int32) = nI t' := by
      intro h
      rw [← nI_0, nI_eq (by omega) (by omega)] at h
      subst h
      exact e3 f0
    have hz : ((cf (0 : Int32).toNatClampNeg &&& cf (nI t').toNatClampNeg) &&& 8) = 0 := rf_and8.mpr (Or.inl (by rw [rf_cl0]; exact f0))
    refine br_f (rf_m1ne (by omega)) (br_f rf_m1nn (br_f (nI_ne0 (by omega) (by omega)) (nm_r (pk_m1 q) ⟨iq, nm_r (e' := 0) (by rw [eq]; exact e1) ⟨iq, nm_r (e' := nI t') (by rw [eq]; exact e2) ?_⟩⟩)))
    refine br_f n0 (br_t (by decide) ⟨i0, it, br_t hz ⟨i0, nm_r (e' := -1) (by rw [rf_cl0]; exact s0) ?_⟩⟩)
    exact ih t' g ps pt (by omega) ht' (by omega) (fun i hi => hP i (by omega))
theorem ry_main {post : Int32 → SY → Prop} (hC : rf_C c su cf el) :
    ∀ (n s t q g : Nat) (ps pt : Nat → Int32), s < n → s < c → t < c → q + s ≤ 7 → 16 + s ≤ g → rf_P c cf q ps pt → (∀ ps pt, post (rf_as su cf el n (nI s) (nI t)) (nI c, nI m, nI a, ix, ln, bi, rc, tm, su, cf, el, de, mf, py, ar, tr, ps, pt)) → wY_sub_2 post (nI c) (nI m) (nI a) ix ln bi rc tm g (nI s) (nI t) (nI q) su cf el de mf py ar tr ps pt := by
  obtain ⟨c1, c8, f0, s0, hs, ha⟩ := hC
  intro n
  induction n with
  | zero => intro s t q g ps pt h; omega
  | succ n ih =>
    intro s t q g ps pt hn hsc htc hq hg hP hp
    obtain ⟨g, rfl⟩ : ∃ g', g = g' + 1 := ⟨g - 1, by omega⟩
    have es : (nI s).toNatClampNeg = s := nI_clamp (by omega)
    have et : (nI t).toNatClampNeg = t := nI_clamp (by omega)
    have i1 : vp_in (nI s) 8 := vp_in_nI (by omega) (by decide)
    have i2 : vp_in (nI t) 8 := vp_in_nI (by omega) (by decide)
    have i0 : vp_in (0 : Int32) 8 := vp_in_nI (n := 0) (by decide) (by decide)
    rw [rf_as] at hp
    by_cases h : nI s = nI t
    · rw [if_pos h] at hp
      exact br_t h (hp ps pt)
    · rw [if_neg h] at hp
      refine br_f h (br_t (nI_pos' (by omega)) ⟨i1, i2, ?_⟩)
      by_cases h1 : (cf (nI s).toNatClampNeg &&& 8) = 0
      · rw [if_pos h1] at hp
        refine br_t (rf_and8.mpr (Or.inl h1)) ⟨i1, ?_⟩
        by_cases z : s = 0
        · subst z
          have e0 : su (nI 0).toNatClampNeg = -1 := by rw [es]; exact s0
          have n0 : ¬ (0 : Int32) ≤ su (nI 0).toNatClampNeg := by rw [e0]; exact rf_m1nn
          rw [if_neg n0] at hp
          exact nm_r e0 (ry_dr c8 f0 s0 hp q t g ps pt (by omega) htc (by omega) hP)
        · obtain ⟨p, hps, e⟩ := hs s (by omega) hsc
          have e' : su (nI s).toNatClampNeg = nI p := by rw [es]; exact e
          have y0 : (0 : Int32) ≤ su (nI s).toNatClampNeg := by rw [e']; exact nI_pos' (by omega)
          rw [if_pos y0, e'] at hp
          exact nm_r e' (ih p t q g ps pt (by omega) (by omega) htc (by omega) (by omega) hP hp)
      · rw [if_neg h1] at hp
        obtain ⟨es0, e, he, ee⟩ := ha s hsc (by rw [es] at h1; exact h1)
        by_cases h2 : (cf (nI t).toNatClampNeg &&& 8) = 0
        · rw [if_pos h2] at hp
          refine br_t (rf_and8.mpr (Or.inr h2)) ⟨i1, nm_r (e' := 0) (by rw [es]; exact es0) ?_⟩
          obtain ⟨g, rfl⟩ : ∃ g', g = g' + 1 := ⟨g - 1, by omega⟩
          by_cases z : nI t = 0
          · rw [if_pos z] at hp
            exact br_t z.symm (hp ps pt)
          · rw [if_neg z] at hp
            refine br_f (fun y => z y.symm) (br_t (by decide) ⟨i0, i2, br_t (rf_and8.mpr (Or.inl (by rw [rf_cl0]; exact f0))) ⟨i0, nm_r (e' := -1) (by rw [rf_cl0]; exact s0) ?_⟩⟩)
            exact ry_dr c8 f0 s0 hp q t g ps pt (by omega) htc (by omega) hP
        · rw [if_neg h2] at hp
          obtain ⟨_, e2, he2, ee2⟩ := ha t htc (by rw [et] at h2; exact h2)
          have q1 : el (nI s).toNatClampNeg = nI e := by rw [es]; exact ee
          have q2 : el (nI t).toNatClampNeg = nI e2 := by rw [et]; exact ee2
          rw [q1, q2] at hp
          have iq : vp_in (nI q) 8 := vp_in_nI (by omega) (by decide)
          have eq : (nI q).toNatClampNeg = q := nI_clamp (by omega)
          have hP' : rf_P c cf (q + 1) (upd ps q 0) (upd pt q (nI t)) := by
            intro i hi
            by_cases ei : i = q
            · subst ei
              rw [et] at h2
              exact ⟨pk_us, t, htc, pk_us, h2⟩
            · rw [pk_un ei, pk_un ei]
              exact hP i (by omega)
          refine br_f (fun y => (rf_and8.mp y).elim h1 h2) ⟨i1, iq, nm_r (e' := upd ps q 0) (by rw [eq, es, es0]) ⟨iq, nm_r (e' := upd pt q (nI t)) (by rw [eq]) (nm_r (nI_1 q) ⟨i1, nm_r q1 ⟨i2, nm_r q2 ?_⟩⟩)⟩⟩
          exact ih e e2 (q + 1) g _ _ (by omega) (by omega) (by omega) (by omega) (by omega) hP' hp
theorem ry_sub {post : Int32 → SY → Prop} {s t : Nat} (hC : rf_C c su cf el) (hs : s < c) (ht : t < c) (hp : ∀ ps pt, post (rf_as su cf el 8 (nI s) (nI t)) (nI c, nI m, nI a, ix, ln, bi, rc, tm, su, cf, el, de, mf, py, ar, tr, ps, pt)) : wpY_sub post (nI c, nI m, nI a, ix, ln, bi, rc, tm, su, cf, el, de, mf, py, ar, tr, ps, pt) (nI s) (nI t) := by
  show ∃ n2 : Nat, wY_sub_2 post (nI c) (nI m) (nI a) ix ln bi rc tm n2 (nI s) (nI t) 0 su cf el de mf py ar tr ps pt
  have h8 := hC.2.1
  exact ⟨23, ry_main hC 8 s t 0 23 ps pt (by omega) hs ht (by omega) (by omega) (fun i hi => absurd hi (Nat.not_lt_zero i)) hp⟩
end
end
section
/-! the arguments' loop on both sides -/
def rf_or (b : Bool) (K M : Int64) : Int64 := cond b (M ||| K) M
theorem rf_or2 (b : Bool) (K M : Int64) : rf_or b K (M ||| K) = M ||| K := by
  cases b
  · rfl
  · show (M ||| K) ||| K = M ||| K
    rw [Int64.or_assoc, Int64.or_self]
def rf_mis (T : Int32 → Int32 → Int32) (ar p : Nat → Int32) (b : Nat) : Nat → Nat → Bool
  | 0, _ => false
  | d + 1, i => if ar i < 0 then rf_mis T ar p b d (i + 1) else if T (ar i) (p (b + i)) = 0 then true else rf_mis T ar p b d (i + 1)
def rf_H (c a j n w : Nat) (su cf el ar px py : Nat → Int32) : Prop :=
  rf_C c su cf el ∧ j < 8 ∧ n ≤ 3 ∧ a ≤ 4 ∧ w ≤ n ∧ w ≤ a ∧ (w = n ∨ w = a) ∧ (∀ i, i < a → rf_V c (ar i)) ∧ (∀ i, i < n → ∃ t, t < c ∧ px (j * 3 + i) = nI t ∧ py (j * 3 + i) = nI t)
theorem rf_e3 (j i : Nat) : (nI j * 3) + nI i = nI (j * 3 + i) := by
  show nI j * nI 3 + nI i = _
  rw [pk_mul, nI_add]
section
variable {c m a : Nat} {rc ix ln : Int32} {tm : Int64} {bi : Int32} {su cf el de mf px py ar : Nat → Int32} {tr : Nat → Int64} {ps pt : Nat → Int32}
theorem rx_mis0 {post : Int32 → Prop} {j n w : Nat} (H : rf_H c a j n w su cf el ar px py) :
    ∀ d i, i + d = w → post (cond (rf_mis (rf_as su cf el 8) ar px (j * 3) d i) 1 0) → wX_mismatch_2 post (nI j) (nI n) (nI c) (nI m) (nI a) rc ix ln tm bi su cf el de mf px ar tr (d + 1) (nI i) := by
  obtain ⟨hC, hj, hn, ha, w1, w2, w3, hA, hT⟩ := H
  intro d
  induction d with
  | zero =>
    intro i hi hp
    by_cases h : n ≤ i
    · exact br_t (nI_le h (by omega)) hp
    · exact br_f (nI_ge (by omega) (by omega)) (br_t (nI_le (by omega) (by omega)) hp)
  | succ d ih =>
    intro i hi hp
    have l1 : i < n := by omega
    have l2 : i < a := by omega
    have ei : (nI i).toNatClampNeg = i := nI_clamp (by omega)
    obtain ⟨t, ht, et, _⟩ := hT i l1
    have e4 : ((nI j * 3) + nI i).toNatClampNeg = j * 3 + i := by rw [rf_e3]; exact nI_clamp (by omega)
    refine br_f (nI_ge l1 (by omega)) (br_f (nI_ge l2 (by omega)) ⟨vp_in_nI (by omega) (by decide), nm_r (e' := ar i) (by rw [ei]) ?_⟩)
    rw [rf_mis] at hp
    by_cases h0 : ar i < 0
    · rw [if_pos h0] at hp
      exact br_t h0 (nm_r (nI_1 i) (ih (i + 1) (by omega) hp))
    · rw [if_neg h0] at hp
      obtain ⟨r, hr, er⟩ : ∃ r, r < c ∧ ar i = nI r := rf_Vpos (hA i l2) h0
      refine br_f h0 ⟨by rw [rf_e3]; exact vp_in_nI (by omega) (by decide), ?_⟩
      rw [e4, et, er]
      rw [et, er] at hp
      refine rx_as hC hr ht ?_
      by_cases hz : rf_as su cf el 8 (nI r) (nI t) = 0
      · rw [if_pos hz] at hp
        exact br_t hz hp
      · rw [if_neg hz] at hp
        exact br_f hz (nm_r (nI_1 i) (ih (i + 1) (by omega) hp))
theorem rx_mis {post : Int32 → Prop} {j n w : Nat} (H : rf_H c a j n w su cf el ar px py) (hp : post (cond (rf_mis (rf_as su cf el 8) ar px (j * 3) w 0) 1 0)) : wpX_mismatch post (nI c, nI m, nI a, rc, ix, ln, tm, bi, su, cf, el, de, mf, px, ar, tr) (nI j) (nI n) := by
  show ∃ n2 : Nat, wX_mismatch_2 post (nI j) (nI n) (nI c) (nI m) (nI a) rc ix ln tm bi su cf el de mf px ar tr n2 0
  exact ⟨w + 1, rx_mis0 H w 0 (by omega) hp⟩
theorem ry_mis0 {post : Int64 → SY → Prop} {j n w : Nat} {x5 x6 x7 : Int32} (H : rf_H c a j n w su cf el ar px py) :
    ∀ (d i : Nat) (x3 : Int64) (ps pt : Nat → Int32), i + d = w → (∀ ps pt, wY_applicable_158 post (rf_or (rf_mis (rf_as su cf el 8) ar px (j * 3) d i) 32 x3) x5 x6 x7 (nI n) (nI c) (nI m) (nI a) ix ln bi rc tm su cf el de mf py ar tr ps pt) → wY_applicable_95 post (nI j) x5 x6 x7 (nI n) (d + 1) x3 (nI i) (nI c) (nI m) (nI a) ix ln bi rc tm su cf el de mf py ar tr ps pt := by
  obtain ⟨hC, hj, hn, ha, w1, w2, w3, hA, hT⟩ := H
  intro d
  induction d with
  | zero =>
    intro i x3 ps pt hi hp
    by_cases h : n ≤ i
    · exact br_t (nI_le h (by omega)) (hp ps pt)
    · exact br_f (nI_ge (by omega) (by omega)) (br_t (nI_le (by omega) (by omega)) (hp ps pt))
  | succ d ih =>
    intro i x3 ps pt hi hp
    have l1 : i < n := by omega
    have l2 : i < a := by omega
    have ei : (nI i).toNatClampNeg = i := nI_clamp (by omega)
    obtain ⟨t, ht, et, et2⟩ := hT i l1
    have e4 : ((nI j * 3) + nI i).toNatClampNeg = j * 3 + i := by rw [rf_e3]; exact nI_clamp (by omega)
    have ii : vp_in (nI i) 4 := vp_in_nI (by omega) (by decide)
    refine br_f (nI_ge l1 (by omega)) (br_f (nI_ge l2 (by omega)) ⟨ii, ?_⟩)
    rw [rf_mis] at hp
    by_cases h0 : ar i < 0
    · rw [if_pos h0] at hp
      exact br_t (by rw [ei]; exact h0) (nm_r (nI_1 i) (ih (i + 1) x3 ps pt (by omega) hp))
    · rw [if_neg h0] at hp
      obtain ⟨r, hr, er⟩ : ∃ r, r < c ∧ ar i = nI r := rf_Vpos (hA i l2) h0
      refine br_f (by rw [ei]; exact h0) ⟨ii, by rw [rf_e3]; exact vp_in_nI (by omega) (by decide), ?_⟩
      rw [e4, et2, ei, er]
      rw [et, er] at hp
      refine ry_sub hC hr ht (fun ps pt => ?_)
      by_cases hz : rf_as su cf el 8 (nI r) (nI t) = 0
      · rw [if_pos hz] at hp
        refine br_t hz (nm_e (nm_r (nI_1 i) (ih (i + 1) (x3 ||| 32) ps pt (by omega) ?_)))
        rw [rf_or2]
        exact hp
      · rw [if_neg hz] at hp
        exact br_f hz (nm_r (nI_1 i) (ih (i + 1) x3 ps pt (by omega) hp))
end
end
section
/-! the masks of refusals, their bits, and the first of a list that is set -/
def rf_m8 (b14 b13 b6 b5 b4 b3 b2 b1 : Bool) : Int64 := rf_or b1 2 (rf_or b2 4 (rf_or b3 8 (rf_or b4 16 (rf_or b5 32 (rf_or b6 64 (rf_or b13 8192 (rf_or b14 16384 0)))))))
def rf_m7 (b2 b7 b8 b5 b10 b11 b12 : Bool) : Int64 := rf_or b12 4096 (rf_or b11 2048 (rf_or b10 1024 (rf_or b5 544 (rf_or b8 256 (rf_or b7 32896 (rf_or b2 4 0))))))
def rf_bt (M : Int64) (k : Int32) : Prop := ((M.toUInt64 >>> (k.toInt64.toUInt64 &&& Int64.toUInt64 63)).toInt64 &&& 1) = 0
theorem rf_t8_1 : ∀ b14 b13 b6 b5 b4 b3 b2 b1 : Bool, ((((rf_m8 b14 b13 b6 b5 b4 b3 b2 b1).toUInt64 >>> ((1 : Int32).toInt64.toUInt64 &&& Int64.toUInt64 63)).toInt64 &&& 1) = 0 ↔ b1 = false) := by decide +kernel
theorem rf_t8_2 : ∀ b14 b13 b6 b5 b4 b3 b2 b1 : Bool, ((((rf_m8 b14 b13 b6 b5 b4 b3 b2 b1).toUInt64 >>> ((2 : Int32).toInt64.toUInt64 &&& Int64.toUInt64 63)).toInt64 &&& 1) = 0 ↔ b2 = false) := by decide +kernel
theorem rf_t8_3 : ∀ b14 b13 b6 b5 b4 b3 b2 b1 : Bool, ((((rf_m8 b14 b13 b6 b5 b4 b3 b2 b1).toUInt64 >>> ((3 : Int32).toInt64.toUInt64 &&& Int64.toUInt64 63)).toInt64 &&& 1) = 0 ↔ b3 = false) := by decide +kernel
theorem rf_t8_4 : ∀ b14 b13 b6 b5 b4 b3 b2 b1 : Bool, ((((rf_m8 b14 b13 b6 b5 b4 b3 b2 b1).toUInt64 >>> ((4 : Int32).toInt64.toUInt64 &&& Int64.toUInt64 63)).toInt64 &&& 1) = 0 ↔ b4 = false) := by decide +kernel
theorem rf_t8_5 : ∀ b14 b13 b6 b5 b4 b3 b2 b1 : Bool, ((((rf_m8 b14 b13 b6 b5 b4 b3 b2 b1).toUInt64 >>> ((5 : Int32).toInt64.toUInt64 &&& Int64.toUInt64 63)).toInt64 &&& 1) = 0 ↔ b5 = false) := by decide +kernel
theorem rf_t8_6 : ∀ b14 b13 b6 b5 b4 b3 b2 b1 : Bool, ((((rf_m8 b14 b13 b6 b5 b4 b3 b2 b1).toUInt64 >>> ((6 : Int32).toInt64.toUInt64 &&& Int64.toUInt64 63)).toInt64 &&& 1) = 0 ↔ b6 = false) := by decide +kernel
theorem rf_t8_13 : ∀ b14 b13 b6 b5 b4 b3 b2 b1 : Bool, ((((rf_m8 b14 b13 b6 b5 b4 b3 b2 b1).toUInt64 >>> ((13 : Int32).toInt64.toUInt64 &&& Int64.toUInt64 63)).toInt64 &&& 1) = 0 ↔ b13 = false) := by decide +kernel
theorem rf_t8_14 : ∀ b14 b13 b6 b5 b4 b3 b2 b1 : Bool, ((((rf_m8 b14 b13 b6 b5 b4 b3 b2 b1).toUInt64 >>> ((14 : Int32).toInt64.toUInt64 &&& Int64.toUInt64 63)).toInt64 &&& 1) = 0 ↔ b14 = false) := by decide +kernel
theorem rf_t7_2 : ∀ b2 b7 b8 b5 b10 b11 b12 : Bool, ((((rf_m7 b2 b7 b8 b5 b10 b11 b12).toUInt64 >>> ((2 : Int32).toInt64.toUInt64 &&& Int64.toUInt64 63)).toInt64 &&& 1) = 0 ↔ b2 = false) := by decide +kernel
theorem rf_t7_7 : ∀ b2 b7 b8 b5 b10 b11 b12 : Bool, ((((rf_m7 b2 b7 b8 b5 b10 b11 b12).toUInt64 >>> ((7 : Int32).toInt64.toUInt64 &&& Int64.toUInt64 63)).toInt64 &&& 1) = 0 ↔ b7 = false) := by decide +kernel
theorem rf_t7_15 : ∀ b2 b7 b8 b5 b10 b11 b12 : Bool, ((((rf_m7 b2 b7 b8 b5 b10 b11 b12).toUInt64 >>> ((15 : Int32).toInt64.toUInt64 &&& Int64.toUInt64 63)).toInt64 &&& 1) = 0 ↔ b7 = false) := by decide +kernel
theorem rf_t7_8 : ∀ b2 b7 b8 b5 b10 b11 b12 : Bool, ((((rf_m7 b2 b7 b8 b5 b10 b11 b12).toUInt64 >>> ((8 : Int32).toInt64.toUInt64 &&& Int64.toUInt64 63)).toInt64 &&& 1) = 0 ↔ b8 = false) := by decide +kernel
theorem rf_t7_5 : ∀ b2 b7 b8 b5 b10 b11 b12 : Bool, ((((rf_m7 b2 b7 b8 b5 b10 b11 b12).toUInt64 >>> ((5 : Int32).toInt64.toUInt64 &&& Int64.toUInt64 63)).toInt64 &&& 1) = 0 ↔ b5 = false) := by decide +kernel
theorem rf_t7_9 : ∀ b2 b7 b8 b5 b10 b11 b12 : Bool, ((((rf_m7 b2 b7 b8 b5 b10 b11 b12).toUInt64 >>> ((9 : Int32).toInt64.toUInt64 &&& Int64.toUInt64 63)).toInt64 &&& 1) = 0 ↔ b5 = false) := by decide +kernel
theorem rf_t7_10 : ∀ b2 b7 b8 b5 b10 b11 b12 : Bool, ((((rf_m7 b2 b7 b8 b5 b10 b11 b12).toUInt64 >>> ((10 : Int32).toInt64.toUInt64 &&& Int64.toUInt64 63)).toInt64 &&& 1) = 0 ↔ b10 = false) := by decide +kernel
theorem rf_t7_11 : ∀ b2 b7 b8 b5 b10 b11 b12 : Bool, ((((rf_m7 b2 b7 b8 b5 b10 b11 b12).toUInt64 >>> ((11 : Int32).toInt64.toUInt64 &&& Int64.toUInt64 63)).toInt64 &&& 1) = 0 ↔ b11 = false) := by decide +kernel
theorem rf_t7_12 : ∀ b2 b7 b8 b5 b10 b11 b12 : Bool, ((((rf_m7 b2 b7 b8 b5 b10 b11 b12).toUInt64 >>> ((12 : Int32).toInt64.toUInt64 &&& Int64.toUInt64 63)).toInt64 &&& 1) = 0 ↔ b12 = false) := by decide +kernel
section
variable {c m a : Nat} {rc ix ln : Int32} {tm : Int64} {bi : Int32} {su cf el de mf px py ar : Nat → Int32} {tr : Nat → Int64} {ps pt : Nat → Int32}
theorem ry_fs {post : Int32 → Prop} {M p p' : Int64} {k : Int32} {b : Bool} {n : Nat} (hk : (p &&& 15).toInt32 = k) (hp : (p.toUInt64 >>> ((4 : Int32).toInt64.toUInt64 &&& Int64.toUInt64 63)).toInt64 = p')
    (hb : rf_bt M k ↔ b = false) (h1 : b = true → (k = 15 → post (-1)) ∧ (¬ k = 15 → post k)) (h0 : b = false → (p' = 0 → post 0) ∧ (¬ p' = 0 → wY_first_0 post M (nI c) (nI m) (nI a) ix ln bi rc tm su cf el de mf py ar tr ps pt n p')) : wY_first_0 post M (nI c) (nI m) (nI a) ix ln bi rc tm su cf el de mf py ar tr ps pt (n + 1) p := by
  subst hk hp
  refine nm_e ?_
  cases b with
  | false => exact br_t (hb.mpr rfl) (nm_e (h0 rfl))
  | true => exact br_f (fun z => nomatch (hb.mp z)) (h1 rfl)
theorem ry_f0 {post : Int32 → Prop} {b14 b13 b6 b5 b4 b3 b2 b1 : Bool} (hp : post (cond b2 2 (cond b1 1 (cond b3 3 (cond b4 4 (cond b5 5 0)))))) : wpY_first post (nI c, nI m, nI a, ix, ln, bi, rc, tm, su, cf, el, de, mf, py, ar, tr, ps, pt) 344850 (rf_m8 b14 b13 b6 b5 b4 b3 b2 b1) := by
  show ∃ n0 : Nat, wY_first_0 post (rf_m8 b14 b13 b6 b5 b4 b3 b2 b1) (nI c) (nI m) (nI a) ix ln bi rc tm su cf el de mf py ar tr ps pt n0 344850
  refine ⟨5, ry_fs (n := 4) (k := 2) (p' := 21553) (b := b2) (by decide +kernel) (by decide +kernel) (rf_t8_2 _ _ _ _ _ _ _ _) (fun e => ?_) (fun e => ?_)⟩
  · subst e; exact br_f (by decide) hp
  subst e
  refine br_f (by decide) ?_
  refine ry_fs (n := 3) (k := 1) (p' := 1347) (b := b1) (by decide +kernel) (by decide +kernel) (rf_t8_1 _ _ _ _ _ _ _ _) (fun e => ?_) (fun e => ?_)
  · subst e; exact br_f (by decide) hp
  subst e
  refine br_f (by decide) ?_
  refine ry_fs (n := 2) (k := 3) (p' := 84) (b := b3) (by decide +kernel) (by decide +kernel) (rf_t8_3 _ _ _ _ _ _ _ _) (fun e => ?_) (fun e => ?_)
  · subst e; exact br_f (by decide) hp
  subst e
  refine br_f (by decide) ?_
  refine ry_fs (n := 1) (k := 4) (p' := 5) (b := b4) (by decide +kernel) (by decide +kernel) (rf_t8_4 _ _ _ _ _ _ _ _) (fun e => ?_) (fun e => ?_)
  · subst e; exact br_f (by decide) hp
  subst e
  refine br_f (by decide) ?_
  refine ry_fs (n := 0) (k := 5) (p' := 0) (b := b5) (by decide +kernel) (by decide +kernel) (rf_t8_5 _ _ _ _ _ _ _ _) (fun e => ?_) (fun e => ?_)
  · subst e; exact br_f (by decide) hp
  subst e
  exact br_t rfl hp
theorem ry_f1 {post : Int32 → Prop} {b14 b13 b6 b5 b4 b3 b2 b1 : Bool} (hp : post (cond b1 1 (cond b13 13 (cond b14 14 (cond b4 4 (cond b5 5 0)))))) : wpY_first post (nI c, nI m, nI a, ix, ln, bi, rc, tm, su, cf, el, de, mf, py, ar, tr, ps, pt) 347857 (rf_m8 b14 b13 b6 b5 b4 b3 b2 b1) := by
  show ∃ n0 : Nat, wY_first_0 post (rf_m8 b14 b13 b6 b5 b4 b3 b2 b1) (nI c) (nI m) (nI a) ix ln bi rc tm su cf el de mf py ar tr ps pt n0 347857
  refine ⟨5, ry_fs (n := 4) (k := 1) (p' := 21741) (b := b1) (by decide +kernel) (by decide +kernel) (rf_t8_1 _ _ _ _ _ _ _ _) (fun e => ?_) (fun e => ?_)⟩
  · subst e; exact br_f (by decide) hp
  subst e
  refine br_f (by decide) ?_
  refine ry_fs (n := 3) (k := 13) (p' := 1358) (b := b13) (by decide +kernel) (by decide +kernel) (rf_t8_13 _ _ _ _ _ _ _ _) (fun e => ?_) (fun e => ?_)
  · subst e; exact br_f (by decide) hp
  subst e
  refine br_f (by decide) ?_
  refine ry_fs (n := 2) (k := 14) (p' := 84) (b := b14) (by decide +kernel) (by decide +kernel) (rf_t8_14 _ _ _ _ _ _ _ _) (fun e => ?_) (fun e => ?_)
  · subst e; exact br_f (by decide) hp
  subst e
  refine br_f (by decide) ?_
  refine ry_fs (n := 1) (k := 4) (p' := 5) (b := b4) (by decide +kernel) (by decide +kernel) (rf_t8_4 _ _ _ _ _ _ _ _) (fun e => ?_) (fun e => ?_)
  · subst e; exact br_f (by decide) hp
  subst e
  refine br_f (by decide) ?_
  refine ry_fs (n := 0) (k := 5) (p' := 0) (b := b5) (by decide +kernel) (by decide +kernel) (rf_t8_5 _ _ _ _ _ _ _ _) (fun e => ?_) (fun e => ?_)
  · subst e; exact br_f (by decide) hp
  subst e
  exact br_t rfl hp
theorem ry_f2 {post : Int32 → Prop} {b14 b13 b6 b5 b4 b3 b2 b1 : Bool} (hp : post (cond b2 2 (cond b1 1 (cond b3 3 (cond b6 6 (cond b5 5 0)))))) : wpY_first post (nI c, nI m, nI a, ix, ln, bi, rc, tm, su, cf, el, de, mf, py, ar, tr, ps, pt) 353042 (rf_m8 b14 b13 b6 b5 b4 b3 b2 b1) := by
  show ∃ n0 : Nat, wY_first_0 post (rf_m8 b14 b13 b6 b5 b4 b3 b2 b1) (nI c) (nI m) (nI a) ix ln bi rc tm su cf el de mf py ar tr ps pt n0 353042
  refine ⟨5, ry_fs (n := 4) (k := 2) (p' := 22065) (b := b2) (by decide +kernel) (by decide +kernel) (rf_t8_2 _ _ _ _ _ _ _ _) (fun e => ?_) (fun e => ?_)⟩
  · subst e; exact br_f (by decide) hp
  subst e
  refine br_f (by decide) ?_
  refine ry_fs (n := 3) (k := 1) (p' := 1379) (b := b1) (by decide +kernel) (by decide +kernel) (rf_t8_1 _ _ _ _ _ _ _ _) (fun e => ?_) (fun e => ?_)
  · subst e; exact br_f (by decide) hp
  subst e
  refine br_f (by decide) ?_
  refine ry_fs (n := 2) (k := 3) (p' := 86) (b := b3) (by decide +kernel) (by decide +kernel) (rf_t8_3 _ _ _ _ _ _ _ _) (fun e => ?_) (fun e => ?_)
  · subst e; exact br_f (by decide) hp
  subst e
  refine br_f (by decide) ?_
  refine ry_fs (n := 1) (k := 6) (p' := 5) (b := b6) (by decide +kernel) (by decide +kernel) (rf_t8_6 _ _ _ _ _ _ _ _) (fun e => ?_) (fun e => ?_)
  · subst e; exact br_f (by decide) hp
  subst e
  refine br_f (by decide) ?_
  refine ry_fs (n := 0) (k := 5) (p' := 0) (b := b5) (by decide +kernel) (by decide +kernel) (rf_t8_5 _ _ _ _ _ _ _ _) (fun e => ?_) (fun e => ?_)
  · subst e; exact br_f (by decide) hp
  subst e
  exact br_t rfl hp
theorem ry_f3 {post : Int32 → Prop} {b2 b7 b8 b5 b10 b11 b12 : Bool} (hp : post (cond b2 2 (cond b7 7 (cond b8 8 (cond b5 5 0))))) : wpY_first post (nI c, nI m, nI a, ix, ln, bi, rc, tm, su, cf, el, de, mf, py, ar, tr, ps, pt) 22642 (rf_m7 b2 b7 b8 b5 b10 b11 b12) := by
  show ∃ n0 : Nat, wY_first_0 post (rf_m7 b2 b7 b8 b5 b10 b11 b12) (nI c) (nI m) (nI a) ix ln bi rc tm su cf el de mf py ar tr ps pt n0 22642
  refine ⟨4, ry_fs (n := 3) (k := 2) (p' := 1415) (b := b2) (by decide +kernel) (by decide +kernel) (rf_t7_2 _ _ _ _ _ _ _) (fun e => ?_) (fun e => ?_)⟩
  · subst e; exact br_f (by decide) hp
  subst e
  refine br_f (by decide) ?_
  refine ry_fs (n := 2) (k := 7) (p' := 88) (b := b7) (by decide +kernel) (by decide +kernel) (rf_t7_7 _ _ _ _ _ _ _) (fun e => ?_) (fun e => ?_)
  · subst e; exact br_f (by decide) hp
  subst e
  refine br_f (by decide) ?_
  refine ry_fs (n := 1) (k := 8) (p' := 5) (b := b8) (by decide +kernel) (by decide +kernel) (rf_t7_8 _ _ _ _ _ _ _) (fun e => ?_) (fun e => ?_)
  · subst e; exact br_f (by decide) hp
  subst e
  refine br_f (by decide) ?_
  refine ry_fs (n := 0) (k := 5) (p' := 0) (b := b5) (by decide +kernel) (by decide +kernel) (rf_t7_5 _ _ _ _ _ _ _) (fun e => ?_) (fun e => ?_)
  · subst e; exact br_f (by decide) hp
  subst e
  exact br_t rfl hp
theorem ry_f4 {post : Int32 → Prop} {b2 b7 b8 b5 b10 b11 b12 : Bool} (hp : post (cond b2 2 (cond b7 (-1) (cond b8 8 (cond b5 9 0))))) : wpY_first post (nI c, nI m, nI a, ix, ln, bi, rc, tm, su, cf, el, de, mf, py, ar, tr, ps, pt) 39154 (rf_m7 b2 b7 b8 b5 b10 b11 b12) := by
  show ∃ n0 : Nat, wY_first_0 post (rf_m7 b2 b7 b8 b5 b10 b11 b12) (nI c) (nI m) (nI a) ix ln bi rc tm su cf el de mf py ar tr ps pt n0 39154
  refine ⟨4, ry_fs (n := 3) (k := 2) (p' := 2447) (b := b2) (by decide +kernel) (by decide +kernel) (rf_t7_2 _ _ _ _ _ _ _) (fun e => ?_) (fun e => ?_)⟩
  · subst e; exact br_f (by decide) hp
  subst e
  refine br_f (by decide) ?_
  refine ry_fs (n := 2) (k := 15) (p' := 152) (b := b7) (by decide +kernel) (by decide +kernel) (rf_t7_15 _ _ _ _ _ _ _) (fun e => ?_) (fun e => ?_)
  · subst e; exact br_t rfl hp
  subst e
  refine br_f (by decide) ?_
  refine ry_fs (n := 1) (k := 8) (p' := 9) (b := b8) (by decide +kernel) (by decide +kernel) (rf_t7_8 _ _ _ _ _ _ _) (fun e => ?_) (fun e => ?_)
  · subst e; exact br_f (by decide) hp
  subst e
  refine br_f (by decide) ?_
  refine ry_fs (n := 0) (k := 9) (p' := 0) (b := b5) (by decide +kernel) (by decide +kernel) (rf_t7_9 _ _ _ _ _ _ _) (fun e => ?_) (fun e => ?_)
  · subst e; exact br_f (by decide) hp
  subst e
  exact br_t rfl hp
theorem ry_f5 {post : Int32 → Prop} {b2 b7 b8 b5 b10 b11 b12 : Bool} (hp : post (cond b2 2 (cond b10 10 (cond b11 11 (cond b12 12 0))))) : wpY_first post (nI c, nI m, nI a, ix, ln, bi, rc, tm, su, cf, el, de, mf, py, ar, tr, ps, pt) 52130 (rf_m7 b2 b7 b8 b5 b10 b11 b12) := by
  show ∃ n0 : Nat, wY_first_0 post (rf_m7 b2 b7 b8 b5 b10 b11 b12) (nI c) (nI m) (nI a) ix ln bi rc tm su cf el de mf py ar tr ps pt n0 52130
  refine ⟨4, ry_fs (n := 3) (k := 2) (p' := 3258) (b := b2) (by decide +kernel) (by decide +kernel) (rf_t7_2 _ _ _ _ _ _ _) (fun e => ?_) (fun e => ?_)⟩
  · subst e; exact br_f (by decide) hp
  subst e
  refine br_f (by decide) ?_
  refine ry_fs (n := 2) (k := 10) (p' := 203) (b := b10) (by decide +kernel) (by decide +kernel) (rf_t7_10 _ _ _ _ _ _ _) (fun e => ?_) (fun e => ?_)
  · subst e; exact br_f (by decide) hp
  subst e
  refine br_f (by decide) ?_
  refine ry_fs (n := 1) (k := 11) (p' := 12) (b := b11) (by decide +kernel) (by decide +kernel) (rf_t7_11 _ _ _ _ _ _ _) (fun e => ?_) (fun e => ?_)
  · subst e; exact br_f (by decide) hp
  subst e
  refine br_f (by decide) ?_
  refine ry_fs (n := 0) (k := 12) (p' := 0) (b := b12) (by decide +kernel) (by decide +kernel) (rf_t7_12 _ _ _ _ _ _ _) (fun e => ?_) (fun e => ?_)
  · subst e; exact br_f (by decide) hp
  subst e
  exact br_t rfl hp
theorem ry_f6 {post : Int32 → Prop} {b2 b7 b8 b5 b10 b11 b12 : Bool} (hp : post (cond b2 2 (cond b11 11 0))) : wpY_first post (nI c, nI m, nI a, ix, ln, bi, rc, tm, su, cf, el, de, mf, py, ar, tr, ps, pt) 178 (rf_m7 b2 b7 b8 b5 b10 b11 b12) := by
  show ∃ n0 : Nat, wY_first_0 post (rf_m7 b2 b7 b8 b5 b10 b11 b12) (nI c) (nI m) (nI a) ix ln bi rc tm su cf el de mf py ar tr ps pt n0 178
  refine ⟨2, ry_fs (n := 1) (k := 2) (p' := 11) (b := b2) (by decide +kernel) (by decide +kernel) (rf_t7_2 _ _ _ _ _ _ _) (fun e => ?_) (fun e => ?_)⟩
  · subst e; exact br_f (by decide) hp
  subst e
  refine br_f (by decide) ?_
  refine ry_fs (n := 0) (k := 11) (p' := 0) (b := b11) (by decide +kernel) (by decide +kernel) (rf_t7_11 _ _ _ _ _ _ _) (fun e => ?_) (fun e => ?_)
  · subst e; exact br_f (by decide) hp
  subst e
  exact br_t rfl hp
end
end
section
/-! the component's answers -/
theorem rf_sh : ∀ f, f < 32 → ((nI f >>> ((3 : Int32) &&& 31)) &&& 3) = nI (f / 8) ∧ nI f >>> ((3 : Int32) &&& 31) = nI (f / 8) := by decide +kernel
section
variable {c m a : Nat} {rc ix ln : Int32} {tm : Int64} {bi : Int32} {su cf el de mf px py ar : Nat → Int32} {tr : Nat → Int64} {ps pt : Nat → Int32}
variable {post : Int32 → SX → Prop} {j n w dd : Nat} {x1 x3 x4 x5 : Int32} {ns nl tb b1 b4 b5 b6 b8 b10 b11 b12 b13 b14 av zb : Bool}
theorem rx_135 (H : rf_H c a j n w su cf el ar px py) (h4 : b4 = false ↔ nI a = nI n) (h5 : b5 = rf_mis (rf_as su cf el 8) ar px (j * 3) w 0)
    (hp : post (cond b4 4 (cond b5 5 0)) (nI c, nI m, nI a, rc, ix, ln, tm, bi, su, cf, el, de, mf, px, ar, tr)) : wX_compute_135 post (nI j) (nI n) (nI c) (nI m) (nI a) rc ix ln tm bi su cf el de mf px ar tr := by
  refine rf_0 h4 (fun e => ?_) (fun e => by subst e; exact hp)
  subst e
  refine rx_mis H ?_
  rw [← h5]
  clear h5
  cases b5 with
  | false => exact br_t rfl hp
  | true => exact br_f (by decide) hp
theorem rx_106 (H : rf_H c a j n w su cf el ar px py) (hd : dd < c) (hr : ns = true → ∃ r, r < c ∧ rc = nI r) (h1 : b1 = false ↔ (x4 &&& 4) = 0) (h3 : tb = true ↔ rf_as su cf el 8 rc (nI dd) = 0)
    (h4 : b4 = false ↔ nI a = nI n) (h5 : b5 = rf_mis (rf_as su cf el 8) ar px (j * 3) w 0)
    (hp : post (cond b1 1 (cond (ns && tb) 3 (cond b4 4 (cond b5 5 0)))) (nI c, nI m, nI a, rc, ix, ln, tm, bi, su, cf, el, de, mf, px, ar, tr)) : wX_compute_106 post (nI j) x4 (nI n) (nI dd) (cond ns 0 1) (nI c) (nI m) (nI a) rc ix ln tm bi su cf el de mf px ar tr := by
  refine rf_0 h1 (fun e => ?_) (fun e => by subst e; exact hp)
  subst e
  cases ns with
  | false => exact br_f (by decide) (rx_135 H h4 h5 hp)
  | true =>
    refine br_t rfl ?_
    obtain ⟨r, hr', er⟩ := hr rfl
    subst er
    refine rx_as H.1 hr' hd ?_
    exact rf_1 h3 (fun e => by subst e; exact hp) (fun e => by subst e; exact rx_135 H h4 h5 hp)
theorem rx_272 (H : rf_H c a j 1 w su cf el ar px py) (h6 : b6 = false ↔ (x4 &&& 2) = 0) (h5 : b5 = rf_mis (rf_as su cf el 8) ar px (j * 3) w 0)
    (hz : (a = 0 ∧ x3 = -1) ∨ (0 < a ∧ x3 = ar 0)) (hp : post (cond b6 6 (cond b5 5 0)) (nI c, nI m, nI a, rc, ix, ln, tm, bi, su, cf, el, de, mf, px, ar, tr)) : wX_compute_272 post (nI j) x3 x4 (nI c) (nI m) (nI a) rc ix ln tm bi su cf el de mf px ar tr := by
  refine rf_0 h6 (fun e => ?_) (fun e => by subst e; exact hp)
  subst e
  obtain ⟨hC, hj, hn, ha, w1, w2, w3, hA, hT⟩ := H
  rcases hz with ⟨a0, ez⟩ | ⟨a0, ez⟩
  · have w0 : w = 0 := by omega
    subst w0 ez h5
    exact br_t rf_m1neg hp
  · have w0 : w = 1 := by omega
    subst w0 ez
    have e5 : b5 = if ar 0 < 0 then false else if rf_as su cf el 8 (ar 0) (px (j * 3 + 0)) = 0 then true else false := h5
    clear h5
    by_cases h0 : ar 0 < 0
    · rw [if_pos h0] at e5
      subst e5
      exact br_t h0 hp
    · rw [if_neg h0] at e5
      obtain ⟨r, hr, er⟩ : ∃ r, r < c ∧ ar 0 = nI r := rf_Vpos (hA 0 a0) h0
      obtain ⟨t, ht, et, _⟩ := hT 0 (by omega)
      have e3 : nI j * 3 = nI (j * 3) := pk_mul j 3
      have e4 : (nI j * 3).toNatClampNeg = j * 3 + 0 := by rw [e3]; exact nI_clamp (by omega)
      refine br_f h0 ⟨by rw [e3]; exact vp_in_nI (by omega) (by decide), ?_⟩
      rw [e4, et, er]
      rw [et, er] at e5
      refine rx_as hC hr ht ?_
      by_cases hz : rf_as su cf el 8 (nI r) (nI t) = 0
      · rw [if_pos hz] at e5
        subst e5
        exact br_t hz hp
      · rw [if_neg hz] at e5
        subst e5
        exact br_f hz hp
theorem rx_243 (H : rf_H c a j 1 w su cf el ar px py) (hd : dd < c) (hr : ns = true → ∃ r, r < c ∧ rc = nI r) (h1 : b1 = false ↔ (x4 &&& 4) = 0) (h3 : tb = true ↔ rf_as su cf el 8 rc (nI dd) = 0)
    (h6 : b6 = false ↔ (x4 &&& 2) = 0) (h5 : b5 = rf_mis (rf_as su cf el 8) ar px (j * 3) w 0) (hz : (a = 0 ∧ x3 = -1) ∨ (0 < a ∧ x3 = ar 0))
    (hp : post (cond b1 1 (cond (ns && tb) 3 (cond b6 6 (cond b5 5 0)))) (nI c, nI m, nI a, rc, ix, ln, tm, bi, su, cf, el, de, mf, px, ar, tr)) : wX_compute_243 post (nI j) x3 x4 (nI dd) (cond ns 0 1) (nI c) (nI m) (nI a) rc ix ln tm bi su cf el de mf px ar tr := by
  refine rf_0 h1 (fun e => ?_) (fun e => by subst e; exact hp)
  subst e
  cases ns with
  | false => exact br_f (by decide) (rx_272 H h6 h5 hz hp)
  | true =>
    refine br_t rfl ?_
    obtain ⟨r, hr', er⟩ := hr rfl
    subst er
    refine rx_as H.1 hr' hd ?_
    exact rf_1 h3 (fun e => by subst e; exact hp) (fun e => by subst e; exact rx_272 H h6 h5 hz hp)
theorem rx_88a (H : rf_H c a j n w su cf el ar px py) (hV : rf_V c rc) (hd : dd < c) (hl : nl = false ↔ 0 ≤ rc) (h1 : b1 = false ↔ (x4 &&& 4) = 0) (h3 : tb = true ↔ rf_as su cf el 8 rc (nI dd) = 0)
    (h4 : b4 = false ↔ nI a = nI n) (h5 : b5 = rf_mis (rf_as su cf el 8) ar px (j * 3) w 0)
    (hp : post (cond (ns && nl) 2 (cond b1 1 (cond (ns && (!nl && tb)) 3 (cond b4 4 (cond b5 5 0))))) (nI c, nI m, nI a, rc, ix, ln, tm, bi, su, cf, el, de, mf, px, ar, tr)) : wX_compute_88 post 0 (nI j) x3 x4 (nI n) (nI dd) (cond ns 0 1) (nI c) (nI m) (nI a) rc ix ln tm bi su cf el de mf px ar tr := by
  refine br_t rfl ?_
  cases ns with
  | false => exact br_f (by decide) (rx_106 H hd (fun z => nomatch z) h1 h3 h4 h5 hp)
  | true =>
    refine br_t rfl (rf_0 hl (fun e => ?_) (fun e => by subst e; exact hp))
    have h0 := hl.mp e
    subst e
    exact rx_106 H hd (fun _ => rf_Vge hV h0) h1 h3 h4 h5 hp
theorem rx_88b (H : rf_H c a j n w su cf el ar px py) (hd : dd < c) (h1 : b1 = false ↔ (x4 &&& 4) = 0) (h13 : b13 = false ↔ (cf (nI dd).toNatClampNeg &&& 2) = 0) (h14 : b14 = false ↔ (cf (nI dd).toNatClampNeg &&& 1) = 0)
    (h4 : b4 = false ↔ nI a = nI n) (h5 : b5 = rf_mis (rf_as su cf el 8) ar px (j * 3) w 0)
    (hp : post (cond b1 1 (cond b13 13 (cond b14 14 (cond b4 4 (cond b5 5 0))))) (nI c, nI m, nI a, rc, ix, ln, tm, bi, su, cf, el, de, mf, px, ar, tr)) : wX_compute_88 post 1 (nI j) x3 x4 (nI n) (nI dd) (cond ns 0 1) (nI c) (nI m) (nI a) rc ix ln tm bi su cf el de mf px ar tr := by
  have hi : vp_in (nI dd) 8 := vp_in_nI (by have := H.1.2.1; omega) (by decide)
  refine br_f (by decide) (br_t rfl (rf_0 h1 (fun e => ?_) (fun e => by subst e; exact hp)))
  subst e
  refine ⟨hi, rf_0 h13 (fun e => ?_) (fun e => by subst e; exact hp)⟩
  subst e
  refine ⟨hi, rf_0 h14 (fun e => ?_) (fun e => by subst e; exact hp)⟩
  subst e
  exact rx_135 H h4 h5 hp
theorem rx_88c (H : rf_H c a j 1 w su cf el ar px py) (hV : rf_V c rc) (hd : dd < c) (hl : nl = false ↔ 0 ≤ rc) (h1 : b1 = false ↔ (x4 &&& 4) = 0) (h3 : tb = true ↔ rf_as su cf el 8 rc (nI dd) = 0)
    (h6 : b6 = false ↔ (x4 &&& 2) = 0) (h5 : b5 = rf_mis (rf_as su cf el 8) ar px (j * 3) w 0) (hz : (a = 0 ∧ x3 = -1) ∨ (0 < a ∧ x3 = ar 0))
    (hp : post (cond (ns && nl) 2 (cond b1 1 (cond (ns && (!nl && tb)) 3 (cond b6 6 (cond b5 5 0))))) (nI c, nI m, nI a, rc, ix, ln, tm, bi, su, cf, el, de, mf, px, ar, tr)) : wX_compute_88 post 2 (nI j) x3 x4 x5 (nI dd) (cond ns 0 1) (nI c) (nI m) (nI a) rc ix ln tm bi su cf el de mf px ar tr := by
  refine br_f (by decide) (br_f (by decide) ?_)
  cases ns with
  | false => exact br_f (by decide) (rx_243 H hd (fun z => nomatch z) h1 h3 h6 h5 hz hp)
  | true =>
    refine br_t rfl (rf_0 hl (fun e => ?_) (fun e => by subst e; exact hp))
    have h0 := hl.mp e
    subst e
    exact rx_243 H hd (fun _ => rf_Vge hV h0) h1 h3 h6 h5 hz hp
theorem rx_325 {r : Nat} (hC : rf_C c su cf el) (hr : r < c) (ha : av = false ↔ (cf (nI r).toNatClampNeg &&& 8) = 0) (h8 : b8 = false ↔ (¬ ix < 0 ∧ ix < ln)) (hv : rf_V c x3) (hz : zb = false ↔ x3 < 0)
    (ht : zb = true → (tb = true ↔ rf_as su cf el 8 x3 (el (nI r).toNatClampNeg) = 0))
    {q7 q5 : Int32} (h7 : (x1 = 3 ∧ q7 = 7 ∧ q5 = 5) ∨ (¬ x1 = 3 ∧ q7 = -1 ∧ q5 = 9))
    (hp : post (cond (!av) q7 (cond b8 8 (cond (av && (zb && tb)) q5 0))) (nI c, nI m, nI a, nI r, ix, ln, tm, bi, su, cf, el, de, mf, px, ar, tr)) : wX_compute_325 post x1 x3 (nI c) (nI m) (nI a) (nI r) ix ln tm bi su cf el de mf px ar tr := by
  have hi : vp_in (nI r) 8 := vp_in_nI (by have := hC.2.1; omega) (by decide)
  refine ⟨hi, rf_0 ha (fun e => ?_) (fun e => ?_)⟩
  · subst e
    rcases h7 with ⟨e1, e2, e3⟩ | ⟨e1, e2, e3⟩
    · subst e2
      exact br_t e1 hp
    · subst e2
      exact br_f e1 hp
  · have hne : ¬ (cf (nI r).toNatClampNeg &&& 8) = 0 := fun z => by rw [ha.mpr z] at e; exact (nomatch e)
    subst e
    have er : (nI r).toNatClampNeg = r := nI_clamp (by have := hC.2.1; omega)
    obtain ⟨_, ee, he, e1⟩ := hC.2.2.2.2.2 r hr (by rw [er] at hne; exact hne)
    rw [er, e1] at ht
    by_cases i0 : ix < 0
    · have : b8 = true := by
        cases b8 with
        | true => rfl
        | false => exact absurd i0 (h8.mp rfl).1
      subst this
      exact br_t i0 hp
    · by_cases i1 : ix < ln
      · have : b8 = false := h8.mpr ⟨i0, i1⟩
        subst this
        refine br_f i0 (br_t i1 ?_)
        by_cases z0 : x3 < 0
        · have : zb = false := hz.mpr z0
          subst this
          exact br_t z0 hp
        · have : zb = true := by
            cases zb with
            | true => rfl
            | false => exact absurd (hz.mp rfl) z0
          subst this
          obtain ⟨s, hs, es⟩ := rf_Vpos hv z0
          subst es
          refine br_f z0 ⟨hi, ?_⟩
          rw [er, e1]
          refine rx_as hC hs (by omega) ?_
          refine rf_1 (ht rfl) (fun e => ?_) (fun e => by subst e; exact hp)
          subst e
          rcases h7 with ⟨e1, e2, e3⟩ | ⟨e1, e2, e3⟩
          · subst e3
            exact br_t e1 hp
          · subst e3
            exact br_f e1 hp
      · have : b8 = true := by
          cases b8 with
          | true => rfl
          | false => exact absurd (h8.mp rfl).2 i1
        subst this
        exact br_f i0 (br_f i1 hp)
theorem rx_cmp {p0 p1 : Int32} (ha : a ≤ 4) (h : ∀ z, ((a = 0 ∧ z = -1) ∨ (0 < a ∧ z = ar 0)) → wX_compute_17 post p0 p1 z (nI c) (nI m) (nI a) rc ix ln tm bi su cf el de mf px ar tr) : wpX_compute post (nI c, nI m, nI a, rc, ix, ln, tm, bi, su, cf, el, de, mf, px, ar, tr) p0 p1 := by
  by_cases a0 : a = 0
  · exact br_t (by rw [a0]; decide) (h _ (Or.inl ⟨a0, rfl⟩))
  · exact br_f (nI_nle (by omega) (by omega)) (h _ (Or.inr ⟨by omega, rfl⟩))
theorem rx_17 {o f : Nat} (ho : o ≤ 2) (hm : m ≤ 8) (hj : j < m) (hf : f < 32) (ef : mf j = nI f) (ed : de j = nI dd) (hn : ns = true ↔ (nI f &&& 1) = 0)
    (h : wX_compute_73 post (nI o) (nI j) x3 (nI f) (nI (f / 8)) (nI dd) (cond ns 0 1) (nI c) (nI m) (nI a) rc ix ln tm bi su cf el de mf px ar tr) : wX_compute_17 post (nI o) (nI j) x3 (nI c) (nI m) (nI a) rc ix ln tm bi su cf el de mf px ar tr := by
  have ej : (nI j).toNatClampNeg = j := nI_clamp (by omega)
  have ij : vp_in (nI j) 8 := vp_in_nI (by omega) (by decide)
  have h2 : ¬ (2 : Int32) < nI o := nI_nlt (b := o) (a := 2) ho (by decide)
  refine br_f h2 (br_f (nI_pos (by omega)) (br_t (nI_lt hj (by omega)) ⟨ij, nm_r (e' := nI f) (by rw [ej]; exact ef) (nm_r (e' := nI (f / 8)) (rf_sh f hf).1 ⟨ij, nm_r (e' := nI dd) (by rw [ej]; exact ed) ?_⟩)⟩))
  refine rf_1 hn (fun e => ?_) (fun e => ?_)
  · subst e
    exact h
  · subst e
    exact h
theorem rx_bad {o : Nat} {id : Int32} (ho : o ≤ 2) (hm : m ≤ 8) (hb : id < 0 ∨ nI m ≤ id) (hp : post (-1) (nI c, nI m, nI a, rc, ix, ln, tm, bi, su, cf, el, de, mf, px, ar, tr)) : wX_compute_17 post (nI o) id x3 (nI c) (nI m) (nI a) rc ix ln tm bi su cf el de mf px ar tr := by
  have h2 : ¬ (2 : Int32) < nI o := nI_nlt (b := o) (a := 2) ho (by decide)
  refine br_f h2 ?_
  by_cases h0 : id < 0
  · exact br_t h0 hp
  · rcases hb with hb | hb
    · exact absurd hb h0
    · exact br_f h0 (br_f (Int32.not_lt.mpr hb) hp)
end
end
section
/-! the reference's sets of refusals, and its answers -/
section
variable {c m a : Nat} {rc ix ln : Int32} {tm : Int64} {bi : Int32} {su cf el de mf px py ar : Nat → Int32} {tr : Nat → Int64} {ps pt : Nat → Int32}
variable {post : Int64 → SY → Prop} {j n w dd : Nat} {x6 : Int32} {M : Int64} {ns nl tb b1 b2 b3 b4 b5 b6 b8 b10 b11 b12 b13 b14 av zb : Bool}
theorem ry_222 (h1 : b1 = false ↔ (x6 &&& 4) = 0) (hp : post (rf_or b1 2 M) (nI c, nI m, nI a, ix, ln, bi, rc, tm, su, cf, el, de, mf, py, ar, tr, ps, pt)) : wY_applicable_222 post M x6 (nI c) (nI m) (nI a) ix ln bi rc tm su cf el de mf py ar tr ps pt :=
  rf_0 h1 (fun e => by subst e; exact hp) (fun e => by subst e; exact nm_e hp)
theorem ry_204 (hn : ns = true ↔ (x6 &&& 1) = 0) (h1 : b1 = false ↔ (x6 &&& 4) = 0) (hp : post (rf_or b1 2 (rf_or (ns && nl) 4 M)) (nI c, nI m, nI a, ix, ln, bi, rc, tm, su, cf, el, de, mf, py, ar, tr, ps, pt)) : wY_applicable_204 post M (cond nl 1 0) x6 (nI c) (nI m) (nI a) ix ln bi rc tm su cf el de mf py ar tr ps pt := by
  refine rf_1 hn (fun e => ?_) (fun e => ?_)
  · subst e
    cases nl with
    | false => exact br_t rfl (ry_222 h1 hp)
    | true => exact br_f (by decide) (nm_e (ry_222 h1 hp))
  · subst e
    exact ry_222 h1 hp
theorem ry_173 (hC : rf_C c su cf el) (hr : nl = false → ∃ r, r < c ∧ rc = nI r) (hd : dd < c) (hn : ns = true ↔ (x6 &&& 1) = 0) (h1 : b1 = false ↔ (x6 &&& 4) = 0) (h3 : tb = true ↔ rf_as su cf el 8 rc (nI dd) = 0)
    (hp : ∀ ps pt, post (rf_or b1 2 (rf_or (ns && nl) 4 (rf_or (ns && (!nl && tb)) 8 M))) (nI c, nI m, nI a, ix, ln, bi, rc, tm, su, cf, el, de, mf, py, ar, tr, ps, pt)) : wY_applicable_173 post M (cond nl 1 0) x6 (nI dd) (nI c) (nI m) (nI a) ix ln bi rc tm su cf el de mf py ar tr ps pt := by
  refine rf_1 hn (fun e => ?_) (fun e => ?_)
  · subst e
    cases nl with
    | false =>
      refine br_t rfl ?_
      obtain ⟨r, hr', er⟩ := hr rfl
      subst er
      refine ry_sub hC hr' hd (fun ps pt => ?_)
      refine rf_1 h3 (fun e => ?_) (fun e => ?_)
      · subst e
        exact nm_e (ry_204 (nl := false) hn h1 (hp ps pt))
      · subst e
        exact ry_204 (nl := false) hn h1 (hp ps pt)
    | true => exact br_f (by decide) (ry_204 (nl := true) hn h1 (hp ps pt))
  · subst e
    exact ry_204 hn h1 (hp ps pt)
theorem ry_158 (hC : rf_C c su cf el) (hr : nl = false → ∃ r, r < c ∧ rc = nI r) (hd : dd < c) (hn : ns = true ↔ (x6 &&& 1) = 0) (h1 : b1 = false ↔ (x6 &&& 4) = 0) (h3 : tb = true ↔ rf_as su cf el 8 rc (nI dd) = 0)
    (h4 : b4 = false ↔ nI a = nI n)
    (hp : ∀ ps pt, post (rf_or b1 2 (rf_or (ns && nl) 4 (rf_or (ns && (!nl && tb)) 8 (rf_or b4 16 M)))) (nI c, nI m, nI a, ix, ln, bi, rc, tm, su, cf, el, de, mf, py, ar, tr, ps, pt)) : wY_applicable_158 post M (cond nl 1 0) x6 (nI dd) (nI n) (nI c) (nI m) (nI a) ix ln bi rc tm su cf el de mf py ar tr ps pt := by
  refine rf_0 h4 (fun e => ?_) (fun e => ?_)
  · subst e
    exact ry_173 hC hr hd hn h1 h3 hp
  · subst e
    exact nm_e (ry_173 hC hr hd hn h1 h3 hp)
theorem ry_79 (H : rf_H c a j n w su cf el ar px py) (hr : nl = false → ∃ r, r < c ∧ rc = nI r) (hd : dd < c) (hn : ns = true ↔ (x6 &&& 1) = 0) (h1 : b1 = false ↔ (x6 &&& 4) = 0) (h3 : tb = true ↔ rf_as su cf el 8 rc (nI dd) = 0)
    (h4 : b4 = false ↔ nI a = nI n) (h5 : b5 = rf_mis (rf_as su cf el 8) ar px (j * 3) w 0) (h6 : b6 = false ↔ (x6 &&& 2) = 0)
    (hp : ∀ ps pt, post (rf_or b1 2 (rf_or (ns && nl) 4 (rf_or (ns && (!nl && tb)) 8 (rf_or b4 16 (rf_or b5 32 (rf_or b6 64 M)))))) (nI c, nI m, nI a, ix, ln, bi, rc, tm, su, cf, el, de, mf, py, ar, tr, ps, pt)) : wY_applicable_79 post (nI j) M (cond nl 1 0) x6 (nI dd) (nI n) (nI c) (nI m) (nI a) ix ln bi rc tm su cf el de mf py ar tr ps pt := by
  subst h5
  refine rf_0 h6 (fun e => ?_) (fun e => ?_)
  · subst e
    exact ⟨w + 1, ry_mis0 H w 0 _ ps pt (by omega) (fun ps pt => ry_158 H.1 hr hd hn h1 h3 h4 hp)⟩
  · subst e
    exact nm_e ⟨w + 1, ry_mis0 H w 0 _ ps pt (by omega) (fun ps pt => ry_158 H.1 hr hd hn h1 h3 h4 hp)⟩
theorem ry_61 (H : rf_H c a j n w su cf el ar px py) (hr : nl = false → ∃ r, r < c ∧ rc = nI r) (hd : dd < c) (hn : ns = true ↔ (x6 &&& 1) = 0) (h1 : b1 = false ↔ (x6 &&& 4) = 0) (h3 : tb = true ↔ rf_as su cf el 8 rc (nI dd) = 0)
    (h4 : b4 = false ↔ nI a = nI n) (h5 : b5 = rf_mis (rf_as su cf el 8) ar px (j * 3) w 0) (h6 : b6 = false ↔ (x6 &&& 2) = 0) (h13 : b13 = false ↔ (cf (nI dd).toNatClampNeg &&& 2) = 0)
    (hp : ∀ ps pt, post (rf_or b1 2 (rf_or (ns && nl) 4 (rf_or (ns && (!nl && tb)) 8 (rf_or b4 16 (rf_or b5 32 (rf_or b6 64 (rf_or b13 8192 M))))))) (nI c, nI m, nI a, ix, ln, bi, rc, tm, su, cf, el, de, mf, py, ar, tr, ps, pt)) : wY_applicable_61 post (nI j) M (cond nl 1 0) x6 (nI dd) (nI n) (nI c) (nI m) (nI a) ix ln bi rc tm su cf el de mf py ar tr ps pt := by
  have hi : vp_in (nI dd) 8 := vp_in_nI (by have := H.1.2.1; omega) (by decide)
  refine ⟨hi, rf_0 h13 (fun e => ?_) (fun e => ?_)⟩
  · subst e
    exact ry_79 H hr hd hn h1 h3 h4 h5 h6 hp
  · subst e
    exact nm_e (ry_79 H hr hd hn h1 h3 h4 h5 h6 hp)
theorem ry_lo {o f : Nat} (ho : o ≤ 2) (hm : m ≤ 8) (hj : j < m) (hf : f < 32) (ef : mf j = nI f) (ed : de j = nI dd)
    (H : rf_H c a j (f / 8) w su cf el ar px py) (hV : rf_V c rc) (hl : nl = false ↔ 0 ≤ rc) (hd : dd < c) (hn : ns = true ↔ (nI f &&& 1) = 0) (h1 : b1 = false ↔ (nI f &&& 4) = 0) (h3 : tb = true ↔ rf_as su cf el 8 rc (nI dd) = 0)
    (h4 : b4 = false ↔ nI a = nI (f / 8)) (h5 : b5 = rf_mis (rf_as su cf el 8) ar px (j * 3) w 0) (h6 : b6 = false ↔ (nI f &&& 2) = 0) (h13 : b13 = false ↔ (cf (nI dd).toNatClampNeg &&& 2) = 0) (h14 : b14 = false ↔ (cf (nI dd).toNatClampNeg &&& 1) = 0)
    (hp : ∀ ps pt, post (rf_m8 b14 b13 b6 b5 b4 (ns && (!nl && tb)) (ns && nl) b1) (nI c, nI m, nI a, ix, ln, bi, rc, tm, su, cf, el, de, mf, py, ar, tr, ps, pt)) : wpY_applicable post (nI c, nI m, nI a, ix, ln, bi, rc, tm, su, cf, el, de, mf, py, ar, tr, ps, pt) (nI o) (nI j) := by
  have ej : (nI j).toNatClampNeg = j := nI_clamp (by omega)
  have ij : vp_in (nI j) 8 := vp_in_nI (by omega) (by decide)
  have id8 : vp_in (nI dd) 8 := vp_in_nI (by have := H.1.2.1; omega) (by decide)
  have h2 : ¬ (2 : Int32) < nI o := nI_nlt (b := o) (a := 2) ho (by decide)
  have hr : nl = false → ∃ r, r < c ∧ rc = nI r := fun e => rf_Vge hV (hl.mp e)
  have h14' : wY_applicable_14 post (nI o) (nI j) 0 (cond nl 1 0) (nI c) (nI m) (nI a) ix ln bi rc tm su cf el de mf py ar tr ps pt := by
    refine br_f h2 ⟨ij, nm_r (e' := nI f) (by rw [ej]; exact ef) ⟨ij, nm_r (e' := nI dd) (by rw [ej]; exact ed) (nm_r (e' := nI (f / 8)) (rf_sh f hf).2 ⟨id8, rf_0 h14 (fun e => ?_) (fun e => ?_)⟩)⟩⟩
    · subst e
      exact ry_61 H hr hd hn h1 h3 h4 h5 h6 h13 hp
    · subst e
      exact nm_e (ry_61 H hr hd hn h1 h3 h4 h5 h6 h13 hp)
  refine rf_0 hl (fun e => ?_) (fun e => ?_)
  · subst e
    exact h14'
  · subst e
    exact h14'
theorem ry_394 (h12 : b12 = false ↔ (bi &&& 2) = 0) (hp : post (rf_or b12 4096 M) (nI c, nI m, nI a, ix, ln, bi, rc, tm, su, cf, el, de, mf, py, ar, tr, ps, pt)) : wY_applicable_394 post M (nI c) (nI m) (nI a) ix ln bi rc tm su cf el de mf py ar tr ps pt :=
  rf_0 h12 (fun e => by subst e; exact hp) (fun e => by subst e; exact nm_e hp)
theorem ry_379 (h11 : b11 = true ↔ (bi &&& 1) = 0) (h12 : b12 = false ↔ (bi &&& 2) = 0) (hp : post (rf_or b12 4096 (rf_or b11 2048 M)) (nI c, nI m, nI a, ix, ln, bi, rc, tm, su, cf, el, de, mf, py, ar, tr, ps, pt)) : wY_applicable_379 post M (nI c) (nI m) (nI a) ix ln bi rc tm su cf el de mf py ar tr ps pt :=
  rf_1 h11 (fun e => by subst e; exact nm_e (ry_394 h12 hp)) (fun e => by subst e; exact ry_394 h12 hp)
theorem ry_364 (h10 : b10 = false ↔ 0 ≤ tm) (h11 : b11 = true ↔ (bi &&& 1) = 0) (h12 : b12 = false ↔ (bi &&& 2) = 0) (hp : post (rf_or b12 4096 (rf_or b11 2048 (rf_or b10 1024 M))) (nI c, nI m, nI a, ix, ln, bi, rc, tm, su, cf, el, de, mf, py, ar, tr, ps, pt)) : wY_applicable_364 post M (nI c) (nI m) (nI a) ix ln bi rc tm su cf el de mf py ar tr ps pt :=
  rf_0 h10 (fun e => by subst e; exact ry_379 h11 h12 hp) (fun e => by subst e; exact nm_e (ry_379 h11 h12 hp))
theorem ry_315 (hC : rf_C c su cf el) (hA : rf_A c a ar) (hr : av = true → ∃ r, r < c ∧ rc = nI r ∧ ¬ (cf r &&& 8) = 0) (hz : zb = true ↔ (0 < a ∧ ¬ ar 0 < 0)) (ht : tb = true ↔ rf_as su cf el 8 (ar 0) (el rc.toNatClampNeg) = 0)
    (h10 : b10 = false ↔ 0 ≤ tm) (h11 : b11 = true ↔ (bi &&& 1) = 0) (h12 : b12 = false ↔ (bi &&& 2) = 0)
    (hp : ∀ ps pt, post (rf_or b12 4096 (rf_or b11 2048 (rf_or b10 1024 (rf_or (av && (zb && tb)) 544 M)))) (nI c, nI m, nI a, ix, ln, bi, rc, tm, su, cf, el, de, mf, py, ar, tr, ps, pt)) : wY_applicable_315 post M (cond av 1 0) (nI c) (nI m) (nI a) ix ln bi rc tm su cf el de mf py ar tr ps pt := by
  cases av with
  | false => exact br_t rfl (ry_364 h10 h11 h12 (hp ps pt))
  | true =>
    refine br_f (by decide) ?_
    by_cases a0 : a = 0
    · have : zb = false := by
        cases zb with
        | false => rfl
        | true => have := (hz.mp rfl).1; omega
      subst this
      exact br_t (by rw [a0]; decide) (ry_364 h10 h11 h12 (hp ps pt))
    · refine br_f (nI_nle (by omega) (by have := hA.1; omega)) ?_
      by_cases z0 : ar 0 < 0
      · have : zb = false := by
          cases zb with
          | false => rfl
          | true => exact absurd z0 (hz.mp rfl).2
        subst this
        exact br_t z0 (ry_364 h10 h11 h12 (hp ps pt))
      · have : zb = true := hz.mpr ⟨by omega, z0⟩
        subst this
        obtain ⟨r, hr', er, hne⟩ := hr rfl
        subst er
        have er : (nI r).toNatClampNeg = r := nI_clamp (by have := hC.2.1; omega)
        obtain ⟨_, ee, he, e1⟩ := hC.2.2.2.2.2 r hr' hne
        obtain ⟨s, hs, es⟩ := rf_Vpos (hA.2 0 (by omega)) z0
        refine br_f z0 ⟨vp_in_nI (by have := hC.2.1; omega) (by decide), ?_⟩
        rw [er, e1, es]
        rw [er, e1, es] at ht
        refine ry_sub hC hs (by omega) (fun ps pt => ?_)
        refine rf_1 ht (fun e => ?_) (fun e => ?_)
        · subst e
          exact nm_e (ry_364 h10 h11 h12 (hp ps pt))
        · subst e
          exact ry_364 h10 h11 h12 (hp ps pt)
theorem ry_291 (hC : rf_C c su cf el) (hA : rf_A c a ar) (hr : av = true → ∃ r, r < c ∧ rc = nI r ∧ ¬ (cf r &&& 8) = 0) (hz : zb = true ↔ (0 < a ∧ ¬ ar 0 < 0)) (ht : tb = true ↔ rf_as su cf el 8 (ar 0) (el rc.toNatClampNeg) = 0)
    (h8 : b8 = false ↔ (¬ ix < 0 ∧ ix < ln)) (h10 : b10 = false ↔ 0 ≤ tm) (h11 : b11 = true ↔ (bi &&& 1) = 0) (h12 : b12 = false ↔ (bi &&& 2) = 0)
    (hp : ∀ ps pt, post (rf_or b12 4096 (rf_or b11 2048 (rf_or b10 1024 (rf_or (av && (zb && tb)) 544 (rf_or b8 256 M))))) (nI c, nI m, nI a, ix, ln, bi, rc, tm, su, cf, el, de, mf, py, ar, tr, ps, pt)) : wY_applicable_291 post M (cond av 1 0) (nI c) (nI m) (nI a) ix ln bi rc tm su cf el de mf py ar tr ps pt := by
  by_cases i0 : ix < 0
  · have : b8 = true := by
      cases b8 with
      | true => rfl
      | false => exact absurd i0 (h8.mp rfl).1
    subst this
    exact br_t i0 (nm_e (ry_315 hC hA hr hz ht h10 h11 h12 hp))
  · by_cases i1 : ix < ln
    · have : b8 = false := h8.mpr ⟨i0, i1⟩
      subst this
      exact br_f i0 (br_t i1 (ry_315 hC hA hr hz ht h10 h11 h12 hp))
    · have : b8 = true := by
        cases b8 with
        | true => rfl
        | false => exact absurd (h8.mp rfl).2 i1
      subst this
      exact br_f i0 (br_f i1 (nm_e (ry_315 hC hA hr hz ht h10 h11 h12 hp)))
theorem ry_262 (hC : rf_C c su cf el) (hA : rf_A c a ar) (hr : av = true → ∃ r, r < c ∧ rc = nI r ∧ ¬ (cf r &&& 8) = 0) (hz : zb = true ↔ (0 < a ∧ ¬ ar 0 < 0)) (ht : tb = true ↔ rf_as su cf el 8 (ar 0) (el rc.toNatClampNeg) = 0)
    (h8 : b8 = false ↔ (¬ ix < 0 ∧ ix < ln)) (h10 : b10 = false ↔ 0 ≤ tm) (h11 : b11 = true ↔ (bi &&& 1) = 0) (h12 : b12 = false ↔ (bi &&& 2) = 0)
    (hp : ∀ ps pt, post (rf_m7 nl (!nl && !av) b8 (av && (zb && tb)) b10 b11 b12) (nI c, nI m, nI a, ix, ln, bi, rc, tm, su, cf, el, de, mf, py, ar, tr, ps, pt)) : wY_applicable_262 post 0 (cond nl 1 0) (cond av 1 0) (nI c) (nI m) (nI a) ix ln bi rc tm su cf el de mf py ar tr ps pt := by
  have h275 : wY_applicable_275 post (rf_or nl 4 0) (cond nl 1 0) (cond av 1 0) (nI c) (nI m) (nI a) ix ln bi rc tm su cf el de mf py ar tr ps pt := by
    cases nl with
    | true => exact br_f (by decide) (ry_291 hC hA hr hz ht h8 h10 h11 h12 hp)
    | false =>
      refine br_t rfl ?_
      cases av with
      | false => exact br_t rfl (nm_e (ry_291 (av := false) hC hA hr hz ht h8 h10 h11 h12 hp))
      | true => exact br_f (by decide) (ry_291 (av := true) hC hA hr hz ht h8 h10 h11 h12 hp)
  cases nl with
  | false => exact br_t rfl h275
  | true => exact br_f (by decide) (nm_e h275)
theorem ry_hi {p0 p1 : Int32} (ho : 2 < p0) (hC : rf_C c su cf el) (hA : rf_A c a ar) (hV : rf_V c rc) (hl : nl = false ↔ 0 ≤ rc) (hav : av = true ↔ (0 ≤ rc ∧ ¬ (cf rc.toNatClampNeg &&& 8) = 0)) (hz : zb = true ↔ (0 < a ∧ ¬ ar 0 < 0)) (ht : tb = true ↔ rf_as su cf el 8 (ar 0) (el rc.toNatClampNeg) = 0)
    (h8 : b8 = false ↔ (¬ ix < 0 ∧ ix < ln)) (h10 : b10 = false ↔ 0 ≤ tm) (h11 : b11 = true ↔ (bi &&& 1) = 0) (h12 : b12 = false ↔ (bi &&& 2) = 0)
    (hp : ∀ ps pt, post (rf_m7 nl (!nl && !av) b8 (av && (zb && tb)) b10 b11 b12) (nI c, nI m, nI a, ix, ln, bi, rc, tm, su, cf, el, de, mf, py, ar, tr, ps, pt)) : wpY_applicable post (nI c, nI m, nI a, ix, ln, bi, rc, tm, su, cf, el, de, mf, py, ar, tr, ps, pt) p0 p1 := by
  have hr : av = true → ∃ r, r < c ∧ rc = nI r ∧ ¬ (cf r &&& 8) = 0 := by
    intro e
    obtain ⟨h0, hne⟩ := hav.mp e
    obtain ⟨r, hr, er⟩ := rf_Vge hV h0
    refine ⟨r, hr, er, ?_⟩
    rw [er, nI_clamp (by have := hC.2.1; omega)] at hne
    exact hne
  have h262 := ry_262 (post := post) (m := m) (de := de) (mf := mf) (py := py) (tr := tr) (ps := ps) (pt := pt) hC hA hr hz ht h8 h10 h11 h12 hp
  have h14 : wY_applicable_14 post p0 p1 0 (cond nl 1 0) (nI c) (nI m) (nI a) ix ln bi rc tm su cf el de mf py ar tr ps pt := by
    refine br_t ho ?_
    cases nl with
    | true =>
      have : av = false := by
        cases av with
        | false => rfl
        | true => exact absurd (hl.mpr (hav.mp rfl).1) (by decide)
      subst this
      exact br_f (by decide) h262
    | false =>
      obtain ⟨r, hr, er⟩ := rf_Vge hV (hl.mp rfl)
      refine br_t rfl ⟨by rw [er]; exact vp_in_nI (by have := hC.2.1; omega) (by decide), ?_⟩
      cases av with
      | true => exact br_f (hav.mp rfl).2 h262
      | false =>
        refine br_t (Classical.byContradiction fun z => ?_) h262
        exact absurd (hav.mpr ⟨hl.mp rfl, z⟩) (by decide)
  refine rf_0 hl (fun e => ?_) (fun e => ?_)
  · subst e
    exact h14
  · subst e
    exact h14
end
section
variable {c m a : Nat} {rc ix ln : Int32} {tm : Int64} {bi : Int32} {su cf el de mf px py ar : Nat → Int32} {tr : Nat → Int64} {ps pt : Nat → Int32}
variable {post : Int32 → SY → Prop} {o : Nat} {r : Int32}
theorem rf_uu (f : Nat → Int64) (k : Nat) (x y : Int64) : vp_updL (vp_updL f k x) k y = vp_updL f k y := by
  funext i
  by_cases e : i = k
  · rw [e, pk_uLs, pk_uLs]
  · rw [pk_uLn e, pk_uLn e, pk_uLn e]
theorem ry_65 (ho : o < 7) (hr : ¬ r = 12) (hp : post r (nI c, nI m, nI a, ix, ln, bi, rc, tm, su, cf, el, de, mf, py, ar, vp_updL tr o ((tr o) * 16 + (r &&& 15).toInt64), ps, pt)) : wY_decide_65 post (nI o) r (nI c) (nI m) (nI a) ix ln bi rc tm su cf el de mf py ar tr ps pt := by
  have io : vp_in (nI o) 7 := vp_in_nI ho (by decide)
  have eo : (nI o).toNatClampNeg = o := nI_clamp (by omega)
  refine ⟨io, io, nm_r (e' := vp_updL tr o ((tr o) * 16)) (by rw [eo]) ⟨io, io, nm_r (e' := vp_updL tr o ((tr o) * 16 + (r &&& 15).toInt64)) (by rw [eo, pk_uLs, rf_uu]) ?_⟩⟩
  exact br_f hr hp
theorem ry_65b (ho : o < 7) (hp : post 12 (nI c, nI m, nI a, ix, ln, bi &&& 1, rc, tm, su, cf, el, de, mf, py, ar, vp_updL tr o ((tr o) * 16 + ((12 : Int32) &&& 15).toInt64), ps, pt)) : wY_decide_65 post (nI o) 12 (nI c) (nI m) (nI a) ix ln bi rc tm su cf el de mf py ar tr ps pt := by
  have io : vp_in (nI o) 7 := vp_in_nI ho (by decide)
  have eo : (nI o).toNatClampNeg = o := nI_clamp (by omega)
  refine ⟨io, io, nm_r (e' := vp_updL tr o ((tr o) * 16)) (by rw [eo]) ⟨io, io, nm_r (e' := vp_updL tr o ((tr o) * 16 + ((12 : Int32) &&& 15).toInt64)) (by rw [eo, pk_uLs, rf_uu]) ?_⟩⟩
  exact br_t rfl (nm_e hp)
end
end
section
/-! decide: one answer for both sides -/
section
variable {k c m a : Nat} {rc ix ln : Int32} {tm : Int64} {bi bi' : Int32} {su cf el de mf px py ar : Nat → Int32} {tr : Nat → Int64} {ps pt : Nat → Int32}
variable {o j n w dd f : Nat} {r id : Int32} {ns nl tb b1 b4 b5 b6 b8 b10 b11 b12 b13 b14 av zb : Bool}
theorem rf_dec (ho : o < 7) (hX : ∀ post : Int32 → SX → Prop, post r (nI c, nI m, nI a, rc, ix, ln, tm, bi', su, cf, el, de, mf, px, ar, tr) → wpX_compute post (nI c, nI m, nI a, rc, ix, ln, tm, bi, su, cf, el, de, mf, px, ar, tr) (nI o) id)
    (hY : ∀ post : Int32 → SY → Prop, (∀ ps pt, post r (nI c, nI m, nI a, ix, ln, bi', rc, tm, su, cf, el, de, mf, py, ar, vp_updL tr o ((tr o) * 16 + (r &&& 15).toInt64), ps, pt)) → wpY_decide post (nI c, nI m, nI a, ix, ln, bi, rc, tm, su, cf, el, de, mf, py, ar, tr, ps, pt) (nI o) id)
    (hC : rf_C c su cf el) (hM : rf_M c m de mf px py) (hA : rf_A c a ar) (hV : rf_V c rc) :
    wpX_decide (fun r u' => wpY_decide (fun r' v' => r' = r ∧ i_Rel (k + 4) u' v') (nI c, nI m, nI a, ix, ln, bi, rc, tm, su, cf, el, de, mf, py, ar, tr, ps, pt) (nI o) id) (nI c, nI m, nI a, rc, ix, ln, tm, bi, su, cf, el, de, mf, px, ar, tr) (nI o) id := by
  have io : vp_in (nI o) 7 := vp_in_nI ho (by decide)
  have eo : (nI o).toNatClampNeg = o := nI_clamp (by omega)
  refine br_f (nI_pos (by omega)) (br_t (nI_le (b := 6) (by omega) (by decide)) (hX _ ?_))
  refine ⟨io, io, nm_r (e' := vp_updL tr o ((tr o) * 16 + (r &&& 15).toInt64)) (by rw [eo]) (hY _ fun ps pt => ⟨rfl, rf_mk hC hM hA hV⟩)⟩
theorem ry_o0 {P : Int64 → Prop} (h : P 344850) : wpY_order P (nI c, nI m, nI a, ix, ln, bi, rc, tm, su, cf, el, de, mf, py, ar, tr, ps, pt) (nI 0) := br_f (by decide) (br_f (by decide) (br_t rfl h))
theorem ry_o1 {P : Int64 → Prop} (h : P 347857) : wpY_order P (nI c, nI m, nI a, ix, ln, bi, rc, tm, su, cf, el, de, mf, py, ar, tr, ps, pt) (nI 1) := br_f (by decide) (br_f (by decide) (br_f (by decide) (br_t rfl h)))
theorem ry_o2 {P : Int64 → Prop} (h : P 353042) : wpY_order P (nI c, nI m, nI a, ix, ln, bi, rc, tm, su, cf, el, de, mf, py, ar, tr, ps, pt) (nI 2) := br_f (by decide) (br_f (by decide) (br_f (by decide) (br_f (by decide) (br_t rfl h))))
theorem ry_o3 {P : Int64 → Prop} (h : P 22642) : wpY_order P (nI c, nI m, nI a, ix, ln, bi, rc, tm, su, cf, el, de, mf, py, ar, tr, ps, pt) (nI 3) := br_f (by decide) (br_f (by decide) (br_f (by decide) (br_f (by decide) (br_f (by decide) (br_t rfl h)))))
theorem ry_o4 {P : Int64 → Prop} (h : P 39154) : wpY_order P (nI c, nI m, nI a, ix, ln, bi, rc, tm, su, cf, el, de, mf, py, ar, tr, ps, pt) (nI 4) := br_f (by decide) (br_f (by decide) (br_f (by decide) (br_f (by decide) (br_f (by decide) (br_f (by decide) (br_t rfl h))))))
theorem ry_o5 {P : Int64 → Prop} (h : P 52130) : wpY_order P (nI c, nI m, nI a, ix, ln, bi, rc, tm, su, cf, el, de, mf, py, ar, tr, ps, pt) (nI 5) := br_f (by decide) (br_f (by decide) (br_f (by decide) (br_f (by decide) (br_f (by decide) (br_f (by decide) (br_f (by decide) (br_t rfl h)))))))
theorem ry_o6 {P : Int64 → Prop} (h : P 178) : wpY_order P (nI c, nI m, nI a, ix, ln, bi, rc, tm, su, cf, el, de, mf, py, ar, tr, ps, pt) (nI 6) := br_f (by decide) (br_t (by decide) h)
theorem ry_dlo {post : Int32 → SY → Prop} (ho : o ≤ 2) (hm : m ≤ 8) (hj : j < m) (hf : f < 32) (ef : mf j = nI f) (h2 : o = 2 → f / 8 = 1)
    (h : wY_decide_49 post (nI o) (nI j) (nI c) (nI m) (nI a) ix ln bi rc tm su cf el de mf py ar tr ps pt) : wpY_decide post (nI c, nI m, nI a, ix, ln, bi, rc, tm, su, cf, el, de, mf, py, ar, tr, ps, pt) (nI o) (nI j) := by
  have hn : ¬ (2 : Int32) < nI o := nI_nlt (b := o) (a := 2) ho (by decide)
  have ej : (nI j).toNatClampNeg = j := nI_clamp (by omega)
  refine br_f (nI_pos (by omega)) (br_t (nI_le (b := 6) (by omega) (by decide)) (br_f hn (br_f (nI_pos (by omega)) (br_f (nI_ge hj (by omega)) ?_))))
  by_cases e : o = 2
  · refine br_t (by rw [e]; rfl) ⟨vp_in_nI (by omega) (by decide), br_t ?_ h⟩
    rw [ej, ef, (rf_sh f hf).2, h2 e]
    rfl
  · refine br_f (fun z => e ?_) h
    exact (nI_eq (a := o) (b := 2) (by omega) (by decide)).mp z
theorem ry_dbad {post : Int32 → SY → Prop} (ho : o ≤ 2) (hm : m ≤ 8) (hb : id < 0 ∨ nI m ≤ id)
    (h : wY_decide_65 post (nI o) (-1) (nI c) (nI m) (nI a) ix ln bi rc tm su cf el de mf py ar tr ps pt) : wpY_decide post (nI c, nI m, nI a, ix, ln, bi, rc, tm, su, cf, el, de, mf, py, ar, tr, ps, pt) (nI o) id := by
  have hn : ¬ (2 : Int32) < nI o := nI_nlt (b := o) (a := 2) ho (by decide)
  refine br_f (nI_pos (by omega)) (br_t (nI_le (b := 6) (by omega) (by decide)) (br_f hn ?_))
  by_cases h0 : id < 0
  · exact br_t h0 h
  · rcases hb with hb | hb
    · exact absurd hb h0
    · exact br_f h0 (br_t hb h)
theorem ry_dhi {post : Int32 → SY → Prop} (ho : 2 < o) (h7 : o < 7) (h : wY_decide_49 post (nI o) id (nI c) (nI m) (nI a) ix ln bi rc tm su cf el de mf py ar tr ps pt) : wpY_decide post (nI c, nI m, nI a, ix, ln, bi, rc, tm, su, cf, el, de, mf, py, ar, tr, ps, pt) (nI o) id :=
  br_f (nI_pos (by omega)) (br_t (nI_le (b := 6) (by omega) (by decide)) (br_t (nI_lt (a := 2) ho (by omega)) h))
theorem rf_n0 : ∀ b2 b1 b3 b4 b5 : Bool, ¬ (cond b2 2 (cond b1 1 (cond b3 3 (cond b4 4 (cond b5 5 0)))) : Int32) = 12 := by decide +kernel
theorem rf_n1 : ∀ b2 b1 b3 b4 b5 : Bool, ¬ (cond b2 1 (cond b1 13 (cond b3 14 (cond b4 4 (cond b5 5 0)))) : Int32) = 12 := by decide +kernel
theorem rf_n2 : ∀ b2 b1 b3 b4 b5 : Bool, ¬ (cond b2 2 (cond b1 1 (cond b3 3 (cond b4 6 (cond b5 5 0)))) : Int32) = 12 := by decide +kernel
theorem rf_n3 : ∀ b2 b1 b3 b4 : Bool, ¬ (cond b2 2 (cond b1 7 (cond b3 8 (cond b4 5 0))) : Int32) = 12 := by decide +kernel
theorem rf_n4 : ∀ b2 b1 b3 b4 : Bool, ¬ (cond b2 2 (cond b1 (-1) (cond b3 8 (cond b4 9 0))) : Int32) = 12 := by decide +kernel
theorem rf_n6 : ∀ b2 b1 : Bool, ¬ (cond b2 2 (cond b1 11 0) : Int32) = 12 := by decide +kernel
theorem rf_dlo (ho : o ≤ 2) (hj : j < m) (hC : rf_C c su cf el) (hM : rf_M c m de mf px py) (hA : rf_A c a ar) (hV : rf_V c rc) :
    wpX_decide (fun r u' => wpY_decide (fun r' v' => r' = r ∧ i_Rel (k + 4) u' v') (nI c, nI m, nI a, ix, ln, bi, rc, tm, su, cf, el, de, mf, py, ar, tr, ps, pt) (nI o) (nI j)) (nI c, nI m, nI a, rc, ix, ln, tm, bi, su, cf, el, de, mf, px, ar, tr) (nI o) (nI j) := by
  have hm := hM.1
  have ha := hA.1
  obtain ⟨⟨dd, hd, ed⟩, f, hf, ef, hT⟩ := hM.2 j hj
  obtain ⟨w, w1, w2, w3⟩ : ∃ w, w ≤ f / 8 ∧ w ≤ a ∧ (w = f / 8 ∨ w = a) := by
    by_cases h : f / 8 ≤ a
    · exact ⟨f / 8, Nat.le_refl _, h, Or.inl rfl⟩
    · exact ⟨a, by omega, Nat.le_refl _, Or.inr rfl⟩
  have H : rf_H c a j (f / 8) w su cf el ar px py := ⟨hC, by omega, by omega, ha, w1, w2, w3, hA.2, hT⟩
  obtain ⟨ns, hn⟩ := rf_exT ((nI f &&& 1) = 0)
  obtain ⟨nl, hl⟩ := rf_exF (0 ≤ rc)
  obtain ⟨tb, h3⟩ := rf_exT (rf_as su cf el 8 rc (nI dd) = 0)
  obtain ⟨b1, h1⟩ := rf_exF ((nI f &&& 4) = 0)
  obtain ⟨b4, h4⟩ := rf_exF (nI a = nI (f / 8))
  obtain ⟨b5, h5⟩ : ∃ b, b = rf_mis (rf_as su cf el 8) ar px (j * 3) w 0 := ⟨_, rfl⟩
  obtain ⟨b6, h6⟩ := rf_exF ((nI f &&& 2) = 0)
  obtain ⟨b13, h13⟩ := rf_exF ((cf (nI dd).toNatClampNeg &&& 2) = 0)
  obtain ⟨b14, h14⟩ := rf_exF ((cf (nI dd).toNatClampNeg &&& 1) = 0)
  have ho' : o = 0 ∨ o = 1 ∨ o = 2 := by omega
  rcases ho' with e | e | e
  · subst e
    refine rf_dec (r := cond (ns && nl) 2 (cond b1 1 (cond (ns && (!nl && tb)) 3 (cond b4 4 (cond b5 5 0))))) (bi' := bi) (by decide) (fun post hp => ?_) (fun post hp => ?_) hC hM hA hV
    · exact rx_cmp ha (fun z hz => rx_17 ho hm hj hf ef ed hn (br_f (by decide) (rx_88a H hV hd hl h1 h3 h4 h5 hp)))
    · exact ry_dlo ho hm hj hf ef (fun z => by omega) (ry_o0 (ry_lo ho hm hj hf ef ed H hV hl hd hn h1 h3 h4 h5 h6 h13 h14 (fun ps pt => ry_f0 (ry_65 (by decide) (rf_n0 _ _ _ _ _) (hp ps pt)))))
  · subst e
    refine rf_dec (r := cond b1 1 (cond b13 13 (cond b14 14 (cond b4 4 (cond b5 5 0))))) (bi' := bi) (by decide) (fun post hp => ?_) (fun post hp => ?_) hC hM hA hV
    · exact rx_cmp ha (fun z hz => rx_17 ho hm hj hf ef ed hn (br_f (by decide) (rx_88b H hd h1 h13 h14 h4 h5 hp)))
    · exact ry_dlo ho hm hj hf ef (fun z => by omega) (ry_o1 (ry_lo ho hm hj hf ef ed H hV hl hd hn h1 h3 h4 h5 h6 h13 h14 (fun ps pt => ry_f1 (ry_65 (by decide) (rf_n1 _ _ _ _ _) (hp ps pt)))))
  · subst e
    by_cases e1 : f / 8 = 1
    · have H1 : rf_H c a j 1 w su cf el ar px py := e1 ▸ H
      refine rf_dec (r := cond (ns && nl) 2 (cond b1 1 (cond (ns && (!nl && tb)) 3 (cond b6 6 (cond b5 5 0))))) (bi' := bi) (by decide) (fun post hp => ?_) (fun post hp => ?_) hC hM hA hV
      · exact rx_cmp ha (fun z hz => rx_17 ho hm hj hf ef ed hn (br_t rfl (br_t (by rw [e1]; rfl) (rx_88c H1 hV hd hl h1 h3 h6 h5 hz hp))))
      · exact ry_dlo ho hm hj hf ef (fun _ => e1) (ry_o2 (ry_lo ho hm hj hf ef ed H hV hl hd hn h1 h3 h4 h5 h6 h13 h14 (fun ps pt => ry_f2 (ry_65 (by decide) (rf_n2 _ _ _ _ _) (hp ps pt)))))
    · have n1 : ¬ nI (f / 8) = 1 := fun z => e1 ((nI_eq (a := f / 8) (b := 1) (by omega) (by decide)).mp z)
      have ej : (nI j).toNatClampNeg = j := nI_clamp (by omega)
      refine rf_dec (r := -1) (bi' := bi) (by decide) (fun post hp => ?_) (fun post hp => ?_) hC hM hA hV
      · exact rx_cmp ha (fun z hz => rx_17 ho hm hj hf ef ed hn (br_t rfl (br_f n1 hp)))
      · refine br_f (by decide) (br_t (by decide) (br_f (by decide) (br_f (nI_pos (by omega)) (br_f (nI_ge hj (by omega)) (br_t rfl ⟨vp_in_nI (by omega) (by decide), br_f ?_ (ry_65 (by decide) (by decide) (hp ps pt))⟩)))))
        rw [ej, ef, (rf_sh f hf).2]
        exact n1
theorem rf_dbad (ho : o ≤ 2) (hb : id < 0 ∨ nI m ≤ id) (hC : rf_C c su cf el) (hM : rf_M c m de mf px py) (hA : rf_A c a ar) (hV : rf_V c rc) :
    wpX_decide (fun r u' => wpY_decide (fun r' v' => r' = r ∧ i_Rel (k + 4) u' v') (nI c, nI m, nI a, ix, ln, bi, rc, tm, su, cf, el, de, mf, py, ar, tr, ps, pt) (nI o) id) (nI c, nI m, nI a, rc, ix, ln, tm, bi, su, cf, el, de, mf, px, ar, tr) (nI o) id := by
  refine rf_dec (r := -1) (bi' := bi) (by omega) (fun post hp => ?_) (fun post hp => ?_) hC hM hA hV
  · exact rx_cmp hA.1 (fun z hz => rx_bad ho hM.1 hb hp)
  · exact ry_dbad ho hM.1 hb (ry_65 (by omega) (by decide) (hp ps pt))
theorem rx_h34 {post : Int32 → SX → Prop} {x1 z q7 q5 : Int32} (hx : x1 = 3 ∨ x1 = 4) (hC : rf_C c su cf el) (hA : rf_A c a ar) (hV : rf_V c rc) (hl : nl = false ↔ 0 ≤ rc)
    (hav : av = true ↔ (0 ≤ rc ∧ ¬ (cf rc.toNatClampNeg &&& 8) = 0)) (hz : zb = true ↔ (0 < a ∧ ¬ ar 0 < 0)) (ht : tb = true ↔ rf_as su cf el 8 (ar 0) (el rc.toNatClampNeg) = 0)
    (h8 : b8 = false ↔ (¬ ix < 0 ∧ ix < ln)) (hzz : (a = 0 ∧ z = -1) ∨ (0 < a ∧ z = ar 0)) (h7 : (x1 = 3 ∧ q7 = 7 ∧ q5 = 5) ∨ (¬ x1 = 3 ∧ q7 = -1 ∧ q5 = 9))
    (hp : post (cond nl 2 (cond (!nl && !av) q7 (cond b8 8 (cond (av && (zb && tb)) q5 0)))) (nI c, nI m, nI a, rc, ix, ln, tm, bi, su, cf, el, de, mf, px, ar, tr)) : wX_compute_17 post x1 id z (nI c) (nI m) (nI a) rc ix ln tm bi su cf el de mf px ar tr := by
  have h2 : (2 : Int32) < x1 := by
    rcases hx with e | e
    · rw [e]; decide
    · rw [e]; decide
  refine br_t h2 (rf_0 hl (fun e => ?_) (fun e => by subst e; exact hp))
  have h0 := hl.mp e
  obtain ⟨r, hr, er⟩ := rf_Vge hV h0
  have hav' : av = false ↔ (cf (nI r).toNatClampNeg &&& 8) = 0 := by
    rw [← er]
    constructor
    · intro e'
      exact Classical.byContradiction fun y => by
        rw [hav.mpr ⟨h0, y⟩] at e'
        exact (nomatch e')
    · intro y
      cases av with
      | false => rfl
      | true => exact absurd y (hav.mp rfl).2
  have hv : rf_V c z := by
    rcases hzz with ⟨_, e⟩ | ⟨h, e⟩
    · rw [e]; exact Or.inl rfl
    · rw [e]; exact hA.2 0 h
  have hz' : zb = false ↔ z < 0 := by
    rcases hzz with ⟨h, e⟩ | ⟨h, e⟩
    · subst e
      refine ⟨fun _ => rf_m1neg, fun _ => ?_⟩
      cases zb with
      | false => rfl
      | true => have := (hz.mp rfl).1; omega
    · subst e
      constructor
      · intro e'
        exact Classical.byContradiction fun y => by
          rw [hz.mpr ⟨h, y⟩] at e'
          exact (nomatch e')
      · intro y
        cases zb with
        | false => rfl
        | true => exact absurd y (hz.mp rfl).2
  have ht' : zb = true → (tb = true ↔ rf_as su cf el 8 z (el (nI r).toNatClampNeg) = 0) := by
    intro e'
    rcases hzz with ⟨h, e⟩ | ⟨h, e⟩
    · have := (hz.mp e').1
      omega
    · rw [e, ← er]
      exact ht
  subst e
  subst er
  have h325 := rx_325 hC hr hav' h8 hv hz' ht' h7 hp
  rcases hx with e | e
  · exact br_t e h325
  · exact br_f (by rw [e]; decide) (br_t e h325)
theorem rf_dhi (ho : 2 < o) (h7 : o < 7) (hC : rf_C c su cf el) (hM : rf_M c m de mf px py) (hA : rf_A c a ar) (hV : rf_V c rc) :
    wpX_decide (fun r u' => wpY_decide (fun r' v' => r' = r ∧ i_Rel (k + 4) u' v') (nI c, nI m, nI a, ix, ln, bi, rc, tm, su, cf, el, de, mf, py, ar, tr, ps, pt) (nI o) id) (nI c, nI m, nI a, rc, ix, ln, tm, bi, su, cf, el, de, mf, px, ar, tr) (nI o) id := by
  obtain ⟨nl, hl⟩ := rf_exF (0 ≤ rc)
  obtain ⟨av, hav⟩ := rf_exT (0 ≤ rc ∧ ¬ (cf rc.toNatClampNeg &&& 8) = 0)
  obtain ⟨zb, hz⟩ := rf_exT (0 < a ∧ ¬ ar 0 < 0)
  obtain ⟨tb, ht⟩ := rf_exT (rf_as su cf el 8 (ar 0) (el rc.toNatClampNeg) = 0)
  obtain ⟨b8, h8⟩ := rf_exF (¬ ix < 0 ∧ ix < ln)
  obtain ⟨b10, h10⟩ := rf_exF (0 ≤ tm)
  obtain ⟨b11, h11⟩ := rf_exT ((bi &&& 1) = 0)
  obtain ⟨b12, h12⟩ := rf_exF ((bi &&& 2) = 0)
  have h2 : (2 : Int32) < nI o := nI_lt (a := 2) ho (by omega)
  have ho' : o = 3 ∨ o = 4 ∨ o = 5 ∨ o = 6 := by omega
  rcases ho' with e | e | e | e
  · subst e
    refine rf_dec (r := cond nl 2 (cond (!nl && !av) 7 (cond b8 8 (cond (av && (zb && tb)) 5 0)))) (bi' := bi) (by decide) (fun post hp => ?_) (fun post hp => ?_) hC hM hA hV
    · exact rx_cmp hA.1 (fun z hzz => rx_h34 (Or.inl rfl) hC hA hV hl hav hz ht h8 hzz (Or.inl ⟨rfl, rfl, rfl⟩) hp)
    · exact ry_dhi ho h7 (ry_o3 (ry_hi h2 hC hA hV hl hav hz ht h8 h10 h11 h12 (fun ps pt => ry_f3 (ry_65 (by decide) (rf_n3 _ _ _ _) (hp ps pt)))))
  · subst e
    refine rf_dec (r := cond nl 2 (cond (!nl && !av) (-1) (cond b8 8 (cond (av && (zb && tb)) 9 0)))) (bi' := bi) (by decide) (fun post hp => ?_) (fun post hp => ?_) hC hM hA hV
    · exact rx_cmp hA.1 (fun z hzz => rx_h34 (Or.inr rfl) hC hA hV hl hav hz ht h8 hzz (Or.inr ⟨by decide, rfl, rfl⟩) hp)
    · exact ry_dhi ho h7 (ry_o4 (ry_hi h2 hC hA hV hl hav hz ht h8 h10 h11 h12 (fun ps pt => ry_f4 (ry_65 (by decide) (rf_n4 _ _ _ _) (hp ps pt)))))
  · subst e
    refine rf_dec (r := cond nl 2 (cond b10 10 (cond b11 11 (cond b12 12 0)))) (bi' := cond (!nl && (!b10 && (!b11 && b12))) (bi &&& 1) bi) (by decide) (fun post hp => ?_) (fun post hp => ?_) hC hM hA hV
    · refine rx_cmp hA.1 (fun z hzz => br_t (by decide) (rf_0 hl (fun e => ?_) (fun e => by subst e; exact hp)))
      subst e
      refine br_f (by decide) (br_f (by decide) (br_t rfl (rf_0 h10 (fun e => ?_) (fun e => by subst e; exact hp))))
      subst e
      refine rf_1 h11 (fun e => by subst e; exact hp) (fun e => ?_)
      subst e
      exact rf_0 h12 (fun e => by subst e; exact hp) (fun e => by subst e; exact nm_e hp)
    · refine ry_dhi ho h7 (ry_o5 (ry_hi h2 hC hA hV hl hav hz ht h8 h10 h11 h12 (fun ps pt => ry_f5 ?_)))
      have hp' := hp ps pt
      clear hp hl hav hz ht h8 h10 h11 h12
      cases nl <;> cases b10 <;> cases b11 <;> cases b12 <;> first | exact ry_65 (by decide) (by decide) hp' | exact ry_65b (by decide) hp'
  · subst e
    refine rf_dec (r := cond nl 2 (cond b11 11 0)) (bi' := bi) (by decide) (fun post hp => ?_) (fun post hp => ?_) hC hM hA hV
    · refine rx_cmp hA.1 (fun z hzz => br_t (by decide) (rf_0 hl (fun e => ?_) (fun e => by subst e; exact hp)))
      subst e
      refine br_f (by decide) (br_f (by decide) (br_f (by decide) (rf_1 h11 (fun e => by subst e; exact hp) (fun e => by subst e; exact hp))))
    · exact ry_dhi ho h7 (ry_o6 (ry_hi h2 hC hA hV hl hav hz ht h8 h10 h11 h12 (fun ps pt => ry_f6 (ry_65 (by decide) (rf_n6 _ _) (hp ps pt)))))
end
theorem i_vc_decide {k : Nat} {u : SX} {v : SY} (I : i_Rel k u v) (hk : k + 4 ≤ 2048) (v1 : Int32) (v2 : Int32) : wpX_decide (fun r u' => wpY_decide (fun r' v' => r' = r ∧ i_Rel (k + 4) u' v') v v1 v2) u v1 v2 := by
  refine rf_el (P := fun u v => wpX_decide (fun r u' => wpY_decide (fun r' v' => r' = r ∧ i_Rel (k + 4) u' v') v v1 v2) u v1 v2) ?_ I
  intro c m a rc ix ln tm bi su cf el de mf px py ar tr ps pt hC hM hA hV
  rcases pk_ix v1 (n := 7) (by decide) with h | h | ⟨o, ho, e⟩
  · exact br_t h (br_t h ⟨rfl, rf_mk hC hM hA hV⟩)
  · have h0 : ¬ v1 < 0 := fun z => by
      have := Int32.lt_iff_toInt_lt.mp z
      have h' := Int32.le_iff_toInt_le.mp h
      rw [nI_toInt (by decide)] at h'
      rw [show (0 : Int32).toInt = 0 from by decide] at this
      omega
    have h6 : ¬ v1 ≤ 6 := fun z => by
      have := Int32.le_iff_toInt_le.mp z
      have h' := Int32.le_iff_toInt_le.mp h
      rw [nI_toInt (by decide)] at h'
      rw [show (6 : Int32).toInt = 6 from by decide] at this
      omega
    exact br_f h0 (br_f h6 (br_f h0 (br_f h6 ⟨rfl, rf_mk hC hM hA hV⟩)))
  · subst e
    by_cases h2 : o ≤ 2
    · rcases pk_ix v2 (n := m) (by have := hM.1; omega) with h | h | ⟨j, hj, e⟩
      · exact rf_dbad h2 (Or.inl h) hC hM hA hV
      · exact rf_dbad h2 (Or.inr h) hC hM hA hV
      · subst e
        exact rf_dlo h2 hj hC hM hA hV
    · exact rf_dhi (by omega) ho hC hM hA hV
end
section
/-! addClass and addMember -/
theorem rf_s8 : ∀ e, e < 8 → vp_nar .short (nI e).toInt16.toInt32 = nI e := by
  intro e he
  rw [pk_vs]
  exact (by decide +kernel : ∀ e, e < 8 → (nI e).toInt16.toInt32 = nI e) e he
theorem rf_sm1 : vp_nar .short (-1) = -1 := by rw [vp_nar_short]; decide
theorem rf_sm2 : vp_nar .short (-1 : Int32).toInt16.toInt32 = -1 := by rw [vp_nar_short]; decide
theorem rf_s00 : vp_nar .short 0 = 0 := by rw [vp_nar_short]; decide
theorem rf_s01 : vp_nar .short (0 : Int32).toInt16.toInt32 = 0 := by rw [vp_nar_short]; decide
theorem rf_by : ∀ e, e < 128 → vp_nar .byte (nI e).toInt8.toInt32 = nI e := by
  intro e he
  rw [pk_vb]
  exact (by decide +kernel : ∀ e, e < 128 → (nI e).toInt8.toInt32 = nI e) e he
theorem rf_ge0 {c : Nat} {x : Int32} (hc : c < 2 ^ 31) (h : nI c ≤ x) : ¬ x < 0 := fun z => by
  have := Int32.lt_iff_toInt_lt.mp z
  have h' := Int32.le_iff_toInt_le.mp h
  rw [nI_toInt hc] at h'
  rw [show (0 : Int32).toInt = 0 from by decide] at this
  omega
theorem rf_Ca {c p : Nat} {su cf el : Nat → Int32} {x y : Int32} (hC : rf_C c su cf el) (h8 : c < 8) (hp : p < c) (h : ¬ (x &&& 8) = 0 → p = 0 ∧ ∃ e, e < c ∧ y = nI e) :
    rf_C (c + 1) (upd su c (nI p)) (upd cf c x) (upd el c y) := by
  obtain ⟨c1, c8, f0, s0, hs, ha⟩ := hC
  refine ⟨by omega, by omega, ?_, ?_, ?_, ?_⟩
  · rw [pk_un (by omega)]
    exact f0
  · rw [pk_un (by omega)]
    exact s0
  · intro i i0 ic
    by_cases e : i = c
    · subst e
      exact ⟨p, hp, pk_us⟩
    · rw [pk_un e]
      exact hs i i0 (by omega)
  · intro i ic hne
    by_cases e : i = c
    · subst e
      rw [pk_us] at hne
      obtain ⟨p0, e, he, ey⟩ := h hne
      subst p0
      exact ⟨pk_us, e, he, by rw [pk_us]; exact ey⟩
    · rw [pk_un e] at hne
      rw [pk_un e, pk_un e]
      exact ha i (by omega) hne
theorem rf_Ms {c m : Nat} {de mf px py : Nat → Int32} (h : rf_M c m de mf px py) : rf_M (c + 1) m de mf px py := by
  refine ⟨h.1, fun j hj => ?_⟩
  obtain ⟨⟨d, hd, ed⟩, f, hf, ef, ht⟩ := h.2 j hj
  refine ⟨⟨d, by omega, ed⟩, f, hf, ef, fun i hi => ?_⟩
  obtain ⟨t, h1, h2⟩ := ht i hi
  exact ⟨t, by omega, h2⟩
theorem rf_As {c a : Nat} {ar : Nat → Int32} (h : rf_A c a ar) : rf_A (c + 1) a ar := ⟨h.1, fun i hi => rf_Vs (h.2 i hi)⟩
section
variable {k c m a : Nat} {rc ix ln : Int32} {tm : Int64} {bi : Int32} {su cf el de mf px py ar : Nat → Int32} {tr : Nat → Int64} {ps pt : Nat → Int32}
variable {v1 v2 v3 : Int32} {f p : Nat}
theorem rf_f8 : ∀ f, f < 8 → (nI f &&& 8) = 0 := by decide +kernel
theorem rc_131 {post : Int32 → SX → Prop} (hC : rf_C c su cf el) (hM : rf_M c m de mf px py) (hA : rf_A c a ar) (hV : rf_V c rc) (h8 : c < 8) (hf : f < 8) (hp : p < c)
    (hpost : ∀ r u', wY_addClass_104 (fun r' v' => r' = r ∧ i_Rel k u' v') (nI p) (nI f) (nI c) (nI m) (nI a) ix ln bi rc tm su cf el de mf py ar tr ps pt → post r u') : wX_addClass_131 post (nI p) (nI f) (nI c) (nI c) (nI m) (nI a) rc ix ln tm bi su cf el de mf px ar tr := by
  have ic : vp_in (nI c) 8 := vp_in_nI h8 (by decide)
  have ec : (nI c).toNatClampNeg = c := nI_clamp (by omega)
  have e1 : vp_nar .short (nI p).toInt16.toInt32 = nI p := rf_s8 p (by omega)
  have e2 : vp_nar .byte (nI f).toInt8.toInt32 = nI f := rf_by f (by omega)
  refine ⟨ic, nm_r (e' := upd su c (nI p)) (by rw [ec, e1]) ⟨ic, nm_r (e' := upd el c (-1)) (by rw [ec, rf_sm1]) ⟨ic, nm_r (e' := upd cf c (nI f)) (by rw [ec, e2]) (nm_r (nI_1 c) (hpost _ _ ?_))⟩⟩⟩
  refine ⟨ic, nm_r (e' := upd su c (nI p)) (by rw [ec, e1]) ⟨ic, nm_r (e' := upd cf c (nI f)) (by rw [ec, e2]) ⟨ic, nm_r (e' := upd el c (-1)) (by rw [ec, rf_sm2]) (nm_r (nI_1 c) ⟨rfl, ?_⟩)⟩⟩⟩
  exact rf_mk (rf_Ca hC h8 hp (fun z => absurd (rf_f8 f hf) z)) (rf_Ms hM) (rf_As hA) (rf_Vs hV)
theorem rc_40 {post : Int32 → SX → Prop} (hC : rf_C c su cf el) (hM : rf_M c m de mf px py) (hA : rf_A c a ar) (hV : rf_V c rc) (h8 : c < 8) (hf : f ≤ 8)
    (hpost : ∀ r u', wY_addClass_40 (fun r' v' => r' = r ∧ i_Rel k u' v') v1 v3 (nI f) (nI c) (nI m) (nI a) ix ln bi rc tm su cf el de mf py ar tr ps pt → post r u') : wX_addClass_40 post v1 v3 (nI f) (nI c) (nI m) (nI a) rc ix ln tm bi su cf el de mf px ar tr := by
  have ic : vp_in (nI c) 8 := vp_in_nI h8 (by decide)
  have ec : (nI c).toNatClampNeg = c := nI_clamp (by omega)
  have R : ∀ r : Int32, r = r ∧ i_Rel k (nI c, nI m, nI a, rc, ix, ln, tm, bi, su, cf, el, de, mf, px, ar, tr) (nI c, nI m, nI a, ix, ln, bi, rc, tm, su, cf, el, de, mf, py, ar, tr, ps, pt) := fun r => ⟨rfl, rf_mk hC hM hA hV⟩
  by_cases e8 : f = 8
  · subst e8
    have y8 : nI 8 = 8 := by decide
    rcases pk_ix v3 (n := c) (by omega) with h | h | ⟨e, he, ee⟩
    · exact br_t y8 (br_t h (hpost _ _ (br_t y8 (br_t h (R _)))))
    · have h0 := rf_ge0 (by omega) h
      have h1 := Int32.not_lt.mpr h
      exact br_t y8 (br_f h0 (br_f h1 (hpost _ _ (br_t y8 (br_f h0 (br_f h1 (R _)))))))
    · subst ee
      have e1 : vp_nar .short (nI e).toInt16.toInt32 = nI e := rf_s8 e (by omega)
      have e2 : vp_nar .byte (nI 8).toInt8.toInt32 = nI 8 := rf_by 8 (by decide)
      have h0 : ¬ nI e < 0 := nI_pos (by omega)
      have h1 : nI e < nI c := nI_lt he (by omega)
      refine br_t y8 (br_f h0 (br_t h1 ⟨ic, nm_r (e' := upd su c (nI 0)) (by rw [ec, rf_s00, nI_0]) ⟨ic, nm_r (e' := upd el c (nI e)) (by rw [ec, e1]) ⟨ic, nm_r (e' := upd cf c (nI 8)) (by rw [ec, e2]) (nm_r (nI_1 c) (hpost _ _ ?_))⟩⟩⟩))
      refine br_t y8 (br_f h0 (br_t h1 ⟨ic, nm_r (e' := upd su c (nI 0)) (by rw [ec, rf_s01, nI_0]) ⟨ic, nm_r (e' := upd cf c (nI 8)) (by rw [ec, e2]) ⟨ic, nm_r (e' := upd el c (nI e)) (by rw [ec, e1]) (nm_r (nI_1 c) ⟨rfl, ?_⟩)⟩⟩⟩))
      exact rf_mk (rf_Ca hC h8 (by have := hC.1; omega) (fun _ => ⟨rfl, e, he, rfl⟩)) (rf_Ms hM) (rf_As hA) (rf_Vs hV)
  · have n8 : ¬ nI f = 8 := fun z => e8 ((nI_eq (a := f) (b := 8) (by omega) (by decide)).mp z)
    rcases pk_ix v1 (n := c) (by omega) with h | h | ⟨p, hp, ep⟩
    · exact br_f n8 (br_t h (hpost _ _ (br_f n8 (br_t h (R _)))))
    · have h0 := rf_ge0 (by omega) h
      have h1 := Int32.not_lt.mpr h
      exact br_f n8 (br_f h0 (br_f h1 (hpost _ _ (br_f n8 (br_f h0 (br_t h (R _)))))))
    · subst ep
      have h0 : ¬ nI p < 0 := nI_pos (by omega)
      have h1 : nI p < nI c := nI_lt hp (by omega)
      have h2 : ¬ nI c ≤ nI p := nI_ge hp (by omega)
      have ip : vp_in (nI p) 8 := vp_in_nI (by omega) (by decide)
      by_cases h12 : (cf (nI p).toNatClampNeg &&& 12) = 0
      · by_cases e5 : nI f = 5
        · by_cases p0 : nI p = 0
          · exact br_f n8 (br_f h0 (br_t h1 ⟨ip, br_t h12 (br_t e5 (br_t p0 (rc_131 hC hM hA hV h8 (by omega) hp fun r u' y => hpost r u' (br_f n8 (br_f h0 (br_f h2 ⟨ip, br_t h12 (br_t e5 (br_t p0 y))⟩))))))⟩))
          · exact br_f n8 (br_f h0 (br_t h1 ⟨ip, br_t h12 (br_t e5 (br_f p0 (hpost _ _ (br_f n8 (br_f h0 (br_f h2 ⟨ip, br_t h12 (br_t e5 (br_f p0 (R _)))⟩))))))⟩))
        · exact br_f n8 (br_f h0 (br_t h1 ⟨ip, br_t h12 (br_f e5 (rc_131 hC hM hA hV h8 (by omega) hp fun r u' y => hpost r u' (br_f n8 (br_f h0 (br_f h2 ⟨ip, br_t h12 (br_f e5 y)⟩)))))⟩))
      · exact br_f n8 (br_f h0 (br_t h1 ⟨ip, br_f h12 (hpost _ _ (br_f n8 (br_f h0 (br_f h2 ⟨ip, br_f h12 (R _)⟩))))⟩))
end
theorem i_vc_addClass {k : Nat} {u : SX} {v : SY} (I : i_Rel k u v) (hk : k + 4 ≤ 2048) (v1 : Int32) (v2 : Int32) (v3 : Int32) : wpX_addClass (fun r u' => wpY_addClass (fun r' v' => r' = r ∧ i_Rel (k + 4) u' v') v v1 v2 v3) u v1 v2 v3 := by
  refine rf_el (P := fun u v => wpX_addClass (fun r u' => wpY_addClass (fun r' v' => r' = r ∧ i_Rel (k + 4) u' v') v v1 v2 v3) u v1 v2 v3) ?_ I
  intro c m a rc ix ln tm bi su cf el de mf px py ar tr ps pt hC hM hA hV
  obtain ⟨f, hf, ef⟩ := pk_andE v2 (m := 15) 4 (by decide)
  have R : ∀ r : Int32, r = r ∧ i_Rel (k + 4) (nI c, nI m, nI a, rc, ix, ln, tm, bi, su, cf, el, de, mf, px, ar, tr) (nI c, nI m, nI a, ix, ln, bi, rc, tm, su, cf, el, de, mf, py, ar, tr, ps, pt) := fun r => ⟨rfl, rf_mk hC hM hA hV⟩
  have c8 := hC.2.1
  refine nm_r ef ?_
  by_cases h8 : c = 8
  · have h1 : ¬ nI c < 8 := nI_nlt (b := 8) (by omega) (by omega)
    have h2 : nI c = 8 := by rw [h8]; decide
    exact br_f h1 (nm_r ef (br_t h2 (R _)))
  · have h1 : nI c < 8 := nI_lt (b := 8) (by omega) (by decide)
    have h2 : ¬ nI c = 8 := fun z => h8 ((nI_eq (a := c) (b := 8) (by omega) (by decide)).mp z)
    refine br_t h1 ?_
    by_cases f8 : f ≤ 8
    · have h3 : ¬ 8 < nI f := nI_nlt (a := 8) (b := f) f8 (by decide)
      refine br_f h3 ?_
      by_cases h4 : (nI f &&& 4) = 0
      · exact br_t h4 (rc_40 hC hM hA hV (by omega) f8 fun r u' y => nm_r ef (br_f h2 (br_f h3 (br_t h4 y))))
      · refine br_f h4 ?_
        by_cases h5 : nI f = 5
        · exact br_t h5 (rc_40 hC hM hA hV (by omega) f8 fun r u' y => nm_r ef (br_f h2 (br_f h3 (br_f h4 (br_t h5 y)))))
        · exact br_f h5 (nm_r ef (br_f h2 (br_f h3 (br_f h4 (br_f h5 (R _))))))
    · have h3 : 8 < nI f := nI_lt (a := 8) (by omega) (by omega)
      exact br_t h3 (nm_r ef (br_f h2 (br_t h3 (R _))))
end
section
/-! addMember -/
def rf_ty (v : Int32) (i : Nat) : Int32 := ((v.toUInt32 >>> ((8 * nI i).toUInt32 &&& Int32.toUInt32 31)).toInt32).toInt8.toInt32
def rf_ok (c : Nat) (v : Int32) (i : Nat) : Prop := ¬ rf_ty v i < 0 ∧ rf_ty v i < nI c
def rf_w (p : Nat → Int32) (b : Nat) (v : Int32) : Nat → Nat → Int32
  | 0 => p
  | i + 1 => upd (rf_w p b v i) (b + i) (vp_nar .char (((rf_ty v i).toUInt32 % 65536).toInt32))
theorem rf_w_lo {p : Nat → Int32} {b : Nat} {v : Int32} {j : Nat} (h : j < b) : ∀ q, rf_w p b v q j = p j := by
  intro q
  induction q with
  | zero => rfl
  | succ q ih =>
    rw [rf_w, pk_un (by omega)]
    exact ih
theorem rf_w_at {p : Nat → Int32} {b : Nat} {v : Int32} {i : Nat} : ∀ q, i < q → rf_w p b v q (b + i) = vp_nar .char (((rf_ty v i).toUInt32 % 65536).toInt32) := by
  intro q
  induction q with
  | zero => intro h; omega
  | succ q ih =>
    intro h
    rw [rf_w]
    by_cases e : i = q
    · subst e
      exact pk_us
    · rw [pk_un (by omega)]
      exact ih (by omega)
theorem rf_ch : ∀ t, t < 8 → vp_nar .char (((nI t).toUInt32 % 65536).toInt32) = nI t := by
  intro t ht
  rw [pk_vc]
  exact (by decide +kernel : ∀ t, t < 8 → ((nI t).toUInt32 % 65536).toInt32 = nI t) t ht
theorem rf_okv {c : Nat} {v : Int32} {i : Nat} (hc : c ≤ 8) (h : rf_ok c v i) : ∃ t, t < c ∧ vp_nar .char (((rf_ty v i).toUInt32 % 65536).toInt32) = nI t := by
  obtain ⟨t, ht, e⟩ := nI_of h.1
  have h2 := h.2
  rw [e, nI_ltI ht (by omega)] at h2
  exact ⟨t, h2, by rw [e]; exact rf_ch t (by omega)⟩
theorem rf_Mk {c m q : Nat} {v : Int32} {de mf px py : Nat → Int32} (h : rf_M c m de mf px py) : rf_M c m de mf px (rf_w py (m * 3) v q) := by
  refine ⟨h.1, fun j hj => ?_⟩
  obtain ⟨hd, f, hf, ef, ht⟩ := h.2 j hj
  refine ⟨hd, f, hf, ef, fun i hi => ?_⟩
  rw [rf_w_lo (by omega)]
  exact ht i hi
theorem rf_Ma {c m f dd : Nat} {v : Int32} {de mf px py : Nat → Int32} (hc : c ≤ 8) (h : rf_M c m de mf px py) (h8 : m < 8) (hd : dd < c) (hf : f < 32) (ok : ∀ j, j < f / 8 → rf_ok c v j) :
    rf_M c (m + 1) (upd de m (nI dd)) (upd mf m (nI f)) (rf_w px (m * 3) v (f / 8)) (rf_w py (m * 3) v (f / 8)) := by
  refine ⟨by omega, fun j hj => ?_⟩
  by_cases e : j = m
  · subst e
    refine ⟨⟨dd, hd, pk_us⟩, f, hf, pk_us, fun i hi => ?_⟩
    obtain ⟨t, ht, et⟩ := rf_okv hc (ok i hi)
    exact ⟨t, ht, by rw [rf_w_at _ hi]; exact et, by rw [rf_w_at _ hi]; exact et⟩
  · rw [pk_un e, pk_un e]
    obtain ⟨hd, f', hf', ef, ht⟩ := h.2 j (by omega)
    refine ⟨hd, f', hf', ef, fun i hi => ?_⟩
    rw [rf_w_lo (by omega), rf_w_lo (by omega)]
    exact ht i hi
section
variable {k c m a : Nat} {rc ix ln : Int32} {tm : Int64} {bi : Int32} {su cf el de mf px py ar : Nat → Int32} {tr : Nat → Int64} {ps pt : Nat → Int32}
variable {v1 v2 v3 : Int32} {n f dd : Nat}
theorem rx_51 {post : Int32 → SX → Prop} (hn : n ≤ 3) (h1 : (∀ j, j < n → rf_ok c v3 j) → ∃ n100 : Nat, wX_addMember_100 post v1 v2 v3 (nI n) (nI m) (nI c) (nI m) (nI a) rc ix ln tm bi n100 0 su cf el de mf px ar tr)
    (h2 : (¬ ∀ j, j < n → rf_ok c v3 j) → post (-3) (nI c, nI m, nI a, rc, ix, ln, tm, bi, su, cf, el, de, mf, px, ar, tr)) :
    ∀ d i, i + d = n → (∀ j, j < i → rf_ok c v3 j) → wX_addMember_51 post v1 v2 v3 (nI n) (nI c) (nI m) (nI a) rc ix ln tm bi su cf el de mf px ar tr (d + 1) (nI i) := by
  intro d
  induction d with
  | zero =>
    intro i hi hk
    exact br_t (nI_le (by omega) (by omega)) (h1 (fun j hj => hk j (by omega)))
  | succ d ih =>
    intro i hi hk
    refine br_f (nI_ge (by omega) (by omega)) (nm_r (e' := rf_ty v3 i) rfl ?_)
    by_cases t0 : rf_ty v3 i < 0
    · exact br_t t0 (h2 (fun z => (z i (by omega)).1 t0))
    · by_cases t1 : rf_ty v3 i < nI c
      · refine br_f t0 (br_t t1 (nm_r (nI_1 i) (ih (i + 1) (by omega) (fun j hj => ?_))))
        by_cases e : j = i
        · subst e
          exact ⟨t0, t1⟩
        · exact hk j (by omega)
      · exact br_f t0 (br_f t1 (h2 (fun z => t1 (z i (by omega)).2)))
theorem rx_100 {post : Int32 → SX → Prop} (hn : n ≤ 3) (hm : m < 8) (ed : vp_nar .byte v1.toInt8.toInt32 = nI dd) (ef : vp_nar .byte (((v2 &&& 7) ||| (nI n <<< ((3 : Int32) &&& 31))).toInt8.toInt32) = nI f)
    (hp : post (nI m) (nI c, nI (m + 1), nI a, rc, ix, ln, tm, bi, su, cf, el, upd de m (nI dd), upd mf m (nI f), rf_w px (m * 3) v3 n, ar, tr)) :
    ∀ d i, i + d = n → wX_addMember_100 post v1 v2 v3 (nI n) (nI m) (nI c) (nI m) (nI a) rc ix ln tm bi (d + 1) (nI i) su cf el de mf (rf_w px (m * 3) v3 i) ar tr := by
  have im : vp_in (nI m) 8 := vp_in_nI hm (by decide)
  have em : (nI m).toNatClampNeg = m := nI_clamp (by omega)
  intro d
  induction d with
  | zero =>
    intro i hi
    have e : i = n := by omega
    subst e
    exact br_t (nI_le (by omega) (by omega)) ⟨im, nm_r (e' := upd de m (nI dd)) (by rw [em, ed]) ⟨im, nm_r (e' := upd mf m (nI f)) (by rw [em, ef]) (nm_r (nI_1 m) hp)⟩⟩
  | succ d ih =>
    intro i hi
    have e4 : ((nI m * 3) + nI i).toNatClampNeg = m * 3 + i := by rw [rf_e3]; exact nI_clamp (by omega)
    refine br_f (nI_ge (by omega) (by omega)) (nm_r (e' := rf_ty v3 i) rfl ⟨by rw [rf_e3]; exact vp_in_nI (by omega) (by decide), nm_r (e' := rf_w px (m * 3) v3 (i + 1)) (by rw [e4]; rfl) (nm_r (nI_1 i) ?_)⟩)
    exact ih (i + 1) (by omega)
theorem ry_48 {post : Int32 → SY → Prop} (hn : n ≤ 3) (hm : m < 8) (ed : vp_nar .byte v1.toInt8.toInt32 = nI dd) (ef : vp_nar .byte ((v2 &&& 31).toInt8.toInt32) = nI f)
    (h1 : (∀ j, j < n → rf_ok c v3 j) → post (nI m) (nI c, nI (m + 1), nI a, ix, ln, bi, rc, tm, su, cf, el, upd de m (nI dd), upd mf m (nI f), rf_w py (m * 3) v3 n, ar, tr, ps, pt))
    (h2 : (¬ ∀ j, j < n → rf_ok c v3 j) → ∀ q, post (-3) (nI c, nI m, nI a, ix, ln, bi, rc, tm, su, cf, el, de, mf, rf_w py (m * 3) v3 q, ar, tr, ps, pt)) :
    ∀ d i, i + d = n → (∀ j, j < i → rf_ok c v3 j) → wY_addMember_48 post v1 v2 v3 (nI n) (nI c) (nI m) (nI a) ix ln bi rc tm (d + 1) (nI i) su cf el de mf (rf_w py (m * 3) v3 i) ar tr ps pt := by
  have im : vp_in (nI m) 8 := vp_in_nI hm (by decide)
  have em : (nI m).toNatClampNeg = m := nI_clamp (by omega)
  intro d
  induction d with
  | zero =>
    intro i hi hk
    have e : i = n := by omega
    subst e
    exact br_t (nI_le (by omega) (by omega)) ⟨im, nm_r (e' := upd de m (nI dd)) (by rw [em, ed]) ⟨im, nm_r (e' := upd mf m (nI f)) (by rw [em, ef]) (nm_r (nI_1 m) (h1 hk))⟩⟩
  | succ d ih =>
    intro i hi hk
    have e4 : ((nI m * 3) + nI i).toNatClampNeg = m * 3 + i := by rw [rf_e3]; exact nI_clamp (by omega)
    refine br_f (nI_ge (by omega) (by omega)) (nm_r (e' := rf_ty v3 i) rfl ?_)
    by_cases t0 : rf_ty v3 i < 0
    · exact br_t t0 (h2 (fun z => (z i (by omega)).1 t0) i)
    · by_cases t1 : rf_ty v3 i < nI c
      · refine br_f t0 (br_t t1 ⟨by rw [rf_e3]; exact vp_in_nI (by omega) (by decide), nm_r (e' := rf_w py (m * 3) v3 (i + 1)) (by rw [e4]; rfl) (nm_r (nI_1 i) (ih (i + 1) (by omega) (fun j hj => ?_)))⟩)
        by_cases e : j = i
        · subst e
          exact ⟨t0, t1⟩
        · exact hk j (by omega)
      · exact br_f t0 (br_f t1 (h2 (fun z => t1 (z i (by omega)).2) i))
end
theorem rf_or8 : ∀ g, g < 32 → (nI (g % 8) ||| (nI (g / 8) <<< ((3 : Int32) &&& 31))) = nI g := by decide +kernel
theorem i_vc_addMember {k : Nat} {u : SX} {v : SY} (I : i_Rel k u v) (hk : k + 4 ≤ 2048) (v1 : Int32) (v2 : Int32) (v3 : Int32) : wpX_addMember (fun r u' => wpY_addMember (fun r' v' => r' = r ∧ i_Rel (k + 4) u' v') v v1 v2 v3) u v1 v2 v3 := by
  refine rf_el (P := fun u v => wpX_addMember (fun r u' => wpY_addMember (fun r' v' => r' = r ∧ i_Rel (k + 4) u' v') v v1 v2 v3) u v1 v2 v3) ?_ I
  intro c m a rc ix ln tm bi su cf el de mf px py ar tr ps pt hC hM hA hV
  have R : ∀ r : Int32, r = r ∧ i_Rel (k + 4) (nI c, nI m, nI a, rc, ix, ln, tm, bi, su, cf, el, de, mf, px, ar, tr) (nI c, nI m, nI a, ix, ln, bi, rc, tm, su, cf, el, de, mf, py, ar, tr, ps, pt) := fun r => ⟨rfl, rf_mk hC hM hA hV⟩
  have c8 := hC.2.1
  have m8 := hM.1
  by_cases h8 : m = 8
  · have h1 : ¬ nI m < 8 := nI_nlt (b := 8) (by omega) (by omega)
    have h2 : nI m = 8 := by rw [h8]; decide
    exact br_f h1 (br_t h2 (R _))
  · have h1 : nI m < 8 := nI_lt (b := 8) (by omega) (by decide)
    have h2 : ¬ nI m = 8 := fun z => h8 ((nI_eq (a := m) (b := 8) (by omega) (by decide)).mp z)
    refine br_t h1 ?_
    rcases pk_ix v1 (n := c) (by omega) with h | h | ⟨d, hd, e⟩
    · exact br_t h (br_f h2 (br_t h (R _)))
    · have h0 := rf_ge0 (by omega) h
      have h3 := Int32.not_lt.mpr h
      exact br_f h0 (br_f h3 (br_f h2 (br_f h0 (br_t h (R _)))))
    · subst e
      have h0 : ¬ nI d < 0 := nI_pos (by omega)
      have h3 : nI d < nI c := nI_lt hd (by omega)
      have h4 : ¬ nI c ≤ nI d := nI_ge hd (by omega)
      have idd : vp_in (nI d) 8 := vp_in_nI (by omega) (by decide)
      by_cases h5 : (cf (nI d).toNatClampNeg &&& 8) = 0
      · obtain ⟨f, hf, ef, e7, e31⟩ : ∃ f, f < 32 ∧ ((v2.toUInt32 >>> ((3 : Int32).toUInt32 &&& Int32.toUInt32 31)).toInt32) &&& 3 = nI (f / 8) ∧ v2 &&& 7 = nI (f % 8) ∧ v2 &&& 31 = nI f := by
          refine ⟨v2.toBitVec.toNat % 32, Nat.mod_lt _ (by decide), ?_, ?_, ?_⟩
          · rw [pk_and _ (m := 3) 2 (by decide), pk_ushr v2 3 3 (by decide)]
            exact congrArg nI (by omega)
          · rw [pk_and _ (m := 7) 3 (by decide)]
            exact congrArg nI (by omega)
          · exact pk_and _ (m := 31) 5 (by decide)
        have ed : vp_nar .byte (nI d).toInt8.toInt32 = nI d := rf_by d (by omega)
        have eX : vp_nar .byte (((v2 &&& 7) ||| (nI (f / 8) <<< ((3 : Int32) &&& 31))).toInt8.toInt32) = nI f := by
          rw [e7, rf_or8 f hf]
          exact rf_by f (by omega)
        have eY : vp_nar .byte ((v2 &&& 31).toInt8.toInt32) = nI f := by
          rw [e31]
          exact rf_by f (by omega)
        have n3 : f / 8 ≤ 3 := by omega
        refine br_f h0 (br_t h3 ⟨idd, br_t h5 (nm_r ef ⟨f / 8 + 1, rx_51 n3 (fun ok => ?_) (fun nok => ?_) (f / 8) 0 (by omega) (fun j hj => absurd hj (Nat.not_lt_zero j))⟩)⟩)
        · refine ⟨f / 8 + 1, rx_100 n3 (by omega) ed eX ?_ (f / 8) 0 (by omega)⟩
          refine br_f h2 (br_f h0 (br_f h4 ⟨idd, br_t h5 (nm_r ef ⟨f / 8 + 1, ry_48 n3 (by omega) ed eY (fun _ => ⟨rfl, ?_⟩) (fun z => absurd ok z) (f / 8) 0 (by omega) (fun j hj => absurd hj (Nat.not_lt_zero j))⟩)⟩))
          exact rf_mk hC (rf_Ma c8 hM (by omega) hd hf ok) hA hV
        · refine br_f h2 (br_f h0 (br_f h4 ⟨idd, br_t h5 (nm_r ef ⟨f / 8 + 1, ry_48 n3 (by omega) ed eY (fun z => absurd z nok) (fun _ q => ⟨rfl, ?_⟩) (f / 8) 0 (by omega) (fun j hj => absurd hj (Nat.not_lt_zero j))⟩)⟩))
          exact rf_mk hC (rf_Mk hM) hA hV
      · exact br_f h0 (br_t h3 ⟨idd, br_f h5 (br_f h2 (br_f h0 (br_f h4 ⟨idd, br_f h5 (R _)⟩)))⟩)
end
section
/-! put, trail, sizes, the constructors -/
theorem rf_upd0 : upd (fun _ => 0) 0 0 = (fun _ => 0) := by
  funext i
  by_cases e : i = 0
  · subst e
    exact pk_us
  · exact pk_un e
theorem i_vc0 : wpX_init (fun u => wpY_init (fun v => i_Rel 0 u v)) := by
  refine nm_r (e' := upd (fun _ => 0) 0 (-1)) (by rw [rf_sm1]) (nm_r (e' := fun _ => 0) (by rw [vp_nar_byte]; exact rf_upd0) (nm_r (e' := upd (fun _ => 0) 0 (-1)) (by rw [rf_sm1]) ?_))
  refine nm_r (e' := upd (fun _ => 0) 0 (-1)) (by rw [rf_sm1]) (nm_r (e' := upd (fun _ => 0) 0 (-1)) (by rw [rf_sm1]) ?_)
  refine rf_mk (c := 1) (m := 0) (a := 0) ?_ ?_ ?_ ?_
  · refine ⟨by decide, by decide, by decide, pk_us, fun i h1 h2 => by omega, fun i h1 h2 => ?_⟩
    exact absurd (by decide : ((0 : Int32) &&& 8) = 0) h2
  · exact ⟨by decide, fun j hj => absurd hj (Nat.not_lt_zero j)⟩
  · exact ⟨by decide, fun j hj => absurd hj (Nat.not_lt_zero j)⟩
  · exact Or.inl rfl
def rf_nm (c : Nat) (v : Int32) : Int32 := if v.toInt16.toInt32 < 0 then -1 else if v.toInt16.toInt32 < nI c then v.toInt16.toInt32 else -1
theorem rf_nmV {c : Nat} (hc : c ≤ 8) (v : Int32) : rf_V c (rf_nm c v) := by
  unfold rf_nm
  by_cases h : v.toInt16.toInt32 < 0
  · rw [if_pos h]
    exact Or.inl rfl
  · rw [if_neg h]
    by_cases h1 : v.toInt16.toInt32 < nI c
    · rw [if_pos h1]
      obtain ⟨j, hj, e⟩ := nI_of h
      rw [e, nI_ltI hj (by omega)] at h1
      exact Or.inr ⟨j, h1, e⟩
    · rw [if_neg h1]
      exact Or.inl rfl
theorem rf_nm16 (c : Nat) (v : Int32) : ∃ z : Int32, rf_nm c v = z.toInt16.toInt32 := by
  unfold rf_nm
  by_cases h : v.toInt16.toInt32 < 0
  · rw [if_pos h]
    exact ⟨-1, by decide⟩
  · rw [if_neg h]
    by_cases h1 : v.toInt16.toInt32 < nI c
    · rw [if_pos h1]
      exact ⟨v, rfl⟩
    · rw [if_neg h1]
      exact ⟨-1, by decide⟩
theorem rf_nmN (c : Nat) (v : Int32) : narrow .short (.int (rf_nm c v)) = .int (rf_nm c v) ∧ fits .short (.int (rf_nm c v)) = true ∧ vp_nar .short (rf_nm c v) = rf_nm c v ∧ vp_nar .short (rf_nm c v).toInt16.toInt32 = rf_nm c v := by
  obtain ⟨z, e⟩ := rf_nm16 c v
  rw [e]
  refine ⟨pk_ns z, pk_fs z, pk_vs z, ?_⟩
  rw [pk_vs]
  simp
section
variable {k c m a : Nat} {rc ix ln : Int32} {tm : Int64} {bi : Int32} {su cf el de mf px py ar : Nat → Int32} {tr : Nat → Int64} {ps pt : Nat → Int32}
variable {post : Int32 → Prop} {v : Int32}
theorem rx_nm (hp : post (rf_nm c v)) : wpX_norm post (nI c, nI m, nI a, rc, ix, ln, tm, bi, su, cf, el, de, mf, px, ar, tr) v := by
  unfold rf_nm at hp
  refine br_c (fun h => ?_) (fun h => br_c (fun h1 => ?_) (fun h1 => ?_))
  · rw [if_pos h] at hp
    exact hp
  · rw [if_neg h, if_pos h1] at hp
    exact hp
  · rw [if_neg h, if_neg h1] at hp
    exact hp
theorem ry_nm (hp : post (rf_nm c v)) : wpY_norm post (nI c, nI m, nI a, ix, ln, bi, rc, tm, su, cf, el, de, mf, py, ar, tr, ps, pt) v := by
  unfold rf_nm at hp
  refine br_c (fun h => ?_) (fun h => br_c (fun h1 => ⟨pk_ns v, ?_⟩) (fun h1 => ?_))
  · rw [if_pos h] at hp
    exact hp
  · rw [if_neg h, if_pos h1] at hp
    exact hp
  · rw [if_neg h, if_neg h1] at hp
    exact hp
end
theorem rf_Aa {c a : Nat} {ar : Nat → Int32} {x : Int32} (h : rf_A c a ar) (h4 : a < 4) (hx : rf_V c x) : rf_A c (a + 1) (upd ar a x) := by
  refine ⟨by omega, fun i hi => ?_⟩
  by_cases e : i = a
  · subst e
    rw [pk_us]
    exact hx
  · rw [pk_un e]
    exact h.2 i (by omega)
theorem i_vc_put {k : Nat} {u : SX} {v : SY} (I : i_Rel k u v) (hk : k + 4 ≤ 2048) (v1 : Int32) (v2 : Int32) (v3 : Int32) : wpX_put (fun r u' => wpY_put (fun r' v' => r' = r ∧ i_Rel (k + 4) u' v') v v1 v2 v3) u v1 v2 v3 := by
  refine rf_el (P := fun u v => wpX_put (fun r u' => wpY_put (fun r' v' => r' = r ∧ i_Rel (k + 4) u' v') v v1 v2 v3) u v1 v2 v3) ?_ I
  intro c m a rc ix ln tm bi su cf el de mf px py ar tr ps pt hC hM hA hV
  have R : ∀ r : Int32, r = r ∧ i_Rel (k + 4) (nI c, nI m, nI a, rc, ix, ln, tm, bi, su, cf, el, de, mf, px, ar, tr) (nI c, nI m, nI a, ix, ln, bi, rc, tm, su, cf, el, de, mf, py, ar, tr, ps, pt) := fun r => ⟨rfl, rf_mk hC hM hA hV⟩
  have c8 := hC.2.1
  have a4 := hA.1
  by_cases e1 : v1 = 76
  · subst e1
    obtain ⟨n1, n2, n3, n4⟩ := rf_nmN c v3
    refine br_t rfl (rx_nm ?_)
    refine br_f (by decide) (br_t rfl (ry_nm ⟨n1, n2, rfl, ?_⟩))
    exact rf_mk hC hM hA (rf_nmV c8 v3)
  refine br_f e1 ?_
  by_cases e2 : v1 = 97
  · subst e2
    refine br_t rfl ?_
    by_cases h4 : a = 4
    · have h1 : ¬ nI a < 4 := nI_nlt (b := 4) (by omega) (by omega)
      have h2 : nI a = 4 := by rw [h4]; decide
      exact br_f h1 (br_f (by decide) (br_f (by decide) (br_f (by decide) (br_f (by decide) (br_f (by decide) (br_t rfl (br_t h2 (R _))))))))
    · have h1 : nI a < 4 := nI_lt (b := 4) (by omega) (by decide)
      have h2 : ¬ nI a = 4 := fun z => h4 ((nI_eq (a := a) (b := 4) (by omega) (by decide)).mp z)
      have ia : vp_in (nI a) 4 := vp_in_nI (by omega) (by decide)
      have ea : (nI a).toNatClampNeg = a := nI_clamp (by omega)
      obtain ⟨n1, n2, n3, n4⟩ := rf_nmN c v3
      refine br_t h1 (rx_nm ⟨ia, nm_r (e' := upd ar a (rf_nm c v3)) (by rw [ea, n4]) (nm_r (nI_1 a) ?_)⟩)
      refine br_f (by decide) (br_f (by decide) (br_f (by decide) (br_f (by decide) (br_f (by decide) (br_t rfl (br_f h2 (nm_r (nI_1 a) (ry_nm ⟨ia, nm_r (e' := upd ar a (rf_nm c v3)) (by rw [ea, n3]) ⟨rfl, ?_⟩⟩))))))))
      exact rf_mk hC hM (rf_Aa hA (by omega) (rf_nmV c8 v3)) hV
  refine br_f e2 ?_
  by_cases e3 : v1 = 86
  · subst e3
    refine br_t rfl (br_f (by decide) (br_f (by decide) (br_t rfl ⟨rfl, ?_⟩)))
    exact rf_mk (a := 0) hC hM ⟨by omega, fun i hi => absurd hi (Nat.not_lt_zero i)⟩ hV
  refine br_f e3 ?_
  by_cases e4 : v1 = 91
  · subst e4
    refine br_t rfl ?_
    by_cases h : 0 ≤ v3
    · refine br_t h (br_f (by decide) (br_f (by decide) (br_f (by decide) (br_f (by decide) (br_t rfl (br_t h ⟨rfl, ?_⟩))))))
      exact rf_mk hC hM hA hV
    · exact br_f h (br_f (by decide) (br_f (by decide) (br_f (by decide) (br_f (by decide) (br_t rfl (br_f h (R _)))))))
  refine br_f e4 ?_
  by_cases e5 : v1 = 74
  · subst e5
    refine br_t rfl (nm_e ?_)
    refine br_c (fun h => ?_) (fun h => ?_)
    · exact br_t rfl (nm_e (br_t h ⟨rfl, rf_mk hC hM hA hV⟩))
    · exact br_t rfl (nm_e (br_f h ⟨rfl, rf_mk hC hM hA hV⟩))
  refine br_f e5 ?_
  by_cases e6 : v1 = 90
  · subst e6
    refine br_t rfl (nm_e ?_)
    exact br_f (by decide) (br_f (by decide) (br_f (by decide) (br_t rfl (nm_e ⟨rfl, rf_mk hC hM hA hV⟩))))
  refine br_f e6 ?_
  exact br_f e5 (br_f e1 (br_f e3 (br_f e6 (br_f e4 (br_f e2 (R _))))))
theorem i_vc_trail {k : Nat} {u : SX} {v : SY} (I : i_Rel k u v) (hk : k + 4 ≤ 2048) (v1 : Int32) : wpX_trail (fun r => wpY_trail (fun r' => r' = r ∧ i_Rel (k + 4) u v) v v1) u v1 := by
  refine rf_el (P := fun u v => wpX_trail (fun r => wpY_trail (fun r' => r' = r ∧ i_Rel (k + 4) u v) v v1) u v1) ?_ I
  intro c m a rc ix ln tm bi su cf el de mf px py ar tr ps pt hC hM hA hV
  have R : ∀ r : Int64, r = r ∧ i_Rel (k + 4) (nI c, nI m, nI a, rc, ix, ln, tm, bi, su, cf, el, de, mf, px, ar, tr) (nI c, nI m, nI a, ix, ln, bi, rc, tm, su, cf, el, de, mf, py, ar, tr, ps, pt) := fun r => ⟨rfl, rf_mk hC hM hA hV⟩
  refine br_c (fun h => br_t h (R _)) (fun h => br_c (fun h6 => ?_) (fun h6 => br_f h (br_f h6 (R _))))
  obtain ⟨j, hj, e⟩ := nI_of2 (n := 6) (M := 6) (by decide) h h6
  have i7 : vp_in v1 7 := by rw [e]; exact vp_in_nI (by omega) (by decide)
  exact ⟨i7, br_f h (br_t h6 ⟨i7, R _⟩)⟩
theorem i_vc_sizes {k : Nat} {u : SX} {v : SY} (I : i_Rel k u v) (hk : k + 4 ≤ 2048) : wpX_sizes (fun r => wpY_sizes (fun r' => r' = r ∧ i_Rel (k + 4) u v) v) u := by
  refine rf_el (P := fun u v => wpX_sizes (fun r => wpY_sizes (fun r' => r' = r ∧ i_Rel (k + 4) u v) v) u) ?_ I
  intro c m a rc ix ln tm bi su cf el de mf px py ar tr ps pt hC hM hA hV
  exact ⟨rfl, rf_mk hC hM hA hV⟩
end
