section
/-! pure rows to paste: stores, nI and lN arithmetic, masks, shifts, narrowing, branches by naturals (pk_le, pk_lt, pk_eq), loops (lp1 .. lp16: the measure of the state; rp1 ..: recursion), negatives. Take what you need -/
theorem pk_us {f : Nat → Int32} {k : Nat} {x : Int32} : upd f k x k = x := if_pos rfl
theorem pk_un {f : Nat → Int32} {k j : Nat} {x : Int32} (h : j ≠ k) : upd f k x j = f j := if_neg h
theorem pk_uLs {f : Nat → Int64} {k : Nat} {x : Int64} : vp_updL f k x k = x := if_pos rfl
theorem pk_uLn {f : Nat → Int64} {k j : Nat} {x : Int64} (h : j ≠ k) : vp_updL f k x j = f j := if_neg h
theorem pk_sub {a b : Nat} (h : b ≤ a) : nI a - nI b = nI (a - b) := by
  obtain ⟨c, rfl⟩ : ∃ c, a = c + b := ⟨a - b, by omega⟩
  rw [← nI_add, Int32.add_sub_cancel, Nat.add_sub_cancel]
theorem pk_m1 (n : Nat) : nI (n + 1) + (-1) = nI n := by
  rw [← nI_1, Int32.add_assoc, show (1 : Int32) + (-1) = 0 from rfl, Int32.add_zero]
theorem pk_mul (a b : Nat) : nI a * nI b = nI (a * b) := (Int32.ofNat_mul a b).symm
theorem pk_div {a d : Nat} (ha : a < 2 ^ 31) (h0 : 0 < d) (hd : d < 2 ^ 31) : nI a / nI d = nI (a / d) := by
  apply Int32.toInt_inj.mp
  rw [lg_idiv_nonneg (by rw [nI_toInt ha]; omega) (by rw [nI_toInt hd]; omega), nI_toInt ha, nI_toInt hd, nI_toInt (Nat.lt_of_le_of_lt (Nat.div_le_self a d) ha)]
  first | rfl | exact (Int.natCast_ediv _ _).symm
theorem pk_rem {a d : Nat} (ha : a < 2 ^ 31) (h0 : 0 < d) (hd : d < 2 ^ 31) : nI a - nI a / nI d * nI d = nI (a % d) := by
  rw [pk_div ha h0 hd, pk_mul, pk_sub (Nat.div_mul_le_self a d)]
  exact congrArg nI (by have := Nat.div_add_mod' a d; omega)
theorem pk_sub_toInt {a b : Nat} (ha : a < 2 ^ 30) (hb : b < 2 ^ 30) : (nI a - nI b).toInt = (a : Int) - b := by
  rw [Int32.toInt_sub, nI_toInt (by omega), nI_toInt (by omega)]
  exact Int.bmod_eq_of_le (by omega) (by omega)
theorem pk_sneg {a b : Nat} (hb : b < 2 ^ 30) (h : a < b) : nI a - nI b < 0 := by
  rw [Int32.lt_iff_toInt_lt, pk_sub_toInt (by omega) hb, show (0 : Int32).toInt = 0 from by decide]
  omega
theorem pk_ix (x : Int32) {n : Nat} (hn : n < 2 ^ 31) : x < 0 ∨ nI n ≤ x ∨ ∃ j : Nat, j < n ∧ x = nI j := by
  by_cases h : x < 0
  · exact Or.inl h
  · obtain ⟨j, hj, rfl⟩ := nI_of h
    by_cases h2 : j < n
    · exact Or.inr (Or.inr ⟨j, h2, rfl⟩)
    · exact Or.inr (Or.inl (nI_le (by omega) hj))
theorem pk_le {x y : Int32} {A B : Prop} (a b : Nat) (f : a ≤ b → A) (g : b < a → B) (hx : x = nI a := by rfl) (hy : y = nI b := by rfl) (ha : a < 2 ^ 31 := by omega) (hb : b < 2 ^ 31 := by omega) : (x ≤ y → A) ∧ (¬ x ≤ y → B) := by
  subst hx hy
  rw [nI_leI ha hb]
  exact ⟨f, fun z => g (by omega)⟩
theorem pk_lt {x y : Int32} {A B : Prop} (a b : Nat) (f : a < b → A) (g : b ≤ a → B) (hx : x = nI a := by rfl) (hy : y = nI b := by rfl) (ha : a < 2 ^ 31 := by omega) (hb : b < 2 ^ 31 := by omega) : (x < y → A) ∧ (¬ x < y → B) := by
  subst hx hy
  rw [nI_ltI ha hb]
  exact ⟨f, fun z => g (by omega)⟩
theorem pk_eq {x y : Int32} {A B : Prop} (a b : Nat) (f : a = b → A) (g : a ≠ b → B) (hx : x = nI a := by rfl) (hy : y = nI b := by rfl) (ha : a < 2 ^ 31 := by omega) (hb : b < 2 ^ 31 := by omega) : (x = y → A) ∧ (¬ x = y → B) := by
  subst hx hy
  rw [nI_eq ha hb]
  exact ⟨f, g⟩
theorem pk_in {x : Int32} (n N : Nat) (h : n < N) (hx : x = nI n := by rfl) (hN : N < 2 ^ 31 := by omega) : vp_in x N := by
  subst hx
  exact vp_in_nI h hN
theorem pk_cl {x : Int32} (n : Nat) (hx : x = nI n := by rfl) (h : n < 2 ^ 31 := by omega) : x.toNatClampNeg = n := by
  subst hx
  exact nI_clamp h
theorem pk_tn {n : Nat} (h : n < 2 ^ 32) : (nI n).toBitVec.toNat = n := Nat.mod_eq_of_lt h
theorem pk_and (x : Int32) {m : Int32} (k : Nat) (hm : m.toBitVec.toNat = 2 ^ k - 1) : x &&& m = nI (x.toBitVec.toNat % 2 ^ k) := by
  apply Int32.toBitVec_inj.mp
  apply BitVec.eq_of_toNat_eq
  rw [Int32.toBitVec_and, BitVec.toNat_and, hm, Nat.and_two_pow_sub_one_eq_mod]
  show _ = (BitVec.ofNat 32 _).toNat
  rw [BitVec.toNat_ofNat]
  exact (Nat.mod_eq_of_lt (Nat.lt_of_le_of_lt (Nat.mod_le _ _) x.toBitVec.isLt)).symm
theorem pk_andN {n : Nat} (h : n < 2 ^ 32) {m : Int32} (k : Nat) (hm : m.toBitVec.toNat = 2 ^ k - 1) : nI n &&& m = nI (n % 2 ^ k) := by
  rw [pk_and _ k hm, pk_tn h]
theorem pk_andE (x : Int32) {m : Int32} (k : Nat) (hm : m.toBitVec.toNat = 2 ^ k - 1) : ∃ j : Nat, j < 2 ^ k ∧ x &&& m = nI j := ⟨_, Nat.mod_lt _ (Nat.two_pow_pos k), pk_and x k hm⟩
theorem pk_andIn (x : Int32) {m : Int32} (k : Nat) (hm : m.toBitVec.toNat = 2 ^ k - 1) (hk : k ≤ 30) : vp_in (x &&& m) (2 ^ k) := by
  obtain ⟨j, hj, e⟩ := pk_andE x k hm
  rw [e]
  exact vp_in_nI hj (Nat.lt_of_le_of_lt (Nat.pow_le_pow_right (by decide) hk) (by decide))
theorem pk_shl (a s : Int32) (k : Nat) (hs : (s.toBitVec.smod 32).toNat = k) : (a <<< s).toBitVec.toNat = a.toBitVec.toNat * 2 ^ k % 2 ^ 32 := by
  show (a.toBitVec <<< (s.toBitVec.smod 32).toNat).toNat = _
  rw [hs, BitVec.toNat_shiftLeft, Nat.shiftLeft_eq]
theorem pk_shlN {n : Nat} (s : Int32) (k : Nat) (hs : (s.toBitVec.smod 32).toNat = k) (h : n * 2 ^ k < 2 ^ 32) : nI n <<< s = nI (n * 2 ^ k) := by
  apply Int32.toBitVec_inj.mp
  apply BitVec.eq_of_toNat_eq
  have hn : n < 2 ^ 32 := Nat.lt_of_le_of_lt (Nat.le_mul_of_pos_right n (Nat.two_pow_pos k)) h
  rw [pk_shl _ _ k hs, pk_tn hn, pk_tn h, Nat.mod_eq_of_lt h]
theorem pk_shr (a s : Int32) (k : Nat) (hs : (s.toBitVec.smod 32).toNat = k) : (a >>> s).toInt = a.toInt >>> k := by
  show (a.toBitVec.sshiftRight (s.toBitVec.smod 32).toNat).toInt = _
  rw [hs, BitVec.toInt_sshiftRight]
  rfl
theorem pk_shrN {n : Nat} (h : n < 2 ^ 31) (s : Int32) (k : Nat) (hs : (s.toBitVec.smod 32).toNat = k) : nI n >>> s = nI (n / 2 ^ k) := by
  apply Int32.toInt_inj.mp
  have h2 : n / 2 ^ k ≤ n := Nat.div_le_self _ _
  rw [pk_shr _ _ k hs, nI_toInt h, nI_toInt (by omega), Int.shiftRight_eq_div_pow]
  rfl
theorem pk_ushr (x s : Int32) (k : Nat) (hs : ((s.toUInt32 &&& Int32.toUInt32 31).toBitVec % 32).toNat = k) : (x.toUInt32 >>> (s.toUInt32 &&& Int32.toUInt32 31)).toInt32.toBitVec.toNat = x.toBitVec.toNat / 2 ^ k := by
  have e : (x.toUInt32 >>> (s.toUInt32 &&& Int32.toUInt32 31)).toInt32.toBitVec = x.toBitVec >>> k := by
    rw [← hs]
    exact UInt32.toBitVec_shiftRight _ _
  rw [e, BitVec.toNat_ushiftRight, Nat.shiftRight_eq_div_pow]
theorem pk_ushrN {n : Nat} (hn : n < 2 ^ 32) (s : Int32) (k : Nat) (hs : ((s.toUInt32 &&& Int32.toUInt32 31).toBitVec % 32).toNat = k) : ((nI n).toUInt32 >>> (s.toUInt32 &&& Int32.toUInt32 31)).toInt32 = nI (n / 2 ^ k) := by
  apply Int32.toBitVec_inj.mp
  apply BitVec.eq_of_toNat_eq
  rw [pk_ushr _ s k hs, pk_tn hn, pk_tn (Nat.lt_of_le_of_lt (Nat.div_le_self _ _) hn)]
/-! ===== Int32 by its bits: bt x i ===== -/
def bt (x : Int32) (i : Nat) : Bool := x.toBitVec.getLsbD i
theorem b_ext {x y : Int32} (h : ∀ i, i < 32 → bt x i = bt y i) : x = y := Int32.toBitVec_inj.mp (BitVec.eq_of_getLsbD_eq (fun i hi => h i hi))
theorem b_or (x y : Int32) (i : Nat) : bt (x ||| y) i = (bt x i || bt y i) := by unfold bt; rw [Int32.toBitVec_or, BitVec.getLsbD_or]
theorem b_and (x y : Int32) (i : Nat) : bt (x &&& y) i = (bt x i && bt y i) := by unfold bt; rw [Int32.toBitVec_and, BitVec.getLsbD_and]
theorem b_xor (x y : Int32) (i : Nat) : bt (x ^^^ y) i = (bt x i ^^ bt y i) := by unfold bt; rw [Int32.toBitVec_xor, BitVec.getLsbD_xor]
theorem b_big {x : Int32} {i : Nat} (h : 32 ≤ i) : bt x i = false := BitVec.getLsbD_of_ge _ _ h
theorem b_255 (i : Nat) : bt 255 i = decide (i < 8) := by
  rcases Nat.lt_or_ge i 32 with h | h
  · exact (by decide +kernel : ∀ i, i < 32 → bt 255 i = decide (i < 8)) i h
  · rw [b_big h, decide_eq_false (by omega)]
theorem b_65535 (i : Nat) : bt 65535 i = decide (i < 16) := by
  rcases Nat.lt_or_ge i 32 with h | h
  · exact (by decide +kernel : ∀ i, i < 32 → bt 65535 i = decide (i < 16)) i h
  · rw [b_big h, decide_eq_false (by omega)]
theorem b_m1 : ∀ i, i < 32 → bt (-1) i = true := by decide +kernel
theorem b_0 (i : Nat) : bt 0 i = false := BitVec.getLsbD_zero
theorem s_l : ∀ n, n < 32 → ((nI n &&& 31).toBitVec.smod 32).toNat = n := by decide +kernel
theorem s_u : ∀ n, n < 32 → (((nI n).toUInt32 &&& Int32.toUInt32 31).toBitVec % 32).toNat = n := by decide +kernel
theorem b_shl (n : Nat) (hn : n < 32) (x : Int32) {i : Nat} (hi : i < 32) : bt (x <<< (nI n &&& 31)) i = (decide (n ≤ i) && bt x (i - n)) := by
  unfold bt
  rw [Int32.toBitVec_shiftLeft]
  show (x.toBitVec <<< ((nI n &&& 31).toBitVec.smod 32).toNat).getLsbD i = _
  rw [s_l n hn, BitVec.getLsbD_shiftLeft]
  rcases Nat.lt_or_ge i n with h | h
  · simp [h, Nat.not_le.mpr h]
  · simp [hi, h, Nat.not_lt.mpr h]
theorem b_ushr (n : Nat) (hn : n < 32) (x : Int32) (i : Nat) : bt ((x.toUInt32 >>> ((nI n).toUInt32 &&& Int32.toUInt32 31)).toInt32) i = bt x (n + i) := by
  show (x.toUInt32 >>> ((nI n).toUInt32 &&& Int32.toUInt32 31)).toBitVec.getLsbD i = x.toUInt32.toBitVec.getLsbD (n + i)
  rw [UInt32.toBitVec_shiftRight]
  show (x.toUInt32.toBitVec >>> (((nI n).toUInt32 &&& Int32.toUInt32 31).toBitVec % 32).toNat).getLsbD i = _
  rw [s_u n hn, BitVec.getLsbD_ushiftRight]
theorem b_sshr (n : Nat) (hn : n < 32) (x : Int32) {i : Nat} (hi : i < 32) : bt (x >>> (nI n &&& 31)) i = if n + i < 32 then bt x (n + i) else bt x 31 := by
  unfold bt
  rw [Int32.toBitVec_shiftRight]
  show (x.toBitVec.sshiftRight ((nI n &&& 31).toBitVec.smod 32).toNat).getLsbD i = _
  rw [s_l n hn, BitVec.getLsbD_sshiftRight, BitVec.msb_eq_getLsbD_last]
  simp [hi]
theorem b_shl8 (x : Int32) {i : Nat} (hi : i < 32) : bt (x <<< ((8 : Int32) &&& 31)) i = (decide (8 ≤ i) && bt x (i - 8)) := b_shl 8 (by omega) x hi
theorem b_shl16 (x : Int32) {i : Nat} (hi : i < 32) : bt (x <<< ((16 : Int32) &&& 31)) i = (decide (16 ≤ i) && bt x (i - 16)) := b_shl 16 (by omega) x hi
theorem b_shl24 (x : Int32) {i : Nat} (hi : i < 32) : bt (x <<< ((24 : Int32) &&& 31)) i = (decide (24 ≤ i) && bt x (i - 24)) := b_shl 24 (by omega) x hi
theorem b_sshr8 (x : Int32) {i : Nat} (hi : i < 32) : bt (x >>> ((8 : Int32) &&& 31)) i = if 8 + i < 32 then bt x (8 + i) else bt x 31 := b_sshr 8 (by omega) x hi
/-! ===== Int32 as a set of bits: test, set ===== -/
def nf_M (m : Int32) : Nat := 4294967296 - m.toBitVec.toNat
theorem nf_sh : ∀ l, l < 32 → ((1 : Int32) <<< (nI l &&& 31)).toBitVec = BitVec.twoPow 32 l := by decide +kernel
theorem nf_sl : ∀ l, l < 32 → (((nI l).toUInt32 &&& Int32.toUInt32 31).toBitVec % 32).toNat = l := by decide +kernel
theorem nf_tp : ∀ l, l < 32 → BitVec.twoPow 32 l ≠ 0#32 := by decide +kernel
theorem nf_bit (m : Int32) (l : Nat) (hl : l < 32) : ((m.toUInt32 >>> ((nI l).toUInt32 &&& Int32.toUInt32 31)).toInt32 &&& 1) = 0 ↔ (m &&& ((1 : Int32) <<< (nI l &&& 31))) = 0 := by
  have e : ((m.toUInt32 >>> ((nI l).toUInt32 &&& Int32.toUInt32 31)).toInt32).toBitVec = m.toBitVec >>> l := by
    show m.toBitVec >>> (((nI l).toUInt32 &&& Int32.toUInt32 31).toBitVec % 32) = m.toBitVec >>> l
    rw [BitVec.ushiftRight_eq', nf_sl l hl]
  rw [← Int32.toBitVec_inj, ← Int32.toBitVec_inj, Int32.toBitVec_and, Int32.toBitVec_and, nf_sh l hl, e, BitVec.and_twoPow]
  show (m.toBitVec >>> l &&& 1#32) = 0#32 ↔ _ = 0#32
  rw [BitVec.and_one_eq_setWidth_ofBool_getLsbD, BitVec.getLsbD_ushiftRight, Nat.add_zero]
  cases hb : m.toBitVec.getLsbD l
  · exact ⟨fun _ => by simp, fun _ => by decide⟩
  · exact ⟨fun z => absurd z (by decide), fun z => absurd ((if_pos rfl).symm.trans z) (nf_tp l hl)⟩
theorem nf_gr (m k : Int32) (h : m &&& k = 0) (hk : k ≠ 0) : nf_M (m ||| k) < nf_M m := by
  have hm := m.toBitVec.isLt
  have hm' := (m ||| k).toBitVec.isLt
  have h1 : m.toBitVec.toNat ≤ (m ||| k).toBitVec.toNat := by
    rw [Int32.toBitVec_or, BitVec.toNat_or]
    exact Nat.left_le_or
  have h2 : m.toBitVec.toNat ≠ (m ||| k).toBitVec.toNat := by
    intro e
    have e2 : m = m ||| k := Int32.toBitVec_inj.mp (BitVec.eq_of_toNat_eq e)
    apply hk
    apply Int32.toBitVec_inj.mp
    show k.toBitVec = 0#32
    apply BitVec.eq_of_getLsbD_eq
    intro i hi
    have a : m.toBitVec.getLsbD i = (m.toBitVec.getLsbD i || k.toBitVec.getLsbD i) := by rw [← BitVec.getLsbD_or, ← Int32.toBitVec_or, ← e2]
    have b : (m.toBitVec.getLsbD i && k.toBitVec.getLsbD i) = false := by
      rw [← BitVec.getLsbD_and, ← Int32.toBitVec_and, h]
      exact BitVec.getLsbD_zero
    rw [BitVec.getLsbD_zero]
    revert a b
    cases m.toBitVec.getLsbD i <;> cases k.toBitVec.getLsbD i <;> simp
  unfold nf_M
  omega
end
section
/-! ===== pure functions of the codec: arrays seen by bank, the model, the decoder D, the encoder E ===== -/
/-- array A with n cells at s * b replaced by f -/
def jl_ov (A : Nat → Int32) (s b n : Nat) (f : Nat → Int32) : Nat → Int32 := fun j => if s * b ≤ j ∧ j < s * b + n then f (j - s * b) else A j
def jl_bI (b : Bool) : Int32 := if b = true then 1 else 0
def jl_abs (x : Int32) : Int32 := if 0 ≤ x then x else -x
def jl_min (x y : Int32) : Int32 := if y ≤ x then y else x
def jl_max (x y : Int32) : Int32 := if x ≤ y then y else x
def jl_clamp (v lo hi : Int32) : Int32 := if lo ≤ v then (if v ≤ hi then v else hi) else lo
def jl_fit (v lo top : Int32) : Int32 := if top < v then lo else (if lo ≤ v then v else lo)
/-! parameters out of the greatest sample and the bound -/
def jl_size (mx near : Int32) : Int32 := ((mx + near) / ((2 * near) + 1)) + 1
def jl_fac0 (sz : Int32) : Int32 := if sz ≤ 0 then 1 else (if 256 < sz then 1 else 256 / sz)
def jl_fac (sz : Int32) : Int32 := if 1 ≤ jl_fac0 sz then jl_fac0 sz else 1
def jl_t1 (sz : Int32) : Int32 := jl_fit (jl_max 2 (3 / jl_fac sz)) 1 (sz - 1)
def jl_t2 (sz : Int32) : Int32 := jl_fit (jl_max 3 (7 / jl_fac sz)) (jl_t1 sz) (sz - 1)
def jl_t3 (sz : Int32) : Int32 := jl_fit (jl_max 4 (21 / jl_fac sz)) (jl_t2 sz) (sz - 1)
def jl_st (sz : Int32) : Int32 := jl_max 2 ((sz + 32) >>> ((6 : Int32) &&& 31))
def jl_lbF (sz : Int32) : Nat → Nat → Nat
  | 0, k => k
  | f + 1, k => if sz ≤ ((1 : Int32) <<< (nI k &&& 31)) then k else jl_lbF sz f (k + 1)
def jl_lb (sz : Int32) : Nat := jl_lbF sz 8 0
/-! the model: (magnitude, biasSum, correction, occurrences) -/
abbrev jM : Type := (Nat → Int32) × (Nat → Int32) × (Nat → Int32) × (Nat → Int32)
/-- (width, range, levelBits, threshold1, threshold2, threshold3) -/
abbrev jP : Type := Nat × Int32 × Nat × Int32 × Int32 × Int32
/-- a coder: (pos, lev, bit, runIndex, runCount, inRun, runBroken, model) -/
abbrev jC : Type := Nat × (Nat → Int32) × Nat × Nat × Nat × Bool × Bool × jM
def jl_P (w : Nat) (mx near : Int32) : jP := (w, jl_size mx near, jl_lb (jl_size mx near), jl_t1 (jl_size mx near), jl_t2 (jl_size mx near), jl_t3 (jl_size mx near))
def jl_M0 (sz : Int32) : jM := (fun _ => jl_st sz, fun _ => 0, fun _ => 0, fun _ => 1)
def jl_c0 (sz : Int32) : jC := (0, fun _ => 0, 0, 0, 0, false, false, jl_M0 sz)
/-! surroundings -/
def jl_above (w p : Nat) (lev : Nat → Int32) : Int32 := if 0 < p / w then lev (p - w) else 0
def jl_ar (w p : Nat) (lev : Nat → Int32) : Int32 := if 0 < p / w ∧ p % w < w - 1 then lev (p - w + 1) else jl_above w p lev
def jl_left (w p : Nat) (lev : Nat → Int32) : Int32 := if 0 < p % w then lev (p - 1) else jl_above w p lev
def jl_al (w p : Nat) (lev : Nat → Int32) : Int32 := if 0 < p % w then (if 0 < p / w then lev (p - w - 1) else 0) else (if 1 < p / w then lev (p - 2 * w) else 0)
def jl_flat (l a al ar : Int32) : Bool := decide (l = al ∧ al = a ∧ a = ar)
/-! the regular model -/
def jl_step (t1 t2 t3 s : Int32) : Int32 := if s = 0 then 0 else (if t1 ≤ s then (if t2 ≤ s then (if t3 ≤ s then 4 else 3) else 2) else 1)
def jl_quant (t1 t2 t3 d : Int32) : Int32 := if 0 ≤ d then jl_step t1 t2 t3 (jl_abs d) else -(jl_step t1 t2 t3 (jl_abs d))
def jl_fold (t1 t2 t3 l a al ar : Int32) : Int32 := ((81 * jl_quant t1 t2 t3 (ar - a)) + (9 * jl_quant t1 t2 t3 (a - al))) + jl_quant t1 t2 t3 (al - l)
def jl_sgn (f : Int32) : Int32 := if 0 ≤ f then 1 else (-1)
def jl_q (f : Int32) : Nat := (jl_abs f).toNatClampNeg
def jl_g0 (l a al : Int32) : Int32 := if al < jl_max l a then (if jl_min l a < al then (l + a) - al else jl_max l a) else jl_min l a
def jl_guess (rng l a al sg co : Int32) : Int32 := jl_clamp (jl_g0 l a al + (sg * co)) 0 (rng - 1)
def jl_ordF (c s : Int32) : Nat → Nat → Nat
  | 0, k => k
  | f + 1, k => if s ≤ (c <<< (nI k &&& 31)) then k else jl_ordF c s f (k + 1)
def jl_ord (c s : Int32) : Nat := jl_ordF c s 9 0
def jl_turned (k : Nat) (bi oc : Int32) : Bool := decide (k = 0 ∧ ¬ (-oc) < (2 * bi))
/-- updateRegular behind the halving: (sum, correction) out of sum, times (raised), correction -/
def jl_ur1 (x3 x5 co : Int32) : Int32 × Int32 :=
  if (-x5) < x3 then (if x3 ≤ 0 then (x3, co) else ((if x3 - x5 ≤ 0 then x3 - x5 else 0), (if 127 ≤ co then co else co + 1)))
  else ((if (-x5) < x3 + x5 then x3 + x5 else 1 - x5), (if co ≤ (-128) then co else co - 1))
def jl_urB (e bi oc : Int32) : Int32 := if oc < 64 then bi + e else (if bi + e < 0 then (-((1 - (bi + e)) >>> ((1 : Int32) &&& 31))) else (bi + e) >>> ((1 : Int32) &&& 31))
def jl_urM (e mg oc : Int32) : Int32 := if oc < 64 then mg + jl_abs e else (mg + jl_abs e) >>> ((1 : Int32) &&& 31)
def jl_urO (oc : Int32) : Int32 := if oc < 64 then oc + 1 else (oc >>> ((1 : Int32) &&& 31)) + 1
def jl_updR (M : jM) (q : Nat) (e : Int32) : jM :=
  (upd M.1 q (jl_urM e (M.1 q) (M.2.2.2 q)),
   upd M.2.1 q (jl_ur1 (jl_urB e (M.2.1 q) (M.2.2.2 q)) (jl_urO (M.2.2.2 q)) (M.2.2.1 q)).1,
   upd M.2.2.1 q (jl_ur1 (jl_urB e (M.2.1 q) (M.2.2.2 q)) (jl_urO (M.2.2.2 q)) (M.2.2.1 q)).2,
   upd M.2.2.2 q (jl_urO (M.2.2.2 q)))
def jl_red1 (rng y : Int32) : Int32 := if y < ((rng + 1) >>> ((1 : Int32) &&& 31)) then y else y - rng
def jl_red (rng x : Int32) : Int32 := jl_red1 rng (if 0 ≤ x then x else x + rng)
def jl_wrap (rng x : Int32) : Int32 := if 0 ≤ x then (if x < rng then x else x - rng) else x + rng
def jl_map (t : Bool) (e : Int32) : Int32 := if t = true then (if e < 0 then (-2) * (e + 1) else (2 * e) + 1) else (if e < 0 then ((-2) * e) - 1 else 2 * e)
def jl_unmap (t : Bool) (m : Int32) : Int32 := if t = true then (if (m &&& 1) = 1 then m >>> ((1 : Int32) &&& 31) else (-(m >>> ((1 : Int32) &&& 31))) - 1) else (if (m &&& 1) = 1 then -((m + 1) >>> ((1 : Int32) &&& 31)) else m >>> ((1 : Int32) &&& 31))
/-! run mode -/
def jl_ro (r : Nat) : Nat := if r < 16 then r / 4 else (if r < 24 then r / 2 - 4 else r - 16)
def jl_up (r : Nat) : Nat := if 31 ≤ r then r else r + 1
def jl_ty (l a : Int32) : Int32 := if l = a then 1 else 0
def jl_ti (l a : Int32) : Nat := if l = a then 366 else 365
def jl_turn (l a : Int32) : Int32 := if l ≤ a then 1 else (-1)
def jl_io (l a mg oc : Int32) : Nat := jl_ord oc (if l = a then mg + (oc >>> ((1 : Int32) &&& 31)) else mg)
def jl_tilt (k : Nat) (bi oc : Int32) : Bool := decide (¬ (k = 0 ∧ (2 * bi) < oc))
def jl_uiB (e bi : Int32) : Int32 := if 0 ≤ e then bi else bi + 1
def jl_uiM (ty m mg : Int32) : Int32 := mg + (((m + 1) - ty) >>> ((1 : Int32) &&& 31))
def jl_updI (M : jM) (q : Nat) (ty e m : Int32) : jM :=
  (upd M.1 q (if M.2.2.2 q < 64 then jl_uiM ty m (M.1 q) else (jl_uiM ty m (M.1 q)) >>> ((1 : Int32) &&& 31)),
   upd M.2.1 q (if M.2.2.2 q < 64 then jl_uiB e (M.2.1 q) else (jl_uiB e (M.2.1 q)) >>> ((1 : Int32) &&& 31)),
   M.2.2.1,
   upd M.2.2.2 q (jl_urO (M.2.2.2 q)))
def jl_iodd (e : Int32) (t : Bool) : Int32 := if (e < 0 ∧ t = true) ∨ (0 < e ∧ t = false) then 1 else 0
def jl_imap (ty e : Int32) (t : Bool) : Int32 := ((2 * jl_abs e) - ty) - jl_iodd e t
def jl_iun (ty m : Int32) (t : Bool) : Int32 := if (decide (((m + ty) &&& 1) = 1)) = t then -(((m + ty) + 1) >>> ((1 : Int32) &&& 31)) else ((m + ty) + 1) >>> ((1 : Int32) &&& 31)
/-! bits out of a stream -/
def jl_gbs (β : Nat → Bool) : Nat → Nat → Nat → Nat
  | 0, _, v => v
  | n + 1, p, v => jl_gbs β n (p + 1) (2 * v + (β p).toNat)
def jl_gz (β : Nat → Bool) : Nat → Nat → Nat
  | 0, _ => 0
  | e + 1, p => if β p = true then 0 else jl_gz β e (p + 1) + 1
/-- the value and the place behind it -/
def jl_gol (β : Nat → Bool) (p k L lb : Nat) : Nat × Nat :=
  if jl_gz β (L - lb - 1) p < L - lb - 1 then (jl_gz β (L - lb - 1) p * 2 ^ k + jl_gbs β k (p + jl_gz β (L - lb - 1) p + 1) 0, p + jl_gz β (L - lb - 1) p + 1 + k)
  else (jl_gbs β lb (p + (L - lb - 1) + 1) 0 + 1, p + (L - lb - 1) + 1 + lb)
/-! decoding: (level, model, bit) -/
def jl_dReg (P : jP) (β : Nat → Bool) (l a al ar : Int32) (M : jM) (bit : Nat) : Int32 × jM × Nat :=
  let f := jl_fold P.2.2.2.1 P.2.2.2.2.1 P.2.2.2.2.2 l a al ar
  let q := jl_q f
  let g := jl_guess P.2.1 l a al (jl_sgn f) (M.2.2.1 q)
  let k := jl_ord (M.2.2.2 q) (M.1 q)
  let mb := jl_gol β bit k 32 P.2.2.1
  let e := jl_unmap (jl_turned k (M.2.1 q) (M.2.2.2 q)) (nI mb.1)
  (jl_wrap P.2.1 (g + (jl_sgn f * e)), jl_updR M q e, mb.2)
def jl_dInt (P : jP) (β : Nat → Bool) (L : Nat) (l a : Int32) (M : jM) (bit : Nat) : Int32 × jM × Nat :=
  let q := jl_ti l a
  let k := jl_io l a (M.1 q) (M.2.2.2 q)
  let mb := jl_gol β bit k L P.2.2.1
  let e := jl_iun (jl_ty l a) (nI mb.1) (jl_tilt k (M.2.1 q) (M.2.2.2 q))
  (jl_wrap P.2.1 (a + (jl_turn l a * e)), jl_updI M q (jl_ty l a) e (nI mb.1), mb.2)
/-- readRun: (bit, runIndex, runCount, runBroken) -/
def jl_rd (w col : Nat) (β : Nat → Bool) (bit ri : Nat) : Nat × Nat × Nat × Bool :=
  if β bit = false then (bit + 1 + jl_ro ri, ri, jl_gbs β (jl_ro ri) (bit + 1) 0, true)
  else (if w - col < 2 ^ jl_ro ri then (bit + 1, ri, w - col, false) else (bit + 1, jl_up ri, 2 ^ jl_ro ri, false))
/-- decodeInRun behind readRun: (level, bit, runIndex, runCount, inRun, runBroken, model) -/
def jl_dRun2 (P : jP) (β : Nat → Bool) (col : Nat) (l a : Int32) (M : jM) (z : Nat × Nat × Nat × Bool) : Int32 × Nat × Nat × Nat × Bool × Bool × jM :=
  if z.2.2.1 = 0 then
    ((jl_dInt P β (31 - jl_ro z.2.1) l a M z.1).1, (jl_dInt P β (31 - jl_ro z.2.1) l a M z.1).2.2, z.2.1 - 1, 0, false, false, (jl_dInt P β (31 - jl_ro z.2.1) l a M z.1).2.1)
  else (if col = P.1 - 1 then (l, z.1, z.2.1, 0, false, false, M) else (l, z.1, z.2.1, z.2.2.1 - 1, true, z.2.2.2, M))
def jl_dRun (P : jP) (β : Nat → Bool) (col : Nat) (l a : Int32) (M : jM) (bit ri rc : Nat) (rb : Bool) : Int32 × Nat × Nat × Nat × Bool × Bool × jM :=
  jl_dRun2 P β col l a M (if rc = 0 ∧ rb = false then jl_rd P.1 col β bit ri else (bit, ri, rc, rb))
/-- decodeNext below the last cell -/
def jl_D (P : jP) (β : Nat → Bool) (c : jC) : jC :=
  let l := jl_left P.1 c.1 c.2.1
  let a := jl_above P.1 c.1 c.2.1
  let al := jl_al P.1 c.1 c.2.1
  let ar := jl_ar P.1 c.1 c.2.1
  let s := c.2.2.2.2.2.1 = false ∧ jl_flat l a al ar = true
  let rc := if s then 0 else c.2.2.2.2.1
  let rb := if s then false else c.2.2.2.2.2.2.1
  if c.2.2.2.2.2.1 = false ∧ jl_flat l a al ar = false then
    let r := jl_dReg P β l a al ar c.2.2.2.2.2.2.2 c.2.2.1
    (c.1 + 1, upd c.2.1 c.1 r.1, r.2.2, c.2.2.2.1, c.2.2.2.2.1, false, c.2.2.2.2.2.2.1, r.2.1)
  else
    let r := jl_dRun P β (c.1 % P.1) l a c.2.2.2.2.2.2.2 c.2.2.1 c.2.2.2.1 rc rb
    (c.1 + 1, upd c.2.1 c.1 r.1, r.2.1, r.2.2.1, r.2.2.2.1, r.2.2.2.2.1, r.2.2.2.2.2.1, r.2.2.2.2.2.2)
def jl_Dit (P : jP) (β : Nat → Bool) : Nat → jC → jC
  | 0, c => c
  | n + 1, c => jl_D P β (jl_Dit P β n c)
/-! encoding -/
def jl_msb (v : Nat) : Nat → List Bool
  | 0 => []
  | n + 1 => v.testBit n :: jl_msb v n
def jl_gc (m k L lb : Nat) : List Bool :=
  List.replicate (if m / 2 ^ k < L - lb - 1 then m / 2 ^ k else L - lb - 1) false ++ (true :: (if m / 2 ^ k < L - lb - 1 then jl_msb m k else jl_msb (m - 1) lb))
/-- (model, bits) -/
def jl_eReg (P : jP) (l a al ar : Int32) (M : jM) (x : Int32) : jM × List Bool :=
  let f := jl_fold P.2.2.2.1 P.2.2.2.2.1 P.2.2.2.2.2 l a al ar
  let q := jl_q f
  let g := jl_guess P.2.1 l a al (jl_sgn f) (M.2.2.1 q)
  let e := jl_red P.2.1 ((x - g) * jl_sgn f)
  let k := jl_ord (M.2.2.2 q) (M.1 q)
  let m := jl_map (jl_turned k (M.2.1 q) (M.2.2.2 q)) e
  (jl_updR M q e, jl_gc m.toNatClampNeg k 32 P.2.2.1)
def jl_eInt (P : jP) (L : Nat) (l a : Int32) (M : jM) (x : Int32) : jM × List Bool :=
  let q := jl_ti l a
  let e := jl_red P.2.1 ((x - a) * jl_turn l a)
  let k := jl_io l a (M.1 q) (M.2.2.2 q)
  let m := jl_imap (jl_ty l a) e (jl_tilt k (M.2.1 q) (M.2.2.2 q))
  (jl_updI M q (jl_ty l a) e m, jl_gc m.toNatClampNeg k L P.2.2.1)
/-- (runIndex, runCount, inRun, model, bits) -/
def jl_eRun (P : jP) (col : Nat) (l a : Int32) (M : jM) (ri rc : Nat) (x : Int32) : Nat × Nat × Bool × jM × List Bool :=
  if x = l then
    (if rc + 1 < 2 ^ jl_ro ri then (if col = P.1 - 1 then (ri, 0, false, M, [true]) else (ri, rc + 1, true, M, []))
     else (if col = P.1 - 1 then (jl_up ri, 0, false, M, [true]) else (jl_up ri, 0, true, M, [true])))
  else (ri - 1, 0, false, (jl_eInt P (31 - jl_ro ri) l a M x).1, false :: (jl_msb rc (jl_ro ri) ++ (jl_eInt P (31 - jl_ro ri) l a M x).2))
/-- encodeLevel below the last cell: the coder and the bits put -/
def jl_E (P : jP) (c : jC) (x : Int32) : jC × List Bool :=
  let l := jl_left P.1 c.1 c.2.1
  let a := jl_above P.1 c.1 c.2.1
  let al := jl_al P.1 c.1 c.2.1
  let ar := jl_ar P.1 c.1 c.2.1
  let s := c.2.2.2.2.2.1 = false ∧ jl_flat l a al ar = true
  let rc := if s then 0 else c.2.2.2.2.1
  if c.2.2.2.2.2.1 = false ∧ jl_flat l a al ar = false then
    let r := jl_eReg P l a al ar c.2.2.2.2.2.2.2 x
    ((c.1 + 1, upd c.2.1 c.1 x, c.2.2.1 + r.2.length, c.2.2.2.1, c.2.2.2.2.1, false, c.2.2.2.2.2.2.1, r.1), r.2)
  else
    let r := jl_eRun P (c.1 % P.1) l a c.2.2.2.2.2.2.2 c.2.2.2.1 rc x
    ((c.1 + 1, upd c.2.1 c.1 x, c.2.2.1 + r.2.2.2.2.length, r.1, r.2.1, r.2.2.1, false, r.2.2.2.1), r.2.2.2.2)
/-! bits in words: slot s of the words, the writer's slot is 4 -/
def jl_bs (w : Nat → Int32) (s : Nat) : Nat → Bool := fun k => decide (k < 4096) && bt (w (s * 128 + k / 32)) (k % 32)
def jl_pb (w : Nat → Int32) (p : Nat) (x : Bool) : Nat → Int32 :=
  upd w (512 + p / 32) (if x = true then (w (512 + p / 32)) ||| ((1 : Int32) <<< ((nI p &&& 31) &&& 31)) else (w (512 + p / 32)) &&& (((1 : Int32) <<< ((nI p &&& 31) &&& 31)) ^^^ (-1)))
def jl_pbs : List Bool → (Nat → Int32) → Nat → (Nat → Int32)
  | [], w, _ => w
  | x :: xs, w, p => jl_pbs xs (jl_pb w p x) (p + 1)
/-- the bits xs stand in the stream from p on -/
def jl_rdL (β : Nat → Bool) : List Bool → Nat → Prop
  | [], _ => True
  | x :: xs, p => β p = x ∧ jl_rdL β xs (p + 1)
def jl_smp (mx near lev : Int32) : Int32 := jl_min (lev * ((2 * near) + 1)) mx
def jl_cut (n : Nat) (f : Nat → Int32) : Nat → Int32 := fun i => if i < n then f i else 0
end
section
/-! ===== arrays by bank, branches, the methods that answer alone ===== -/
theorem jl_uu {A : Nat → Int32} {b n : Nat} {x y z : Int32} (hn : n = b) (hy : y = z) : upd (upd A b x) n y = upd A b z := by
  subst hn hy
  funext j
  unfold upd
  by_cases h : j = n
  · rw [if_pos h, if_pos h]
  · rw [if_neg h, if_neg h, if_neg h]
theorem jl_ur {A : Nat → Int32} {b n : Nat} {x : Int32} (hn : n = b) : upd A b x n = x := if_pos hn
theorem jl_uo {A : Nat → Int32} {b n : Nat} {x : Int32} (hn : n ≠ b) : upd A b x n = A n := if_neg hn
theorem jl_uid {A : Nat → Int32} {b : Nat} {x : Int32} (h : A b = x) : upd A b x = A := by
  funext j
  unfold upd
  by_cases e : j = b
  · rw [if_pos e, e, h]
  · rw [if_neg e]
theorem jl_ovr {A f : Nat → Int32} {s b len n i : Nat} (hn : n = s * b + i) (hi : i < len) : jl_ov A s b len f n = f i := by
  subst hn
  unfold jl_ov
  rw [if_pos ⟨by omega, by omega⟩]
  congr 1
  omega
theorem jl_ovu {A f : Nat → Int32} {s b len n i : Nat} {y z : Int32} (hn : n = s * b + i) (hi : i < len) (hy : y = z) : upd (jl_ov A s b len f) n y = jl_ov A s b len (upd f i z) := by
  subst hn hy
  funext j
  unfold upd jl_ov
  generalize s * b = t
  by_cases h : j = t + i
  · rw [if_pos h, if_pos ⟨by omega, by omega⟩]
    exact (if_pos (by omega)).symm
  · rw [if_neg h]
    by_cases h2 : t ≤ j ∧ j < t + len
    · rw [if_pos h2, if_pos h2]
      exact (if_neg (by omega)).symm
    · rw [if_neg h2, if_neg h2]
theorem jl_ova {A f : Nat → Int32} {s b len n : Nat} {y : Int32} (hn : n = s * b + len) : upd (jl_ov A s b len f) n y = jl_ov A s b (len + 1) (upd f len y) := by
  subst hn
  funext j
  unfold upd jl_ov
  generalize s * b = t
  by_cases h : j = t + len
  · rw [if_pos h, if_pos ⟨by omega, by omega⟩]
    exact (if_pos (by omega)).symm
  · rw [if_neg h]
    by_cases h2 : t ≤ j ∧ j < t + len
    · rw [if_pos h2, if_pos ⟨by omega, by omega⟩]
      exact (if_neg (by omega)).symm
    · rw [if_neg h2, if_neg (by omega)]
theorem jl_ovo {A f : Nat → Int32} {s b len b' i : Nat} (hb : b' ≠ b) (hi : i < s) (hl : len ≤ s) : jl_ov A s b len f (s * b' + i) = A (s * b' + i) := by
  unfold jl_ov
  rw [if_neg]
  intro h
  rcases Nat.lt_or_gt_of_ne hb with g | g
  · have := Nat.mul_le_mul_left s (show b' + 1 ≤ b by omega)
    rw [Nat.mul_add] at this
    omega
  · have := Nat.mul_le_mul_left s (show b + 1 ≤ b' by omega)
    rw [Nat.mul_add] at this
    omega
theorem jl_ovid {A f : Nat → Int32} {s b len : Nat} (h : ∀ i, i < len → A (s * b + i) = f i) : jl_ov A s b len f = A := by
  funext j
  unfold jl_ov
  by_cases h2 : s * b ≤ j ∧ j < s * b + len
  · rw [if_pos h2, ← h (j - s * b) (by omega)]
    congr 1
    omega
  · rw [if_neg h2]
theorem jl_ov0 {A f : Nat → Int32} {s b : Nat} : jl_ov A s b 0 f = A := jl_ovid (fun i h => absurd h (by omega))
/-- a branch whose two ends are the two ends of an 'if' -/
theorem jl_xi {α : Type} {Q : α → Prop} {c : Prop} [Decidable c] {x y : α} {A B : Prop} (h : Q (if c then x else y)) (fA : Q x → A) (fB : Q y → B) : (c → A) ∧ (¬ c → B) := ⟨fun hc => fA (by rw [if_pos hc] at h; exact h), fun hc => fB (by rw [if_neg hc] at h; exact h)⟩
theorem jl_b1 : jl_bI true = 1 := rfl
theorem jl_b0 : jl_bI false = 0 := rfl
theorem jl_n1 : vp_nar .boolean 1 = jl_bI true := rfl
theorem jl_n0 : vp_nar .boolean 0 = jl_bI false := rfl
theorem jl_b10 : ¬ (1 : Int32) = 0 := by decide
theorem jl_bb {x : Bool} {A B : Prop} (fF : x = false → A) (fT : x = true → B) : (jl_bI x = 0 → A) ∧ (¬ jl_bI x = 0 → B) := by
  cases x
  · exact br_t rfl (fF rfl)
  · exact br_f jl_b10 (fT rfl)
theorem jl_bb1 {x : Bool} {A B : Prop} (fT : x = true → A) (fF : x = false → B) : (jl_bI x = 1 → A) ∧ (¬ jl_bI x = 1 → B) := by
  cases x
  · exact br_f (by decide) (fF rfl)
  · exact br_t rfl (fT rfl)
theorem jl_bbe {x : Int32} {v : Bool} {A B : Prop} (hx : x = jl_bI v) (fF : v = false → A) (fT : v = true → B) : (x = 0 → A) ∧ (¬ x = 0 → B) := by
  subst hx
  exact jl_bb fF fT
theorem jl_dt {c : Prop} [Decidable c] (h : c) : decide c = true := decide_eq_true h
theorem jl_df {c : Prop} [Decidable c] (h : ¬ c) : decide c = false := decide_eq_false h
section
variable {f_writer f_reader f_scratch f_writerStream f_streamWords f_streamBits f_cellStride f_contextStride f_interruptionContext f_codeLimit f_resetCount f_greatestOrder f_width f_height f_cells f_max f_writerOpen f_writerSlot f_readerOpen f_readerSlot f_column f_left f_above f_aboveLeft f_aboveRight f_context f_sign : Int32} {a_picture a_words a_recordLength a_recordBound a_recordBits a_levels a_position a_bound a_range a_levelBits a_threshold1 a_threshold2 a_threshold3 a_stream a_bitAt a_runIndex a_runCount a_inRun a_runBroken a_magnitude a_biasSum a_correction a_occurrences : Nat → Int32}
theorem xv_clamp {post : Int32 → Prop} {u : SX} {v lo hi : Int32} (h : post (jl_clamp v lo hi)) : wpX_clamp post u v lo hi := by
  obtain ⟨f_writer, f_reader, f_scratch, f_writerStream, f_streamWords, f_streamBits, f_cellStride, f_contextStride, f_interruptionContext, f_codeLimit, f_resetCount, f_greatestOrder, f_width, f_height, f_cells, f_max, f_writerOpen, f_writerSlot, f_readerOpen, f_readerSlot, f_column, f_left, f_above, f_aboveLeft, f_aboveRight, f_context, f_sign, a_picture, a_words, a_recordLength, a_recordBound, a_recordBits, a_levels, a_position, a_bound, a_range, a_levelBits, a_threshold1, a_threshold2, a_threshold3, a_stream, a_bitAt, a_runIndex, a_runCount, a_inRun, a_runBroken, a_magnitude, a_biasSum, a_correction, a_occurrences⟩ := u
  exact jl_xi h (fun h => jl_xi h id id) id
theorem xv_greater {post : Int32 → Prop} {u : SX} {x y : Int32} (h : post (jl_max x y)) : wpX_greater post u x y := by
  obtain ⟨f_writer, f_reader, f_scratch, f_writerStream, f_streamWords, f_streamBits, f_cellStride, f_contextStride, f_interruptionContext, f_codeLimit, f_resetCount, f_greatestOrder, f_width, f_height, f_cells, f_max, f_writerOpen, f_writerSlot, f_readerOpen, f_readerSlot, f_column, f_left, f_above, f_aboveLeft, f_aboveRight, f_context, f_sign, a_picture, a_words, a_recordLength, a_recordBound, a_recordBits, a_levels, a_position, a_bound, a_range, a_levelBits, a_threshold1, a_threshold2, a_threshold3, a_stream, a_bitAt, a_runIndex, a_runCount, a_inRun, a_runBroken, a_magnitude, a_biasSum, a_correction, a_occurrences⟩ := u
  exact jl_xi h id id
theorem xv_smaller {post : Int32 → Prop} {u : SX} {x y : Int32} (h : post (jl_min x y)) : wpX_smaller post u x y := by
  obtain ⟨f_writer, f_reader, f_scratch, f_writerStream, f_streamWords, f_streamBits, f_cellStride, f_contextStride, f_interruptionContext, f_codeLimit, f_resetCount, f_greatestOrder, f_width, f_height, f_cells, f_max, f_writerOpen, f_writerSlot, f_readerOpen, f_readerSlot, f_column, f_left, f_above, f_aboveLeft, f_aboveRight, f_context, f_sign, a_picture, a_words, a_recordLength, a_recordBound, a_recordBits, a_levels, a_position, a_bound, a_range, a_levelBits, a_threshold1, a_threshold2, a_threshold3, a_stream, a_bitAt, a_runIndex, a_runCount, a_inRun, a_runBroken, a_magnitude, a_biasSum, a_correction, a_occurrences⟩ := u
  exact jl_xi h id id
theorem xv_fit {post : Int32 → Prop} {u : SX} {v lo top : Int32} (h : post (jl_fit v lo top)) : wpX_fitThreshold post u v lo top := by
  obtain ⟨f_writer, f_reader, f_scratch, f_writerStream, f_streamWords, f_streamBits, f_cellStride, f_contextStride, f_interruptionContext, f_codeLimit, f_resetCount, f_greatestOrder, f_width, f_height, f_cells, f_max, f_writerOpen, f_writerSlot, f_readerOpen, f_readerSlot, f_column, f_left, f_above, f_aboveLeft, f_aboveRight, f_context, f_sign, a_picture, a_words, a_recordLength, a_recordBound, a_recordBits, a_levels, a_position, a_bound, a_range, a_levelBits, a_threshold1, a_threshold2, a_threshold3, a_stream, a_bitAt, a_runIndex, a_runCount, a_inRun, a_runBroken, a_magnitude, a_biasSum, a_correction, a_occurrences⟩ := u
  exact jl_xi h id (fun h => jl_xi h id id)
theorem xv_abs {post : Int32 → Prop} {u : SX} {x : Int32} (h : post (jl_abs x)) : wpX_absolute post u x := by
  obtain ⟨f_writer, f_reader, f_scratch, f_writerStream, f_streamWords, f_streamBits, f_cellStride, f_contextStride, f_interruptionContext, f_codeLimit, f_resetCount, f_greatestOrder, f_width, f_height, f_cells, f_max, f_writerOpen, f_writerSlot, f_readerOpen, f_readerSlot, f_column, f_left, f_above, f_aboveLeft, f_aboveRight, f_context, f_sign, a_picture, a_words, a_recordLength, a_recordBound, a_recordBits, a_levels, a_position, a_bound, a_range, a_levelBits, a_threshold1, a_threshold2, a_threshold3, a_stream, a_bitAt, a_runIndex, a_runCount, a_inRun, a_runBroken, a_magnitude, a_biasSum, a_correction, a_occurrences⟩ := u
  exact jl_xi h id id
theorem xv_flat {post : Int32 → Prop} (h : post (jl_bI (jl_flat f_left f_above f_aboveLeft f_aboveRight))) : wpX_flat post (f_writer, f_reader, f_scratch, f_writerStream, f_streamWords, f_streamBits, f_cellStride, f_contextStride, f_interruptionContext, f_codeLimit, f_resetCount, f_greatestOrder, f_width, f_height, f_cells, f_max, f_writerOpen, f_writerSlot, f_readerOpen, f_readerSlot, f_column, f_left, f_above, f_aboveLeft, f_aboveRight, f_context, f_sign, a_picture, a_words, a_recordLength, a_recordBound, a_recordBits, a_levels, a_position, a_bound, a_range, a_levelBits, a_threshold1, a_threshold2, a_threshold3, a_stream, a_bitAt, a_runIndex, a_runCount, a_inRun, a_runBroken, a_magnitude, a_biasSum, a_correction, a_occurrences) := by
  by_cases h1 : f_left = f_aboveLeft
  · by_cases h2 : f_aboveLeft = f_above
    · by_cases h3 : f_above = f_aboveRight
      · rw [jl_flat, jl_dt ⟨h1, h2, h3⟩] at h
        exact br_t h1 (br_t h2 (br_t h3 h))
      · rw [jl_flat, jl_df (fun z => h3 z.2.2)] at h
        exact br_t h1 (br_t h2 (br_f h3 h))
    · rw [jl_flat, jl_df (fun z => h2 z.2.1)] at h
      exact br_t h1 (br_f h2 h)
  · rw [jl_flat, jl_df (fun z => h1 z.1)] at h
    exact br_f h1 h
theorem xv_type {post : Int32 → Prop} (h : post (jl_ty f_left f_above)) : wpX_interruptionType post (f_writer, f_reader, f_scratch, f_writerStream, f_streamWords, f_streamBits, f_cellStride, f_contextStride, f_interruptionContext, f_codeLimit, f_resetCount, f_greatestOrder, f_width, f_height, f_cells, f_max, f_writerOpen, f_writerSlot, f_readerOpen, f_readerSlot, f_column, f_left, f_above, f_aboveLeft, f_aboveRight, f_context, f_sign, a_picture, a_words, a_recordLength, a_recordBound, a_recordBits, a_levels, a_position, a_bound, a_range, a_levelBits, a_threshold1, a_threshold2, a_threshold3, a_stream, a_bitAt, a_runIndex, a_runCount, a_inRun, a_runBroken, a_magnitude, a_biasSum, a_correction, a_occurrences) := jl_xi h id id
theorem xv_turn {post : Int32 → Prop} (h : post (jl_turn f_left f_above)) : wpX_interruptionSign post (f_writer, f_reader, f_scratch, f_writerStream, f_streamWords, f_streamBits, f_cellStride, f_contextStride, f_interruptionContext, f_codeLimit, f_resetCount, f_greatestOrder, f_width, f_height, f_cells, f_max, f_writerOpen, f_writerSlot, f_readerOpen, f_readerSlot, f_column, f_left, f_above, f_aboveLeft, f_aboveRight, f_context, f_sign, a_picture, a_words, a_recordLength, a_recordBound, a_recordBits, a_levels, a_position, a_bound, a_range, a_levelBits, a_threshold1, a_threshold2, a_threshold3, a_stream, a_bitAt, a_runIndex, a_runCount, a_inRun, a_runBroken, a_magnitude, a_biasSum, a_correction, a_occurrences) := jl_xi h id id
theorem xv_rowEnd {post : Int32 → Prop} {w col : Nat} (hw : 0 < w) (hw2 : w ≤ 16) (hc : col < w) (h : post (jl_bI (decide (col = w - 1)))) : wpX_atRowEnd post (f_writer, f_reader, f_scratch, f_writerStream, f_streamWords, f_streamBits, f_cellStride, f_contextStride, f_interruptionContext, f_codeLimit, f_resetCount, f_greatestOrder, (nI w), f_height, f_cells, f_max, f_writerOpen, f_writerSlot, f_readerOpen, f_readerSlot, (nI col), f_left, f_above, f_aboveLeft, f_aboveRight, f_context, f_sign, a_picture, a_words, a_recordLength, a_recordBound, a_recordBits, a_levels, a_position, a_bound, a_range, a_levelBits, a_threshold1, a_threshold2, a_threshold3, a_stream, a_bitAt, a_runIndex, a_runCount, a_inRun, a_runBroken, a_magnitude, a_biasSum, a_correction, a_occurrences) := by
  have e : nI w - 1 = nI (w - 1) := by
    obtain ⟨v, rfl⟩ : ∃ v, w = v + 1 := ⟨w - 1, by omega⟩
    exact nI_pred v
  by_cases h1 : col = w - 1
  · rw [jl_dt h1] at h
    exact br_t (by rw [e, h1]) h
  · rw [jl_df h1] at h
    exact br_f (by rw [e, nI_eq (by omega) (by omega)]; exact h1) h
theorem xv_runOrder {post : Int32 → Prop} {u : SX} {x : Int32} {r : Nat} (hx : x = nI r) (hr : r ≤ 31) (h : post (nI (jl_ro r))) : wpX_runOrder post u x := by
  obtain ⟨f_writer, f_reader, f_scratch, f_writerStream, f_streamWords, f_streamBits, f_cellStride, f_contextStride, f_interruptionContext, f_codeLimit, f_resetCount, f_greatestOrder, f_width, f_height, f_cells, f_max, f_writerOpen, f_writerSlot, f_readerOpen, f_readerSlot, f_column, f_left, f_above, f_aboveLeft, f_aboveRight, f_context, f_sign, a_picture, a_words, a_recordLength, a_recordBound, a_recordBits, a_levels, a_position, a_bound, a_range, a_levelBits, a_threshold1, a_threshold2, a_threshold3, a_stream, a_bitAt, a_runIndex, a_runCount, a_inRun, a_runBroken, a_magnitude, a_biasSum, a_correction, a_occurrences⟩ := u
  subst hx
  refine pk_le 16 r (fun h1 => pk_le 24 r (fun h2 => ?_) (fun h2 => ?_)) (fun h1 => ?_)
  · have e : nI r - 16 = nI (jl_ro r) := by
      unfold jl_ro
      rw [if_neg (by omega), if_neg (by omega)]
      exact pk_sub (b := 16) (by omega)
    rw [e]; exact h
  · have e : (nI r >>> ((1 : Int32) &&& 31)) - 4 = nI (jl_ro r) := by
      unfold jl_ro
      rw [if_neg (by omega), if_pos (by omega), pk_shrN (by omega) _ 1 (by decide)]
      exact pk_sub (b := 4) (by omega)
    rw [e]; exact h
  · have e : (nI r >>> ((2 : Int32) &&& 31)) = nI (jl_ro r) := by
      unfold jl_ro
      rw [if_pos (by omega), pk_shrN (by omega) _ 2 (by decide)]
    rw [e]; exact h
theorem xl_order {post : Int32 → Prop} {c s : Int32} : ∀ (f k n : Nat), k + f = 9 → f < n → post (nI (jl_ordF c s f k)) → wX_orderFor_2 post c s f_writer f_reader f_scratch f_writerStream f_streamWords f_streamBits f_cellStride f_contextStride f_interruptionContext f_codeLimit f_resetCount f_greatestOrder f_width f_height f_cells f_max f_writerOpen f_writerSlot f_readerOpen f_readerSlot f_column f_left f_above f_aboveLeft f_aboveRight f_context f_sign a_picture a_words a_recordLength a_recordBound a_recordBits a_levels a_position a_bound a_range a_levelBits a_threshold1 a_threshold2 a_threshold3 a_stream a_bitAt a_runIndex a_runCount a_inRun a_runBroken a_magnitude a_biasSum a_correction a_occurrences n (nI k) := by
  intro f
  induction f with
  | zero =>
    intro k n hk hn h
    obtain ⟨m, rfl⟩ : ∃ m, n = m + 1 := ⟨n - 1, by omega⟩
    exact br_t (nI_le (a := 9) (by omega) (by omega)) h
  | succ f ih =>
    intro k n hk hn h
    obtain ⟨m, rfl⟩ : ∃ m, n = m + 1 := ⟨n - 1, by omega⟩
    refine br_f (nI_ge (b := 9) (by omega) (by omega)) ?_
    by_cases hs : s ≤ (c <<< (nI k &&& 31))
    · rw [jl_ordF, if_pos hs] at h
      exact br_t hs h
    · rw [jl_ordF, if_neg hs] at h
      exact br_f hs (nm_r (nI_1 k) (ih (k + 1) m (by omega) (by omega) h))
theorem xv_order {post : Int32 → Prop} {u : SX} {c s : Int32} (h : post (nI (jl_ord c s))) : wpX_orderFor post u c s := by
  obtain ⟨f_writer, f_reader, f_scratch, f_writerStream, f_streamWords, f_streamBits, f_cellStride, f_contextStride, f_interruptionContext, f_codeLimit, f_resetCount, f_greatestOrder, f_width, f_height, f_cells, f_max, f_writerOpen, f_writerSlot, f_readerOpen, f_readerSlot, f_column, f_left, f_above, f_aboveLeft, f_aboveRight, f_context, f_sign, a_picture, a_words, a_recordLength, a_recordBound, a_recordBits, a_levels, a_position, a_bound, a_range, a_levelBits, a_threshold1, a_threshold2, a_threshold3, a_stream, a_bitAt, a_runIndex, a_runCount, a_inRun, a_runBroken, a_magnitude, a_biasSum, a_correction, a_occurrences⟩ := u
  exact ⟨10, xl_order 9 0 10 rfl (by omega) h⟩
end
theorem jl_ordF_le {c s : Int32} : ∀ f k : Nat, jl_ordF c s f k ≤ k + f := by
  intro f
  induction f with
  | zero => intro k; exact Nat.le_refl _
  | succ f ih =>
    intro k
    rw [jl_ordF]
    split
    · omega
    · have := ih (k + 1); omega
theorem jl_ord_le (c s : Int32) : jl_ord c s ≤ 9 := jl_ordF_le 9 0
theorem jl_ro_le {r : Nat} (h : r ≤ 31) : jl_ro r ≤ 15 := by
  unfold jl_ro
  split
  · omega
  · split <;> omega
end
section
/-! ===== walks of the methods that writer and decoders share, over the overlay of bank b ===== -/
theorem jl_cl {b : Nat} (hb : b < 3) : (nI b).toNatClampNeg = b := nI_clamp (by omega)
theorem jl_vi {b : Nat} (hb : b < 3) : vp_in (nI b) 3 := vp_in_nI hb (by omega)
theorem jl_r1 {w p : Nat} (h : 0 < p / w) : w ≤ p := (Nat.div_pos_iff.mp h).2
theorem jl_r2 {w p : Nat} (hw : 0 < w) (h : 1 < p / w) : 2 * w ≤ p := (Nat.le_div_iff_mul_le hw).mp h
theorem jl_r3 {w p : Nat} (hw : 0 < w) (h : 0 < p / w) (h2 : 0 < p % w) : w + 1 ≤ p := by
  have e := Nat.div_add_mod p w
  have := Nat.mul_le_mul_left w (show 1 ≤ p / w from h)
  omega
section
variable {f_writer f_reader f_scratch f_writerStream f_streamWords f_streamBits f_cellStride f_contextStride f_interruptionContext f_codeLimit f_resetCount f_greatestOrder f_width f_height f_cells f_max f_writerOpen f_writerSlot f_readerOpen f_readerSlot f_column f_left f_above f_aboveLeft f_aboveRight f_context f_sign : Int32} {a_picture a_words a_recordLength a_recordBound a_recordBits a_levels a_position a_bound a_range a_levelBits a_threshold1 a_threshold2 a_threshold3 a_stream a_bitAt a_runIndex a_runCount a_inRun a_runBroken a_magnitude a_biasSum a_correction a_occurrences : Nat → Int32} {w nc b pos bit ri rc : Nat} {lev mg bs co oc : Nat → Int32} {ir rb : Bool}
theorem xw_endRun {post : SX → Prop} {p0 : Int32} (hp : p0 = nI b) (hb : b < 3) (h : post (f_writer, f_reader, f_scratch, f_writerStream, f_streamWords, f_streamBits, f_cellStride, f_contextStride, f_interruptionContext, f_codeLimit, f_resetCount, f_greatestOrder, (nI w), f_height, (nI nc), f_max, f_writerOpen, f_writerSlot, f_readerOpen, f_readerSlot, f_column, f_left, f_above, f_aboveLeft, f_aboveRight, f_context, f_sign, a_picture, a_words, a_recordLength, a_recordBound, a_recordBits, (jl_ov a_levels 128 b pos lev), (upd a_position b (nI pos)), a_bound, a_range, a_levelBits, a_threshold1, a_threshold2, a_threshold3, a_stream, (upd a_bitAt b (nI bit)), (upd a_runIndex b (nI ri)), (upd a_runCount b (nI 0)), (upd a_inRun b (jl_bI false)), (upd a_runBroken b (jl_bI false)), (jl_ov a_magnitude 367 b 367 mg), (jl_ov a_biasSum 367 b 367 bs), (jl_ov a_correction 367 b 367 co), (jl_ov a_occurrences 367 b 367 oc))) : wpX_endRun post (f_writer, f_reader, f_scratch, f_writerStream, f_streamWords, f_streamBits, f_cellStride, f_contextStride, f_interruptionContext, f_codeLimit, f_resetCount, f_greatestOrder, (nI w), f_height, (nI nc), f_max, f_writerOpen, f_writerSlot, f_readerOpen, f_readerSlot, f_column, f_left, f_above, f_aboveLeft, f_aboveRight, f_context, f_sign, a_picture, a_words, a_recordLength, a_recordBound, a_recordBits, (jl_ov a_levels 128 b pos lev), (upd a_position b (nI pos)), a_bound, a_range, a_levelBits, a_threshold1, a_threshold2, a_threshold3, a_stream, (upd a_bitAt b (nI bit)), (upd a_runIndex b (nI ri)), (upd a_runCount b (nI rc)), (upd a_inRun b (jl_bI ir)), (upd a_runBroken b (jl_bI rb)), (jl_ov a_magnitude 367 b 367 mg), (jl_ov a_biasSum 367 b 367 bs), (jl_ov a_correction 367 b 367 co), (jl_ov a_occurrences 367 b 367 oc)) p0 := by
  subst hp
  have hc := jl_cl hb
  have hv := jl_vi hb
  exact ⟨hv, nm_r (jl_uu hc jl_n0) ⟨hv, nm_r (jl_uu hc nI_0.symm) ⟨hv, nm_r (jl_uu hc jl_n0) h⟩⟩⟩
theorem xw_look102 {post : SX → Prop} {x3 x4 av : Int32} (h3 : x3 = nI (pos / w)) (h4 : x4 = nI (128 * b + pos)) (hw : 0 < w) (hw2 : w ≤ 16) (hb : b < 3) (hp : pos < 128) (hav : av = jl_above w pos lev) (h : post (f_writer, f_reader, f_scratch, f_writerStream, f_streamWords, f_streamBits, f_cellStride, f_contextStride, f_interruptionContext, f_codeLimit, f_resetCount, f_greatestOrder, (nI w), f_height, (nI nc), f_max, f_writerOpen, f_writerSlot, f_readerOpen, f_readerSlot, (nI (pos % w)), (jl_left w pos lev), av, (jl_al w pos lev), f_aboveRight, f_context, f_sign, a_picture, a_words, a_recordLength, a_recordBound, a_recordBits, (jl_ov a_levels 128 b pos lev), (upd a_position b (nI pos)), a_bound, a_range, a_levelBits, a_threshold1, a_threshold2, a_threshold3, a_stream, (upd a_bitAt b (nI bit)), (upd a_runIndex b (nI ri)), (upd a_runCount b (nI rc)), (upd a_inRun b (jl_bI ir)), (upd a_runBroken b (jl_bI rb)), (jl_ov a_magnitude 367 b 367 mg), (jl_ov a_biasSum 367 b 367 bs), (jl_ov a_correction 367 b 367 co), (jl_ov a_occurrences 367 b 367 oc))) : wX_lookAround_102 post x3 x4 f_writer f_reader f_scratch f_writerStream f_streamWords f_streamBits f_cellStride f_contextStride f_interruptionContext f_codeLimit f_resetCount f_greatestOrder (nI w) f_height (nI nc) f_max f_writerOpen f_writerSlot f_readerOpen f_readerSlot (nI (pos % w)) f_left av f_aboveLeft f_aboveRight f_context f_sign a_picture a_words a_recordLength a_recordBound a_recordBits (jl_ov a_levels 128 b pos lev) (upd a_position b (nI pos)) a_bound a_range a_levelBits a_threshold1 a_threshold2 a_threshold3 a_stream (upd a_bitAt b (nI bit)) (upd a_runIndex b (nI ri)) (upd a_runCount b (nI rc)) (upd a_inRun b (jl_bI ir)) (upd a_runBroken b (jl_bI rb)) (jl_ov a_magnitude 367 b 367 mg) (jl_ov a_biasSum 367 b 367 bs) (jl_ov a_correction 367 b 367 co) (jl_ov a_occurrences 367 b 367 oc) := by
  subst h3 h4
  have hm := Nat.mod_lt pos hw
  have hd := Nat.div_le_self pos w
  have hml := Nat.mod_le pos w
  refine pk_le (pos % w) 0 (fun hc => ?_) (fun hc => ?_)
  · have el : jl_left w pos lev = av := by unfold jl_left; rw [if_neg (by omega), hav]
    rw [el] at h
    refine pk_le (pos / w) 1 (fun hr => ?_) (fun hr => ?_)
    · have ea : jl_al w pos lev = 0 := by unfold jl_al; rw [if_neg (by omega), if_neg (by omega)]
      rw [ea] at h
      exact h
    · have ea : jl_al w pos lev = lev (pos - 2 * w) := by unfold jl_al; rw [if_neg (by omega), if_pos hr]
      have h2 := jl_r2 hw hr
      have e2 : (2 : Int32) * nI w = nI (2 * w) := pk_mul 2 w
      have ex : nI (128 * b + pos) - ((2 : Int32) * nI w) = nI (128 * b + (pos - 2 * w)) := by
        rw [e2, pk_sub (by omega)]
        congr 1
        omega
      rw [ea] at h
      exact ⟨by rw [ex]; exact vp_in_nI (by omega) (by omega), nm_r (jl_ovr (by rw [ex]; exact nI_clamp (by omega)) (by omega)) h⟩
  · have el : jl_left w pos lev = lev (pos - 1) := by unfold jl_left; rw [if_pos hc]
    have e1 : nI (128 * b + pos) - 1 = nI (128 * b + (pos - 1)) := by
      have : (1 : Int32) = nI 1 := rfl
      rw [this, pk_sub (by omega)]
      congr 1
      omega
    rw [el] at h
    refine ⟨by rw [e1]; exact vp_in_nI (by omega) (by omega), nm_r (jl_ovr (i := pos - 1) (by rw [e1]; exact nI_clamp (by omega)) (by omega)) ?_⟩
    refine pk_le (pos / w) 0 (fun hr => ?_) (fun hr => ?_)
    · have ea : jl_al w pos lev = 0 := by unfold jl_al; rw [if_pos hc, if_neg (by omega)]
      rw [ea] at h
      exact h
    · have ea : jl_al w pos lev = lev (pos - w - 1) := by unfold jl_al; rw [if_pos hc, if_pos hr]
      have h2 := jl_r3 hw hr hc
      have ex : (nI (128 * b + pos) - nI w) - 1 = nI (128 * b + (pos - w - 1)) := by
        have : (1 : Int32) = nI 1 := rfl
        rw [this, pk_sub (by omega), pk_sub (by omega)]
        congr 1
        omega
      rw [ea] at h
      exact ⟨by rw [ex]; exact vp_in_nI (by omega) (by omega), nm_r (jl_ovr (by rw [ex]; exact nI_clamp (by omega)) (by omega)) h⟩
theorem xw_look56 {post : SX → Prop} {x3 x4 z0 : Int32} (h3 : x3 = nI (pos / w)) (h4 : x4 = nI (128 * b + pos)) (hw : 0 < w) (hw2 : w ≤ 16) (hb : b < 3) (hp : pos < 128) (hz : z0 = jl_above w pos lev) (h : post (f_writer, f_reader, f_scratch, f_writerStream, f_streamWords, f_streamBits, f_cellStride, f_contextStride, f_interruptionContext, f_codeLimit, f_resetCount, f_greatestOrder, (nI w), f_height, (nI nc), f_max, f_writerOpen, f_writerSlot, f_readerOpen, f_readerSlot, (nI (pos % w)), (jl_left w pos lev), (jl_above w pos lev), (jl_al w pos lev), (jl_ar w pos lev), f_context, f_sign, a_picture, a_words, a_recordLength, a_recordBound, a_recordBits, (jl_ov a_levels 128 b pos lev), (upd a_position b (nI pos)), a_bound, a_range, a_levelBits, a_threshold1, a_threshold2, a_threshold3, a_stream, (upd a_bitAt b (nI bit)), (upd a_runIndex b (nI ri)), (upd a_runCount b (nI rc)), (upd a_inRun b (jl_bI ir)), (upd a_runBroken b (jl_bI rb)), (jl_ov a_magnitude 367 b 367 mg), (jl_ov a_biasSum 367 b 367 bs), (jl_ov a_correction 367 b 367 co), (jl_ov a_occurrences 367 b 367 oc))) : wX_lookAround_56 post x3 x4 z0 f_writer f_reader f_scratch f_writerStream f_streamWords f_streamBits f_cellStride f_contextStride f_interruptionContext f_codeLimit f_resetCount f_greatestOrder (nI w) f_height (nI nc) f_max f_writerOpen f_writerSlot f_readerOpen f_readerSlot (nI (pos % w)) f_left f_above f_aboveLeft f_aboveRight f_context f_sign a_picture a_words a_recordLength a_recordBound a_recordBits (jl_ov a_levels 128 b pos lev) (upd a_position b (nI pos)) a_bound a_range a_levelBits a_threshold1 a_threshold2 a_threshold3 a_stream (upd a_bitAt b (nI bit)) (upd a_runIndex b (nI ri)) (upd a_runCount b (nI rc)) (upd a_inRun b (jl_bI ir)) (upd a_runBroken b (jl_bI rb)) (jl_ov a_magnitude 367 b 367 mg) (jl_ov a_biasSum 367 b 367 bs) (jl_ov a_correction 367 b 367 co) (jl_ov a_occurrences 367 b 367 oc) := by
  subst h3 h4 hz
  have hm := Nat.mod_lt pos hw
  have hd := Nat.div_le_self pos w
  have ew : nI w - 1 = nI (w - 1) := by
    have : (1 : Int32) = nI 1 := rfl
    rw [this, pk_sub (by omega)]
  refine pk_le (pos / w) 0 (fun hr => ?_) (fun hr => ?_)
  · have er : jl_ar w pos lev = jl_above w pos lev := by unfold jl_ar; rw [if_neg (by omega)]
    rw [er] at h
    exact xw_look102 rfl rfl hw hw2 hb hp rfl h
  · refine pk_le (w - 1) (pos % w) (fun hc => ?_) (fun hc => ?_) ew rfl
    · have er : jl_ar w pos lev = jl_above w pos lev := by unfold jl_ar; rw [if_neg (by omega)]
      rw [er] at h
      exact xw_look102 rfl rfl hw hw2 hb hp rfl h
    · have er : jl_ar w pos lev = lev (pos - w + 1) := by unfold jl_ar; rw [if_pos ⟨hr, hc⟩]
      have h1 := jl_r1 hr
      have ex : (nI (128 * b + pos) - nI w) + 1 = nI (128 * b + (pos - w + 1)) := by
        rw [pk_sub (by omega), nI_1]
        congr 1
        omega
      rw [er] at h
      exact ⟨by rw [ex]; exact vp_in_nI (by omega) (by omega), nm_r (jl_ovr (i := pos - w + 1) (by rw [ex]; exact nI_clamp (by omega)) (by omega)) (xw_look102 rfl rfl hw hw2 hb hp rfl h)⟩
theorem xw_look {post : SX → Prop} {p0 : Int32} (hp0 : p0 = nI b) (hb : b < 3) (hw : 0 < w) (hw2 : w ≤ 16) (hp : pos < 128) (h : post (f_writer, f_reader, f_scratch, f_writerStream, f_streamWords, f_streamBits, f_cellStride, f_contextStride, f_interruptionContext, f_codeLimit, f_resetCount, f_greatestOrder, (nI w), f_height, (nI nc), f_max, f_writerOpen, f_writerSlot, f_readerOpen, f_readerSlot, (nI (pos % w)), (jl_left w pos lev), (jl_above w pos lev), (jl_al w pos lev), (jl_ar w pos lev), f_context, f_sign, a_picture, a_words, a_recordLength, a_recordBound, a_recordBits, (jl_ov a_levels 128 b pos lev), (upd a_position b (nI pos)), a_bound, a_range, a_levelBits, a_threshold1, a_threshold2, a_threshold3, a_stream, (upd a_bitAt b (nI bit)), (upd a_runIndex b (nI ri)), (upd a_runCount b (nI rc)), (upd a_inRun b (jl_bI ir)), (upd a_runBroken b (jl_bI rb)), (jl_ov a_magnitude 367 b 367 mg), (jl_ov a_biasSum 367 b 367 bs), (jl_ov a_correction 367 b 367 co), (jl_ov a_occurrences 367 b 367 oc))) : wpX_lookAround post (f_writer, f_reader, f_scratch, f_writerStream, f_streamWords, f_streamBits, f_cellStride, f_contextStride, f_interruptionContext, f_codeLimit, f_resetCount, f_greatestOrder, (nI w), f_height, (nI nc), f_max, f_writerOpen, f_writerSlot, f_readerOpen, f_readerSlot, f_column, f_left, f_above, f_aboveLeft, f_aboveRight, f_context, f_sign, a_picture, a_words, a_recordLength, a_recordBound, a_recordBits, (jl_ov a_levels 128 b pos lev), (upd a_position b (nI pos)), a_bound, a_range, a_levelBits, a_threshold1, a_threshold2, a_threshold3, a_stream, (upd a_bitAt b (nI bit)), (upd a_runIndex b (nI ri)), (upd a_runCount b (nI rc)), (upd a_inRun b (jl_bI ir)), (upd a_runBroken b (jl_bI rb)), (jl_ov a_magnitude 367 b 367 mg), (jl_ov a_biasSum 367 b 367 bs), (jl_ov a_correction 367 b 367 co), (jl_ov a_occurrences 367 b 367 oc)) p0 := by
  subst hp0
  have hc := jl_cl hb
  have hd := Nat.div_le_self pos w
  have hdm := Nat.div_mul_le_self pos w
  refine ⟨jl_vi hb, nm_r (jl_ur hc) ⟨nI_ne0 hw (by omega), nm_r (pk_div (by omega) hw (by omega)) (nm_r (e' := nI (128 * b + pos)) ?_ (nm_r (e' := nI (pos % w)) ?_ ?_))⟩⟩
  · show nI b * nI 128 + nI pos = _
    rw [pk_mul, nI_add, Nat.mul_comm]
  · rw [pk_mul, pk_sub hdm]
    congr 1
    have := Nat.div_add_mod' pos w
    omega
  · refine pk_le (pos / w) 0 (fun hr => ?_) (fun hr => ?_)
    · exact xw_look56 rfl rfl hw hw2 hb hp (by unfold jl_above; rw [if_neg (by omega)]) h
    · have h1 := jl_r1 hr
      have ex : nI (128 * b + pos) - nI w = nI (128 * b + (pos - w)) := by
        rw [pk_sub (by omega)]
        congr 1
        omega
      refine ⟨by rw [ex]; exact vp_in_nI (by omega) (by omega), xw_look56 rfl rfl hw hw2 hb hp ?_ h⟩
      unfold jl_above
      rw [if_pos hr]
      exact jl_ovr (by rw [ex]; exact nI_clamp (by omega)) (by omega)
theorem xw_start {post : SX → Prop} {p0 : Int32} (hp : p0 = nI b) (hb : b < 3) (h1 : ir = false → jl_flat f_left f_above f_aboveLeft f_aboveRight = true → post (f_writer, f_reader, f_scratch, f_writerStream, f_streamWords, f_streamBits, f_cellStride, f_contextStride, f_interruptionContext, f_codeLimit, f_resetCount, f_greatestOrder, (nI w), f_height, (nI nc), f_max, f_writerOpen, f_writerSlot, f_readerOpen, f_readerSlot, f_column, f_left, f_above, f_aboveLeft, f_aboveRight, f_context, f_sign, a_picture, a_words, a_recordLength, a_recordBound, a_recordBits, (jl_ov a_levels 128 b pos lev), (upd a_position b (nI pos)), a_bound, a_range, a_levelBits, a_threshold1, a_threshold2, a_threshold3, a_stream, (upd a_bitAt b (nI bit)), (upd a_runIndex b (nI ri)), (upd a_runCount b (nI 0)), (upd a_inRun b (jl_bI true)), (upd a_runBroken b (jl_bI false)), (jl_ov a_magnitude 367 b 367 mg), (jl_ov a_biasSum 367 b 367 bs), (jl_ov a_correction 367 b 367 co), (jl_ov a_occurrences 367 b 367 oc))) (h2 : ir = false → jl_flat f_left f_above f_aboveLeft f_aboveRight = false → post (f_writer, f_reader, f_scratch, f_writerStream, f_streamWords, f_streamBits, f_cellStride, f_contextStride, f_interruptionContext, f_codeLimit, f_resetCount, f_greatestOrder, (nI w), f_height, (nI nc), f_max, f_writerOpen, f_writerSlot, f_readerOpen, f_readerSlot, f_column, f_left, f_above, f_aboveLeft, f_aboveRight, f_context, f_sign, a_picture, a_words, a_recordLength, a_recordBound, a_recordBits, (jl_ov a_levels 128 b pos lev), (upd a_position b (nI pos)), a_bound, a_range, a_levelBits, a_threshold1, a_threshold2, a_threshold3, a_stream, (upd a_bitAt b (nI bit)), (upd a_runIndex b (nI ri)), (upd a_runCount b (nI rc)), (upd a_inRun b (jl_bI ir)), (upd a_runBroken b (jl_bI rb)), (jl_ov a_magnitude 367 b 367 mg), (jl_ov a_biasSum 367 b 367 bs), (jl_ov a_correction 367 b 367 co), (jl_ov a_occurrences 367 b 367 oc))) (h3 : ir = true → post (f_writer, f_reader, f_scratch, f_writerStream, f_streamWords, f_streamBits, f_cellStride, f_contextStride, f_interruptionContext, f_codeLimit, f_resetCount, f_greatestOrder, (nI w), f_height, (nI nc), f_max, f_writerOpen, f_writerSlot, f_readerOpen, f_readerSlot, f_column, f_left, f_above, f_aboveLeft, f_aboveRight, f_context, f_sign, a_picture, a_words, a_recordLength, a_recordBound, a_recordBits, (jl_ov a_levels 128 b pos lev), (upd a_position b (nI pos)), a_bound, a_range, a_levelBits, a_threshold1, a_threshold2, a_threshold3, a_stream, (upd a_bitAt b (nI bit)), (upd a_runIndex b (nI ri)), (upd a_runCount b (nI rc)), (upd a_inRun b (jl_bI ir)), (upd a_runBroken b (jl_bI rb)), (jl_ov a_magnitude 367 b 367 mg), (jl_ov a_biasSum 367 b 367 bs), (jl_ov a_correction 367 b 367 co), (jl_ov a_occurrences 367 b 367 oc))) : wpX_startRunIfFlat post (f_writer, f_reader, f_scratch, f_writerStream, f_streamWords, f_streamBits, f_cellStride, f_contextStride, f_interruptionContext, f_codeLimit, f_resetCount, f_greatestOrder, (nI w), f_height, (nI nc), f_max, f_writerOpen, f_writerSlot, f_readerOpen, f_readerSlot, f_column, f_left, f_above, f_aboveLeft, f_aboveRight, f_context, f_sign, a_picture, a_words, a_recordLength, a_recordBound, a_recordBits, (jl_ov a_levels 128 b pos lev), (upd a_position b (nI pos)), a_bound, a_range, a_levelBits, a_threshold1, a_threshold2, a_threshold3, a_stream, (upd a_bitAt b (nI bit)), (upd a_runIndex b (nI ri)), (upd a_runCount b (nI rc)), (upd a_inRun b (jl_bI ir)), (upd a_runBroken b (jl_bI rb)), (jl_ov a_magnitude 367 b 367 mg), (jl_ov a_biasSum 367 b 367 bs), (jl_ov a_correction 367 b 367 co), (jl_ov a_occurrences 367 b 367 oc)) p0 := by
  subst hp
  have hc := jl_cl hb
  have hv := jl_vi hb
  refine ⟨hv, jl_bbe (jl_ur hc) (fun e => xv_flat (jl_bb (h2 e) (fun g => ⟨hv, nm_r (jl_uu hc jl_n1) ⟨hv, nm_r (jl_uu hc nI_0.symm) ⟨hv, nm_r (jl_uu hc jl_n0) (h1 e g)⟩⟩⟩))) h3⟩
theorem xw_raise {post : SX → Prop} {p0 : Int32} (hp : p0 = nI b) (hb : b < 3) (hr : ri ≤ 31) (h : post (f_writer, f_reader, f_scratch, f_writerStream, f_streamWords, f_streamBits, f_cellStride, f_contextStride, f_interruptionContext, f_codeLimit, f_resetCount, f_greatestOrder, (nI w), f_height, (nI nc), f_max, f_writerOpen, f_writerSlot, f_readerOpen, f_readerSlot, f_column, f_left, f_above, f_aboveLeft, f_aboveRight, f_context, f_sign, a_picture, a_words, a_recordLength, a_recordBound, a_recordBits, (jl_ov a_levels 128 b pos lev), (upd a_position b (nI pos)), a_bound, a_range, a_levelBits, a_threshold1, a_threshold2, a_threshold3, a_stream, (upd a_bitAt b (nI bit)), (upd a_runIndex b (nI (jl_up ri))), (upd a_runCount b (nI rc)), (upd a_inRun b (jl_bI ir)), (upd a_runBroken b (jl_bI rb)), (jl_ov a_magnitude 367 b 367 mg), (jl_ov a_biasSum 367 b 367 bs), (jl_ov a_correction 367 b 367 co), (jl_ov a_occurrences 367 b 367 oc))) : wpX_raiseRunIndex post (f_writer, f_reader, f_scratch, f_writerStream, f_streamWords, f_streamBits, f_cellStride, f_contextStride, f_interruptionContext, f_codeLimit, f_resetCount, f_greatestOrder, (nI w), f_height, (nI nc), f_max, f_writerOpen, f_writerSlot, f_readerOpen, f_readerSlot, f_column, f_left, f_above, f_aboveLeft, f_aboveRight, f_context, f_sign, a_picture, a_words, a_recordLength, a_recordBound, a_recordBits, (jl_ov a_levels 128 b pos lev), (upd a_position b (nI pos)), a_bound, a_range, a_levelBits, a_threshold1, a_threshold2, a_threshold3, a_stream, (upd a_bitAt b (nI bit)), (upd a_runIndex b (nI ri)), (upd a_runCount b (nI rc)), (upd a_inRun b (jl_bI ir)), (upd a_runBroken b (jl_bI rb)), (jl_ov a_magnitude 367 b 367 mg), (jl_ov a_biasSum 367 b 367 bs), (jl_ov a_correction 367 b 367 co), (jl_ov a_occurrences 367 b 367 oc)) p0 := by
  subst hp
  have hc := jl_cl hb
  have hv := jl_vi hb
  refine ⟨hv, pk_le 31 ri (fun g => ?_) (fun g => ?_) rfl (jl_ur hc)⟩
  · rw [jl_up, if_pos g] at h
    exact h
  · rw [jl_up, if_neg (by omega)] at h
    exact ⟨hv, hv, nm_r (jl_uu hc (by rw [jl_ur hc, nI_1])) h⟩
theorem xw_lower {post : SX → Prop} {p0 : Int32} (hp : p0 = nI b) (hb : b < 3) (hr : ri ≤ 31) (h : post (f_writer, f_reader, f_scratch, f_writerStream, f_streamWords, f_streamBits, f_cellStride, f_contextStride, f_interruptionContext, f_codeLimit, f_resetCount, f_greatestOrder, (nI w), f_height, (nI nc), f_max, f_writerOpen, f_writerSlot, f_readerOpen, f_readerSlot, f_column, f_left, f_above, f_aboveLeft, f_aboveRight, f_context, f_sign, a_picture, a_words, a_recordLength, a_recordBound, a_recordBits, (jl_ov a_levels 128 b pos lev), (upd a_position b (nI pos)), a_bound, a_range, a_levelBits, a_threshold1, a_threshold2, a_threshold3, a_stream, (upd a_bitAt b (nI bit)), (upd a_runIndex b (nI (ri - 1))), (upd a_runCount b (nI rc)), (upd a_inRun b (jl_bI ir)), (upd a_runBroken b (jl_bI rb)), (jl_ov a_magnitude 367 b 367 mg), (jl_ov a_biasSum 367 b 367 bs), (jl_ov a_correction 367 b 367 co), (jl_ov a_occurrences 367 b 367 oc))) : wpX_lowerRunIndex post (f_writer, f_reader, f_scratch, f_writerStream, f_streamWords, f_streamBits, f_cellStride, f_contextStride, f_interruptionContext, f_codeLimit, f_resetCount, f_greatestOrder, (nI w), f_height, (nI nc), f_max, f_writerOpen, f_writerSlot, f_readerOpen, f_readerSlot, f_column, f_left, f_above, f_aboveLeft, f_aboveRight, f_context, f_sign, a_picture, a_words, a_recordLength, a_recordBound, a_recordBits, (jl_ov a_levels 128 b pos lev), (upd a_position b (nI pos)), a_bound, a_range, a_levelBits, a_threshold1, a_threshold2, a_threshold3, a_stream, (upd a_bitAt b (nI bit)), (upd a_runIndex b (nI ri)), (upd a_runCount b (nI rc)), (upd a_inRun b (jl_bI ir)), (upd a_runBroken b (jl_bI rb)), (jl_ov a_magnitude 367 b 367 mg), (jl_ov a_biasSum 367 b 367 bs), (jl_ov a_correction 367 b 367 co), (jl_ov a_occurrences 367 b 367 oc)) p0 := by
  subst hp
  have hc := jl_cl hb
  have hv := jl_vi hb
  refine ⟨hv, pk_le ri 0 (fun g => ?_) (fun g => ?_) (jl_ur hc) rfl⟩
  · have e : ri - 1 = ri := by omega
    rw [e] at h
    exact h
  · refine ⟨hv, hv, nm_r (jl_uu hc ?_) h⟩
    rw [jl_ur hc]
    exact pk_sub (b := 1) g
theorem xw_append {post : SX → Prop} {p0 x : Int32} (hp0 : p0 = nI b) (hb : b < 3) (hp : pos < 128) (h : post (f_writer, f_reader, f_scratch, f_writerStream, f_streamWords, f_streamBits, f_cellStride, f_contextStride, f_interruptionContext, f_codeLimit, f_resetCount, f_greatestOrder, (nI w), f_height, (nI nc), f_max, f_writerOpen, f_writerSlot, f_readerOpen, f_readerSlot, f_column, f_left, f_above, f_aboveLeft, f_aboveRight, f_context, f_sign, a_picture, a_words, a_recordLength, a_recordBound, a_recordBits, (jl_ov a_levels 128 b (pos + 1) (upd lev pos x)), (upd a_position b (nI (pos + 1))), a_bound, a_range, a_levelBits, a_threshold1, a_threshold2, a_threshold3, a_stream, (upd a_bitAt b (nI bit)), (upd a_runIndex b (nI ri)), (upd a_runCount b (nI rc)), (upd a_inRun b (jl_bI ir)), (upd a_runBroken b (jl_bI rb)), (jl_ov a_magnitude 367 b 367 mg), (jl_ov a_biasSum 367 b 367 bs), (jl_ov a_correction 367 b 367 co), (jl_ov a_occurrences 367 b 367 oc))) : wpX_append post (f_writer, f_reader, f_scratch, f_writerStream, f_streamWords, f_streamBits, f_cellStride, f_contextStride, f_interruptionContext, f_codeLimit, f_resetCount, f_greatestOrder, (nI w), f_height, (nI nc), f_max, f_writerOpen, f_writerSlot, f_readerOpen, f_readerSlot, f_column, f_left, f_above, f_aboveLeft, f_aboveRight, f_context, f_sign, a_picture, a_words, a_recordLength, a_recordBound, a_recordBits, (jl_ov a_levels 128 b pos lev), (upd a_position b (nI pos)), a_bound, a_range, a_levelBits, a_threshold1, a_threshold2, a_threshold3, a_stream, (upd a_bitAt b (nI bit)), (upd a_runIndex b (nI ri)), (upd a_runCount b (nI rc)), (upd a_inRun b (jl_bI ir)), (upd a_runBroken b (jl_bI rb)), (jl_ov a_magnitude 367 b 367 mg), (jl_ov a_biasSum 367 b 367 bs), (jl_ov a_correction 367 b 367 co), (jl_ov a_occurrences 367 b 367 oc)) p0 x := by
  subst hp0
  have hc := jl_cl hb
  have hv := jl_vi hb
  have e : (nI b * 128) + (upd a_position b (nI pos) (nI b).toNatClampNeg) = nI (128 * b + pos) := by
    rw [jl_ur hc]
    show nI b * nI 128 + nI pos = _
    rw [pk_mul, nI_add, Nat.mul_comm]
  exact ⟨hv, by rw [e]; exact vp_in_nI (by omega) (by omega), nm_r (jl_ova (by rw [e]; exact nI_clamp (by omega))) ⟨hv, hv, nm_r (jl_uu hc (by rw [jl_ur hc, nI_1])) h⟩⟩
theorem xv_quant {post : Int32 → Prop} {p0 d t1 t2 t3 : Int32} (hv : vp_in p0 3) (e1 : a_threshold1 p0.toNatClampNeg = t1) (e2 : a_threshold2 p0.toNatClampNeg = t2) (e3 : a_threshold3 p0.toNatClampNeg = t3) (h : post (jl_quant t1 t2 t3 d)) : wpX_quantise post (f_writer, f_reader, f_scratch, f_writerStream, f_streamWords, f_streamBits, f_cellStride, f_contextStride, f_interruptionContext, f_codeLimit, f_resetCount, f_greatestOrder, f_width, f_height, f_cells, f_max, f_writerOpen, f_writerSlot, f_readerOpen, f_readerSlot, f_column, f_left, f_above, f_aboveLeft, f_aboveRight, f_context, f_sign, a_picture, a_words, a_recordLength, a_recordBound, a_recordBits, a_levels, a_position, a_bound, a_range, a_levelBits, a_threshold1, a_threshold2, a_threshold3, a_stream, a_bitAt, a_runIndex, a_runCount, a_inRun, a_runBroken, a_magnitude, a_biasSum, a_correction, a_occurrences) p0 d := by
  subst e1 e2 e3
  have q : ∀ st : Int32, post (if 0 ≤ d then st else -st) → wX_quantise_67 post d st f_writer f_reader f_scratch f_writerStream f_streamWords f_streamBits f_cellStride f_contextStride f_interruptionContext f_codeLimit f_resetCount f_greatestOrder f_width f_height f_cells f_max f_writerOpen f_writerSlot f_readerOpen f_readerSlot f_column f_left f_above f_aboveLeft f_aboveRight f_context f_sign a_picture a_words a_recordLength a_recordBound a_recordBits a_levels a_position a_bound a_range a_levelBits a_threshold1 a_threshold2 a_threshold3 a_stream a_bitAt a_runIndex a_runCount a_inRun a_runBroken a_magnitude a_biasSum a_correction a_occurrences := fun st h => jl_xi h id id
  unfold wpX_quantise
  refine xv_abs ?_
  exact jl_xi (Q := fun st => post (if 0 ≤ d then st else -st)) h (q _) (fun h => ⟨hv, jl_xi (Q := fun st => post (if 0 ≤ d then st else -st)) h (fun h => ⟨hv, jl_xi (Q := fun st => post (if 0 ≤ d then st else -st)) h (fun h => ⟨hv, jl_xi (Q := fun st => post (if 0 ≤ d then st else -st)) h (q _) (q _)⟩) (q _)⟩) (q _)⟩)
end
/-! ints of small size -/
theorem jl_iadd {x y : Int32} {a b : Int} (hx : x.toInt = a) (hy : y.toInt = b) (h1 : -1000000 ≤ a + b) (h2 : a + b ≤ 1000000) : (x + y).toInt = a + b := by
  rw [Int32.toInt_add, hx, hy]
  exact Int.bmod_eq_of_le (by omega) (by omega)
theorem jl_isub {x y : Int32} {a b : Int} (hx : x.toInt = a) (hy : y.toInt = b) (h1 : -1000000 ≤ a - b) (h2 : a - b ≤ 1000000) : (x - y).toInt = a - b := by
  rw [Int32.toInt_sub, hx, hy]
  exact Int.bmod_eq_of_le (by omega) (by omega)
theorem jl_imul {x y : Int32} {a b : Int} (hx : x.toInt = a) (hy : y.toInt = b) (h1 : -1000000 ≤ a * b) (h2 : a * b ≤ 1000000) : (x * y).toInt = a * b := by
  rw [Int32.toInt_mul, hx, hy]
  generalize a * b = t at *
  exact Int.bmod_eq_of_le (by omega) (by omega)
theorem jl_ineg {x : Int32} {a : Int} (hx : x.toInt = a) (h1 : -1000000 ≤ a) (h2 : a ≤ 1000000) : (-x).toInt = -a := by
  rw [Int32.toInt_neg, hx]
  exact Int.bmod_eq_of_le (by omega) (by omega)
theorem jl_ile {x y : Int32} : x ≤ y ↔ x.toInt ≤ y.toInt := Int32.le_iff_toInt_le
theorem jl_ilt {x y : Int32} : x < y ↔ x.toInt < y.toInt := Int32.lt_iff_toInt_lt
theorem jl_i0 : (0 : Int32).toInt = 0 := by decide
theorem jl_i1 : (1 : Int32).toInt = 1 := by decide
theorem jl_i2 : (2 : Int32).toInt = 2 := by decide
theorem jl_im1 : (-1 : Int32).toInt = -1 := by decide
theorem jl_im2 : (-2 : Int32).toInt = -2 := by decide
theorem jl_i9 : (9 : Int32).toInt = 9 := by decide
theorem jl_i81 : (81 : Int32).toInt = 81 := by decide
theorem jl_inI {x : Int32} {n : Nat} (h : x.toInt = (n : Int)) (hn : n < 2 ^ 31) : x = nI n := by
  apply Int32.toInt_inj.mp
  rw [h, nI_toInt hn]
/-- a value that isn't negative is nI of its clamp -/
theorem jl_inn {x : Int32} (h : 0 ≤ x.toInt) : x = nI x.toNatClampNeg ∧ (x.toNatClampNeg : Int) = x.toInt := by
  have hx : ¬ x < 0 := by rw [jl_ilt, jl_i0]; omega
  obtain ⟨j, hj, rfl⟩ := nI_of hx
  rw [nI_clamp hj, nI_toInt hj]
  exact ⟨rfl, rfl⟩
theorem jl_step_r (t1 t2 t3 s : Int32) : 0 ≤ (jl_step t1 t2 t3 s).toInt ∧ (jl_step t1 t2 t3 s).toInt ≤ 4 := by
  unfold jl_step
  split
  · decide
  · split
    · split
      · split
        · decide
        · decide
      · decide
    · decide
theorem jl_quant_r (t1 t2 t3 d : Int32) : -4 ≤ (jl_quant t1 t2 t3 d).toInt ∧ (jl_quant t1 t2 t3 d).toInt ≤ 4 := by
  have h := jl_step_r t1 t2 t3 (jl_abs d)
  unfold jl_quant
  split
  · omega
  · rw [jl_ineg rfl (by omega) (by omega)]
    omega
theorem jl_fold_r (t1 t2 t3 l a al ar : Int32) : -364 ≤ (jl_fold t1 t2 t3 l a al ar).toInt ∧ (jl_fold t1 t2 t3 l a al ar).toInt ≤ 364 := by
  have h1 := jl_quant_r t1 t2 t3 (ar - a)
  have h2 := jl_quant_r t1 t2 t3 (a - al)
  have h3 := jl_quant_r t1 t2 t3 (al - l)
  unfold jl_fold
  have e1 := jl_imul jl_i81 (y := jl_quant t1 t2 t3 (ar - a)) rfl (by omega) (by omega)
  have e2 := jl_imul jl_i9 (y := jl_quant t1 t2 t3 (a - al)) rfl (by omega) (by omega)
  have e3 := jl_iadd e1 e2 (by omega) (by omega)
  have e4 := jl_iadd e3 (y := jl_quant t1 t2 t3 (al - l)) rfl (by omega) (by omega)
  rw [e4]
  omega
theorem jl_abs_r {x : Int32} (h1 : -1000000 ≤ x.toInt) (h2 : x.toInt ≤ 1000000) : (jl_abs x).toInt = (x.toInt.natAbs : Int) := by
  unfold jl_abs
  split
  · rename_i h
    rw [jl_ile, jl_i0] at h
    omega
  · rename_i h
    rw [jl_ile, jl_i0] at h
    rw [jl_ineg rfl (by omega) (by omega)]
    omega
theorem jl_q_f {f : Int32} (h1 : -364 ≤ f.toInt) (h2 : f.toInt ≤ 364) : jl_abs f = nI (jl_q f) ∧ jl_q f < 365 := by
  have e := jl_abs_r (x := f) (by omega) (by omega)
  have g := jl_inn (x := jl_abs f) (by omega)
  refine ⟨g.1, ?_⟩
  have g2 := g.2
  unfold jl_q
  omega
end
section
/-! ===== walks of the contexts' methods over the overlay of bank b ===== -/
theorem jl_cx {b q : Nat} (hb : b < 3) (hq : q < 367) : vp_in (nI (367 * b + q)) 1101 := vp_in_nI (by omega) (by omega)
theorem jl_cc {b q : Nat} (hb : b < 3) (hq : q < 367) : (nI (367 * b + q)).toNatClampNeg = 367 * b + q := nI_clamp (by omega)
section
variable {f_writer f_reader f_scratch f_writerStream f_streamWords f_streamBits f_cellStride f_contextStride f_interruptionContext f_codeLimit f_resetCount f_greatestOrder f_width f_height f_cells f_max f_writerOpen f_writerSlot f_readerOpen f_readerSlot f_column f_left f_above f_aboveLeft f_aboveRight f_context f_sign : Int32} {a_picture a_words a_recordLength a_recordBound a_recordBits a_levels a_position a_bound a_range a_levelBits a_threshold1 a_threshold2 a_threshold3 a_stream a_bitAt a_runIndex a_runCount a_inRun a_runBroken a_magnitude a_biasSum a_correction a_occurrences : Nat → Int32} {w nc b pos bit ri rc q k : Nat} {lev mg bs co oc co1 : Nat → Int32} {ir rb : Bool}
theorem xw_select {post : SX → Prop} {p0 t1 t2 t3 : Int32} (hp : p0 = nI b) (hb : b < 3) (e1 : a_threshold1 b = t1) (e2 : a_threshold2 b = t2) (e3 : a_threshold3 b = t3) (h : post (f_writer, f_reader, f_scratch, f_writerStream, f_streamWords, f_streamBits, f_cellStride, f_contextStride, f_interruptionContext, f_codeLimit, f_resetCount, f_greatestOrder, (nI w), f_height, (nI nc), f_max, f_writerOpen, f_writerSlot, f_readerOpen, f_readerSlot, f_column, f_left, f_above, f_aboveLeft, f_aboveRight, (nI (367 * b + jl_q (jl_fold t1 t2 t3 f_left f_above f_aboveLeft f_aboveRight))), (jl_sgn (jl_fold t1 t2 t3 f_left f_above f_aboveLeft f_aboveRight)), a_picture, a_words, a_recordLength, a_recordBound, a_recordBits, (jl_ov a_levels 128 b pos lev), (upd a_position b (nI pos)), a_bound, a_range, a_levelBits, a_threshold1, a_threshold2, a_threshold3, a_stream, (upd a_bitAt b (nI bit)), (upd a_runIndex b (nI ri)), (upd a_runCount b (nI rc)), (upd a_inRun b (jl_bI ir)), (upd a_runBroken b (jl_bI rb)), (jl_ov a_magnitude 367 b 367 mg), (jl_ov a_biasSum 367 b 367 bs), (jl_ov a_correction 367 b 367 co), (jl_ov a_occurrences 367 b 367 oc))) : wpX_selectContext post (f_writer, f_reader, f_scratch, f_writerStream, f_streamWords, f_streamBits, f_cellStride, f_contextStride, f_interruptionContext, f_codeLimit, f_resetCount, f_greatestOrder, (nI w), f_height, (nI nc), f_max, f_writerOpen, f_writerSlot, f_readerOpen, f_readerSlot, f_column, f_left, f_above, f_aboveLeft, f_aboveRight, f_context, f_sign, a_picture, a_words, a_recordLength, a_recordBound, a_recordBits, (jl_ov a_levels 128 b pos lev), (upd a_position b (nI pos)), a_bound, a_range, a_levelBits, a_threshold1, a_threshold2, a_threshold3, a_stream, (upd a_bitAt b (nI bit)), (upd a_runIndex b (nI ri)), (upd a_runCount b (nI rc)), (upd a_inRun b (jl_bI ir)), (upd a_runBroken b (jl_bI rb)), (jl_ov a_magnitude 367 b 367 mg), (jl_ov a_biasSum 367 b 367 bs), (jl_ov a_correction 367 b 367 co), (jl_ov a_occurrences 367 b 367 oc)) p0 := by
  subst hp
  have hc := jl_cl hb
  have hv := jl_vi hb
  have c1 : a_threshold1 (nI b).toNatClampNeg = t1 := by rw [hc]; exact e1
  have c2 : a_threshold2 (nI b).toNatClampNeg = t2 := by rw [hc]; exact e2
  have c3 : a_threshold3 (nI b).toNatClampNeg = t3 := by rw [hc]; exact e3
  have r := jl_fold_r t1 t2 t3 f_left f_above f_aboveLeft f_aboveRight
  have q := jl_q_f r.1 r.2
  have e : ∀ x : Int32, x = nI (jl_q (jl_fold t1 t2 t3 f_left f_above f_aboveLeft f_aboveRight)) → (nI b * 367) + x = nI (367 * b + jl_q (jl_fold t1 t2 t3 f_left f_above f_aboveLeft f_aboveRight)) := by
    intro x hx
    subst hx
    show nI b * nI 367 + _ = _
    rw [pk_mul, nI_add, Nat.mul_comm]
  unfold wpX_selectContext
  refine xv_quant hv c1 c2 c3 (xv_quant hv c1 c2 c3 (xv_quant hv c1 c2 c3 (nm_e ?_)))
  refine br_c (fun g => ?_) (fun g => ?_)
  · have q1 := q.1
    have g' : 0 ≤ jl_fold t1 t2 t3 f_left f_above f_aboveLeft f_aboveRight := g
    rw [jl_abs, if_pos g'] at q1
    rw [jl_sgn, if_pos g'] at h
    exact nm_r (e _ q1) h
  · have q1 := q.1
    have g' : ¬ 0 ≤ jl_fold t1 t2 t3 f_left f_above f_aboveLeft f_aboveRight := g
    rw [jl_abs, if_neg g'] at q1
    rw [jl_sgn, if_neg g'] at h
    exact nm_e (nm_r (e _ q1) h)
theorem xw_predict70 {post : Int32 → Prop} {p0 x4 rng : Int32} (hp : p0 = nI b) (hb : b < 3) (hq : q < 367) (hr : a_range b = rng) (h : post (jl_clamp (x4 + (f_sign * co q)) 0 (rng - 1))) : wX_predict_70 post p0 x4 f_writer f_reader f_scratch f_writerStream f_streamWords f_streamBits f_cellStride f_contextStride f_interruptionContext f_codeLimit f_resetCount f_greatestOrder (nI w) f_height (nI nc) f_max f_writerOpen f_writerSlot f_readerOpen f_readerSlot f_column f_left f_above f_aboveLeft f_aboveRight (nI (367 * b + q)) f_sign a_picture a_words a_recordLength a_recordBound a_recordBits (jl_ov a_levels 128 b pos lev) (upd a_position b (nI pos)) a_bound a_range a_levelBits a_threshold1 a_threshold2 a_threshold3 a_stream (upd a_bitAt b (nI bit)) (upd a_runIndex b (nI ri)) (upd a_runCount b (nI rc)) (upd a_inRun b (jl_bI ir)) (upd a_runBroken b (jl_bI rb)) (jl_ov a_magnitude 367 b 367 mg) (jl_ov a_biasSum 367 b 367 bs) (jl_ov a_correction 367 b 367 co) (jl_ov a_occurrences 367 b 367 oc) := by
  subst hp
  have hc := jl_cl hb
  refine ⟨jl_cx hb hq, nm_r (congrArg (fun t => x4 + (f_sign * t)) (jl_ovr (i := q) (jl_cc hb hq) hq)) ⟨jl_vi hb, xv_clamp ?_⟩⟩
  rw [hc, hr]
  exact h
theorem xw_predict {post : Int32 → Prop} {p0 rng : Int32} (hp : p0 = nI b) (hb : b < 3) (hq : q < 367) (hr : a_range b = rng) (h : post (jl_guess rng f_left f_above f_aboveLeft f_sign (co q))) : wpX_predict post (f_writer, f_reader, f_scratch, f_writerStream, f_streamWords, f_streamBits, f_cellStride, f_contextStride, f_interruptionContext, f_codeLimit, f_resetCount, f_greatestOrder, (nI w), f_height, (nI nc), f_max, f_writerOpen, f_writerSlot, f_readerOpen, f_readerSlot, f_column, f_left, f_above, f_aboveLeft, f_aboveRight, (nI (367 * b + q)), f_sign, a_picture, a_words, a_recordLength, a_recordBound, a_recordBits, (jl_ov a_levels 128 b pos lev), (upd a_position b (nI pos)), a_bound, a_range, a_levelBits, a_threshold1, a_threshold2, a_threshold3, a_stream, (upd a_bitAt b (nI bit)), (upd a_runIndex b (nI ri)), (upd a_runCount b (nI rc)), (upd a_inRun b (jl_bI ir)), (upd a_runBroken b (jl_bI rb)), (jl_ov a_magnitude 367 b 367 mg), (jl_ov a_biasSum 367 b 367 bs), (jl_ov a_correction 367 b 367 co), (jl_ov a_occurrences 367 b 367 oc)) p0 := by
  unfold wpX_predict
  refine xv_smaller (xv_greater ?_)
  exact jl_xi (Q := fun g => post (jl_clamp (g + (f_sign * co q)) 0 (rng - 1))) h (fun h => jl_xi (Q := fun g => post (jl_clamp (g + (f_sign * co q)) 0 (rng - 1))) h (fun h => nm_e (xw_predict70 hp hb hq hr h)) (fun h => xw_predict70 hp hb hq hr h)) (fun h => xw_predict70 hp hb hq hr h)
theorem xw_turned {post : Int32 → Prop} {p0 : Int32} (hp : p0 = nI k) (hk : k ≤ 9) (hb : b < 3) (hq : q < 367) (h : post (jl_bI (jl_turned k (bs q) (oc q)))) : wpX_turned post (f_writer, f_reader, f_scratch, f_writerStream, f_streamWords, f_streamBits, f_cellStride, f_contextStride, f_interruptionContext, f_codeLimit, f_resetCount, f_greatestOrder, (nI w), f_height, (nI nc), f_max, f_writerOpen, f_writerSlot, f_readerOpen, f_readerSlot, f_column, f_left, f_above, f_aboveLeft, f_aboveRight, (nI (367 * b + q)), f_sign, a_picture, a_words, a_recordLength, a_recordBound, a_recordBits, (jl_ov a_levels 128 b pos lev), (upd a_position b (nI pos)), a_bound, a_range, a_levelBits, a_threshold1, a_threshold2, a_threshold3, a_stream, (upd a_bitAt b (nI bit)), (upd a_runIndex b (nI ri)), (upd a_runCount b (nI rc)), (upd a_inRun b (jl_bI ir)), (upd a_runBroken b (jl_bI rb)), (jl_ov a_magnitude 367 b 367 mg), (jl_ov a_biasSum 367 b 367 bs), (jl_ov a_correction 367 b 367 co), (jl_ov a_occurrences 367 b 367 oc)) p0 := by
  subst hp
  have hv := jl_cx hb hq
  have eo : jl_ov a_occurrences 367 b 367 oc (nI (367 * b + q)).toNatClampNeg = oc q := jl_ovr (jl_cc hb hq) hq
  have eb : jl_ov a_biasSum 367 b 367 bs (nI (367 * b + q)).toNatClampNeg = bs q := jl_ovr (jl_cc hb hq) hq
  refine pk_eq k 0 (fun g => ⟨hv, hv, ?_⟩) (fun g => ?_)
  · rw [eo, eb]
    refine br_c (fun z => ?_) (fun z => ?_)
    · rw [jl_turned, jl_df (fun y => y.2 z)] at h
      exact h
    · rw [jl_turned, jl_dt ⟨g, z⟩] at h
      exact h
  · rw [jl_turned, jl_df (fun y => g y.1)] at h
    exact h
theorem xw_ur177 {post : SX → Prop} {x3 x4 x5 : Int32} (hb : b < 3) (hq : q < 367) (h : post (f_writer, f_reader, f_scratch, f_writerStream, f_streamWords, f_streamBits, f_cellStride, f_contextStride, f_interruptionContext, f_codeLimit, f_resetCount, f_greatestOrder, (nI w), f_height, (nI nc), f_max, f_writerOpen, f_writerSlot, f_readerOpen, f_readerSlot, f_column, f_left, f_above, f_aboveLeft, f_aboveRight, (nI (367 * b + q)), f_sign, a_picture, a_words, a_recordLength, a_recordBound, a_recordBits, (jl_ov a_levels 128 b pos lev), (upd a_position b (nI pos)), a_bound, a_range, a_levelBits, a_threshold1, a_threshold2, a_threshold3, a_stream, (upd a_bitAt b (nI bit)), (upd a_runIndex b (nI ri)), (upd a_runCount b (nI rc)), (upd a_inRun b (jl_bI ir)), (upd a_runBroken b (jl_bI rb)), (jl_ov a_magnitude 367 b 367 (upd mg q x4)), (jl_ov a_biasSum 367 b 367 (upd bs q x3)), (jl_ov a_correction 367 b 367 co1), (jl_ov a_occurrences 367 b 367 (upd oc q x5)))) : wX_updateRegular_177 post x3 x4 x5 f_writer f_reader f_scratch f_writerStream f_streamWords f_streamBits f_cellStride f_contextStride f_interruptionContext f_codeLimit f_resetCount f_greatestOrder (nI w) f_height (nI nc) f_max f_writerOpen f_writerSlot f_readerOpen f_readerSlot f_column f_left f_above f_aboveLeft f_aboveRight (nI (367 * b + q)) f_sign a_picture a_words a_recordLength a_recordBound a_recordBits (jl_ov a_levels 128 b pos lev) (upd a_position b (nI pos)) a_bound a_range a_levelBits a_threshold1 a_threshold2 a_threshold3 a_stream (upd a_bitAt b (nI bit)) (upd a_runIndex b (nI ri)) (upd a_runCount b (nI rc)) (upd a_inRun b (jl_bI ir)) (upd a_runBroken b (jl_bI rb)) (jl_ov a_magnitude 367 b 367 mg) (jl_ov a_biasSum 367 b 367 bs) (jl_ov a_correction 367 b 367 co1) (jl_ov a_occurrences 367 b 367 oc) := by
  have hv := jl_cx hb hq
  have hc := jl_cc hb hq
  exact ⟨hv, nm_r (jl_ovu hc hq rfl) ⟨hv, nm_r (jl_ovu hc hq rfl) ⟨hv, nm_r (jl_ovu hc hq rfl) h⟩⟩⟩
theorem xw_ur78 {post : SX → Prop} {x3 x4 x5 x6 : Int32} (hb : b < 3) (hq : q < 367) (e6 : x5 + 1 = x6) (h : post (f_writer, f_reader, f_scratch, f_writerStream, f_streamWords, f_streamBits, f_cellStride, f_contextStride, f_interruptionContext, f_codeLimit, f_resetCount, f_greatestOrder, (nI w), f_height, (nI nc), f_max, f_writerOpen, f_writerSlot, f_readerOpen, f_readerSlot, f_column, f_left, f_above, f_aboveLeft, f_aboveRight, (nI (367 * b + q)), f_sign, a_picture, a_words, a_recordLength, a_recordBound, a_recordBits, (jl_ov a_levels 128 b pos lev), (upd a_position b (nI pos)), a_bound, a_range, a_levelBits, a_threshold1, a_threshold2, a_threshold3, a_stream, (upd a_bitAt b (nI bit)), (upd a_runIndex b (nI ri)), (upd a_runCount b (nI rc)), (upd a_inRun b (jl_bI ir)), (upd a_runBroken b (jl_bI rb)), (jl_ov a_magnitude 367 b 367 (upd mg q x4)), (jl_ov a_biasSum 367 b 367 (upd bs q (jl_ur1 x3 x6 (co q)).1)), (jl_ov a_correction 367 b 367 (upd co q (jl_ur1 x3 x6 (co q)).2)), (jl_ov a_occurrences 367 b 367 (upd oc q x6)))) : wX_updateRegular_78 post x3 x4 x5 f_writer f_reader f_scratch f_writerStream f_streamWords f_streamBits f_cellStride f_contextStride f_interruptionContext f_codeLimit f_resetCount f_greatestOrder (nI w) f_height (nI nc) f_max f_writerOpen f_writerSlot f_readerOpen f_readerSlot f_column f_left f_above f_aboveLeft f_aboveRight (nI (367 * b + q)) f_sign a_picture a_words a_recordLength a_recordBound a_recordBits (jl_ov a_levels 128 b pos lev) (upd a_position b (nI pos)) a_bound a_range a_levelBits a_threshold1 a_threshold2 a_threshold3 a_stream (upd a_bitAt b (nI bit)) (upd a_runIndex b (nI ri)) (upd a_runCount b (nI rc)) (upd a_inRun b (jl_bI ir)) (upd a_runBroken b (jl_bI rb)) (jl_ov a_magnitude 367 b 367 mg) (jl_ov a_biasSum 367 b 367 bs) (jl_ov a_correction 367 b 367 co) (jl_ov a_occurrences 367 b 367 oc) := by
  have hv := jl_cx hb hq
  have hc := jl_cc hb hq
  have ec : jl_ov a_correction 367 b 367 co (nI (367 * b + q)).toNatClampNeg = co q := jl_ovr hc hq
  refine nm_r e6 ?_
  refine br_c (fun z => ?_) (fun z => ?_)
  · refine br_c (fun z2 => ?_) (fun z2 => ?_)
    · rw [jl_ur1, if_pos z, if_pos z2, jl_uid (A := co) rfl] at h
      exact xw_ur177 hb hq h
    · rw [jl_ur1, if_pos z, if_neg z2] at h
      refine nm_e ⟨hv, ?_⟩
      rw [ec]
      refine br_c (fun z3 => ?_) (fun z3 => ?_)
      · rw [if_pos z3, jl_uid (A := co) rfl] at h
        exact jl_xi (Q := fun t => post (f_writer, f_reader, f_scratch, f_writerStream, f_streamWords, f_streamBits, f_cellStride, f_contextStride, f_interruptionContext, f_codeLimit, f_resetCount, f_greatestOrder, (nI w), f_height, (nI nc), f_max, f_writerOpen, f_writerSlot, f_readerOpen, f_readerSlot, f_column, f_left, f_above, f_aboveLeft, f_aboveRight, (nI (367 * b + q)), f_sign, a_picture, a_words, a_recordLength, a_recordBound, a_recordBits, (jl_ov a_levels 128 b pos lev), (upd a_position b (nI pos)), a_bound, a_range, a_levelBits, a_threshold1, a_threshold2, a_threshold3, a_stream, (upd a_bitAt b (nI bit)), (upd a_runIndex b (nI ri)), (upd a_runCount b (nI rc)), (upd a_inRun b (jl_bI ir)), (upd a_runBroken b (jl_bI rb)), (jl_ov a_magnitude 367 b 367 (upd mg q x4)), (jl_ov a_biasSum 367 b 367 (upd bs q t)), (jl_ov a_correction 367 b 367 co), (jl_ov a_occurrences 367 b 367 (upd oc q x6)))) h (fun h => xw_ur177 hb hq h) (fun h => xw_ur177 hb hq h)
      · rw [if_neg z3] at h
        refine ⟨hv, hv, nm_r (jl_ovu hc hq rfl) ?_⟩
        exact jl_xi (Q := fun t => post (f_writer, f_reader, f_scratch, f_writerStream, f_streamWords, f_streamBits, f_cellStride, f_contextStride, f_interruptionContext, f_codeLimit, f_resetCount, f_greatestOrder, (nI w), f_height, (nI nc), f_max, f_writerOpen, f_writerSlot, f_readerOpen, f_readerSlot, f_column, f_left, f_above, f_aboveLeft, f_aboveRight, (nI (367 * b + q)), f_sign, a_picture, a_words, a_recordLength, a_recordBound, a_recordBits, (jl_ov a_levels 128 b pos lev), (upd a_position b (nI pos)), a_bound, a_range, a_levelBits, a_threshold1, a_threshold2, a_threshold3, a_stream, (upd a_bitAt b (nI bit)), (upd a_runIndex b (nI ri)), (upd a_runCount b (nI rc)), (upd a_inRun b (jl_bI ir)), (upd a_runBroken b (jl_bI rb)), (jl_ov a_magnitude 367 b 367 (upd mg q x4)), (jl_ov a_biasSum 367 b 367 (upd bs q t)), (jl_ov a_correction 367 b 367 (upd co q (co q + 1))), (jl_ov a_occurrences 367 b 367 (upd oc q x6)))) h (fun h => xw_ur177 hb hq h) (fun h => xw_ur177 hb hq h)
  · rw [jl_ur1, if_neg z] at h
    refine nm_e ⟨hv, ?_⟩
    rw [ec]
    refine br_c (fun z3 => ?_) (fun z3 => ?_)
    · rw [if_pos z3, jl_uid (A := co) rfl] at h
      exact jl_xi (Q := fun t => post (f_writer, f_reader, f_scratch, f_writerStream, f_streamWords, f_streamBits, f_cellStride, f_contextStride, f_interruptionContext, f_codeLimit, f_resetCount, f_greatestOrder, (nI w), f_height, (nI nc), f_max, f_writerOpen, f_writerSlot, f_readerOpen, f_readerSlot, f_column, f_left, f_above, f_aboveLeft, f_aboveRight, (nI (367 * b + q)), f_sign, a_picture, a_words, a_recordLength, a_recordBound, a_recordBits, (jl_ov a_levels 128 b pos lev), (upd a_position b (nI pos)), a_bound, a_range, a_levelBits, a_threshold1, a_threshold2, a_threshold3, a_stream, (upd a_bitAt b (nI bit)), (upd a_runIndex b (nI ri)), (upd a_runCount b (nI rc)), (upd a_inRun b (jl_bI ir)), (upd a_runBroken b (jl_bI rb)), (jl_ov a_magnitude 367 b 367 (upd mg q x4)), (jl_ov a_biasSum 367 b 367 (upd bs q t)), (jl_ov a_correction 367 b 367 co), (jl_ov a_occurrences 367 b 367 (upd oc q x6)))) h (fun h => xw_ur177 hb hq h) (fun h => nm_e (xw_ur177 hb hq h))
    · rw [if_neg z3] at h
      refine ⟨hv, hv, nm_r (jl_ovu hc hq rfl) ?_⟩
      exact jl_xi (Q := fun t => post (f_writer, f_reader, f_scratch, f_writerStream, f_streamWords, f_streamBits, f_cellStride, f_contextStride, f_interruptionContext, f_codeLimit, f_resetCount, f_greatestOrder, (nI w), f_height, (nI nc), f_max, f_writerOpen, f_writerSlot, f_readerOpen, f_readerSlot, f_column, f_left, f_above, f_aboveLeft, f_aboveRight, (nI (367 * b + q)), f_sign, a_picture, a_words, a_recordLength, a_recordBound, a_recordBits, (jl_ov a_levels 128 b pos lev), (upd a_position b (nI pos)), a_bound, a_range, a_levelBits, a_threshold1, a_threshold2, a_threshold3, a_stream, (upd a_bitAt b (nI bit)), (upd a_runIndex b (nI ri)), (upd a_runCount b (nI rc)), (upd a_inRun b (jl_bI ir)), (upd a_runBroken b (jl_bI rb)), (jl_ov a_magnitude 367 b 367 (upd mg q x4)), (jl_ov a_biasSum 367 b 367 (upd bs q t)), (jl_ov a_correction 367 b 367 (upd co q (co q - 1))), (jl_ov a_occurrences 367 b 367 (upd oc q x6)))) h (fun h => xw_ur177 hb hq h) (fun h => nm_e (xw_ur177 hb hq h))
theorem xw_updR {post : SX → Prop} {e : Int32} (hb : b < 3) (hq : q < 367) (h : post (f_writer, f_reader, f_scratch, f_writerStream, f_streamWords, f_streamBits, f_cellStride, f_contextStride, f_interruptionContext, f_codeLimit, f_resetCount, f_greatestOrder, (nI w), f_height, (nI nc), f_max, f_writerOpen, f_writerSlot, f_readerOpen, f_readerSlot, f_column, f_left, f_above, f_aboveLeft, f_aboveRight, (nI (367 * b + q)), f_sign, a_picture, a_words, a_recordLength, a_recordBound, a_recordBits, (jl_ov a_levels 128 b pos lev), (upd a_position b (nI pos)), a_bound, a_range, a_levelBits, a_threshold1, a_threshold2, a_threshold3, a_stream, (upd a_bitAt b (nI bit)), (upd a_runIndex b (nI ri)), (upd a_runCount b (nI rc)), (upd a_inRun b (jl_bI ir)), (upd a_runBroken b (jl_bI rb)), (jl_ov a_magnitude 367 b 367 ((jl_updR (mg, bs, co, oc) q e).1)), (jl_ov a_biasSum 367 b 367 ((jl_updR (mg, bs, co, oc) q e).2.1)), (jl_ov a_correction 367 b 367 ((jl_updR (mg, bs, co, oc) q e).2.2.1)), (jl_ov a_occurrences 367 b 367 ((jl_updR (mg, bs, co, oc) q e).2.2.2)))) : wpX_updateRegular post (f_writer, f_reader, f_scratch, f_writerStream, f_streamWords, f_streamBits, f_cellStride, f_contextStride, f_interruptionContext, f_codeLimit, f_resetCount, f_greatestOrder, (nI w), f_height, (nI nc), f_max, f_writerOpen, f_writerSlot, f_readerOpen, f_readerSlot, f_column, f_left, f_above, f_aboveLeft, f_aboveRight, (nI (367 * b + q)), f_sign, a_picture, a_words, a_recordLength, a_recordBound, a_recordBits, (jl_ov a_levels 128 b pos lev), (upd a_position b (nI pos)), a_bound, a_range, a_levelBits, a_threshold1, a_threshold2, a_threshold3, a_stream, (upd a_bitAt b (nI bit)), (upd a_runIndex b (nI ri)), (upd a_runCount b (nI rc)), (upd a_inRun b (jl_bI ir)), (upd a_runBroken b (jl_bI rb)), (jl_ov a_magnitude 367 b 367 mg), (jl_ov a_biasSum 367 b 367 bs), (jl_ov a_correction 367 b 367 co), (jl_ov a_occurrences 367 b 367 oc)) e := by
  have hv := jl_cx hb hq
  have hc := jl_cc hb hq
  have ho : jl_ov a_occurrences 367 b 367 oc (nI (367 * b + q)).toNatClampNeg = oc q := jl_ovr hc hq
  have hbi : jl_ov a_biasSum 367 b 367 bs (nI (367 * b + q)).toNatClampNeg = bs q := jl_ovr hc hq
  have hmg : jl_ov a_magnitude 367 b 367 mg (nI (367 * b + q)).toNatClampNeg = mg q := jl_ovr hc hq
  unfold wpX_updateRegular
  refine xv_abs ⟨hv, nm_r (e' := bs q + e) (by rw [hbi]) ⟨hv, nm_r (e' := mg q + jl_abs e) (by rw [hmg]) ⟨hv, nm_r ho ?_⟩⟩⟩
  unfold jl_updR at h
  dsimp only at h
  refine br_c (fun z => ?_) (fun z => ?_)
  · rw [jl_urM, if_pos z, jl_urB, if_pos z, jl_urO, if_pos z] at h
    exact xw_ur78 hb hq rfl h
  · rw [jl_urM, if_neg z, jl_urB, if_neg z, jl_urO, if_neg z] at h
    refine nm_e (br_c (fun z2 => ?_) (fun z2 => ?_))
    · rw [if_pos z2] at h
      exact nm_e (xw_ur78 hb hq rfl h)
    · rw [if_neg z2] at h
      exact nm_e (xw_ur78 hb hq rfl h)
theorem xw_io {post : Int32 → Prop} {p0 p1 l a : Int32} (hp : p0 = nI (367 * b + q)) (h1 : p1 = jl_ty l a) (hb : b < 3) (hq : q < 367) (h : post (nI (jl_io l a (mg q) (oc q)))) : wpX_interruptionOrder post (f_writer, f_reader, f_scratch, f_writerStream, f_streamWords, f_streamBits, f_cellStride, f_contextStride, f_interruptionContext, f_codeLimit, f_resetCount, f_greatestOrder, (nI w), f_height, (nI nc), f_max, f_writerOpen, f_writerSlot, f_readerOpen, f_readerSlot, f_column, f_left, f_above, f_aboveLeft, f_aboveRight, f_context, f_sign, a_picture, a_words, a_recordLength, a_recordBound, a_recordBits, (jl_ov a_levels 128 b pos lev), (upd a_position b (nI pos)), a_bound, a_range, a_levelBits, a_threshold1, a_threshold2, a_threshold3, a_stream, (upd a_bitAt b (nI bit)), (upd a_runIndex b (nI ri)), (upd a_runCount b (nI rc)), (upd a_inRun b (jl_bI ir)), (upd a_runBroken b (jl_bI rb)), (jl_ov a_magnitude 367 b 367 mg), (jl_ov a_biasSum 367 b 367 bs), (jl_ov a_correction 367 b 367 co), (jl_ov a_occurrences 367 b 367 oc)) p0 p1 := by
  subst hp h1
  have hv := jl_cx hb hq
  have hc := jl_cc hb hq
  have ho : jl_ov a_occurrences 367 b 367 oc (nI (367 * b + q)).toNatClampNeg = oc q := jl_ovr hc hq
  have hmg : jl_ov a_magnitude 367 b 367 mg (nI (367 * b + q)).toNatClampNeg = mg q := jl_ovr hc hq
  refine ⟨hv, nm_r hmg ?_⟩
  by_cases z : l = a
  · rw [jl_io, if_pos z] at h
    refine br_t (by rw [jl_ty, if_pos z]) ⟨hv, nm_r (e' := mg q + (oc q >>> ((1 : Int32) &&& 31))) (by rw [ho]) ⟨hv, ?_⟩⟩
    rw [ho]
    exact xv_order h
  · rw [jl_io, if_neg z] at h
    refine br_f (by rw [jl_ty, if_neg z]; decide) ⟨hv, ?_⟩
    rw [ho]
    exact xv_order h
theorem xw_tilted {post : Int32 → Prop} {p0 p1 : Int32} (hp : p0 = nI (367 * b + q)) (h1 : p1 = nI k) (hk : k ≤ 9) (hb : b < 3) (hq : q < 367) (h : post (jl_bI (jl_tilt k (bs q) (oc q)))) : wpX_tilted post (f_writer, f_reader, f_scratch, f_writerStream, f_streamWords, f_streamBits, f_cellStride, f_contextStride, f_interruptionContext, f_codeLimit, f_resetCount, f_greatestOrder, (nI w), f_height, (nI nc), f_max, f_writerOpen, f_writerSlot, f_readerOpen, f_readerSlot, f_column, f_left, f_above, f_aboveLeft, f_aboveRight, f_context, f_sign, a_picture, a_words, a_recordLength, a_recordBound, a_recordBits, (jl_ov a_levels 128 b pos lev), (upd a_position b (nI pos)), a_bound, a_range, a_levelBits, a_threshold1, a_threshold2, a_threshold3, a_stream, (upd a_bitAt b (nI bit)), (upd a_runIndex b (nI ri)), (upd a_runCount b (nI rc)), (upd a_inRun b (jl_bI ir)), (upd a_runBroken b (jl_bI rb)), (jl_ov a_magnitude 367 b 367 mg), (jl_ov a_biasSum 367 b 367 bs), (jl_ov a_correction 367 b 367 co), (jl_ov a_occurrences 367 b 367 oc)) p0 p1 := by
  subst hp h1
  have hv := jl_cx hb hq
  have eo : jl_ov a_occurrences 367 b 367 oc (nI (367 * b + q)).toNatClampNeg = oc q := jl_ovr (jl_cc hb hq) hq
  have eb : jl_ov a_biasSum 367 b 367 bs (nI (367 * b + q)).toNatClampNeg = bs q := jl_ovr (jl_cc hb hq) hq
  refine pk_eq k 0 (fun g => ⟨hv, hv, ?_⟩) (fun g => ?_)
  · rw [eo, eb]
    refine br_c (fun z => ?_) (fun z => ?_)
    · rw [jl_tilt, jl_df (fun y => y ⟨g, z⟩)] at h
      exact h
    · rw [jl_tilt, jl_dt (c := ¬ (k = 0 ∧ (2 * bs q) < oc q)) (fun y => z y.2)] at h
      exact h
  · rw [jl_tilt, jl_dt (c := ¬ (k = 0 ∧ (2 * bs q) < oc q)) (fun y => g y.1)] at h
    exact h
theorem xw_ui14 {post : SX → Prop} {p0 ty m : Int32} (hp : p0 = nI (367 * b + q)) (hb : b < 3) (hq : q < 367) (h : post (f_writer, f_reader, f_scratch, f_writerStream, f_streamWords, f_streamBits, f_cellStride, f_contextStride, f_interruptionContext, f_codeLimit, f_resetCount, f_greatestOrder, (nI w), f_height, (nI nc), f_max, f_writerOpen, f_writerSlot, f_readerOpen, f_readerSlot, f_column, f_left, f_above, f_aboveLeft, f_aboveRight, f_context, f_sign, a_picture, a_words, a_recordLength, a_recordBound, a_recordBits, (jl_ov a_levels 128 b pos lev), (upd a_position b (nI pos)), a_bound, a_range, a_levelBits, a_threshold1, a_threshold2, a_threshold3, a_stream, (upd a_bitAt b (nI bit)), (upd a_runIndex b (nI ri)), (upd a_runCount b (nI rc)), (upd a_inRun b (jl_bI ir)), (upd a_runBroken b (jl_bI rb)), (jl_ov a_magnitude 367 b 367 (upd mg q (if oc q < 64 then jl_uiM ty m (mg q) else (jl_uiM ty m (mg q)) >>> ((1 : Int32) &&& 31)))), (jl_ov a_biasSum 367 b 367 (upd bs q (if oc q < 64 then bs q else (bs q) >>> ((1 : Int32) &&& 31)))), (jl_ov a_correction 367 b 367 co), (jl_ov a_occurrences 367 b 367 (upd oc q (jl_urO (oc q)))))) : wX_updateInterruption_14 post p0 ty m f_writer f_reader f_scratch f_writerStream f_streamWords f_streamBits f_cellStride f_contextStride f_interruptionContext f_codeLimit f_resetCount f_greatestOrder (nI w) f_height (nI nc) f_max f_writerOpen f_writerSlot f_readerOpen f_readerSlot f_column f_left f_above f_aboveLeft f_aboveRight f_context f_sign a_picture a_words a_recordLength a_recordBound a_recordBits (jl_ov a_levels 128 b pos lev) (upd a_position b (nI pos)) a_bound a_range a_levelBits a_threshold1 a_threshold2 a_threshold3 a_stream (upd a_bitAt b (nI bit)) (upd a_runIndex b (nI ri)) (upd a_runCount b (nI rc)) (upd a_inRun b (jl_bI ir)) (upd a_runBroken b (jl_bI rb)) (jl_ov a_magnitude 367 b 367 mg) (jl_ov a_biasSum 367 b 367 bs) (jl_ov a_correction 367 b 367 co) (jl_ov a_occurrences 367 b 367 oc) := by
  subst hp
  have hv := jl_cx hb hq
  have hc := jl_cc hb hq
  have ho : jl_ov a_occurrences 367 b 367 oc (nI (367 * b + q)).toNatClampNeg = oc q := jl_ovr hc hq
  have hbi : jl_ov a_biasSum 367 b 367 bs (nI (367 * b + q)).toNatClampNeg = bs q := jl_ovr hc hq
  have hmg : jl_ov a_magnitude 367 b 367 mg (nI (367 * b + q)).toNatClampNeg = mg q := jl_ovr hc hq
  refine ⟨hv, hv, nm_r (jl_ovu (z := jl_uiM ty m (mg q)) hc hq (by rw [hmg]; rfl)) ⟨hv, ?_⟩⟩
  rw [ho]
  refine br_c (fun z => ?_) (fun z => ?_)
  · rw [if_pos z, if_pos z, jl_urO, if_pos z, jl_uid (A := bs) rfl] at h
    exact ⟨hv, hv, nm_r (jl_ovu hc hq (by rw [ho])) h⟩
  · rw [if_neg z, if_neg z, jl_urO, if_neg z] at h
    have e2 : upd (upd mg q (jl_uiM ty m (mg q))) q ((jl_uiM ty m (mg q)) >>> ((1 : Int32) &&& 31)) = upd mg q ((jl_uiM ty m (mg q)) >>> ((1 : Int32) &&& 31)) := jl_uu rfl rfl
    have e3 : upd (upd oc q (oc q >>> ((1 : Int32) &&& 31))) q ((oc q >>> ((1 : Int32) &&& 31)) + 1) = upd oc q ((oc q >>> ((1 : Int32) &&& 31)) + 1) := jl_uu rfl rfl
    rw [← e2, ← e3] at h
    have hmg2 : jl_ov a_magnitude 367 b 367 (upd mg q (jl_uiM ty m (mg q))) (nI (367 * b + q)).toNatClampNeg = jl_uiM ty m (mg q) := (jl_ovr hc hq).trans pk_us
    have ho2 : jl_ov a_occurrences 367 b 367 (upd oc q (oc q >>> ((1 : Int32) &&& 31))) (nI (367 * b + q)).toNatClampNeg = oc q >>> ((1 : Int32) &&& 31) := (jl_ovr hc hq).trans pk_us
    exact ⟨hv, hv, nm_r (jl_ovu hc hq (by rw [hmg2])) ⟨hv, hv, nm_r (jl_ovu hc hq (by rw [hbi])) ⟨hv, hv, nm_r (jl_ovu hc hq rfl) ⟨hv, hv, nm_r (jl_ovu hc hq (by rw [ho2])) h⟩⟩⟩⟩
theorem xw_updI {post : SX → Prop} {p0 ty e m : Int32} (hp : p0 = nI (367 * b + q)) (hb : b < 3) (hq : q < 367) (h : post (f_writer, f_reader, f_scratch, f_writerStream, f_streamWords, f_streamBits, f_cellStride, f_contextStride, f_interruptionContext, f_codeLimit, f_resetCount, f_greatestOrder, (nI w), f_height, (nI nc), f_max, f_writerOpen, f_writerSlot, f_readerOpen, f_readerSlot, f_column, f_left, f_above, f_aboveLeft, f_aboveRight, f_context, f_sign, a_picture, a_words, a_recordLength, a_recordBound, a_recordBits, (jl_ov a_levels 128 b pos lev), (upd a_position b (nI pos)), a_bound, a_range, a_levelBits, a_threshold1, a_threshold2, a_threshold3, a_stream, (upd a_bitAt b (nI bit)), (upd a_runIndex b (nI ri)), (upd a_runCount b (nI rc)), (upd a_inRun b (jl_bI ir)), (upd a_runBroken b (jl_bI rb)), (jl_ov a_magnitude 367 b 367 ((jl_updI (mg, bs, co, oc) q ty e m).1)), (jl_ov a_biasSum 367 b 367 ((jl_updI (mg, bs, co, oc) q ty e m).2.1)), (jl_ov a_correction 367 b 367 ((jl_updI (mg, bs, co, oc) q ty e m).2.2.1)), (jl_ov a_occurrences 367 b 367 ((jl_updI (mg, bs, co, oc) q ty e m).2.2.2)))) : wpX_updateInterruption post (f_writer, f_reader, f_scratch, f_writerStream, f_streamWords, f_streamBits, f_cellStride, f_contextStride, f_interruptionContext, f_codeLimit, f_resetCount, f_greatestOrder, (nI w), f_height, (nI nc), f_max, f_writerOpen, f_writerSlot, f_readerOpen, f_readerSlot, f_column, f_left, f_above, f_aboveLeft, f_aboveRight, f_context, f_sign, a_picture, a_words, a_recordLength, a_recordBound, a_recordBits, (jl_ov a_levels 128 b pos lev), (upd a_position b (nI pos)), a_bound, a_range, a_levelBits, a_threshold1, a_threshold2, a_threshold3, a_stream, (upd a_bitAt b (nI bit)), (upd a_runIndex b (nI ri)), (upd a_runCount b (nI rc)), (upd a_inRun b (jl_bI ir)), (upd a_runBroken b (jl_bI rb)), (jl_ov a_magnitude 367 b 367 mg), (jl_ov a_biasSum 367 b 367 bs), (jl_ov a_correction 367 b 367 co), (jl_ov a_occurrences 367 b 367 oc)) p0 ty e m := by
  have hv := jl_cx hb hq
  have hc := jl_cc hb hq
  unfold jl_updI at h
  dsimp only at h
  refine br_c (fun z => ?_) (fun z => ?_)
  · rw [jl_uiB, if_pos z] at h
    exact xw_ui14 hp hb hq h
  · rw [jl_uiB, if_neg z] at h
    subst hp
    have hbi : jl_ov a_biasSum 367 b 367 bs (nI (367 * b + q)).toNatClampNeg = bs q := jl_ovr hc hq
    refine ⟨hv, hv, nm_r (jl_ovu (z := bs q + 1) hc hq (by rw [hbi])) (xw_ui14 rfl hb hq ?_)⟩
    have e1 : upd bs q (bs q + 1) q = bs q + 1 := pk_us
    rw [e1, jl_uu (A := bs) rfl rfl]
    exact h
theorem xv_wrap {post : Int32 → Prop} {p0 x rng : Int32} (hv : vp_in p0 3) (hr : a_range p0.toNatClampNeg = rng) (h : post (jl_wrap rng x)) : wpX_wrapLevel post (f_writer, f_reader, f_scratch, f_writerStream, f_streamWords, f_streamBits, f_cellStride, f_contextStride, f_interruptionContext, f_codeLimit, f_resetCount, f_greatestOrder, f_width, f_height, f_cells, f_max, f_writerOpen, f_writerSlot, f_readerOpen, f_readerSlot, f_column, f_left, f_above, f_aboveLeft, f_aboveRight, f_context, f_sign, a_picture, a_words, a_recordLength, a_recordBound, a_recordBits, a_levels, a_position, a_bound, a_range, a_levelBits, a_threshold1, a_threshold2, a_threshold3, a_stream, a_bitAt, a_runIndex, a_runCount, a_inRun, a_runBroken, a_magnitude, a_biasSum, a_correction, a_occurrences) p0 x := by
  subst hr
  exact jl_xi h (fun h => ⟨hv, jl_xi h id (fun h => ⟨hv, h⟩)⟩) (fun h => ⟨hv, h⟩)
theorem xv_reduce {post : Int32 → Prop} {p0 x rng : Int32} (hv : vp_in p0 3) (hr : a_range p0.toNatClampNeg = rng) (h : post (jl_red rng x)) : wpX_reduce post (f_writer, f_reader, f_scratch, f_writerStream, f_streamWords, f_streamBits, f_cellStride, f_contextStride, f_interruptionContext, f_codeLimit, f_resetCount, f_greatestOrder, f_width, f_height, f_cells, f_max, f_writerOpen, f_writerSlot, f_readerOpen, f_readerSlot, f_column, f_left, f_above, f_aboveLeft, f_aboveRight, f_context, f_sign, a_picture, a_words, a_recordLength, a_recordBound, a_recordBits, a_levels, a_position, a_bound, a_range, a_levelBits, a_threshold1, a_threshold2, a_threshold3, a_stream, a_bitAt, a_runIndex, a_runCount, a_inRun, a_runBroken, a_magnitude, a_biasSum, a_correction, a_occurrences) p0 x := by
  subst hr
  refine ⟨hv, nm_e ?_⟩
  exact jl_xi (Q := fun t => post (jl_red1 (a_range p0.toNatClampNeg) t)) h (fun h => jl_xi h id (fun h => nm_e h)) (fun h => nm_e (jl_xi h id (fun h => nm_e h)))
end
end
section
/-! ===== reading bits: getBit, getBits, getGolomb, readRun ===== -/
/-- bank b reads slot s, whose record has N bits -/
def jl_HS (b s N : Nat) (st rbits : Nat → Int32) : Prop := b < 3 ∧ s < 4 ∧ N ≤ 4096 ∧ st b = nI s ∧ rbits s = nI N
theorem jl_bt1 : ∀ i, i < 32 → bt 1 i = decide (i = 0) := by decide +kernel
theorem jl_bitv (x : Int32) {n : Nat} (hn : n < 32) : ((x.toUInt32 >>> ((nI n).toUInt32 &&& Int32.toUInt32 31)).toInt32) &&& 1 = jl_bI (bt x n) := by
  apply b_ext
  intro i hi
  rw [b_and, b_ushr n hn, jl_bt1 i hi]
  by_cases h : i = 0
  · subst h
    rw [Nat.add_zero]
    cases bt x n
    · rfl
    · rfl
  · rw [decide_eq_false h, Bool.and_false]
    cases bt x n
    · exact (b_0 i).symm
    · rw [jl_b1, jl_bt1 i hi, decide_eq_false h]
theorem jl_m32 (n : Nat) (h : n < 2 ^ 31) : nI n &&& 31 = nI (n % 32) := pk_andN (by omega) 5 (by decide)
theorem jl_d32 (n : Nat) (h : n < 2 ^ 31) : nI n >>> ((5 : Int32) &&& 31) = nI (n / 32) := pk_shrN h _ 5 (by decide)
theorem jl_1sh : ∀ k, k < 31 → (1 : Int32) <<< (nI k &&& 31) = nI (2 ^ k) := by decide +kernel
theorem jl_or1 (v : Nat) (x : Bool) : (nI v <<< ((1 : Int32) &&& 31)) ||| jl_bI x = nI (2 * v + x.toNat) := by
  have e : nI v <<< ((1 : Int32) &&& 31) = nI (2 * v) := by
    apply Int32.toBitVec_inj.mp
    apply BitVec.eq_of_toNat_eq
    rw [pk_shl _ _ 1 (by decide)]
    show (BitVec.ofNat 32 v).toNat * 2 ^ 1 % 2 ^ 32 = (BitVec.ofNat 32 (2 * v)).toNat
    rw [BitVec.toNat_ofNat, BitVec.toNat_ofNat]
    omega
  rw [e]
  apply Int32.toBitVec_inj.mp
  have e2 : 2 * v + x.toNat = 2 * v ||| x.toNat := Nat.two_pow_add_eq_or_of_lt (i := 1) (by cases x <;> decide) v
  rw [e2]
  have e3 : jl_bI x = nI x.toNat := by cases x <;> rfl
  rw [e3]
  show BitVec.ofNat 32 (2 * v) ||| BitVec.ofNat 32 x.toNat = BitVec.ofNat 32 (2 * v ||| x.toNat)
  apply BitVec.eq_of_getLsbD_eq
  intro i hi
  simp [hi]
theorem jl_bIinj {x y : Bool} : jl_bI x = jl_bI y ↔ x = y := by cases x <;> cases y <;> decide
section
variable {f_writer f_reader f_scratch f_writerStream f_streamWords f_streamBits f_cellStride f_contextStride f_interruptionContext f_codeLimit f_resetCount f_greatestOrder f_width f_height f_cells f_max f_writerOpen f_writerSlot f_readerOpen f_readerSlot f_column f_left f_above f_aboveLeft f_aboveRight f_context f_sign : Int32} {a_picture a_words a_recordLength a_recordBound a_recordBits a_levels a_position a_bound a_range a_levelBits a_threshold1 a_threshold2 a_threshold3 a_stream a_bitAt a_runIndex a_runCount a_inRun a_runBroken a_magnitude a_biasSum a_correction a_occurrences : Nat → Int32} {w nc b pos bit ri rc k s N : Nat} {lev mg bs co oc : Nat → Int32} {ir rb : Bool}
theorem xw_getBit {post : Int32 → SX → Prop} {p0 : Int32} (hp : p0 = nI b) (H : jl_HS b s N a_stream a_recordBits) (hN : bit < N) (h : post (jl_bI (jl_bs a_words s bit)) (f_writer, f_reader, f_scratch, f_writerStream, f_streamWords, f_streamBits, f_cellStride, f_contextStride, f_interruptionContext, f_codeLimit, f_resetCount, f_greatestOrder, (nI w), f_height, (nI nc), f_max, f_writerOpen, f_writerSlot, f_readerOpen, f_readerSlot, f_column, f_left, f_above, f_aboveLeft, f_aboveRight, f_context, f_sign, a_picture, a_words, a_recordLength, a_recordBound, a_recordBits, (jl_ov a_levels 128 b pos lev), (upd a_position b (nI pos)), a_bound, a_range, a_levelBits, a_threshold1, a_threshold2, a_threshold3, a_stream, (upd a_bitAt b (nI (bit + 1))), (upd a_runIndex b (nI ri)), (upd a_runCount b (nI rc)), (upd a_inRun b (jl_bI ir)), (upd a_runBroken b (jl_bI rb)), (jl_ov a_magnitude 367 b 367 mg), (jl_ov a_biasSum 367 b 367 bs), (jl_ov a_correction 367 b 367 co), (jl_ov a_occurrences 367 b 367 oc))) : wpX_getBit post (f_writer, f_reader, f_scratch, f_writerStream, f_streamWords, f_streamBits, f_cellStride, f_contextStride, f_interruptionContext, f_codeLimit, f_resetCount, f_greatestOrder, (nI w), f_height, (nI nc), f_max, f_writerOpen, f_writerSlot, f_readerOpen, f_readerSlot, f_column, f_left, f_above, f_aboveLeft, f_aboveRight, f_context, f_sign, a_picture, a_words, a_recordLength, a_recordBound, a_recordBits, (jl_ov a_levels 128 b pos lev), (upd a_position b (nI pos)), a_bound, a_range, a_levelBits, a_threshold1, a_threshold2, a_threshold3, a_stream, (upd a_bitAt b (nI bit)), (upd a_runIndex b (nI ri)), (upd a_runCount b (nI rc)), (upd a_inRun b (jl_bI ir)), (upd a_runBroken b (jl_bI rb)), (jl_ov a_magnitude 367 b 367 mg), (jl_ov a_biasSum 367 b 367 bs), (jl_ov a_correction 367 b 367 co), (jl_ov a_occurrences 367 b 367 oc)) p0 := by
  subst hp
  obtain ⟨hb, hs, hN2, es, er⟩ := H
  have hc := jl_cl hb
  have hv := jl_vi hb
  have hcs : (nI s).toNatClampNeg = s := nI_clamp (by omega)
  have ex : nI s * 128 + (nI bit >>> ((5 : Int32) &&& 31)) = nI (s * 128 + bit / 32) := by
    rw [jl_d32 bit (by omega)]
    show nI s * nI 128 + _ = _
    rw [pk_mul, nI_add]
  refine ⟨hv, nm_r (e' := nI s) (by rw [hc]; exact es) ⟨hv, nm_r (jl_ur hc) (br_f (nI_ge (b := 4) hs (by omega)) ⟨vp_in_nI hs (by omega), br_t (by rw [hcs, er]; exact nI_lt hN (by omega)) ⟨hv, nm_r (jl_uu hc (nI_1 bit)) ⟨by rw [ex]; exact vp_in_nI (by omega) (by omega), ?_⟩⟩⟩)⟩⟩
  have ev : (((a_words (nI s * 128 + (nI bit >>> ((5 : Int32) &&& 31))).toNatClampNeg).toUInt32 >>> ((nI bit &&& 31).toUInt32 &&& Int32.toUInt32 31)).toInt32) &&& 1 = jl_bI (jl_bs a_words s bit) := by
    rw [ex, nI_clamp (by omega), jl_m32 bit (by omega), jl_bitv _ (by omega), jl_bs, jl_dt (show bit < 4096 by omega), Bool.true_and]
  rw [ev]
  exact h
theorem xl_getBits {post : Int32 → SX → Prop} {p0 x2 : Int32} {num : Nat} (hp : p0 = nI b) (h2 : x2 = nI num) (hn : num ≤ 31) (H : jl_HS b s N a_stream a_recordBits) : ∀ (d j n v bit : Nat), j + d = num → d < n → bit + d ≤ N → post (nI (jl_gbs (jl_bs a_words s) d bit v)) (f_writer, f_reader, f_scratch, f_writerStream, f_streamWords, f_streamBits, f_cellStride, f_contextStride, f_interruptionContext, f_codeLimit, f_resetCount, f_greatestOrder, (nI w), f_height, (nI nc), f_max, f_writerOpen, f_writerSlot, f_readerOpen, f_readerSlot, f_column, f_left, f_above, f_aboveLeft, f_aboveRight, f_context, f_sign, a_picture, a_words, a_recordLength, a_recordBound, a_recordBits, (jl_ov a_levels 128 b pos lev), (upd a_position b (nI pos)), a_bound, a_range, a_levelBits, a_threshold1, a_threshold2, a_threshold3, a_stream, (upd a_bitAt b (nI (bit + d))), (upd a_runIndex b (nI ri)), (upd a_runCount b (nI rc)), (upd a_inRun b (jl_bI ir)), (upd a_runBroken b (jl_bI rb)), (jl_ov a_magnitude 367 b 367 mg), (jl_ov a_biasSum 367 b 367 bs), (jl_ov a_correction 367 b 367 co), (jl_ov a_occurrences 367 b 367 oc)) → wX_getBits_5 post p0 x2 n (nI v) (nI j) f_writer f_reader f_scratch f_writerStream f_streamWords f_streamBits f_cellStride f_contextStride f_interruptionContext f_codeLimit f_resetCount f_greatestOrder (nI w) f_height (nI nc) f_max f_writerOpen f_writerSlot f_readerOpen f_readerSlot f_column f_left f_above f_aboveLeft f_aboveRight f_context f_sign a_picture a_words a_recordLength a_recordBound a_recordBits (jl_ov a_levels 128 b pos lev) (upd a_position b (nI pos)) a_bound a_range a_levelBits a_threshold1 a_threshold2 a_threshold3 a_stream (upd a_bitAt b (nI bit)) (upd a_runIndex b (nI ri)) (upd a_runCount b (nI rc)) (upd a_inRun b (jl_bI ir)) (upd a_runBroken b (jl_bI rb)) (jl_ov a_magnitude 367 b 367 mg) (jl_ov a_biasSum 367 b 367 bs) (jl_ov a_correction 367 b 367 co) (jl_ov a_occurrences 367 b 367 oc) := by
  intro d
  induction d with
  | zero =>
    intro j n v bit hj hd hb h
    obtain ⟨m, rfl⟩ : ∃ m, n = m + 1 := ⟨n - 1, by omega⟩
    exact br_t (by rw [h2]; exact nI_le (by omega) (by omega)) h
  | succ d ih =>
    intro j n v bit hj hd hb h
    obtain ⟨m, rfl⟩ : ∃ m, n = m + 1 := ⟨n - 1, by omega⟩
    refine br_f (by rw [h2]; exact nI_ge (by omega) (by omega)) (xw_getBit hp H (by omega) ?_)
    have e : bit + (d + 1) = bit + 1 + d := by omega
    rw [e, jl_gbs] at h
    exact nm_r (jl_or1 v _) (nm_r (nI_1 j) (ih (j + 1) m _ (bit + 1) (by omega) (by omega) (by omega) h))
theorem xw_getBits {post : Int32 → SX → Prop} {p0 x2 : Int32} {num : Nat} (hp : p0 = nI b) (h2 : x2 = nI num) (hn : num ≤ 31) (H : jl_HS b s N a_stream a_recordBits) (hN : bit + num ≤ N) (h : post (nI (jl_gbs (jl_bs a_words s) num bit 0)) (f_writer, f_reader, f_scratch, f_writerStream, f_streamWords, f_streamBits, f_cellStride, f_contextStride, f_interruptionContext, f_codeLimit, f_resetCount, f_greatestOrder, (nI w), f_height, (nI nc), f_max, f_writerOpen, f_writerSlot, f_readerOpen, f_readerSlot, f_column, f_left, f_above, f_aboveLeft, f_aboveRight, f_context, f_sign, a_picture, a_words, a_recordLength, a_recordBound, a_recordBits, (jl_ov a_levels 128 b pos lev), (upd a_position b (nI pos)), a_bound, a_range, a_levelBits, a_threshold1, a_threshold2, a_threshold3, a_stream, (upd a_bitAt b (nI (bit + num))), (upd a_runIndex b (nI ri)), (upd a_runCount b (nI rc)), (upd a_inRun b (jl_bI ir)), (upd a_runBroken b (jl_bI rb)), (jl_ov a_magnitude 367 b 367 mg), (jl_ov a_biasSum 367 b 367 bs), (jl_ov a_correction 367 b 367 co), (jl_ov a_occurrences 367 b 367 oc))) : wpX_getBits post (f_writer, f_reader, f_scratch, f_writerStream, f_streamWords, f_streamBits, f_cellStride, f_contextStride, f_interruptionContext, f_codeLimit, f_resetCount, f_greatestOrder, (nI w), f_height, (nI nc), f_max, f_writerOpen, f_writerSlot, f_readerOpen, f_readerSlot, f_column, f_left, f_above, f_aboveLeft, f_aboveRight, f_context, f_sign, a_picture, a_words, a_recordLength, a_recordBound, a_recordBits, (jl_ov a_levels 128 b pos lev), (upd a_position b (nI pos)), a_bound, a_range, a_levelBits, a_threshold1, a_threshold2, a_threshold3, a_stream, (upd a_bitAt b (nI bit)), (upd a_runIndex b (nI ri)), (upd a_runCount b (nI rc)), (upd a_inRun b (jl_bI ir)), (upd a_runBroken b (jl_bI rb)), (jl_ov a_magnitude 367 b 367 mg), (jl_ov a_biasSum 367 b 367 bs), (jl_ov a_correction 367 b 367 co), (jl_ov a_occurrences 367 b 367 oc)) p0 x2 := ⟨num + 1, xl_getBits hp h2 hn H num 0 (num + 1) 0 bit (by omega) (by omega) hN h⟩
theorem xw_g61s {post : Int32 → SX → Prop} {x1 x2 x4 x6 : Int32} {z : Nat} (hp : x1 = nI b) (h2 : x2 = nI k) (hk : k ≤ 9) (h6 : x6 = nI z) (hz : z ≤ 32) (H : jl_HS b s N a_stream a_recordBits) (hN : bit + k ≤ N) (h : post (nI (z * 2 ^ k + jl_gbs (jl_bs a_words s) k bit 0)) (f_writer, f_reader, f_scratch, f_writerStream, f_streamWords, f_streamBits, f_cellStride, f_contextStride, f_interruptionContext, f_codeLimit, f_resetCount, f_greatestOrder, (nI w), f_height, (nI nc), f_max, f_writerOpen, f_writerSlot, f_readerOpen, f_readerSlot, f_column, f_left, f_above, f_aboveLeft, f_aboveRight, f_context, f_sign, a_picture, a_words, a_recordLength, a_recordBound, a_recordBits, (jl_ov a_levels 128 b pos lev), (upd a_position b (nI pos)), a_bound, a_range, a_levelBits, a_threshold1, a_threshold2, a_threshold3, a_stream, (upd a_bitAt b (nI (bit + k))), (upd a_runIndex b (nI ri)), (upd a_runCount b (nI rc)), (upd a_inRun b (jl_bI ir)), (upd a_runBroken b (jl_bI rb)), (jl_ov a_magnitude 367 b 367 mg), (jl_ov a_biasSum 367 b 367 bs), (jl_ov a_correction 367 b 367 co), (jl_ov a_occurrences 367 b 367 oc))) : wX_getGolomb_61 post x1 x2 x4 x6 1 f_writer f_reader f_scratch f_writerStream f_streamWords f_streamBits f_cellStride f_contextStride f_interruptionContext f_codeLimit f_resetCount f_greatestOrder (nI w) f_height (nI nc) f_max f_writerOpen f_writerSlot f_readerOpen f_readerSlot f_column f_left f_above f_aboveLeft f_aboveRight f_context f_sign a_picture a_words a_recordLength a_recordBound a_recordBits (jl_ov a_levels 128 b pos lev) (upd a_position b (nI pos)) a_bound a_range a_levelBits a_threshold1 a_threshold2 a_threshold3 a_stream (upd a_bitAt b (nI bit)) (upd a_runIndex b (nI ri)) (upd a_runCount b (nI rc)) (upd a_inRun b (jl_bI ir)) (upd a_runBroken b (jl_bI rb)) (jl_ov a_magnitude 367 b 367 mg) (jl_ov a_biasSum 367 b 367 bs) (jl_ov a_correction 367 b 367 co) (jl_ov a_occurrences 367 b 367 oc) := by
  subst h2 h6
  refine br_f (by decide) (xw_getBits hp rfl (by omega) H hN ?_)
  have hp2 : 2 ^ k ≤ 2 ^ 9 := Nat.pow_le_pow_right (by decide) hk
  have hz2 : z * 2 ^ k ≤ 32 * 2 ^ 9 := Nat.mul_le_mul hz hp2
  rw [pk_shlN _ k (s_l k (by omega)) (by omega), nI_add]
  exact h
theorem xw_g61n {post : Int32 → SX → Prop} {x1 x2 x4 x6 : Int32} {lb : Nat} (hp : x1 = nI b) (h4 : x4 = nI lb) (hl : lb ≤ 8) (H : jl_HS b s N a_stream a_recordBits) (hN : bit + 1 + lb ≤ N) (h : post (nI (jl_gbs (jl_bs a_words s) lb (bit + 1) 0 + 1)) (f_writer, f_reader, f_scratch, f_writerStream, f_streamWords, f_streamBits, f_cellStride, f_contextStride, f_interruptionContext, f_codeLimit, f_resetCount, f_greatestOrder, (nI w), f_height, (nI nc), f_max, f_writerOpen, f_writerSlot, f_readerOpen, f_readerSlot, f_column, f_left, f_above, f_aboveLeft, f_aboveRight, f_context, f_sign, a_picture, a_words, a_recordLength, a_recordBound, a_recordBits, (jl_ov a_levels 128 b pos lev), (upd a_position b (nI pos)), a_bound, a_range, a_levelBits, a_threshold1, a_threshold2, a_threshold3, a_stream, (upd a_bitAt b (nI (bit + 1 + lb))), (upd a_runIndex b (nI ri)), (upd a_runCount b (nI rc)), (upd a_inRun b (jl_bI ir)), (upd a_runBroken b (jl_bI rb)), (jl_ov a_magnitude 367 b 367 mg), (jl_ov a_biasSum 367 b 367 bs), (jl_ov a_correction 367 b 367 co), (jl_ov a_occurrences 367 b 367 oc))) : wX_getGolomb_61 post x1 x2 x4 x6 0 f_writer f_reader f_scratch f_writerStream f_streamWords f_streamBits f_cellStride f_contextStride f_interruptionContext f_codeLimit f_resetCount f_greatestOrder (nI w) f_height (nI nc) f_max f_writerOpen f_writerSlot f_readerOpen f_readerSlot f_column f_left f_above f_aboveLeft f_aboveRight f_context f_sign a_picture a_words a_recordLength a_recordBound a_recordBits (jl_ov a_levels 128 b pos lev) (upd a_position b (nI pos)) a_bound a_range a_levelBits a_threshold1 a_threshold2 a_threshold3 a_stream (upd a_bitAt b (nI bit)) (upd a_runIndex b (nI ri)) (upd a_runCount b (nI rc)) (upd a_inRun b (jl_bI ir)) (upd a_runBroken b (jl_bI rb)) (jl_ov a_magnitude 367 b 367 mg) (jl_ov a_biasSum 367 b 367 bs) (jl_ov a_correction 367 b 367 co) (jl_ov a_occurrences 367 b 367 oc) := by
  refine br_t rfl (xw_getBit hp H (by omega) (xw_getBits hp h4 (by omega) H hN ?_))
  rw [nI_1]
  exact h
theorem xl_gol {post : Int32 → SX → Prop} {x1 x2 x4 x5 : Int32} {lb e : Nat} (hp : x1 = nI b) (h2 : x2 = nI k) (hk : k ≤ 9) (h4 : x4 = nI lb) (hl : lb ≤ 8) (h5 : x5 = nI e) (he : e ≤ 32) (H : jl_HS b s N a_stream a_recordBits) : ∀ (d i n bit : Nat), i + d = e → d + 1 < n → (jl_gz (jl_bs a_words s) d bit < d → bit + jl_gz (jl_bs a_words s) d bit + 1 + k ≤ N ∧ post (nI ((i + jl_gz (jl_bs a_words s) d bit) * 2 ^ k + jl_gbs (jl_bs a_words s) k (bit + jl_gz (jl_bs a_words s) d bit + 1) 0)) (f_writer, f_reader, f_scratch, f_writerStream, f_streamWords, f_streamBits, f_cellStride, f_contextStride, f_interruptionContext, f_codeLimit, f_resetCount, f_greatestOrder, (nI w), f_height, (nI nc), f_max, f_writerOpen, f_writerSlot, f_readerOpen, f_readerSlot, f_column, f_left, f_above, f_aboveLeft, f_aboveRight, f_context, f_sign, a_picture, a_words, a_recordLength, a_recordBound, a_recordBits, (jl_ov a_levels 128 b pos lev), (upd a_position b (nI pos)), a_bound, a_range, a_levelBits, a_threshold1, a_threshold2, a_threshold3, a_stream, (upd a_bitAt b (nI (bit + jl_gz (jl_bs a_words s) d bit + 1 + k))), (upd a_runIndex b (nI ri)), (upd a_runCount b (nI rc)), (upd a_inRun b (jl_bI ir)), (upd a_runBroken b (jl_bI rb)), (jl_ov a_magnitude 367 b 367 mg), (jl_ov a_biasSum 367 b 367 bs), (jl_ov a_correction 367 b 367 co), (jl_ov a_occurrences 367 b 367 oc))) → (¬ jl_gz (jl_bs a_words s) d bit < d → bit + d + 1 + lb ≤ N ∧ post (nI (jl_gbs (jl_bs a_words s) lb (bit + d + 1) 0 + 1)) (f_writer, f_reader, f_scratch, f_writerStream, f_streamWords, f_streamBits, f_cellStride, f_contextStride, f_interruptionContext, f_codeLimit, f_resetCount, f_greatestOrder, (nI w), f_height, (nI nc), f_max, f_writerOpen, f_writerSlot, f_readerOpen, f_readerSlot, f_column, f_left, f_above, f_aboveLeft, f_aboveRight, f_context, f_sign, a_picture, a_words, a_recordLength, a_recordBound, a_recordBits, (jl_ov a_levels 128 b pos lev), (upd a_position b (nI pos)), a_bound, a_range, a_levelBits, a_threshold1, a_threshold2, a_threshold3, a_stream, (upd a_bitAt b (nI (bit + d + 1 + lb))), (upd a_runIndex b (nI ri)), (upd a_runCount b (nI rc)), (upd a_inRun b (jl_bI ir)), (upd a_runBroken b (jl_bI rb)), (jl_ov a_magnitude 367 b 367 mg), (jl_ov a_biasSum 367 b 367 bs), (jl_ov a_correction 367 b 367 co), (jl_ov a_occurrences 367 b 367 oc))) → wX_getGolomb_25 post x1 x2 x4 x5 n (nI i) 0 (nI i) f_writer f_reader f_scratch f_writerStream f_streamWords f_streamBits f_cellStride f_contextStride f_interruptionContext f_codeLimit f_resetCount f_greatestOrder (nI w) f_height (nI nc) f_max f_writerOpen f_writerSlot f_readerOpen f_readerSlot f_column f_left f_above f_aboveLeft f_aboveRight f_context f_sign a_picture a_words a_recordLength a_recordBound a_recordBits (jl_ov a_levels 128 b pos lev) (upd a_position b (nI pos)) a_bound a_range a_levelBits a_threshold1 a_threshold2 a_threshold3 a_stream (upd a_bitAt b (nI bit)) (upd a_runIndex b (nI ri)) (upd a_runCount b (nI rc)) (upd a_inRun b (jl_bI ir)) (upd a_runBroken b (jl_bI rb)) (jl_ov a_magnitude 367 b 367 mg) (jl_ov a_biasSum 367 b 367 bs) (jl_ov a_correction 367 b 367 co) (jl_ov a_occurrences 367 b 367 oc) := by
  intro d
  induction d with
  | zero =>
    intro i n bit hi hn g1 g2
    obtain ⟨m, rfl⟩ : ∃ m, n = m + 1 := ⟨n - 1, by omega⟩
    have g := g2 (by omega)
    exact br_t (by rw [h5]; exact nI_le (by omega) (by omega)) (xw_g61n hp h4 hl H g.1 g.2)
  | succ d ih =>
    intro i n bit hi hn g1 g2
    obtain ⟨m, rfl⟩ : ∃ m, n = m + 1 := ⟨n - 1, by omega⟩
    obtain ⟨m, rfl⟩ : ∃ l, m = l + 1 := ⟨m - 1, by omega⟩
    have hbN : bit < N := by
      by_cases z : jl_gz (jl_bs a_words s) (d + 1) bit < d + 1
      · have := (g1 z).1; omega
      · have := (g2 z).1; omega
    refine br_f (by rw [h5]; exact nI_ge (by omega) (by omega)) (br_t rfl (xw_getBit hp H hbN (jl_bb1 (fun t => ?_) (fun t => ?_))))
    · have z : jl_gz (jl_bs a_words s) (d + 1) bit = 0 := by rw [jl_gz, if_pos t]
      rw [z] at g1
      have g := g1 (by omega)
      have hh := xw_g61s (x4 := x4) (z := i) hp h2 hk rfl (by omega) H g.1 g.2
      exact nm_r (nI_1 i) (br_c (fun _ => hh) (fun _ => br_f (by decide) hh))
    · have z : jl_gz (jl_bs a_words s) (d + 1) bit = jl_gz (jl_bs a_words s) d (bit + 1) + 1 := by rw [jl_gz, if_neg (by rw [t]; decide)]
      rw [z] at g1 g2
      refine nm_r (nI_1 i) (nm_r (nI_1 i) (ih (i + 1) (m + 1) (bit + 1) (by omega) (by omega) (fun q => ?_) (fun q => ?_)))
      · have g := g1 (by omega)
        have e1 : bit + (jl_gz (jl_bs a_words s) d (bit + 1) + 1) = bit + 1 + jl_gz (jl_bs a_words s) d (bit + 1) := by omega
        have e2 : i + (jl_gz (jl_bs a_words s) d (bit + 1) + 1) = i + 1 + jl_gz (jl_bs a_words s) d (bit + 1) := by omega
        rw [e1, e2] at g
        exact g
      · have g := g2 (by omega)
        have e1 : bit + (d + 1) = bit + 1 + d := by omega
        rw [e1] at g
        exact g
theorem xw_gol {post : Int32 → SX → Prop} {p0 p1 p2 : Int32} {L lb : Nat} (hp : p0 = nI b) (h1 : p1 = nI k) (h2 : p2 = nI L) (hk : k ≤ 9) (hL : L ≤ 32) (hlb : lb + 1 ≤ L) (hl : lb ≤ 8) (elb : a_levelBits b = nI lb) (H : jl_HS b s N a_stream a_recordBits) (hN : (jl_gol (jl_bs a_words s) bit k L lb).2 ≤ N) (h : post (nI (jl_gol (jl_bs a_words s) bit k L lb).1) (f_writer, f_reader, f_scratch, f_writerStream, f_streamWords, f_streamBits, f_cellStride, f_contextStride, f_interruptionContext, f_codeLimit, f_resetCount, f_greatestOrder, (nI w), f_height, (nI nc), f_max, f_writerOpen, f_writerSlot, f_readerOpen, f_readerSlot, f_column, f_left, f_above, f_aboveLeft, f_aboveRight, f_context, f_sign, a_picture, a_words, a_recordLength, a_recordBound, a_recordBits, (jl_ov a_levels 128 b pos lev), (upd a_position b (nI pos)), a_bound, a_range, a_levelBits, a_threshold1, a_threshold2, a_threshold3, a_stream, (upd a_bitAt b (nI ((jl_gol (jl_bs a_words s) bit k L lb).2))), (upd a_runIndex b (nI ri)), (upd a_runCount b (nI rc)), (upd a_inRun b (jl_bI ir)), (upd a_runBroken b (jl_bI rb)), (jl_ov a_magnitude 367 b 367 mg), (jl_ov a_biasSum 367 b 367 bs), (jl_ov a_correction 367 b 367 co), (jl_ov a_occurrences 367 b 367 oc))) : wpX_getGolomb post (f_writer, f_reader, f_scratch, f_writerStream, f_streamWords, f_streamBits, f_cellStride, f_contextStride, f_interruptionContext, f_codeLimit, f_resetCount, f_greatestOrder, (nI w), f_height, (nI nc), f_max, f_writerOpen, f_writerSlot, f_readerOpen, f_readerSlot, f_column, f_left, f_above, f_aboveLeft, f_aboveRight, f_context, f_sign, a_picture, a_words, a_recordLength, a_recordBound, a_recordBits, (jl_ov a_levels 128 b pos lev), (upd a_position b (nI pos)), a_bound, a_range, a_levelBits, a_threshold1, a_threshold2, a_threshold3, a_stream, (upd a_bitAt b (nI bit)), (upd a_runIndex b (nI ri)), (upd a_runCount b (nI rc)), (upd a_inRun b (jl_bI ir)), (upd a_runBroken b (jl_bI rb)), (jl_ov a_magnitude 367 b 367 mg), (jl_ov a_biasSum 367 b 367 bs), (jl_ov a_correction 367 b 367 co), (jl_ov a_occurrences 367 b 367 oc)) p0 p1 p2 := by
  have hb := H.1
  have hc : p0.toNatClampNeg = b := by rw [hp]; exact jl_cl hb
  have hv : vp_in p0 3 := by rw [hp]; exact jl_vi hb
  have ee : p2 - nI lb - 1 = nI (L - lb - 1) := by
    rw [h2]
    have : (1 : Int32) = nI 1 := rfl
    rw [this, pk_sub (by omega), pk_sub (by omega)]
  refine ⟨hv, nm_r (e' := nI lb) (by rw [hc]; exact elb) (nm_r ee ⟨L - lb - 1 + 2, xl_gol hp h1 hk rfl hl rfl (by omega) H (L - lb - 1) 0 (L - lb - 1 + 2) bit (by omega) (by omega) (fun z => ?_) (fun z => ?_)⟩)⟩
  · rw [jl_gol, if_pos z] at hN h
    rw [Nat.zero_add]
    exact ⟨hN, h⟩
  · rw [jl_gol, if_neg z] at hN h
    exact ⟨hN, h⟩
theorem xw_readRun {post : SX → Prop} {p0 : Int32} {col : Nat} (hp : p0 = nI b) (H : jl_HS b s N a_stream a_recordBits) (hw2 : w ≤ 16) (hcol : col < w) (hri : ri ≤ 31) (hN : (jl_rd w col (jl_bs a_words s) bit ri).1 ≤ N) (h : post (f_writer, f_reader, f_scratch, f_writerStream, f_streamWords, f_streamBits, f_cellStride, f_contextStride, f_interruptionContext, f_codeLimit, f_resetCount, f_greatestOrder, (nI w), f_height, (nI nc), f_max, f_writerOpen, f_writerSlot, f_readerOpen, f_readerSlot, (nI col), f_left, f_above, f_aboveLeft, f_aboveRight, f_context, f_sign, a_picture, a_words, a_recordLength, a_recordBound, a_recordBits, (jl_ov a_levels 128 b pos lev), (upd a_position b (nI pos)), a_bound, a_range, a_levelBits, a_threshold1, a_threshold2, a_threshold3, a_stream, (upd a_bitAt b (nI ((jl_rd w col (jl_bs a_words s) bit ri).1))), (upd a_runIndex b (nI ((jl_rd w col (jl_bs a_words s) bit ri).2.1))), (upd a_runCount b (nI ((jl_rd w col (jl_bs a_words s) bit ri).2.2.1))), (upd a_inRun b (jl_bI ir)), (upd a_runBroken b (jl_bI ((jl_rd w col (jl_bs a_words s) bit ri).2.2.2))), (jl_ov a_magnitude 367 b 367 mg), (jl_ov a_biasSum 367 b 367 bs), (jl_ov a_correction 367 b 367 co), (jl_ov a_occurrences 367 b 367 oc))) : wpX_readRun post (f_writer, f_reader, f_scratch, f_writerStream, f_streamWords, f_streamBits, f_cellStride, f_contextStride, f_interruptionContext, f_codeLimit, f_resetCount, f_greatestOrder, (nI w), f_height, (nI nc), f_max, f_writerOpen, f_writerSlot, f_readerOpen, f_readerSlot, (nI col), f_left, f_above, f_aboveLeft, f_aboveRight, f_context, f_sign, a_picture, a_words, a_recordLength, a_recordBound, a_recordBits, (jl_ov a_levels 128 b pos lev), (upd a_position b (nI pos)), a_bound, a_range, a_levelBits, a_threshold1, a_threshold2, a_threshold3, a_stream, (upd a_bitAt b (nI bit)), (upd a_runIndex b (nI ri)), (upd a_runCount b (nI rc)), (upd a_inRun b (jl_bI ir)), (upd a_runBroken b (jl_bI false)), (jl_ov a_magnitude 367 b 367 mg), (jl_ov a_biasSum 367 b 367 bs), (jl_ov a_correction 367 b 367 co), (jl_ov a_occurrences 367 b 367 oc)) p0 := by
  have hb := H.1
  have hc : p0.toNatClampNeg = b := by rw [hp]; exact jl_cl hb
  have hv : vp_in p0 3 := by rw [hp]; exact jl_vi hb
  have hro := jl_ro_le hri
  have hbN : bit < N := by
    unfold jl_rd at hN
    split at hN
    · have h' : bit + 1 + jl_ro ri ≤ N := hN; omega
    · split at hN
      · have h' : bit + 1 ≤ N := hN; omega
      · have h' : bit + 1 ≤ N := hN; omega
  refine ⟨hv, xv_runOrder (jl_ur hc) hri (xw_getBit hp H hbN (jl_bb (fun t => ?_) (fun t => ?_)))⟩
  · rw [jl_rd, if_pos t] at h hN
    exact ⟨hv, nm_r (jl_uu hc jl_n1) (xw_getBits hp rfl (by omega) H hN ⟨hv, nm_r (jl_uu hc rfl) h⟩)⟩
  · rw [jl_rd, if_neg (by rw [t]; decide)] at h hN
    have hp2 : 2 ^ jl_ro ri ≤ 2 ^ 15 := Nat.pow_le_pow_right (by decide) hro
    refine nm_r (jl_1sh _ (by omega)) (nm_r (pk_sub (by omega)) (pk_lt (w - col) (2 ^ jl_ro ri) (fun z => ?_) (fun z => ?_)))
    · rw [if_pos z] at h
      exact ⟨hv, nm_r (jl_uu hc rfl) h⟩
    · rw [if_neg (by omega)] at h
      exact ⟨hv, nm_r (jl_uu hc rfl) (xw_raise hp hb hri h)⟩
end
end
section
/-! ===== decoding one level: decodeInterruption, decodeRegular, decodeInRun, decodeNext ===== -/
/-- the parameters of bank b -/
def jl_HP (b : Nat) (P : jP) (rg lb t1 t2 t3 : Nat → Int32) : Prop := rg b = P.2.1 ∧ lb b = nI P.2.2.1 ∧ t1 b = P.2.2.2.1 ∧ t2 b = P.2.2.2.2.1 ∧ t3 b = P.2.2.2.2.2 ∧ P.2.2.1 ≤ 8
theorem jl_ti_lt (l a : Int32) : jl_ti l a < 367 := by unfold jl_ti; split <;> omega
theorem jl_ti_e {l a p0 : Int32} {b : Nat} (hp : p0 = nI b) : ((p0 * 367) + 365) + jl_ty l a = nI (367 * b + jl_ti l a) := by
  subst hp
  show (nI b * nI 367 + nI 365) + jl_ty l a = _
  unfold jl_ti jl_ty
  split
  · show (nI b * nI 367 + nI 365) + nI 1 = _
    rw [pk_mul, nI_add, nI_add, Nat.mul_comm]
  · show (nI b * nI 367 + nI 365) + nI 0 = _
    rw [pk_mul, nI_add, nI_add, Nat.mul_comm]
section
variable {f_writer f_reader f_scratch f_writerStream f_streamWords f_streamBits f_cellStride f_contextStride f_interruptionContext f_codeLimit f_resetCount f_greatestOrder f_width f_height f_cells f_max f_writerOpen f_writerSlot f_readerOpen f_readerSlot f_column f_left f_above f_aboveLeft f_aboveRight f_context f_sign : Int32} {a_picture a_words a_recordLength a_recordBound a_recordBits a_levels a_position a_bound a_range a_levelBits a_threshold1 a_threshold2 a_threshold3 a_stream a_bitAt a_runIndex a_runCount a_inRun a_runBroken a_magnitude a_biasSum a_correction a_occurrences : Nat → Int32} {w nc b pos bit ri rc k s N : Nat} {lev mg bs co oc : Nat → Int32} {ir rb : Bool} {P : jP}
theorem xw_di94 {post : Int32 → SX → Prop} {x1 x3 x4 x5 x8 x11 rng : Int32} {q : Nat} (hp : x1 = nI b) (hb : b < 3) (hq : q < 367) (h4 : x4 = nI (367 * b + q)) (hr : a_range b = rng) (h : post (jl_wrap rng (f_above + (x5 * x11))) (f_writer, f_reader, f_scratch, f_writerStream, f_streamWords, f_streamBits, f_cellStride, f_contextStride, f_interruptionContext, f_codeLimit, f_resetCount, f_greatestOrder, (nI w), f_height, (nI nc), f_max, f_writerOpen, f_writerSlot, f_readerOpen, f_readerSlot, f_column, f_left, f_above, f_aboveLeft, f_aboveRight, f_context, f_sign, a_picture, a_words, a_recordLength, a_recordBound, a_recordBits, (jl_ov a_levels 128 b pos lev), (upd a_position b (nI pos)), a_bound, a_range, a_levelBits, a_threshold1, a_threshold2, a_threshold3, a_stream, (upd a_bitAt b (nI bit)), (upd a_runIndex b (nI ri)), (upd a_runCount b (nI rc)), (upd a_inRun b (jl_bI ir)), (upd a_runBroken b (jl_bI rb)), (jl_ov a_magnitude 367 b 367 ((jl_updI (mg, bs, co, oc) q x3 x11 x8).1)), (jl_ov a_biasSum 367 b 367 ((jl_updI (mg, bs, co, oc) q x3 x11 x8).2.1)), (jl_ov a_correction 367 b 367 ((jl_updI (mg, bs, co, oc) q x3 x11 x8).2.2.1)), (jl_ov a_occurrences 367 b 367 ((jl_updI (mg, bs, co, oc) q x3 x11 x8).2.2.2)))) : wX_decodeInterruption_94 post x1 x3 x4 x5 x8 x11 f_writer f_reader f_scratch f_writerStream f_streamWords f_streamBits f_cellStride f_contextStride f_interruptionContext f_codeLimit f_resetCount f_greatestOrder (nI w) f_height (nI nc) f_max f_writerOpen f_writerSlot f_readerOpen f_readerSlot f_column f_left f_above f_aboveLeft f_aboveRight f_context f_sign a_picture a_words a_recordLength a_recordBound a_recordBits (jl_ov a_levels 128 b pos lev) (upd a_position b (nI pos)) a_bound a_range a_levelBits a_threshold1 a_threshold2 a_threshold3 a_stream (upd a_bitAt b (nI bit)) (upd a_runIndex b (nI ri)) (upd a_runCount b (nI rc)) (upd a_inRun b (jl_bI ir)) (upd a_runBroken b (jl_bI rb)) (jl_ov a_magnitude 367 b 367 mg) (jl_ov a_biasSum 367 b 367 bs) (jl_ov a_correction 367 b 367 co) (jl_ov a_occurrences 367 b 367 oc) := by
  have hc : x1.toNatClampNeg = b := by rw [hp]; exact jl_cl hb
  have hv : vp_in x1 3 := by rw [hp]; exact jl_vi hb
  unfold wX_decodeInterruption_94
  exact xw_updI h4 hb hq (xv_wrap hv (by rw [hc]; exact hr) h)
theorem xw_di72 {post : Int32 → SX → Prop} {x1 x3 x4 x5 x8 x9 z0 x7 rng : Int32} {q : Nat} {tl od : Bool} (hp : x1 = nI b) (hb : b < 3) (hq : q < 367) (h4 : x4 = nI (367 * b + q)) (hr : a_range b = rng) (h7 : x7 = jl_bI tl) (hz : z0 = jl_bI od) (h9 : x9 = x8 + x3) (ho : od = decide ((x9 &&& 1) = 1)) (h : post (jl_wrap rng (f_above + (x5 * jl_iun x3 x8 tl))) (f_writer, f_reader, f_scratch, f_writerStream, f_streamWords, f_streamBits, f_cellStride, f_contextStride, f_interruptionContext, f_codeLimit, f_resetCount, f_greatestOrder, (nI w), f_height, (nI nc), f_max, f_writerOpen, f_writerSlot, f_readerOpen, f_readerSlot, f_column, f_left, f_above, f_aboveLeft, f_aboveRight, f_context, f_sign, a_picture, a_words, a_recordLength, a_recordBound, a_recordBits, (jl_ov a_levels 128 b pos lev), (upd a_position b (nI pos)), a_bound, a_range, a_levelBits, a_threshold1, a_threshold2, a_threshold3, a_stream, (upd a_bitAt b (nI bit)), (upd a_runIndex b (nI ri)), (upd a_runCount b (nI rc)), (upd a_inRun b (jl_bI ir)), (upd a_runBroken b (jl_bI rb)), (jl_ov a_magnitude 367 b 367 ((jl_updI (mg, bs, co, oc) q x3 (jl_iun x3 x8 tl) x8).1)), (jl_ov a_biasSum 367 b 367 ((jl_updI (mg, bs, co, oc) q x3 (jl_iun x3 x8 tl) x8).2.1)), (jl_ov a_correction 367 b 367 ((jl_updI (mg, bs, co, oc) q x3 (jl_iun x3 x8 tl) x8).2.2.1)), (jl_ov a_occurrences 367 b 367 ((jl_updI (mg, bs, co, oc) q x3 (jl_iun x3 x8 tl) x8).2.2.2)))) : wX_decodeInterruption_72 post x1 x3 x4 x5 x7 x8 x9 z0 f_writer f_reader f_scratch f_writerStream f_streamWords f_streamBits f_cellStride f_contextStride f_interruptionContext f_codeLimit f_resetCount f_greatestOrder (nI w) f_height (nI nc) f_max f_writerOpen f_writerSlot f_readerOpen f_readerSlot f_column f_left f_above f_aboveLeft f_aboveRight f_context f_sign a_picture a_words a_recordLength a_recordBound a_recordBits (jl_ov a_levels 128 b pos lev) (upd a_position b (nI pos)) a_bound a_range a_levelBits a_threshold1 a_threshold2 a_threshold3 a_stream (upd a_bitAt b (nI bit)) (upd a_runIndex b (nI ri)) (upd a_runCount b (nI rc)) (upd a_inRun b (jl_bI ir)) (upd a_runBroken b (jl_bI rb)) (jl_ov a_magnitude 367 b 367 mg) (jl_ov a_biasSum 367 b 367 bs) (jl_ov a_correction 367 b 367 co) (jl_ov a_occurrences 367 b 367 oc) := by
  subst h7 hz h9
  refine nm_e (br_c (fun z => ?_) (fun z => ?_))
  · have z' := jl_bIinj.mp z
    rw [ho] at z'
    rw [jl_iun, if_pos z'] at h
    exact nm_e (xw_di94 hp hb hq h4 hr h)
  · have z' : ¬ (decide (((x8 + x3) &&& 1) = 1)) = tl := fun y => z (jl_bIinj.mpr (ho.trans y))
    rw [jl_iun, if_neg z'] at h
    exact xw_di94 hp hb hq h4 hr h
theorem xw_dInt {post : Int32 → SX → Prop} {p0 p1 : Int32} {L : Nat} (hp : p0 = nI b) (h1 : p1 = nI L) (hL1 : 16 ≤ L) (hL2 : L ≤ 32) (H : jl_HS b s N a_stream a_recordBits) (HP : jl_HP b P a_range a_levelBits a_threshold1 a_threshold2 a_threshold3) (hN : (jl_dInt P (jl_bs a_words s) L f_left f_above (mg, bs, co, oc) bit).2.2 ≤ N) (h : post (jl_dInt P (jl_bs a_words s) L f_left f_above (mg, bs, co, oc) bit).1 (f_writer, f_reader, f_scratch, f_writerStream, f_streamWords, f_streamBits, f_cellStride, f_contextStride, f_interruptionContext, f_codeLimit, f_resetCount, f_greatestOrder, (nI w), f_height, (nI nc), f_max, f_writerOpen, f_writerSlot, f_readerOpen, f_readerSlot, f_column, f_left, f_above, f_aboveLeft, f_aboveRight, f_context, f_sign, a_picture, a_words, a_recordLength, a_recordBound, a_recordBits, (jl_ov a_levels 128 b pos lev), (upd a_position b (nI pos)), a_bound, a_range, a_levelBits, a_threshold1, a_threshold2, a_threshold3, a_stream, (upd a_bitAt b (nI ((jl_dInt P (jl_bs a_words s) L f_left f_above (mg, bs, co, oc) bit).2.2))), (upd a_runIndex b (nI ri)), (upd a_runCount b (nI rc)), (upd a_inRun b (jl_bI ir)), (upd a_runBroken b (jl_bI rb)), (jl_ov a_magnitude 367 b 367 ((jl_dInt P (jl_bs a_words s) L f_left f_above (mg, bs, co, oc) bit).2.1.1)), (jl_ov a_biasSum 367 b 367 ((jl_dInt P (jl_bs a_words s) L f_left f_above (mg, bs, co, oc) bit).2.1.2.1)), (jl_ov a_correction 367 b 367 ((jl_dInt P (jl_bs a_words s) L f_left f_above (mg, bs, co, oc) bit).2.1.2.2.1)), (jl_ov a_occurrences 367 b 367 ((jl_dInt P (jl_bs a_words s) L f_left f_above (mg, bs, co, oc) bit).2.1.2.2.2)))) : wpX_decodeInterruption post (f_writer, f_reader, f_scratch, f_writerStream, f_streamWords, f_streamBits, f_cellStride, f_contextStride, f_interruptionContext, f_codeLimit, f_resetCount, f_greatestOrder, (nI w), f_height, (nI nc), f_max, f_writerOpen, f_writerSlot, f_readerOpen, f_readerSlot, f_column, f_left, f_above, f_aboveLeft, f_aboveRight, f_context, f_sign, a_picture, a_words, a_recordLength, a_recordBound, a_recordBits, (jl_ov a_levels 128 b pos lev), (upd a_position b (nI pos)), a_bound, a_range, a_levelBits, a_threshold1, a_threshold2, a_threshold3, a_stream, (upd a_bitAt b (nI bit)), (upd a_runIndex b (nI ri)), (upd a_runCount b (nI rc)), (upd a_inRun b (jl_bI ir)), (upd a_runBroken b (jl_bI rb)), (jl_ov a_magnitude 367 b 367 mg), (jl_ov a_biasSum 367 b 367 bs), (jl_ov a_correction 367 b 367 co), (jl_ov a_occurrences 367 b 367 oc)) p0 p1 := by
  have hb := H.1
  obtain ⟨er, el, e1, e2, e3, hl⟩ := HP
  unfold jl_dInt at hN h
  dsimp only at hN h
  have hq := jl_ti_lt f_left f_above
  have hk : jl_io f_left f_above (mg (jl_ti f_left f_above)) (oc (jl_ti f_left f_above)) ≤ 9 := jl_ord_le _ _
  unfold wpX_decodeInterruption
  refine xv_type (nm_r (jl_ti_e hp) (xv_turn (xw_io rfl rfl hb hq (xw_tilted rfl rfl hk hb hq (xw_gol hp rfl h1 hk hL2 (by omega) hl el H hN (nm_e ?_))))))
  exact br_c (fun z => xw_di72 (od := true) hp hb hq rfl er rfl jl_b1.symm rfl (jl_dt z).symm h) (fun z => xw_di72 (od := false) hp hb hq rfl er rfl jl_b0.symm rfl (jl_df z).symm h)
theorem xw_dr112 {post : Int32 → SX → Prop} {x1 x2 x6 rng : Int32} {q : Nat} (hp : x1 = nI b) (hb : b < 3) (hq : q < 367) (hr : a_range b = rng) (h : post (jl_wrap rng (x2 + (f_sign * x6))) (f_writer, f_reader, f_scratch, f_writerStream, f_streamWords, f_streamBits, f_cellStride, f_contextStride, f_interruptionContext, f_codeLimit, f_resetCount, f_greatestOrder, (nI w), f_height, (nI nc), f_max, f_writerOpen, f_writerSlot, f_readerOpen, f_readerSlot, f_column, f_left, f_above, f_aboveLeft, f_aboveRight, (nI (367 * b + q)), f_sign, a_picture, a_words, a_recordLength, a_recordBound, a_recordBits, (jl_ov a_levels 128 b pos lev), (upd a_position b (nI pos)), a_bound, a_range, a_levelBits, a_threshold1, a_threshold2, a_threshold3, a_stream, (upd a_bitAt b (nI bit)), (upd a_runIndex b (nI ri)), (upd a_runCount b (nI rc)), (upd a_inRun b (jl_bI ir)), (upd a_runBroken b (jl_bI rb)), (jl_ov a_magnitude 367 b 367 ((jl_updR (mg, bs, co, oc) q x6).1)), (jl_ov a_biasSum 367 b 367 ((jl_updR (mg, bs, co, oc) q x6).2.1)), (jl_ov a_correction 367 b 367 ((jl_updR (mg, bs, co, oc) q x6).2.2.1)), (jl_ov a_occurrences 367 b 367 ((jl_updR (mg, bs, co, oc) q x6).2.2.2)))) : wX_decodeRegular_112 post x1 x2 x6 f_writer f_reader f_scratch f_writerStream f_streamWords f_streamBits f_cellStride f_contextStride f_interruptionContext f_codeLimit f_resetCount f_greatestOrder (nI w) f_height (nI nc) f_max f_writerOpen f_writerSlot f_readerOpen f_readerSlot f_column f_left f_above f_aboveLeft f_aboveRight (nI (367 * b + q)) f_sign a_picture a_words a_recordLength a_recordBound a_recordBits (jl_ov a_levels 128 b pos lev) (upd a_position b (nI pos)) a_bound a_range a_levelBits a_threshold1 a_threshold2 a_threshold3 a_stream (upd a_bitAt b (nI bit)) (upd a_runIndex b (nI ri)) (upd a_runCount b (nI rc)) (upd a_inRun b (jl_bI ir)) (upd a_runBroken b (jl_bI rb)) (jl_ov a_magnitude 367 b 367 mg) (jl_ov a_biasSum 367 b 367 bs) (jl_ov a_correction 367 b 367 co) (jl_ov a_occurrences 367 b 367 oc) := by
  have hc : x1.toNatClampNeg = b := by rw [hp]; exact jl_cl hb
  have hv : vp_in x1 3 := by rw [hp]; exact jl_vi hb
  unfold wX_decodeRegular_112
  exact xw_updR hb hq (xv_wrap hv (by rw [hc]; exact hr) h)
theorem xw_dr57 {post : Int32 → SX → Prop} {x1 x2 x3 x4 z0 rng : Int32} {q : Nat} {od : Bool} (hp : x1 = nI b) (hb : b < 3) (hq : q < 367) (hr : a_range b = rng) (h3 : x3 = nI k) (hk : k ≤ 9) (hz : z0 = jl_bI od) (ho : od = decide ((x4 &&& 1) = 1)) (h : post (jl_wrap rng (x2 + (f_sign * jl_unmap (jl_turned k (bs q) (oc q)) x4))) (f_writer, f_reader, f_scratch, f_writerStream, f_streamWords, f_streamBits, f_cellStride, f_contextStride, f_interruptionContext, f_codeLimit, f_resetCount, f_greatestOrder, (nI w), f_height, (nI nc), f_max, f_writerOpen, f_writerSlot, f_readerOpen, f_readerSlot, f_column, f_left, f_above, f_aboveLeft, f_aboveRight, (nI (367 * b + q)), f_sign, a_picture, a_words, a_recordLength, a_recordBound, a_recordBits, (jl_ov a_levels 128 b pos lev), (upd a_position b (nI pos)), a_bound, a_range, a_levelBits, a_threshold1, a_threshold2, a_threshold3, a_stream, (upd a_bitAt b (nI bit)), (upd a_runIndex b (nI ri)), (upd a_runCount b (nI rc)), (upd a_inRun b (jl_bI ir)), (upd a_runBroken b (jl_bI rb)), (jl_ov a_magnitude 367 b 367 ((jl_updR (mg, bs, co, oc) q (jl_unmap (jl_turned k (bs q) (oc q)) x4)).1)), (jl_ov a_biasSum 367 b 367 ((jl_updR (mg, bs, co, oc) q (jl_unmap (jl_turned k (bs q) (oc q)) x4)).2.1)), (jl_ov a_correction 367 b 367 ((jl_updR (mg, bs, co, oc) q (jl_unmap (jl_turned k (bs q) (oc q)) x4)).2.2.1)), (jl_ov a_occurrences 367 b 367 ((jl_updR (mg, bs, co, oc) q (jl_unmap (jl_turned k (bs q) (oc q)) x4)).2.2.2)))) : wX_decodeRegular_57 post x1 x2 x3 x4 z0 f_writer f_reader f_scratch f_writerStream f_streamWords f_streamBits f_cellStride f_contextStride f_interruptionContext f_codeLimit f_resetCount f_greatestOrder (nI w) f_height (nI nc) f_max f_writerOpen f_writerSlot f_readerOpen f_readerSlot f_column f_left f_above f_aboveLeft f_aboveRight (nI (367 * b + q)) f_sign a_picture a_words a_recordLength a_recordBound a_recordBits (jl_ov a_levels 128 b pos lev) (upd a_position b (nI pos)) a_bound a_range a_levelBits a_threshold1 a_threshold2 a_threshold3 a_stream (upd a_bitAt b (nI bit)) (upd a_runIndex b (nI ri)) (upd a_runCount b (nI rc)) (upd a_inRun b (jl_bI ir)) (upd a_runBroken b (jl_bI rb)) (jl_ov a_magnitude 367 b 367 mg) (jl_ov a_biasSum 367 b 367 bs) (jl_ov a_correction 367 b 367 co) (jl_ov a_occurrences 367 b 367 oc) := by
  subst hz
  unfold wX_decodeRegular_57
  refine xw_turned h3 hk hb hq (jl_bb (fun t => ?_) (fun t => ?_))
  · rw [t] at h
    refine jl_bb (fun o => ?_) (fun o => ?_)
    · have o' : ¬ (x4 &&& 1) = 1 := of_decide_eq_false (ho.symm.trans o)
      rw [jl_unmap, if_neg (by decide), if_neg o'] at h
      exact xw_dr112 hp hb hq hr h
    · have o' : (x4 &&& 1) = 1 := of_decide_eq_true (ho.symm.trans o)
      rw [jl_unmap, if_neg (by decide), if_pos o'] at h
      exact xw_dr112 hp hb hq hr h
  · rw [t] at h
    refine jl_bb (fun o => ?_) (fun o => ?_)
    · have o' : ¬ (x4 &&& 1) = 1 := of_decide_eq_false (ho.symm.trans o)
      rw [jl_unmap, if_pos rfl, if_neg o'] at h
      exact xw_dr112 hp hb hq hr h
    · have o' : (x4 &&& 1) = 1 := of_decide_eq_true (ho.symm.trans o)
      rw [jl_unmap, if_pos rfl, if_pos o'] at h
      exact xw_dr112 hp hb hq hr h
theorem xw_dReg {post : Int32 → SX → Prop} {p0 : Int32} (hp : p0 = nI b) (H : jl_HS b s N a_stream a_recordBits) (HP : jl_HP b P a_range a_levelBits a_threshold1 a_threshold2 a_threshold3) (hN : (jl_dReg P (jl_bs a_words s) f_left f_above f_aboveLeft f_aboveRight (mg, bs, co, oc) bit).2.2 ≤ N) (h : ∀ cx sg : Int32, post (jl_dReg P (jl_bs a_words s) f_left f_above f_aboveLeft f_aboveRight (mg, bs, co, oc) bit).1 (f_writer, f_reader, f_scratch, f_writerStream, f_streamWords, f_streamBits, f_cellStride, f_contextStride, f_interruptionContext, f_codeLimit, f_resetCount, f_greatestOrder, (nI w), f_height, (nI nc), f_max, f_writerOpen, f_writerSlot, f_readerOpen, f_readerSlot, f_column, f_left, f_above, f_aboveLeft, f_aboveRight, cx, sg, a_picture, a_words, a_recordLength, a_recordBound, a_recordBits, (jl_ov a_levels 128 b pos lev), (upd a_position b (nI pos)), a_bound, a_range, a_levelBits, a_threshold1, a_threshold2, a_threshold3, a_stream, (upd a_bitAt b (nI ((jl_dReg P (jl_bs a_words s) f_left f_above f_aboveLeft f_aboveRight (mg, bs, co, oc) bit).2.2))), (upd a_runIndex b (nI ri)), (upd a_runCount b (nI rc)), (upd a_inRun b (jl_bI ir)), (upd a_runBroken b (jl_bI rb)), (jl_ov a_magnitude 367 b 367 ((jl_dReg P (jl_bs a_words s) f_left f_above f_aboveLeft f_aboveRight (mg, bs, co, oc) bit).2.1.1)), (jl_ov a_biasSum 367 b 367 ((jl_dReg P (jl_bs a_words s) f_left f_above f_aboveLeft f_aboveRight (mg, bs, co, oc) bit).2.1.2.1)), (jl_ov a_correction 367 b 367 ((jl_dReg P (jl_bs a_words s) f_left f_above f_aboveLeft f_aboveRight (mg, bs, co, oc) bit).2.1.2.2.1)), (jl_ov a_occurrences 367 b 367 ((jl_dReg P (jl_bs a_words s) f_left f_above f_aboveLeft f_aboveRight (mg, bs, co, oc) bit).2.1.2.2.2)))) : wpX_decodeRegular post (f_writer, f_reader, f_scratch, f_writerStream, f_streamWords, f_streamBits, f_cellStride, f_contextStride, f_interruptionContext, f_codeLimit, f_resetCount, f_greatestOrder, (nI w), f_height, (nI nc), f_max, f_writerOpen, f_writerSlot, f_readerOpen, f_readerSlot, f_column, f_left, f_above, f_aboveLeft, f_aboveRight, f_context, f_sign, a_picture, a_words, a_recordLength, a_recordBound, a_recordBits, (jl_ov a_levels 128 b pos lev), (upd a_position b (nI pos)), a_bound, a_range, a_levelBits, a_threshold1, a_threshold2, a_threshold3, a_stream, (upd a_bitAt b (nI bit)), (upd a_runIndex b (nI ri)), (upd a_runCount b (nI rc)), (upd a_inRun b (jl_bI ir)), (upd a_runBroken b (jl_bI rb)), (jl_ov a_magnitude 367 b 367 mg), (jl_ov a_biasSum 367 b 367 bs), (jl_ov a_correction 367 b 367 co), (jl_ov a_occurrences 367 b 367 oc)) p0 := by
  have hb := H.1
  obtain ⟨er, el, e1, e2, e3, hl⟩ := HP
  unfold jl_dReg at hN h
  dsimp only at hN h
  have r := jl_fold_r P.2.2.2.1 P.2.2.2.2.1 P.2.2.2.2.2 f_left f_above f_aboveLeft f_aboveRight
  have hq0 := (jl_q_f r.1 r.2).2
  unfold wpX_decodeRegular
  refine xw_select hp hb e1 e2 e3 ?_
  generalize jl_fold P.2.2.2.1 P.2.2.2.2.1 P.2.2.2.2.2 f_left f_above f_aboveLeft f_aboveRight = f at hq0 hN h ⊢
  generalize jl_q f = q at hq0 hN h ⊢
  have hq : q < 367 := by omega
  have hv := jl_cx hb hq
  have hc := jl_cc hb hq
  have ho : jl_ov a_occurrences 367 b 367 oc (nI (367 * b + q)).toNatClampNeg = oc q := jl_ovr hc hq
  have hmg : jl_ov a_magnitude 367 b 367 mg (nI (367 * b + q)).toNatClampNeg = mg q := jl_ovr hc hq
  refine xw_predict hp hb hq er ⟨hv, hv, ?_⟩
  rw [ho, hmg]
  have hk := jl_ord_le (oc q) (mg q)
  refine xv_order (xw_gol (L := 32) hp rfl rfl hk (by omega) (by omega) hl el H hN ?_)
  have h' := h (nI (367 * b + q)) (jl_sgn f)
  exact br_c (fun z => xw_dr57 (od := true) hp hb hq er rfl hk jl_b1.symm (jl_dt z).symm h') (fun z => xw_dr57 (od := false) hp hb hq er rfl hk jl_b0.symm (jl_df z).symm h')
theorem xw_dRun2 {post : Int32 → SX → Prop} {p0 : Int32} {col : Nat} (hp : p0 = nI b) (H : jl_HS b s N a_stream a_recordBits) (HP : jl_HP b P a_range a_levelBits a_threshold1 a_threshold2 a_threshold3) (hPw : P.1 = w) (hw2 : w ≤ 16) (hcol : col < w) (hri : ri ≤ 31) (hrc : rc < 100000) (hN : (jl_dRun2 P (jl_bs a_words s) col f_left f_above (mg, bs, co, oc) (bit, ri, rc, rb)).2.1 ≤ N) (h : post (jl_dRun2 P (jl_bs a_words s) col f_left f_above (mg, bs, co, oc) (bit, ri, rc, rb)).1 (f_writer, f_reader, f_scratch, f_writerStream, f_streamWords, f_streamBits, f_cellStride, f_contextStride, f_interruptionContext, f_codeLimit, f_resetCount, f_greatestOrder, (nI w), f_height, (nI nc), f_max, f_writerOpen, f_writerSlot, f_readerOpen, f_readerSlot, (nI col), f_left, f_above, f_aboveLeft, f_aboveRight, f_context, f_sign, a_picture, a_words, a_recordLength, a_recordBound, a_recordBits, (jl_ov a_levels 128 b pos lev), (upd a_position b (nI pos)), a_bound, a_range, a_levelBits, a_threshold1, a_threshold2, a_threshold3, a_stream, (upd a_bitAt b (nI ((jl_dRun2 P (jl_bs a_words s) col f_left f_above (mg, bs, co, oc) (bit, ri, rc, rb)).2.1))), (upd a_runIndex b (nI ((jl_dRun2 P (jl_bs a_words s) col f_left f_above (mg, bs, co, oc) (bit, ri, rc, rb)).2.2.1))), (upd a_runCount b (nI ((jl_dRun2 P (jl_bs a_words s) col f_left f_above (mg, bs, co, oc) (bit, ri, rc, rb)).2.2.2.1))), (upd a_inRun b (jl_bI ((jl_dRun2 P (jl_bs a_words s) col f_left f_above (mg, bs, co, oc) (bit, ri, rc, rb)).2.2.2.2.1))), (upd a_runBroken b (jl_bI ((jl_dRun2 P (jl_bs a_words s) col f_left f_above (mg, bs, co, oc) (bit, ri, rc, rb)).2.2.2.2.2.1))), (jl_ov a_magnitude 367 b 367 ((jl_dRun2 P (jl_bs a_words s) col f_left f_above (mg, bs, co, oc) (bit, ri, rc, rb)).2.2.2.2.2.2.1)), (jl_ov a_biasSum 367 b 367 ((jl_dRun2 P (jl_bs a_words s) col f_left f_above (mg, bs, co, oc) (bit, ri, rc, rb)).2.2.2.2.2.2.2.1)), (jl_ov a_correction 367 b 367 ((jl_dRun2 P (jl_bs a_words s) col f_left f_above (mg, bs, co, oc) (bit, ri, rc, rb)).2.2.2.2.2.2.2.2.1)), (jl_ov a_occurrences 367 b 367 ((jl_dRun2 P (jl_bs a_words s) col f_left f_above (mg, bs, co, oc) (bit, ri, rc, rb)).2.2.2.2.2.2.2.2.2)))) : wX_decodeInRun_23 post p0 f_writer f_reader f_scratch f_writerStream f_streamWords f_streamBits f_cellStride f_contextStride f_interruptionContext f_codeLimit f_resetCount f_greatestOrder (nI w) f_height (nI nc) f_max f_writerOpen f_writerSlot f_readerOpen f_readerSlot (nI col) f_left f_above f_aboveLeft f_aboveRight f_context f_sign a_picture a_words a_recordLength a_recordBound a_recordBits (jl_ov a_levels 128 b pos lev) (upd a_position b (nI pos)) a_bound a_range a_levelBits a_threshold1 a_threshold2 a_threshold3 a_stream (upd a_bitAt b (nI bit)) (upd a_runIndex b (nI ri)) (upd a_runCount b (nI rc)) (upd a_inRun b (jl_bI true)) (upd a_runBroken b (jl_bI rb)) (jl_ov a_magnitude 367 b 367 mg) (jl_ov a_biasSum 367 b 367 bs) (jl_ov a_correction 367 b 367 co) (jl_ov a_occurrences 367 b 367 oc) := by
  have hb := H.1
  have hc : p0.toNatClampNeg = b := by rw [hp]; exact jl_cl hb
  have hv : vp_in p0 3 := by rw [hp]; exact jl_vi hb
  have hro := jl_ro_le hri
  unfold jl_dRun2 at hN h
  dsimp only at hN h
  refine ⟨hv, pk_le rc 0 (fun z => ?_) (fun z => ?_) (jl_ur hc) rfl⟩
  · have z' : rc = 0 := by omega
    rw [if_pos z'] at hN h
    refine ⟨hv, xv_runOrder (jl_ur hc) hri (xw_dInt (L := 31 - jl_ro ri) hp ?_ (by omega) (by omega) H HP hN (xw_lower hp hb hri (xw_endRun hp hb h)))⟩
    show (nI 32 - nI (jl_ro ri)) - nI 1 = _
    rw [pk_sub (by omega), pk_sub (by omega)]
    congr 1
    omega
  · rw [if_neg (by omega)] at hN h
    refine ⟨hv, hv, nm_r (jl_uu hc (z := nI (rc - 1)) ?_) (xv_rowEnd (by omega) hw2 hcol (jl_bb (fun g => ?_) (fun g => ?_)))⟩
    · rw [jl_ur hc]
      exact pk_sub (b := 1) z
    · rw [hPw, if_neg (of_decide_eq_false g)] at h
      exact h
    · rw [hPw, if_pos (of_decide_eq_true g)] at h
      exact xw_endRun hp hb h
end
end
section
/-! ===== decodeInRun, decodeNext ===== -/
theorem jl_gbs_lt (β : Nat → Bool) : ∀ n p v : Nat, jl_gbs β n p v < (v + 1) * 2 ^ n := by
  intro n
  induction n with
  | zero => intro p v; rw [jl_gbs]; omega
  | succ n ih =>
    intro p v
    rw [jl_gbs]
    have h := ih (p + 1) (2 * v + (β p).toNat)
    have hb : (β p).toNat ≤ 1 := by cases β p <;> decide
    have h2 : (2 * v + (β p).toNat + 1) * 2 ^ n ≤ (2 * v + 2) * 2 ^ n := Nat.mul_le_mul_right _ (by omega)
    have h3 : (2 * v + 2) * 2 ^ n = (v + 1) * 2 ^ (n + 1) := by
      rw [Nat.pow_succ, show 2 * v + 2 = (v + 1) * 2 by omega, Nat.mul_assoc, Nat.mul_comm 2]
    omega
theorem jl_gol_ge (β : Nat → Bool) (p k L lb : Nat) : p ≤ (jl_gol β p k L lb).2 := by
  unfold jl_gol
  split
  · dsimp only; omega
  · dsimp only; omega
theorem jl_dInt_ge (P : jP) (β : Nat → Bool) (L : Nat) (l a : Int32) (M : jM) (bit : Nat) : bit ≤ (jl_dInt P β L l a M bit).2.2 := jl_gol_ge _ _ _ _ _
theorem jl_dReg_ge (P : jP) (β : Nat → Bool) (l a al ar : Int32) (M : jM) (bit : Nat) : bit ≤ (jl_dReg P β l a al ar M bit).2.2 := jl_gol_ge _ _ _ _ _
theorem jl_rd_ge (w col : Nat) (β : Nat → Bool) (bit ri : Nat) : bit ≤ (jl_rd w col β bit ri).1 := by
  unfold jl_rd
  split
  · dsimp only; omega
  · split
    · dsimp only; omega
    · dsimp only; omega
theorem jl_dRun2_ge (P : jP) (β : Nat → Bool) (col : Nat) (l a : Int32) (M : jM) (z : Nat × Nat × Nat × Bool) : z.1 ≤ (jl_dRun2 P β col l a M z).2.1 := by
  unfold jl_dRun2
  split
  · exact jl_dInt_ge _ _ _ _ _ _ _
  · split
    · exact Nat.le_refl _
    · exact Nat.le_refl _
theorem jl_dRun_ge (P : jP) (β : Nat → Bool) (col : Nat) (l a : Int32) (M : jM) (bit ri rc : Nat) (rb : Bool) : bit ≤ (jl_dRun P β col l a M bit ri rc rb).2.1 := by
  unfold jl_dRun
  split
  · exact Nat.le_trans (jl_rd_ge _ _ _ _ _) (jl_dRun2_ge _ _ _ _ _ _ _)
  · exact jl_dRun2_ge P β col l a M (bit, ri, rc, rb)
theorem jl_D_ge (P : jP) (β : Nat → Bool) (c : jC) : c.2.2.1 ≤ (jl_D P β c).2.2.1 := by
  unfold jl_D
  dsimp only
  split
  · exact jl_dReg_ge _ _ _ _ _ _ _ _
  · exact jl_dRun_ge _ _ _ _ _ _ _ _ _ _
theorem jl_up_le {r : Nat} (h : r ≤ 31) : jl_up r ≤ 31 := by
  unfold jl_up
  split <;> omega
theorem jl_rd_ri {w col : Nat} {β : Nat → Bool} {bit ri : Nat} (h : ri ≤ 31) : (jl_rd w col β bit ri).2.1 ≤ 31 := by
  unfold jl_rd
  split
  · exact h
  · split
    · exact h
    · exact jl_up_le h
theorem jl_rd_rc {w col : Nat} {β : Nat → Bool} {bit ri : Nat} (hw : w ≤ 16) (h : ri ≤ 31) : (jl_rd w col β bit ri).2.2.1 ≤ 32768 := by
  have hro := jl_ro_le h
  have hp2 : 2 ^ jl_ro ri ≤ 2 ^ 15 := Nat.pow_le_pow_right (by decide) hro
  unfold jl_rd
  split
  · have := jl_gbs_lt β (jl_ro ri) (bit + 1) 0
    dsimp only
    omega
  · split
    · dsimp only; omega
    · dsimp only; omega
/-- what a coder's state keeps -/
def jl_ok (c : jC) : Prop := c.2.2.2.1 ≤ 31 ∧ c.2.2.2.2.1 ≤ 32768
theorem jl_dRun2_ok {P : jP} {β : Nat → Bool} {col : Nat} {l a : Int32} {M : jM} {z : Nat × Nat × Nat × Bool} (h1 : z.2.1 ≤ 31) (h2 : z.2.2.1 ≤ 32768) : (jl_dRun2 P β col l a M z).2.2.1 ≤ 31 ∧ (jl_dRun2 P β col l a M z).2.2.2.1 ≤ 32768 := by
  unfold jl_dRun2
  split
  · exact ⟨by dsimp only; omega, by dsimp only; omega⟩
  · split
    · exact ⟨h1, by dsimp only; omega⟩
    · exact ⟨h1, by dsimp only; omega⟩
theorem jl_dRun_ok {P : jP} {β : Nat → Bool} {col : Nat} {l a : Int32} {M : jM} {bit ri rc : Nat} {rb : Bool} (hw : P.1 ≤ 16) (h1 : ri ≤ 31) (h2 : rc ≤ 32768) : (jl_dRun P β col l a M bit ri rc rb).2.2.1 ≤ 31 ∧ (jl_dRun P β col l a M bit ri rc rb).2.2.2.1 ≤ 32768 := by
  unfold jl_dRun
  split
  · exact jl_dRun2_ok (jl_rd_ri h1) (jl_rd_rc hw h1)
  · exact jl_dRun2_ok h1 h2
theorem jl_D_ok {P : jP} {β : Nat → Bool} {c : jC} (hw : P.1 ≤ 16) (h : jl_ok c) : jl_ok (jl_D P β c) := by
  unfold jl_D
  dsimp only
  split
  · exact h
  · refine jl_dRun_ok hw h.1 ?_
    split
    · omega
    · exact h.2
theorem jl_D_pos (P : jP) (β : Nat → Bool) (c : jC) : (jl_D P β c).1 = c.1 + 1 := by
  unfold jl_D
  dsimp only
  split <;> rfl
section
variable {f_writer f_reader f_scratch f_writerStream f_streamWords f_streamBits f_cellStride f_contextStride f_interruptionContext f_codeLimit f_resetCount f_greatestOrder f_width f_height f_cells f_max f_writerOpen f_writerSlot f_readerOpen f_readerSlot f_column f_left f_above f_aboveLeft f_aboveRight f_context f_sign : Int32} {a_picture a_words a_recordLength a_recordBound a_recordBits a_levels a_position a_bound a_range a_levelBits a_threshold1 a_threshold2 a_threshold3 a_stream a_bitAt a_runIndex a_runCount a_inRun a_runBroken a_magnitude a_biasSum a_correction a_occurrences : Nat → Int32} {w nc b pos bit ri rc k s N : Nat} {lev mg bs co oc : Nat → Int32} {ir rb : Bool} {P : jP}
theorem xw_dRun {post : Int32 → SX → Prop} {p0 : Int32} {col : Nat} (hp : p0 = nI b) (H : jl_HS b s N a_stream a_recordBits) (HP : jl_HP b P a_range a_levelBits a_threshold1 a_threshold2 a_threshold3) (hPw : P.1 = w) (hw2 : w ≤ 16) (hcol : col < w) (hri : ri ≤ 31) (hrc : rc ≤ 32768) (hN : (jl_dRun P (jl_bs a_words s) col f_left f_above (mg, bs, co, oc) bit ri rc rb).2.1 ≤ N) (h : post (jl_dRun P (jl_bs a_words s) col f_left f_above (mg, bs, co, oc) bit ri rc rb).1 (f_writer, f_reader, f_scratch, f_writerStream, f_streamWords, f_streamBits, f_cellStride, f_contextStride, f_interruptionContext, f_codeLimit, f_resetCount, f_greatestOrder, (nI w), f_height, (nI nc), f_max, f_writerOpen, f_writerSlot, f_readerOpen, f_readerSlot, (nI col), f_left, f_above, f_aboveLeft, f_aboveRight, f_context, f_sign, a_picture, a_words, a_recordLength, a_recordBound, a_recordBits, (jl_ov a_levels 128 b pos lev), (upd a_position b (nI pos)), a_bound, a_range, a_levelBits, a_threshold1, a_threshold2, a_threshold3, a_stream, (upd a_bitAt b (nI ((jl_dRun P (jl_bs a_words s) col f_left f_above (mg, bs, co, oc) bit ri rc rb).2.1))), (upd a_runIndex b (nI ((jl_dRun P (jl_bs a_words s) col f_left f_above (mg, bs, co, oc) bit ri rc rb).2.2.1))), (upd a_runCount b (nI ((jl_dRun P (jl_bs a_words s) col f_left f_above (mg, bs, co, oc) bit ri rc rb).2.2.2.1))), (upd a_inRun b (jl_bI ((jl_dRun P (jl_bs a_words s) col f_left f_above (mg, bs, co, oc) bit ri rc rb).2.2.2.2.1))), (upd a_runBroken b (jl_bI ((jl_dRun P (jl_bs a_words s) col f_left f_above (mg, bs, co, oc) bit ri rc rb).2.2.2.2.2.1))), (jl_ov a_magnitude 367 b 367 ((jl_dRun P (jl_bs a_words s) col f_left f_above (mg, bs, co, oc) bit ri rc rb).2.2.2.2.2.2.1)), (jl_ov a_biasSum 367 b 367 ((jl_dRun P (jl_bs a_words s) col f_left f_above (mg, bs, co, oc) bit ri rc rb).2.2.2.2.2.2.2.1)), (jl_ov a_correction 367 b 367 ((jl_dRun P (jl_bs a_words s) col f_left f_above (mg, bs, co, oc) bit ri rc rb).2.2.2.2.2.2.2.2.1)), (jl_ov a_occurrences 367 b 367 ((jl_dRun P (jl_bs a_words s) col f_left f_above (mg, bs, co, oc) bit ri rc rb).2.2.2.2.2.2.2.2.2)))) : wpX_decodeInRun post (f_writer, f_reader, f_scratch, f_writerStream, f_streamWords, f_streamBits, f_cellStride, f_contextStride, f_interruptionContext, f_codeLimit, f_resetCount, f_greatestOrder, (nI w), f_height, (nI nc), f_max, f_writerOpen, f_writerSlot, f_readerOpen, f_readerSlot, (nI col), f_left, f_above, f_aboveLeft, f_aboveRight, f_context, f_sign, a_picture, a_words, a_recordLength, a_recordBound, a_recordBits, (jl_ov a_levels 128 b pos lev), (upd a_position b (nI pos)), a_bound, a_range, a_levelBits, a_threshold1, a_threshold2, a_threshold3, a_stream, (upd a_bitAt b (nI bit)), (upd a_runIndex b (nI ri)), (upd a_runCount b (nI rc)), (upd a_inRun b (jl_bI true)), (upd a_runBroken b (jl_bI rb)), (jl_ov a_magnitude 367 b 367 mg), (jl_ov a_biasSum 367 b 367 bs), (jl_ov a_correction 367 b 367 co), (jl_ov a_occurrences 367 b 367 oc)) p0 := by
  have hb := H.1
  have hc : p0.toNatClampNeg = b := by rw [hp]; exact jl_cl hb
  have hv : vp_in p0 3 := by rw [hp]; exact jl_vi hb
  refine ⟨hv, pk_eq rc 0 (fun z => ⟨hv, jl_bbe (jl_ur hc) (fun g => ?_) (fun g => ?_)⟩) (fun z => ?_) (jl_ur hc) rfl⟩
  · subst g
    have e : (jl_dRun P (jl_bs a_words s) col f_left f_above (mg, bs, co, oc) bit ri rc false) = jl_dRun2 P (jl_bs a_words s) col f_left f_above (mg, bs, co, oc) (jl_rd P.1 col (jl_bs a_words s) bit ri) := by unfold jl_dRun; rw [if_pos ⟨z, rfl⟩]
    rw [e, hPw] at h hN
    refine xw_readRun hp H hw2 hcol hri (Nat.le_trans (jl_dRun2_ge _ _ _ _ _ _ _) hN) ?_
    have r1 := jl_rd_ri (w := w) (col := col) (β := jl_bs a_words s) (bit := bit) hri
    have r2 := jl_rd_rc (w := w) (col := col) (β := jl_bs a_words s) (bit := bit) hw2 hri
    generalize jl_rd w col (jl_bs a_words s) bit ri = zz at h hN r1 r2 ⊢
    obtain ⟨z1, z2, z3, z4⟩ := zz
    exact xw_dRun2 hp H HP hPw hw2 hcol r1 (Nat.lt_of_le_of_lt r2 (by decide)) hN h
  · have e : (jl_dRun P (jl_bs a_words s) col f_left f_above (mg, bs, co, oc) bit ri rc rb) = jl_dRun2 P (jl_bs a_words s) col f_left f_above (mg, bs, co, oc) (bit, ri, rc, rb) := by unfold jl_dRun; rw [if_neg (fun y => by rw [g] at y; exact absurd y.2 (by decide))]
    rw [e] at h hN
    exact xw_dRun2 hp H HP hPw hw2 hcol hri (by omega) hN h
  · have e : (jl_dRun P (jl_bs a_words s) col f_left f_above (mg, bs, co, oc) bit ri rc rb) = jl_dRun2 P (jl_bs a_words s) col f_left f_above (mg, bs, co, oc) (bit, ri, rc, rb) := by unfold jl_dRun; rw [if_neg (fun y => z y.1)]
    rw [e] at h hN
    exact xw_dRun2 hp H HP hPw hw2 hcol hri (by omega) hN h
theorem xw_decodeNext {post : SX → Prop} {p0 : Int32} (hp : p0 = nI b) (H : jl_HS b s N a_stream a_recordBits) (HP : jl_HP b P a_range a_levelBits a_threshold1 a_threshold2 a_threshold3) (hPw : P.1 = w) (hw : 0 < w) (hw2 : w ≤ 16) (hpos : pos < nc) (hnc : nc ≤ 128) (hri : ri ≤ 31) (hrc : rc ≤ 32768) (hN : (jl_D P (jl_bs a_words s) (pos, lev, bit, ri, rc, ir, rb, mg, bs, co, oc)).2.2.1 ≤ N) (h : ∀ cl l a al ar cx sg : Int32, post (f_writer, f_reader, f_scratch, f_writerStream, f_streamWords, f_streamBits, f_cellStride, f_contextStride, f_interruptionContext, f_codeLimit, f_resetCount, f_greatestOrder, (nI w), f_height, (nI nc), f_max, f_writerOpen, f_writerSlot, f_readerOpen, f_readerSlot, cl, l, a, al, ar, cx, sg, a_picture, a_words, a_recordLength, a_recordBound, a_recordBits, (jl_ov a_levels 128 b ((jl_D P (jl_bs a_words s) (pos, lev, bit, ri, rc, ir, rb, mg, bs, co, oc)).1) ((jl_D P (jl_bs a_words s) (pos, lev, bit, ri, rc, ir, rb, mg, bs, co, oc)).2.1)), (upd a_position b (nI ((jl_D P (jl_bs a_words s) (pos, lev, bit, ri, rc, ir, rb, mg, bs, co, oc)).1))), a_bound, a_range, a_levelBits, a_threshold1, a_threshold2, a_threshold3, a_stream, (upd a_bitAt b (nI ((jl_D P (jl_bs a_words s) (pos, lev, bit, ri, rc, ir, rb, mg, bs, co, oc)).2.2.1))), (upd a_runIndex b (nI ((jl_D P (jl_bs a_words s) (pos, lev, bit, ri, rc, ir, rb, mg, bs, co, oc)).2.2.2.1))), (upd a_runCount b (nI ((jl_D P (jl_bs a_words s) (pos, lev, bit, ri, rc, ir, rb, mg, bs, co, oc)).2.2.2.2.1))), (upd a_inRun b (jl_bI ((jl_D P (jl_bs a_words s) (pos, lev, bit, ri, rc, ir, rb, mg, bs, co, oc)).2.2.2.2.2.1))), (upd a_runBroken b (jl_bI ((jl_D P (jl_bs a_words s) (pos, lev, bit, ri, rc, ir, rb, mg, bs, co, oc)).2.2.2.2.2.2.1))), (jl_ov a_magnitude 367 b 367 ((jl_D P (jl_bs a_words s) (pos, lev, bit, ri, rc, ir, rb, mg, bs, co, oc)).2.2.2.2.2.2.2.1)), (jl_ov a_biasSum 367 b 367 ((jl_D P (jl_bs a_words s) (pos, lev, bit, ri, rc, ir, rb, mg, bs, co, oc)).2.2.2.2.2.2.2.2.1)), (jl_ov a_correction 367 b 367 ((jl_D P (jl_bs a_words s) (pos, lev, bit, ri, rc, ir, rb, mg, bs, co, oc)).2.2.2.2.2.2.2.2.2.1)), (jl_ov a_occurrences 367 b 367 ((jl_D P (jl_bs a_words s) (pos, lev, bit, ri, rc, ir, rb, mg, bs, co, oc)).2.2.2.2.2.2.2.2.2.2)))) : wpX_decodeNext post (f_writer, f_reader, f_scratch, f_writerStream, f_streamWords, f_streamBits, f_cellStride, f_contextStride, f_interruptionContext, f_codeLimit, f_resetCount, f_greatestOrder, (nI w), f_height, (nI nc), f_max, f_writerOpen, f_writerSlot, f_readerOpen, f_readerSlot, f_column, f_left, f_above, f_aboveLeft, f_aboveRight, f_context, f_sign, a_picture, a_words, a_recordLength, a_recordBound, a_recordBits, (jl_ov a_levels 128 b pos lev), (upd a_position b (nI pos)), a_bound, a_range, a_levelBits, a_threshold1, a_threshold2, a_threshold3, a_stream, (upd a_bitAt b (nI bit)), (upd a_runIndex b (nI ri)), (upd a_runCount b (nI rc)), (upd a_inRun b (jl_bI ir)), (upd a_runBroken b (jl_bI rb)), (jl_ov a_magnitude 367 b 367 mg), (jl_ov a_biasSum 367 b 367 bs), (jl_ov a_correction 367 b 367 co), (jl_ov a_occurrences 367 b 367 oc)) p0 := by
  have hb := H.1
  have hc : p0.toNatClampNeg = b := by rw [hp]; exact jl_cl hb
  have hv : vp_in p0 3 := by rw [hp]; exact jl_vi hb
  have hcol : pos % w < w := Nat.mod_lt _ hw
  refine ⟨hv, br_t (by rw [jl_ur hc]; exact nI_lt hpos (by omega)) (xw_look hp hb hw hw2 (by omega) (xw_start hp hb (fun g1 g2 => ?_) (fun g1 g2 => ?_) (fun g1 => ?_)))⟩
  · subst g1
    refine ⟨hv, jl_bbe (jl_ur hc) (fun y => absurd y (by decide)) (fun _ => ?_)⟩
    have e : (jl_D P (jl_bs a_words s) (pos, lev, bit, ri, rc, false, rb, mg, bs, co, oc)) = (pos + 1, upd lev pos (jl_dRun P (jl_bs a_words s) (pos % P.1) (jl_left P.1 pos lev) (jl_above P.1 pos lev) (mg, bs, co, oc) bit ri 0 false).1, (jl_dRun P (jl_bs a_words s) (pos % P.1) (jl_left P.1 pos lev) (jl_above P.1 pos lev) (mg, bs, co, oc) bit ri 0 false).2) := by
      unfold jl_D
      dsimp only
      rw [hPw, if_neg (fun y => by rw [g2] at y; exact absurd y.2 (by decide)), if_pos ⟨rfl, g2⟩, if_pos ⟨rfl, g2⟩]
    rw [hPw] at e
    rw [e] at h hN
    exact xw_dRun hp H HP hPw hw2 hcol hri (by omega) hN (xw_append hp hb (by omega) (h _ _ _ _ _ _ _))
  · subst g1
    refine ⟨hv, jl_bbe (jl_ur hc) (fun _ => ?_) (fun y => absurd y (by decide))⟩
    have e : (jl_D P (jl_bs a_words s) (pos, lev, bit, ri, rc, false, rb, mg, bs, co, oc)) = (pos + 1, upd lev pos (jl_dReg P (jl_bs a_words s) (jl_left P.1 pos lev) (jl_above P.1 pos lev) (jl_al P.1 pos lev) (jl_ar P.1 pos lev) (mg, bs, co, oc) bit).1, (jl_dReg P (jl_bs a_words s) (jl_left P.1 pos lev) (jl_above P.1 pos lev) (jl_al P.1 pos lev) (jl_ar P.1 pos lev) (mg, bs, co, oc) bit).2.2, ri, rc, false, rb, (jl_dReg P (jl_bs a_words s) (jl_left P.1 pos lev) (jl_above P.1 pos lev) (jl_al P.1 pos lev) (jl_ar P.1 pos lev) (mg, bs, co, oc) bit).2.1) := by
      unfold jl_D
      dsimp only
      rw [hPw, if_pos ⟨rfl, g2⟩]
    rw [hPw] at e
    rw [e] at h hN
    exact xw_dReg hp H HP hN (fun cx sg => xw_append hp hb (by omega) (h _ _ _ _ _ cx sg))
  · subst g1
    refine ⟨hv, jl_bbe (jl_ur hc) (fun y => absurd y (by decide)) (fun _ => ?_)⟩
    have e : (jl_D P (jl_bs a_words s) (pos, lev, bit, ri, rc, true, rb, mg, bs, co, oc)) = (pos + 1, upd lev pos (jl_dRun P (jl_bs a_words s) (pos % P.1) (jl_left P.1 pos lev) (jl_above P.1 pos lev) (mg, bs, co, oc) bit ri rc rb).1, (jl_dRun P (jl_bs a_words s) (pos % P.1) (jl_left P.1 pos lev) (jl_above P.1 pos lev) (mg, bs, co, oc) bit ri rc rb).2) := by
      unfold jl_D
      dsimp only
      rw [if_neg (fun y => absurd y.1 (by decide)), if_neg (fun y => absurd y.1 (by decide)), if_neg (fun y => absurd y.1 (by decide))]
    rw [hPw] at e
    rw [e] at h hN
    exact xw_dRun hp H HP hPw hw2 hcol hri hrc hN (xw_append hp hb (by omega) (h _ _ _ _ _ _ _))
end
end
section
/-! ===== the code of a number read back; errors mapped and mapped back ===== -/
theorem jl_rdL_app {β : Nat → Bool} {ys : List Bool} : ∀ (xs : List Bool) (p : Nat), jl_rdL β (xs ++ ys) p ↔ jl_rdL β xs p ∧ jl_rdL β ys (p + xs.length) := by
  intro xs
  induction xs with
  | nil => intro p; exact ⟨fun h => ⟨True.intro, h⟩, fun h => h.2⟩
  | cons x xs ih =>
    intro p
    have e : p + (x :: xs).length = p + 1 + xs.length := by rw [List.length_cons]; omega
    rw [e]
    exact ⟨fun h => ⟨⟨h.1, ((ih (p + 1)).mp h.2).1⟩, ((ih (p + 1)).mp h.2).2⟩, fun h => ⟨h.1.1, (ih (p + 1)).mpr ⟨h.1.2, h.2⟩⟩⟩
theorem jl_msb_len (v : Nat) : ∀ n : Nat, (jl_msb v n).length = n := by
  intro n
  induction n with
  | zero => rfl
  | succ n ih => rw [jl_msb, List.length_cons, ih]
theorem jl_mod_s (v n : Nat) : v % 2 ^ (n + 1) = (v.testBit n).toNat * 2 ^ n + v % 2 ^ n := by
  rw [Nat.toNat_testBit, Nat.mod_pow_succ, Nat.mul_comm]
  omega
theorem jl_gbs_msb {β : Nat → Bool} {v : Nat} : ∀ (n p u : Nat), jl_rdL β (jl_msb v n) p → jl_gbs β n p u = u * 2 ^ n + v % 2 ^ n := by
  intro n
  induction n with
  | zero =>
    intro p u h
    rw [jl_gbs]
    omega
  | succ n ih =>
    intro p u h
    rw [jl_msb] at h
    rw [jl_gbs, ih (p + 1) _ h.2, h.1, jl_mod_s, Nat.pow_succ, Nat.add_mul, Nat.mul_comm 2 u, Nat.mul_assoc, Nat.mul_comm 2 (2 ^ n)]
    omega
theorem jl_gz_lt {β : Nat → Bool} {ys : List Bool} : ∀ (h e p : Nat), h < e → jl_rdL β (List.replicate h false ++ (true :: ys)) p → jl_gz β e p = h := by
  intro h
  induction h with
  | zero =>
    intro e p he r
    obtain ⟨d, rfl⟩ : ∃ d, e = d + 1 := ⟨e - 1, by omega⟩
    have r1 : β p = true := r.1
    rw [jl_gz, if_pos r1]
  | succ h ih =>
    intro e p he r
    obtain ⟨d, rfl⟩ : ∃ d, e = d + 1 := ⟨e - 1, by omega⟩
    rw [List.replicate_succ] at r
    have r1 : β p = false := r.1
    rw [jl_gz, if_neg (by rw [r1]; decide), ih d (p + 1) (by omega) r.2]
theorem jl_gz_eq {β : Nat → Bool} {ys : List Bool} : ∀ (e p : Nat), jl_rdL β (List.replicate e false ++ ys) p → jl_gz β e p = e := by
  intro e
  induction e with
  | zero => intro p r; rfl
  | succ e ih =>
    intro p r
    rw [List.replicate_succ] at r
    have r1 : β p = false := r.1
    rw [jl_gz, if_neg (by rw [r1]; decide), ih (p + 1) r.2]
theorem jl_gol_law {β : Nat → Bool} {m k L lb p : Nat} (hm : m ≤ 2 ^ lb) (hL : lb + 2 ≤ L) (r : jl_rdL β (jl_gc m k L lb) p) : jl_gol β p k L lb = (m, p + (jl_gc m k L lb).length) := by
  unfold jl_gc at r ⊢
  by_cases h : m / 2 ^ k < L - lb - 1
  · rw [if_pos h, if_pos h] at r ⊢
    have z := jl_gz_lt _ (L - lb - 1) p h r
    have r2 := ((jl_rdL_app _ _).mp r).2
    rw [List.length_replicate] at r2
    have g := jl_gbs_msb k _ 0 r2.2
    unfold jl_gol
    rw [z, if_pos h, g, List.length_append, List.length_replicate, List.length_cons, jl_msb_len]
    have e := Nat.div_add_mod' m (2 ^ k)
    have e1 : m / 2 ^ k * 2 ^ k + (0 * 2 ^ k + m % 2 ^ k) = m := by omega
    have e2 : p + m / 2 ^ k + 1 + k = p + (m / 2 ^ k + (k + 1)) := by omega
    rw [e1, e2]
  · rw [if_neg h, if_neg h] at r ⊢
    have z := jl_gz_eq (L - lb - 1) p r
    have r2 := ((jl_rdL_app _ _).mp r).2
    rw [List.length_replicate] at r2
    have g := jl_gbs_msb lb _ 0 r2.2
    unfold jl_gol
    have m1 : 1 ≤ m := by
      rcases Nat.eq_zero_or_pos m with e | e
      · rw [e, Nat.zero_div] at h
        omega
      · exact e
    rw [z, if_neg (by omega), g, List.length_append, List.length_replicate, List.length_cons, jl_msb_len, Nat.mod_eq_of_lt (by omega)]
    have e1 : 0 * 2 ^ lb + (m - 1) + 1 = m := by omega
    have e2 : p + (L - lb - 1) + 1 + lb = p + (L - lb - 1 + (lb + 1)) := by omega
    rw [e1, e2]
theorem jl_gc_len {m k L lb : Nat} (hm : m ≤ 2 ^ lb) (hl : lb ≤ 8) (hk : k ≤ 9) (hL : 16 ≤ L) : (jl_gc m k L lb).length ≤ L := by
  unfold jl_gc
  by_cases h : m / 2 ^ k < L - lb - 1
  · rw [if_pos h, if_pos h, List.length_append, List.length_replicate, List.length_cons, jl_msb_len]
    rcases Nat.lt_or_ge lb k with g | g
    · have h1 : 2 ^ lb < 2 ^ k := Nat.pow_lt_pow_right (by decide) g
      have h2 : m / 2 ^ k = 0 := Nat.div_eq_of_lt (by omega)
      omega
    · omega
  · rw [if_neg h, if_neg h, List.length_append, List.length_replicate, List.length_cons, jl_msb_len]
    omega
/-! tables: an error from -128 to 128 is nI j - 128 -/
theorem jl_map_tab : ∀ j, j < 257 → ∀ t : Bool, jl_unmap t (jl_map t (nI j - 128)) = nI j - 128 ∧ 0 ≤ (jl_map t (nI j - 128)).toInt ∧ (jl_map t (nI j - 128)).toInt ≤ (if j < 128 then 2 * (128 - (j : Int)) else 2 * ((j : Int) - 128) + 1) := by decide +kernel
theorem jl_imap_tab0 : ∀ j, j < 257 → ∀ t : Bool, jl_iun 0 (jl_imap 0 (nI j - 128) t) t = nI j - 128 ∧ 0 ≤ (jl_imap 0 (nI j - 128) t).toInt ∧ (jl_imap 0 (nI j - 128) t).toInt ≤ (if j < 128 then 2 * (128 - (j : Int)) else 2 * ((j : Int) - 128)) := by decide +kernel
theorem jl_imap_tab1 : ∀ j, j < 257 → j ≠ 128 → ∀ t : Bool, jl_iun 1 (jl_imap 1 (nI j - 128) t) t = nI j - 128 ∧ 0 ≤ (jl_imap 1 (nI j - 128) t).toInt ∧ (jl_imap 1 (nI j - 128) t).toInt ≤ (if j < 128 then 2 * (128 - (j : Int)) else 2 * ((j : Int) - 128)) := by decide +kernel
theorem jl_err {e : Int32} (h1 : -128 ≤ e.toInt) (h2 : e.toInt ≤ 128) : ∃ j : Nat, j < 257 ∧ (j : Int) = e.toInt + 128 ∧ e = nI j - 128 := by
  refine ⟨(e.toInt + 128).toNat, by omega, by omega, ?_⟩
  apply Int32.toInt_inj.mp
  have a : (nI (e.toInt + 128).toNat).toInt = e.toInt + 128 := by rw [nI_toInt (by omega)]; omega
  have c : (128 : Int32).toInt = 128 := by decide
  rw [jl_isub a c (by omega) (by omega)]
  omega
theorem jl_map_law {e : Int32} {R : Nat} (t : Bool) (hR : R ≤ 256) (h1 : -(R : Int) ≤ 2 * e.toInt) (h2 : 2 * e.toInt + 1 ≤ R) : jl_unmap t (jl_map t e) = e ∧ 0 ≤ (jl_map t e).toInt ∧ (jl_map t e).toInt ≤ R := by
  obtain ⟨j, hj, ej, rfl⟩ := jl_err (e := e) (by omega) (by omega)
  have g := jl_map_tab j hj t
  refine ⟨g.1, g.2.1, ?_⟩
  have g3 := g.2.2
  generalize (jl_map t (nI j - 128)).toInt = M at g3 ⊢
  split at g3 <;> omega
theorem jl_imap_law {l a e : Int32} {R : Nat} (t : Bool) (hR : R ≤ 256) (h1 : -(R : Int) ≤ 2 * e.toInt) (h2 : 2 * e.toInt + 1 ≤ R) (hz : l = a → e.toInt ≠ 0) : jl_iun (jl_ty l a) (jl_imap (jl_ty l a) e t) t = e ∧ 0 ≤ (jl_imap (jl_ty l a) e t).toInt ∧ (jl_imap (jl_ty l a) e t).toInt ≤ R := by
  obtain ⟨j, hj, ej, rfl⟩ := jl_err (e := e) (by omega) (by omega)
  unfold jl_ty
  by_cases z : l = a
  · rw [if_pos z]
    have g := jl_imap_tab1 j hj (by have := hz z; omega) t
    refine ⟨g.1, g.2.1, ?_⟩
    have g3 := g.2.2
    generalize (jl_imap 1 (nI j - 128) t).toInt = M at g3 ⊢
    split at g3 <;> omega
  · rw [if_neg z]
    have g := jl_imap_tab0 j hj t
    refine ⟨g.1, g.2.1, ?_⟩
    have g3 := g.2.2
    generalize (jl_imap 0 (nI j - 128) t).toInt = M at g3 ⊢
    split at g3 <;> omega
/-! reduce and wrap -/
def jl_in (R : Nat) (x : Int32) : Prop := 0 ≤ x.toInt ∧ x.toInt < R
theorem jl_half {R : Nat} (hR : R ≤ 256) : ((nI R + 1) >>> ((1 : Int32) &&& 31)).toInt = ((R : Int) + 1) / 2 := by
  rw [nI_1, pk_shrN (by omega) _ 1 (by decide), nI_toInt (by omega)]
  omega
theorem jl_red_law {R : Nat} {x : Int32} (hR : R ≤ 256) (h2 : 2 ≤ R) (h1 : -(R : Int) < x.toInt) (h3 : x.toInt < R) : -(R : Int) ≤ 2 * (jl_red (nI R) x).toInt ∧ 2 * (jl_red (nI R) x).toInt + 1 ≤ R ∧ ((jl_red (nI R) x).toInt = x.toInt ∨ (jl_red (nI R) x).toInt = x.toInt + R ∨ (jl_red (nI R) x).toInt = x.toInt - R) := by
  have eR : (nI R).toInt = R := nI_toInt (by omega)
  have hh := jl_half hR
  unfold jl_red
  have key : ∀ y : Int32, 0 ≤ y.toInt → y.toInt < R → -(R : Int) ≤ 2 * (jl_red1 (nI R) y).toInt ∧ 2 * (jl_red1 (nI R) y).toInt + 1 ≤ R ∧ ((jl_red1 (nI R) y).toInt = y.toInt ∨ (jl_red1 (nI R) y).toInt = y.toInt - R) := by
    intro y hy0 hy1
    unfold jl_red1
    split
    · rename_i z
      rw [jl_ilt, hh] at z
      omega
    · rename_i z
      rw [jl_ilt, hh] at z
      rw [jl_isub rfl eR (by omega) (by omega)]
      omega
  split
  · rename_i z
    rw [jl_ile, jl_i0] at z
    have := key x z h3
    omega
  · rename_i z
    rw [jl_ile, jl_i0] at z
    have e := jl_iadd (x := x) rfl eR (by omega) (by omega)
    have := key (x + nI R) (by omega) (by omega)
    omega
theorem jl_wrap_law {R : Nat} {x t : Int32} (hR : R ≤ 256) (h1 : -(R : Int) ≤ x.toInt) (h2 : x.toInt < 2 * R) (ht : jl_in R t) (h : x.toInt = t.toInt ∨ x.toInt = t.toInt + R ∨ x.toInt = t.toInt - R) : jl_wrap (nI R) x = t := by
  have eR : (nI R).toInt = R := nI_toInt (by omega)
  apply Int32.toInt_inj.mp
  obtain ⟨t0, t1⟩ := ht
  unfold jl_wrap
  split
  · rename_i z
    rw [jl_ile, jl_i0] at z
    split
    · rename_i y
      rw [jl_ilt, eR] at y
      omega
    · rename_i y
      rw [jl_ilt, eR] at y
      rw [jl_isub rfl eR (by omega) (by omega)]
      omega
  · rename_i z
    rw [jl_ile, jl_i0] at z
    rw [jl_iadd rfl eR (by omega) (by omega)]
    omega
/-- an error by way of a sign: the level comes back -/
theorem jl_turn_law {R : Nat} {x g s : Int32} (hR : R ≤ 256) (h2 : 2 ≤ R) (hx : jl_in R x) (hg : jl_in R g) (hs : s = 1 ∨ s = -1) : (-(R : Int) ≤ 2 * (jl_red (nI R) ((x - g) * s)).toInt ∧ 2 * (jl_red (nI R) ((x - g) * s)).toInt + 1 ≤ R ∧ (x ≠ g → (jl_red (nI R) ((x - g) * s)).toInt ≠ 0)) ∧ jl_wrap (nI R) (g + (s * jl_red (nI R) ((x - g) * s))) = x := by
  obtain ⟨x0, x1⟩ := hx
  obtain ⟨g0, g1⟩ := hg
  have d := jl_isub (x := x) (y := g) rfl rfl (by omega) (by omega)
  have hne : x ≠ g → x.toInt ≠ g.toInt := fun z y => z (Int32.toInt_inj.mp y)
  rcases hs with rfl | rfl
  · have m := jl_imul d jl_i1 (by omega) (by omega)
    have r := jl_red_law (R := R) (x := (x - g) * 1) hR h2 (by omega) (by omega)
    generalize jl_red (nI R) ((x - g) * 1) = e at r ⊢
    have m2 := jl_imul jl_i1 (y := e) rfl (by omega) (by omega)
    have a := jl_iadd (x := g) rfl m2 (by omega) (by omega)
    refine ⟨⟨r.1, r.2.1, fun z => ?_⟩, jl_wrap_law hR (by omega) (by omega) ⟨x0, x1⟩ (by omega)⟩
    have := hne z
    omega
  · have m := jl_imul d jl_im1 (by omega) (by omega)
    have r := jl_red_law (R := R) (x := (x - g) * (-1)) hR h2 (by omega) (by omega)
    generalize jl_red (nI R) ((x - g) * (-1)) = e at r ⊢
    have m2 := jl_imul jl_im1 (y := e) rfl (by omega) (by omega)
    have a := jl_iadd (x := g) rfl m2 (by omega) (by omega)
    refine ⟨⟨r.1, r.2.1, fun z => ?_⟩, jl_wrap_law hR (by omega) (by omega) ⟨x0, x1⟩ (by omega)⟩
    have := hne z
    omega
theorem jl_guess_in {R : Nat} (l a al sg co : Int32) (hR : R ≤ 256) (h2 : 2 ≤ R) : jl_in R (jl_guess (nI R) l a al sg co) := by
  have eR : (nI R).toInt = R := nI_toInt (by omega)
  have e1 := jl_isub eR jl_i1 (by omega) (by omega)
  unfold jl_guess jl_clamp jl_in
  generalize jl_g0 l a al + sg * co = v
  split
  · rename_i z
    rw [jl_ile, jl_i0] at z
    split
    · rename_i y
      rw [jl_ile, e1] at y
      omega
    · omega
  · rw [jl_i0]
    omega
theorem jl_sgn_pm (f : Int32) : jl_sgn f = 1 ∨ jl_sgn f = -1 := by
  unfold jl_sgn
  split
  · exact Or.inl rfl
  · exact Or.inr rfl
theorem jl_turn_pm (l a : Int32) : jl_turn l a = 1 ∨ jl_turn l a = -1 := by
  unfold jl_turn
  split
  · exact Or.inl rfl
  · exact Or.inr rfl
/-- what the laws ask of the parameters -/
def jl_PR (P : jP) (R : Nat) : Prop := 0 < P.1 ∧ P.1 ≤ 16 ∧ P.2.1 = nI R ∧ 2 ≤ R ∧ R ≤ 256 ∧ P.2.2.1 ≤ 8 ∧ R ≤ 2 ^ P.2.2.1
theorem jl_reg_law {P : jP} {R : Nat} {l a al ar x : Int32} {M : jM} (hP : jl_PR P R) (hx : jl_in R x) : (jl_eReg P l a al ar M x).2.length ≤ 32 ∧ ∀ (β : Nat → Bool) (bit : Nat), jl_rdL β (jl_eReg P l a al ar M x).2 bit → jl_dReg P β l a al ar M bit = (x, (jl_eReg P l a al ar M x).1, bit + (jl_eReg P l a al ar M x).2.length) := by
  obtain ⟨_, _, er, h2, hR, hl, hlb⟩ := hP
  unfold jl_eReg jl_dReg
  dsimp only
  rw [er]
  generalize jl_fold P.2.2.2.1 P.2.2.2.2.1 P.2.2.2.2.2 l a al ar = f
  generalize jl_q f = q
  have hg := jl_guess_in l a al (jl_sgn f) (M.2.2.1 q) hR h2
  generalize jl_guess (nI R) l a al (jl_sgn f) (M.2.2.1 q) = g at hg ⊢
  have t := jl_turn_law hR h2 hx hg (jl_sgn_pm f)
  generalize jl_red (nI R) ((x - g) * jl_sgn f) = e at t ⊢
  have hk := jl_ord_le (M.2.2.2 q) (M.1 q)
  generalize jl_ord (M.2.2.2 q) (M.1 q) = k at hk ⊢
  generalize jl_turned k (M.2.1 q) (M.2.2.2 q) = tn
  have ml := jl_map_law (R := R) tn hR t.1.1 t.1.2.1
  have mn := jl_inn ml.2.1
  have mm : (jl_map tn e).toNatClampNeg ≤ 2 ^ P.2.2.1 := by
    have := mn.2
    have := ml.2.2
    omega
  refine ⟨jl_gc_len mm hl hk (by omega), fun β bit r => ?_⟩
  rw [jl_gol_law mm (by omega) r]
  dsimp only
  rw [← mn.1, ml.1, t.2]
theorem jl_int_law {P : jP} {R L : Nat} {l a x : Int32} {M : jM} (hP : jl_PR P R) (hL : 16 ≤ L) (hx : jl_in R x) (ha : jl_in R a) (hn : x ≠ l) : (jl_eInt P L l a M x).2.length ≤ L ∧ ∀ (β : Nat → Bool) (bit : Nat), jl_rdL β (jl_eInt P L l a M x).2 bit → jl_dInt P β L l a M bit = (x, (jl_eInt P L l a M x).1, bit + (jl_eInt P L l a M x).2.length) := by
  obtain ⟨_, _, er, h2, hR, hl, hlb⟩ := hP
  unfold jl_eInt jl_dInt
  dsimp only
  rw [er]
  generalize jl_ti l a = q
  have t := jl_turn_law hR h2 hx ha (jl_turn_pm l a)
  generalize jl_red (nI R) ((x - a) * jl_turn l a) = e at t ⊢
  have hk : jl_io l a (M.1 q) (M.2.2.2 q) ≤ 9 := jl_ord_le _ _
  generalize jl_io l a (M.1 q) (M.2.2.2 q) = k at hk ⊢
  generalize jl_tilt k (M.2.1 q) (M.2.2.2 q) = tn
  have ml := jl_imap_law (l := l) (a := a) (R := R) tn hR t.1.1 t.1.2.1 (fun z => t.1.2.2 (fun y => hn (y.trans z.symm)))
  have mn := jl_inn ml.2.1
  have mm : (jl_imap (jl_ty l a) e tn).toNatClampNeg ≤ 2 ^ P.2.2.1 := by
    have := mn.2
    have := ml.2.2
    omega
  refine ⟨jl_gc_len mm hl hk hL, fun β bit r => ?_⟩
  rw [jl_gol_law mm (by omega) r]
  dsimp only
  rw [← mn.1, ml.1, t.2]
end
section
/-! ===== the decoder follows the writer: it lags by the pending run ===== -/
theorem jl_Dit_add (P : jP) (β : Nat → Bool) (m : Nat) (c : jC) : ∀ n : Nat, jl_Dit P β (m + n) c = jl_Dit P β n (jl_Dit P β m c) := by
  intro n
  induction n with
  | zero => rfl
  | succ n ih =>
    show jl_D P β (jl_Dit P β (m + n) c) = jl_D P β (jl_Dit P β n (jl_Dit P β m c))
    rw [ih]
theorem jl_Dit_1 (P : jP) (β : Nat → Bool) (c : jC) : jl_Dit P β 1 c = jl_D P β c := rfl
theorem jl_cut_lt {n i : Nat} {f : Nat → Int32} (h : i < n) : jl_cut n f i = f i := if_pos h
theorem jl_cut_s (n : Nat) (f : Nat → Int32) : upd (jl_cut n f) n (f n) = jl_cut (n + 1) f := by
  funext j
  unfold upd jl_cut
  by_cases h : j = n
  · rw [if_pos h, if_pos (by omega), h]
  · rw [if_neg h]
    by_cases g : j < n
    · rw [if_pos g, if_pos (by omega)]
    · rw [if_neg g, if_neg (by omega)]
theorem jl_cut_c (m n : Nat) (f : Nat → Int32) (h : m ≤ n) : jl_cut m (jl_cut n f) = jl_cut m f := by
  funext j
  unfold jl_cut
  by_cases g : j < m
  · rw [if_pos g, if_pos g, if_pos (by omega)]
  · rw [if_neg g, if_neg g]
theorem jl_cut_u (m n : Nat) (f : Nat → Int32) (x : Int32) (h : m ≤ n) : jl_cut m (upd f n x) = jl_cut m f := by
  funext j
  unfold jl_cut upd
  by_cases g : j < m
  · rw [if_pos g, if_pos g, if_neg (by omega)]
  · rw [if_neg g, if_neg g]
/-! the surroundings rest on the cells ahead alone -/
theorem jl_above_c {w p : Nat} {f g : Nat → Int32} (hw : 0 < w) (h : ∀ i, i < p → f i = g i) : jl_above w p f = jl_above w p g := by
  unfold jl_above
  by_cases z : 0 < p / w
  · have := jl_r1 z
    rw [if_pos z, if_pos z, h _ (by omega)]
  · rw [if_neg z, if_neg z]
theorem jl_ar_c {w p : Nat} {f g : Nat → Int32} (hw : 0 < w) (h : ∀ i, i < p → f i = g i) : jl_ar w p f = jl_ar w p g := by
  unfold jl_ar
  rw [jl_above_c hw h]
  by_cases z : 0 < p / w ∧ p % w < w - 1
  · have := jl_r1 z.1
    rw [if_pos z, if_pos z, h _ (by omega)]
  · rw [if_neg z, if_neg z]
theorem jl_left_c {w p : Nat} {f g : Nat → Int32} (hw : 0 < w) (h : ∀ i, i < p → f i = g i) : jl_left w p f = jl_left w p g := by
  unfold jl_left
  rw [jl_above_c hw h]
  by_cases z : 0 < p % w
  · have := Nat.mod_le p w
    rw [if_pos z, if_pos z, h _ (by omega)]
  · rw [if_neg z, if_neg z]
theorem jl_al_c {w p : Nat} {f g : Nat → Int32} (hw : 0 < w) (h : ∀ i, i < p → f i = g i) : jl_al w p f = jl_al w p g := by
  unfold jl_al
  by_cases z : 0 < p % w
  · rw [if_pos z, if_pos z]
    by_cases y : 0 < p / w
    · have := jl_r3 hw y z
      rw [if_pos y, if_pos y, h _ (by omega)]
    · rw [if_neg y, if_neg y]
  · rw [if_neg z, if_neg z]
    by_cases y : 1 < p / w
    · have := jl_r2 hw y
      rw [if_pos y, if_pos y, h _ (by omega)]
    · rw [if_neg y, if_neg y]
theorem jl_in0 {R : Nat} (h : 2 ≤ R) : jl_in R 0 := by
  unfold jl_in
  rw [jl_i0]
  omega
theorem jl_above_in {R w p : Nat} {f : Nat → Int32} (hw : 0 < w) (h2 : 2 ≤ R) (h : ∀ i, i < p → jl_in R (f i)) : jl_in R (jl_above w p f) := by
  unfold jl_above
  by_cases z : 0 < p / w
  · have := jl_r1 z
    rw [if_pos z]
    exact h _ (by omega)
  · rw [if_neg z]
    exact jl_in0 h2
/-- whether the surroundings of place p are flat -/
def jl_fl (w p : Nat) (lev : Nat → Int32) : Bool := jl_flat (jl_left w p lev) (jl_above w p lev) (jl_al w p lev) (jl_ar w p lev)
theorem jl_fl_c {w p : Nat} {f g : Nat → Int32} (hw : 0 < w) (h : ∀ i, i < p → f i = g i) : jl_fl w p f = jl_fl w p g := by
  unfold jl_fl
  rw [jl_above_c hw h, jl_ar_c hw h, jl_left_c hw h, jl_al_c hw h]
/-! one step of the decoder inside a run -/
theorem jl_D_reg {P : jP} {β : Nat → Bool} {pos bit ri rc : Nat} {lev : Nat → Int32} {rb : Bool} {M : jM} (hf : jl_fl P.1 pos lev = false) : jl_D P β (pos, lev, bit, ri, rc, false, rb, M) = (pos + 1, upd lev pos (jl_dReg P β (jl_left P.1 pos lev) (jl_above P.1 pos lev) (jl_al P.1 pos lev) (jl_ar P.1 pos lev) M bit).1, (jl_dReg P β (jl_left P.1 pos lev) (jl_above P.1 pos lev) (jl_al P.1 pos lev) (jl_ar P.1 pos lev) M bit).2.2, ri, rc, false, rb, (jl_dReg P β (jl_left P.1 pos lev) (jl_above P.1 pos lev) (jl_al P.1 pos lev) (jl_ar P.1 pos lev) M bit).2.1) := by
  unfold jl_D
  dsimp only
  unfold jl_fl at hf
  rw [if_pos ⟨rfl, hf⟩]
theorem jl_D_run {P : jP} {β : Nat → Bool} {pos bit ri rc : Nat} {lev : Nat → Int32} {rb : Bool} {M : jM} : jl_D P β (pos, lev, bit, ri, rc, true, rb, M) = (pos + 1, upd lev pos (jl_dRun P β (pos % P.1) (jl_left P.1 pos lev) (jl_above P.1 pos lev) M bit ri rc rb).1, (jl_dRun P β (pos % P.1) (jl_left P.1 pos lev) (jl_above P.1 pos lev) M bit ri rc rb).2) := by
  unfold jl_D
  dsimp only
  rw [if_neg (fun y => absurd y.1 (by decide)), if_neg (fun y => absurd y.1 (by decide)), if_neg (fun y => absurd y.1 (by decide))]
theorem jl_D_flat {P : jP} {β : Nat → Bool} {pos bit ri rc : Nat} {lev : Nat → Int32} {rb : Bool} {M : jM} (hf : jl_fl P.1 pos lev = true) : jl_D P β (pos, lev, bit, ri, rc, false, rb, M) = jl_D P β (pos, lev, bit, ri, 0, true, false, M) := by
  rw [jl_D_run]
  unfold jl_D
  dsimp only
  unfold jl_fl at hf
  rw [if_neg (fun y => by rw [hf] at y; exact absurd y.2 (by decide)), if_pos ⟨rfl, hf⟩, if_pos ⟨rfl, hf⟩]
/-- reading the next segment first changes nothing -/
theorem jl_D_read {P : jP} {β : Nat → Bool} {pos bit ri : Nat} {lev : Nat → Int32} {M : jM} {z : Nat × Nat × Nat × Bool} (hz : jl_rd P.1 (pos % P.1) β bit ri = z) (hn : ¬ (z.2.2.1 = 0 ∧ z.2.2.2 = false)) : jl_D P β (pos, lev, bit, ri, 0, true, false, M) = jl_D P β (pos, lev, z.1, z.2.1, z.2.2.1, true, z.2.2.2, M) := by
  rw [jl_D_run, jl_D_run]
  unfold jl_dRun
  rw [if_pos ⟨rfl, rfl⟩, if_neg hn, hz]
theorem jl_run1 {P : jP} {β : Nat → Bool} {p bit ri r : Nat} {L : Nat → Int32} {rb : Bool} {M : jM} (hw : 0 < P.1) (hr : 0 < r) (hl : L p = jl_left P.1 p L) : jl_D P β (p, jl_cut p L, bit, ri, r, true, rb, M) = if p % P.1 = P.1 - 1 then (p + 1, jl_cut (p + 1) L, bit, ri, 0, false, false, M) else (p + 1, jl_cut (p + 1) L, bit, ri, r - 1, true, rb, M) := by
  have e : jl_left P.1 p (jl_cut p L) = L p := by
    rw [hl]
    exact jl_left_c hw (fun i hi => jl_cut_lt hi)
  have ed : jl_dRun P β (p % P.1) (jl_left P.1 p (jl_cut p L)) (jl_above P.1 p (jl_cut p L)) M bit ri r rb = if p % P.1 = P.1 - 1 then (L p, bit, ri, 0, false, false, M) else (L p, bit, ri, r - 1, true, rb, M) := by
    unfold jl_dRun
    rw [if_neg (fun y => absurd y.1 (by omega))]
    unfold jl_dRun2
    rw [if_neg (show ¬ r = 0 by omega), e]
  rw [jl_D_run, ed]
  by_cases z : p % P.1 = P.1 - 1
  · rw [if_pos z, if_pos z]
    dsimp only
    rw [jl_cut_s]
  · rw [if_neg z, if_neg z]
    dsimp only
    rw [jl_cut_s]
theorem jl_runs {P : jP} {β : Nat → Bool} {bit ri : Nat} {L : Nat → Int32} {rb : Bool} {M : jM} (hw : 0 < P.1) : ∀ (j p r : Nat), j ≤ r → (∀ i, p ≤ i → i < p + j → L i = jl_left P.1 i L ∧ i % P.1 ≠ P.1 - 1) → jl_Dit P β j (p, jl_cut p L, bit, ri, r, true, rb, M) = (p + j, jl_cut (p + j) L, bit, ri, r - j, true, rb, M) := by
  intro j
  induction j with
  | zero => intro p r _ _; rfl
  | succ j ih =>
    intro p r hj h
    have h0 := h p (by omega) (by omega)
    have e : j + 1 = 1 + j := by omega
    rw [e, jl_Dit_add, jl_Dit_1, jl_run1 hw (by omega) h0.1, if_neg h0.2, ih (p + 1) (r - 1) (by omega) (fun i h1 h2 => h i (by omega) (by omega))]
    have e1 : p + 1 + j = p + (1 + j) := by omega
    have e2 : r - 1 - j = r - (1 + j) := by omega
    rw [e1, e2]
/-! the writer's state and the decoder's behind it -/
/-- the decoder's state that the writer's state c is followed by: rc levels behind -/
def jl_lag (c : jC) (dir : Bool) : jC := (c.1 - c.2.2.2.2.1, jl_cut (c.1 - c.2.2.2.2.1) c.2.1, c.2.2.1, c.2.2.2.1, 0, dir, false, c.2.2.2.2.2.2.2)
def jl_LG (P : jP) (R : Nat) (c : jC) (dir : Bool) : Prop :=
  c.2.2.2.2.2.2.1 = false ∧ jl_cut c.1 c.2.1 = c.2.1 ∧ c.2.2.2.2.1 ≤ c.1 ∧ (c.2.2.2.2.1 = 0 → dir = c.2.2.2.2.2.1) ∧
  (0 < c.2.2.2.2.1 → c.2.2.2.2.2.1 = true ∧ (dir = true ∨ jl_fl P.1 (c.1 - c.2.2.2.2.1) c.2.1 = true)) ∧
  (c.1 - c.2.2.2.2.1) % P.1 + c.2.2.2.2.1 < P.1 ∧ (∀ j, c.1 - c.2.2.2.2.1 ≤ j → j < c.1 → c.2.1 j = jl_left P.1 j c.2.1) ∧
  c.2.2.2.2.1 < 2 ^ jl_ro c.2.2.2.1 ∧ c.2.2.2.1 ≤ 31 ∧ c.2.2.1 ≤ 32 * (c.1 - c.2.2.2.2.1) ∧ ∀ i, i < c.1 → jl_in R (c.2.1 i)
theorem jl_mod_run {w p k j : Nat} (hw : 0 < w) (h : p % w + k < w) (hj : j ≤ k) : (p + j) % w = p % w + j := by
  have e := Nat.div_add_mod p w
  have e2 : p + j = (p % w + j) + w * (p / w) := by omega
  rw [e2, Nat.add_mul_mod_self_left, Nat.mod_eq_of_lt (by omega)]
end
section
/-! ===== one level coded: the lagging decoder follows ===== -/
theorem jl_cut_un {p : Nat} {L : Nat → Int32} (x : Int32) (h : jl_cut p L = L) : jl_cut (p + 1) (upd L p x) = upd L p x := by
  have e : upd L p x = upd (jl_cut p (upd L p x)) p ((upd L p x) p) := by
    rw [jl_cut_u p p L x (Nat.le_refl p), h, pk_us]
  have e2 := jl_cut_s p (upd L p x)
  rw [← e] at e2
  exact e2.symm
theorem jl_in_u {R p : Nat} {L : Nat → Int32} {x : Int32} (hx : jl_in R x) (h : ∀ i, i < p → jl_in R (L i)) : ∀ i, i < p + 1 → jl_in R (upd L p x i) := by
  intro i hi
  by_cases e : i = p
  · rw [e, pk_us]; exact hx
  · rw [pk_un e]; exact h i (by omega)
section
variable {P : jP} {R p bit ri k : Nat} {L : Nat → Int32} {ir dir : Bool} {M : jM} {x : Int32}
theorem jl_E_reg (hir : ir = false) (hf : jl_fl P.1 p L = false) : jl_E P (p, L, bit, ri, k, ir, false, M) x = ((p + 1, upd L p x, bit + (jl_eReg P (jl_left P.1 p L) (jl_above P.1 p L) (jl_al P.1 p L) (jl_ar P.1 p L) M x).2.length, ri, k, false, false, (jl_eReg P (jl_left P.1 p L) (jl_above P.1 p L) (jl_al P.1 p L) (jl_ar P.1 p L) M x).1), (jl_eReg P (jl_left P.1 p L) (jl_above P.1 p L) (jl_al P.1 p L) (jl_ar P.1 p L) M x).2) := by
  subst hir
  unfold jl_E
  dsimp only
  unfold jl_fl at hf
  rw [if_pos ⟨rfl, hf⟩]
theorem jl_E_run (h : ir = true ∨ (jl_fl P.1 p L = true ∧ k = 0)) : jl_E P (p, L, bit, ri, k, ir, false, M) x = ((p + 1, upd L p x, bit + (jl_eRun P (p % P.1) (jl_left P.1 p L) (jl_above P.1 p L) M ri k x).2.2.2.2.length, (jl_eRun P (p % P.1) (jl_left P.1 p L) (jl_above P.1 p L) M ri k x).1, (jl_eRun P (p % P.1) (jl_left P.1 p L) (jl_above P.1 p L) M ri k x).2.1, (jl_eRun P (p % P.1) (jl_left P.1 p L) (jl_above P.1 p L) M ri k x).2.2.1, false, (jl_eRun P (p % P.1) (jl_left P.1 p L) (jl_above P.1 p L) M ri k x).2.2.2.1), (jl_eRun P (p % P.1) (jl_left P.1 p L) (jl_above P.1 p L) M ri k x).2.2.2.2) := by
  unfold jl_E
  dsimp only
  unfold jl_fl at h
  rcases h with h | ⟨h, hk⟩
  · subst h
    rw [if_neg (fun y => absurd y.1 (by decide)), if_neg (fun y => absurd y.1 (by decide))]
  · subst hk
    rw [if_neg (fun y => by rw [h] at y; exact absurd y.2 (by decide))]
    have e : (if ir = false ∧ jl_flat (jl_left P.1 p L) (jl_above P.1 p L) (jl_al P.1 p L) (jl_ar P.1 p L) = true then 0 else 0) = 0 := by split <;> rfl
    rw [e]
/-- the first step of the lagging decoder, when a run is on or starts -/
theorem jl_lag_D {β : Nat → Bool} (hw : 0 < P.1) (hd : dir = true ∨ jl_fl P.1 (p - k) L = true) : jl_D P β (jl_lag (p, L, bit, ri, k, ir, false, M) dir) = jl_D P β (p - k, jl_cut (p - k) L, bit, ri, 0, true, false, M) := by
  unfold jl_lag
  dsimp only
  cases dir
  · have hf : jl_fl P.1 (p - k) L = true := by
      rcases hd with h | h
      · exact absurd h (by decide)
      · exact h
    exact jl_D_flat (by rw [jl_fl_c hw (fun i hi => jl_cut_lt hi)]; exact hf)
  · rfl
theorem jl_lag_it {β : Nat → Bool} {z : Nat × Nat × Nat × Bool} {n : Nat} (hw : 0 < P.1) (hd : dir = true ∨ jl_fl P.1 (p - k) L = true) (hz : jl_rd P.1 ((p - k) % P.1) β bit ri = z) (hn : ¬ (z.2.2.1 = 0 ∧ z.2.2.2 = false)) (h0 : 0 < n) : jl_Dit P β n (jl_lag (p, L, bit, ri, k, ir, false, M) dir) = jl_Dit P β n (p - k, jl_cut (p - k) L, z.1, z.2.1, z.2.2.1, true, z.2.2.2, M) := by
  obtain ⟨m, rfl⟩ : ∃ m, n = 1 + m := ⟨n - 1, by omega⟩
  rw [jl_Dit_add, jl_Dit_add, jl_Dit_1, jl_Dit_1, jl_lag_D hw hd, jl_D_read hz hn]
/-- k + 1 levels of a segment -/
theorem jl_seg {β : Nat → Bool} {ri' : Nat} (hw : 0 < P.1) (hd : dir = true ∨ jl_fl P.1 (p - k) L = true) (hk : k ≤ p) (hc : (p - k) % P.1 + k < P.1) (hl : ∀ j, p - k ≤ j → j < p → L j = jl_left P.1 j L) (hx : x = jl_left P.1 p L) (hz : jl_rd P.1 ((p - k) % P.1) β bit ri = (bit + 1, ri', k + 1, false)) : jl_Dit P β (k + 1) (jl_lag (p, L, bit, ri, k, ir, false, M) dir) = if p % P.1 = P.1 - 1 then (p + 1, jl_cut (p + 1) (upd L p x), bit + 1, ri', 0, false, false, M) else (p + 1, jl_cut (p + 1) (upd L p x), bit + 1, ri', 0, true, false, M) := by
  rw [jl_lag_it hw hd hz (fun y => absurd y.1 (by dsimp only; omega)) (by omega), jl_Dit_add]
  dsimp only
  have e0 : jl_cut (p - k) L = jl_cut (p - k) (upd L p x) := (jl_cut_u _ _ _ _ (by omega)).symm
  have ep : p - k + k = p := by omega
  have hlu : ∀ j, p - k ≤ j → j < p → (upd L p x) j = jl_left P.1 j (upd L p x) := by
    intro j h1 h2
    rw [pk_un (by omega), hl j h1 h2]
    exact jl_left_c hw (fun i hi => (pk_un (by omega)).symm)
  have hm : ∀ j, p - k ≤ j → j < p → j % P.1 ≠ P.1 - 1 := by
    intro j h1 h2
    have g := jl_mod_run (j := j - (p - k)) hw hc (by omega)
    rw [show p - k + (j - (p - k)) = j by omega] at g
    omega
  rw [e0, jl_runs hw k (p - k) (k + 1) (by omega) (fun i h1 h2 => ⟨hlu i h1 (by omega), hm i h1 (by omega)⟩), ep, jl_Dit_1, show k + 1 - k = 1 by omega, jl_run1 hw (by omega) (by rw [pk_us, hx]; exact jl_left_c hw (fun i hi => (pk_un (by omega)).symm))]
theorem jl_E_step (hP : jl_PR P R) (hx : jl_in R x) (hI : jl_LG P R (p, L, bit, ri, k, ir, false, M) dir) : ∃ (dir' : Bool) (n : Nat), jl_LG P R (jl_E P (p, L, bit, ri, k, ir, false, M) x).1 dir' ∧ (jl_E P (p, L, bit, ri, k, ir, false, M) x).1.1 - (jl_E P (p, L, bit, ri, k, ir, false, M) x).1.2.2.2.2.1 = (p - k) + n ∧ ∀ β : Nat → Bool, jl_rdL β (jl_E P (p, L, bit, ri, k, ir, false, M) x).2 bit → jl_Dit P β n (jl_lag (p, L, bit, ri, k, ir, false, M) dir) = jl_lag (jl_E P (p, L, bit, ri, k, ir, false, M) x).1 dir' := by
  have hP' := hP
  obtain ⟨hw, hw2, er, hR2, hR, hlb, hlb2⟩ := hP'
  obtain ⟨_, hcut, hk, hd0, hd1, hcol, hlv, hko, hri, hbit, hin⟩ := hI
  dsimp only at hcut hk hd0 hd1 hcol hlv hko hri hbit hin
  have hinu := jl_in_u (L := L) hx hin
  have hcu := jl_cut_un x hcut
  by_cases hreg : ir = false ∧ jl_fl P.1 p L = false
  · obtain ⟨hir, hf⟩ := hreg
    have hk0 : k = 0 := by
      rcases Nat.eq_zero_or_pos k with e | e
      · exact e
      · have := (hd1 e).1
        rw [hir] at this
        exact absurd this (by decide)
    subst hk0
    have hdir : dir = false := (hd0 rfl).trans hir
    subst hdir
    rw [jl_E_reg hir hf]
    dsimp only
    have law := jl_reg_law (l := (jl_left P.1 p L)) (a := (jl_above P.1 p L)) (al := jl_al P.1 p L) (ar := jl_ar P.1 p L) (M := M) hP hx
    generalize jl_eReg P (jl_left P.1 p L) (jl_above P.1 p L) (jl_al P.1 p L) (jl_ar P.1 p L) M x = er at law ⊢
    refine ⟨false, 1, ⟨rfl, hcu, Nat.zero_le _, fun _ => rfl, fun h => absurd h (by dsimp only; omega), ?_, fun j h1 h2 => absurd h2 (by dsimp only at h1 ⊢; omega), Nat.two_pow_pos _, hri, ?_, hinu⟩, by omega, fun β r => ?_⟩
    · dsimp only
      exact Nat.mod_lt _ hw
    · dsimp only
      have := law.1
      omega
    · unfold jl_lag
      dsimp only
      rw [Nat.sub_zero, hcut, jl_Dit_1, jl_D_reg hf, law.2 β bit r]
      dsimp only
      rw [Nat.sub_zero, hcu]
  · have hrun : ir = true ∨ (jl_fl P.1 p L = true ∧ k = 0) := by
      cases hir : ir
      · refine Or.inr ⟨?_, ?_⟩
        · cases hf : jl_fl P.1 p L
          · exact absurd ⟨hir, hf⟩ hreg
          · rfl
        · rcases Nat.eq_zero_or_pos k with e | e
          · exact e
          · have := (hd1 e).1
            rw [hir] at this
            exact absurd this (by decide)
      · exact Or.inl rfl
    have hd : dir = true ∨ jl_fl P.1 (p - k) L = true := by
      rcases Nat.eq_zero_or_pos k with e | e
      · subst e
        rcases hrun with h | h
        · exact Or.inl ((hd0 rfl).trans h)
        · exact Or.inr h.1
      · exact (hd1 e).2
    have ep : p - k + k = p := by omega
    have ecol : p % P.1 = (p - k) % P.1 + k := by
      have g := jl_mod_run (j := k) hw hcol (Nat.le_refl k)
      rw [ep] at g
      exact g
    have hro := jl_ro_le hri
    rw [jl_E_run hrun]
    dsimp only
    by_cases hxl : x = (jl_left P.1 p L)
    · by_cases hseg : k + 1 < 2 ^ jl_ro ri
      · by_cases hend : p % P.1 = P.1 - 1
        · have ee : jl_eRun P (p % P.1) (jl_left P.1 p L) (jl_above P.1 p L) M ri k x = (ri, 0, false, M, [true]) := by
            unfold jl_eRun
            rw [if_pos hxl, if_pos hseg, if_pos hend]
          rw [ee]
          dsimp only
          refine ⟨false, k + 1, ⟨rfl, hcu, Nat.zero_le _, fun _ => rfl, fun h => absurd h (by dsimp only; omega), ?_, fun j h1 h2 => absurd h2 (by dsimp only at h1 ⊢; omega), Nat.two_pow_pos _, hri, ?_, hinu⟩, by omega, fun β r => ?_⟩
          · dsimp only
            exact Nat.mod_lt _ hw
          · dsimp only
            show bit + 1 ≤ _
            omega
          · have r1 : β bit = true := r.1
            have hz : jl_rd P.1 ((p - k) % P.1) β bit ri = (bit + 1, ri, k + 1, false) := by
              unfold jl_rd
              rw [if_neg (by rw [r1]; decide), if_pos (by omega), show P.1 - (p - k) % P.1 = k + 1 by omega]
            rw [jl_seg hw hd hk hcol hlv hxl hz, if_pos hend]
            unfold jl_lag
            dsimp only
            rw [Nat.sub_zero]
            rfl
        · have ee : jl_eRun P (p % P.1) (jl_left P.1 p L) (jl_above P.1 p L) M ri k x = (ri, k + 1, true, M, []) := by
            unfold jl_eRun
            rw [if_pos hxl, if_pos hseg, if_neg hend]
          rw [ee]
          dsimp only
          have e1 : p + 1 - (k + 1) = p - k := by omega
          refine ⟨dir, 0, ⟨rfl, hcu, by dsimp only; omega, fun h => absurd h (by dsimp only; omega), fun _ => ⟨rfl, ?_⟩, ?_, fun j h1 h2 => ?_, hseg, hri, ?_, hinu⟩, by omega, fun β r => ?_⟩
          · dsimp only
            rw [e1, jl_fl_c (g := L) hw (fun i hi => pk_un (by omega))]
            exact hd
          · dsimp only
            rw [e1]
            omega
          · dsimp only at h1 h2 ⊢
            by_cases e : j = p
            · subst e
              rw [pk_us, hxl]
              exact jl_left_c hw (fun i hi => (pk_un (by omega)).symm)
            · rw [pk_un e, hlv j (by omega) (by omega)]
              exact jl_left_c hw (fun i hi => (pk_un (by omega)).symm)
          · dsimp only
            rw [e1]
            exact hbit
          · unfold jl_lag
            dsimp only
            rw [e1, jl_cut_u _ _ _ _ (by omega)]
            rfl
      · have hseg2 : 2 ^ jl_ro ri = k + 1 := by omega
        have hz : ∀ β : Nat → Bool, β bit = true → jl_rd P.1 ((p - k) % P.1) β bit ri = (bit + 1, jl_up ri, k + 1, false) := by
          intro β r1
          unfold jl_rd
          rw [if_neg (by rw [r1]; decide), if_neg (by omega), hseg2]
        by_cases hend : p % P.1 = P.1 - 1
        · have ee : jl_eRun P (p % P.1) (jl_left P.1 p L) (jl_above P.1 p L) M ri k x = (jl_up ri, 0, false, M, [true]) := by
            unfold jl_eRun
            rw [if_pos hxl, if_neg hseg, if_pos hend]
          rw [ee]
          dsimp only
          refine ⟨false, k + 1, ⟨rfl, hcu, Nat.zero_le _, fun _ => rfl, fun h => absurd h (by dsimp only; omega), ?_, fun j h1 h2 => absurd h2 (by dsimp only at h1 ⊢; omega), Nat.two_pow_pos _, jl_up_le hri, ?_, hinu⟩, by omega, fun β r => ?_⟩
          · dsimp only
            exact Nat.mod_lt _ hw
          · dsimp only
            show bit + 1 ≤ _
            omega
          · rw [jl_seg hw hd hk hcol hlv hxl (hz β r.1), if_pos hend]
            unfold jl_lag
            dsimp only
            rw [Nat.sub_zero]
            rfl
        · have ee : jl_eRun P (p % P.1) (jl_left P.1 p L) (jl_above P.1 p L) M ri k x = (jl_up ri, 0, true, M, [true]) := by
            unfold jl_eRun
            rw [if_pos hxl, if_neg hseg, if_neg hend]
          rw [ee]
          dsimp only
          refine ⟨true, k + 1, ⟨rfl, hcu, Nat.zero_le _, fun _ => rfl, fun h => absurd h (by dsimp only; omega), ?_, fun j h1 h2 => absurd h2 (by dsimp only at h1 ⊢; omega), Nat.two_pow_pos _, jl_up_le hri, ?_, hinu⟩, by omega, fun β r => ?_⟩
          · dsimp only
            exact Nat.mod_lt _ hw
          · dsimp only
            show bit + 1 ≤ _
            omega
          · rw [jl_seg hw hd hk hcol hlv hxl (hz β r.1), if_neg hend]
            unfold jl_lag
            dsimp only
            rw [Nat.sub_zero]
            rfl
    · have ee : jl_eRun P (p % P.1) (jl_left P.1 p L) (jl_above P.1 p L) M ri k x = (ri - 1, 0, false, (jl_eInt P (31 - jl_ro ri) (jl_left P.1 p L) (jl_above P.1 p L) M x).1, false :: (jl_msb k (jl_ro ri) ++ (jl_eInt P (31 - jl_ro ri) (jl_left P.1 p L) (jl_above P.1 p L) M x).2)) := by
        unfold jl_eRun
        rw [if_neg hxl]
      rw [ee]
      dsimp only
      have ha : jl_in R (jl_above P.1 p L) := jl_above_in hw hR2 hin
      have law := jl_int_law (L := 31 - jl_ro ri) (l := (jl_left P.1 p L)) (a := (jl_above P.1 p L)) (M := M) hP (by omega) hx ha hxl
      generalize jl_eInt P (31 - jl_ro ri) (jl_left P.1 p L) (jl_above P.1 p L) M x = ei at law ⊢
      have elen : (false :: (jl_msb k (jl_ro ri) ++ ei.2)).length = jl_ro ri + ei.2.length + 1 := by
        rw [List.length_cons, List.length_append, jl_msb_len]
      rw [elen]
      refine ⟨false, k + 1, ⟨rfl, hcu, Nat.zero_le _, fun _ => rfl, fun h => absurd h (by dsimp only; omega), ?_, fun j h1 h2 => absurd h2 (by dsimp only at h1 ⊢; omega), Nat.two_pow_pos _, by dsimp only; omega, ?_, hinu⟩, by omega, fun β r => ?_⟩
      · dsimp only
        exact Nat.mod_lt _ hw
      · dsimp only
        have := law.1
        omega
      · have r1 : β bit = false := r.1
        have r2 := (jl_rdL_app _ _).mp r.2
        rw [jl_msb_len] at r2
        have hz : jl_rd P.1 ((p - k) % P.1) β bit ri = (bit + 1 + jl_ro ri, ri, k, true) := by
          unfold jl_rd
          rw [if_pos r1, jl_gbs_msb _ _ 0 r2.1, Nat.mod_eq_of_lt hko, Nat.zero_mul, Nat.zero_add]
        have hm : ∀ j, p - k ≤ j → j < p → j % P.1 ≠ P.1 - 1 := by
          intro j h1 h2
          have g := jl_mod_run (j := j - (p - k)) hw hcol (by omega)
          rw [show p - k + (j - (p - k)) = j by omega] at g
          omega
        rw [jl_lag_it hw hd hz (fun y => absurd y.2 (by dsimp only; decide)) (by omega), jl_Dit_add]
        dsimp only
        rw [jl_runs hw k (p - k) k (by omega) (fun i h1 h2 => ⟨hlv i h1 (by omega), hm i h1 (by omega)⟩), ep, jl_Dit_1, Nat.sub_self, hcut, jl_D_run]
        unfold jl_dRun
        rw [if_neg (fun y => absurd y.2 (by decide))]
        unfold jl_dRun2
        dsimp only
        rw [if_pos rfl, law.2 β _ r2.2]
        unfold jl_lag
        dsimp only
        rw [Nat.sub_zero, hcu]
        have e9 : bit + 1 + jl_ro ri + ei.2.length = bit + (jl_ro ri + ei.2.length + 1) := by omega
        rw [e9]
end
end
section
/-! ===== writing bits: putBit, putBits, putGolomb ===== -/
theorem jl_pbs_app (ys : List Bool) : ∀ (xs : List Bool) (W : Nat → Int32) (p : Nat), jl_pbs (xs ++ ys) W p = jl_pbs ys (jl_pbs xs W p) (p + xs.length) := by
  intro xs
  induction xs with
  | nil => intro W p; rfl
  | cons x xs ih =>
    intro W p
    have e : p + (x :: xs).length = p + 1 + xs.length := by rw [List.length_cons]; omega
    rw [e]
    exact ih (jl_pb W p x) (p + 1)
theorem jl_tb {v j : Nat} (hv : v < 2 ^ 31) (hj : j < 32) : (nI v >>> (nI j &&& 31)) &&& 1 = jl_bI (v.testBit j) := by
  rw [pk_shrN hv _ j (s_l j hj), pk_andN (by have := Nat.div_le_self v (2 ^ j); omega) 1 (by decide), Nat.testBit_eq_decide_div_mod_eq]
  generalize v / 2 ^ j = q
  rcases Nat.mod_two_eq_zero_or_one q with h | h
  · rw [show (2 : Nat) ^ 1 = 2 from rfl, h]; rfl
  · rw [show (2 : Nat) ^ 1 = 2 from rfl, h]; rfl
section
variable {f_writer f_reader f_scratch f_writerStream f_streamWords f_streamBits f_cellStride f_contextStride f_interruptionContext f_codeLimit f_resetCount f_greatestOrder f_width f_height f_cells f_max f_writerOpen f_writerSlot f_readerOpen f_readerSlot f_column f_left f_above f_aboveLeft f_aboveRight f_context f_sign : Int32} {a_picture a_words a_recordLength a_recordBound a_recordBits a_levels a_position a_bound a_range a_levelBits a_threshold1 a_threshold2 a_threshold3 a_stream a_bitAt a_runIndex a_runCount a_inRun a_runBroken a_magnitude a_biasSum a_correction a_occurrences : Nat → Int32} {w nc pos bit ri rc k : Nat} {lev mg bs co oc : Nat → Int32} {ir rb : Bool}
theorem xw_putBit {post : SX → Prop} {p0 : Int32} {x : Bool} (hp : p0 = jl_bI x) (hb : bit < 4096) (h : post (f_writer, f_reader, f_scratch, f_writerStream, f_streamWords, f_streamBits, f_cellStride, f_contextStride, f_interruptionContext, f_codeLimit, f_resetCount, f_greatestOrder, (nI w), f_height, (nI nc), f_max, f_writerOpen, f_writerSlot, f_readerOpen, f_readerSlot, f_column, f_left, f_above, f_aboveLeft, f_aboveRight, f_context, f_sign, a_picture, (jl_pb a_words bit x), a_recordLength, a_recordBound, a_recordBits, (jl_ov a_levels 128 0 pos lev), (upd a_position 0 (nI pos)), a_bound, a_range, a_levelBits, a_threshold1, a_threshold2, a_threshold3, a_stream, (upd a_bitAt 0 (nI (bit + 1))), (upd a_runIndex 0 (nI ri)), (upd a_runCount 0 (nI rc)), (upd a_inRun 0 (jl_bI ir)), (upd a_runBroken 0 (jl_bI rb)), (jl_ov a_magnitude 367 0 367 mg), (jl_ov a_biasSum 367 0 367 bs), (jl_ov a_correction 367 0 367 co), (jl_ov a_occurrences 367 0 367 oc))) : wpX_putBit post (f_writer, f_reader, f_scratch, f_writerStream, f_streamWords, f_streamBits, f_cellStride, f_contextStride, f_interruptionContext, f_codeLimit, f_resetCount, f_greatestOrder, (nI w), f_height, (nI nc), f_max, f_writerOpen, f_writerSlot, f_readerOpen, f_readerSlot, f_column, f_left, f_above, f_aboveLeft, f_aboveRight, f_context, f_sign, a_picture, a_words, a_recordLength, a_recordBound, a_recordBits, (jl_ov a_levels 128 0 pos lev), (upd a_position 0 (nI pos)), a_bound, a_range, a_levelBits, a_threshold1, a_threshold2, a_threshold3, a_stream, (upd a_bitAt 0 (nI bit)), (upd a_runIndex 0 (nI ri)), (upd a_runCount 0 (nI rc)), (upd a_inRun 0 (jl_bI ir)), (upd a_runBroken 0 (jl_bI rb)), (jl_ov a_magnitude 367 0 367 mg), (jl_ov a_biasSum 367 0 367 bs), (jl_ov a_correction 367 0 367 co), (jl_ov a_occurrences 367 0 367 oc)) p0 := by
  subst hp
  have e3 : (512 : Int32) + (nI bit >>> ((5 : Int32) &&& 31)) = nI (512 + bit / 32) := by
    rw [jl_d32 bit (by omega)]
    exact nI_add 512 _
  have hc : (nI (512 + bit / 32)).toNatClampNeg = 512 + bit / 32 := nI_clamp (by omega)
  have hv : vp_in (nI (512 + bit / 32)) 640 := vp_in_nI (by omega) (by omega)
  refine nm_r (e' := nI bit) (jl_ur rfl) (br_t (nI_lt (b := 4096) hb (by omega)) (nm_r e3 (nm_e (jl_bb1 (fun t => ?_) (fun t => ?_)))))
  · subst t
    refine ⟨hv, hv, nm_r (e' := jl_pb a_words bit true) ?_ (nm_r (jl_uu rfl (nI_1 bit)) h)⟩
    rw [hc]
    rfl
  · subst t
    refine ⟨hv, hv, nm_r (e' := jl_pb a_words bit false) ?_ (nm_r (jl_uu rfl (nI_1 bit)) h)⟩
    rw [hc]
    rfl
theorem xl_putBits {post : SX → Prop} {x1 : Int32} {v : Nat} (h1 : x1 = nI v) (hv : v < 2 ^ 31) : ∀ (j n bit : Nat) (a_words : Nat → Int32) (x3 : Int32), x3 = nI j + (-1) → j ≤ 31 → j < n → bit + j ≤ 4096 → post (f_writer, f_reader, f_scratch, f_writerStream, f_streamWords, f_streamBits, f_cellStride, f_contextStride, f_interruptionContext, f_codeLimit, f_resetCount, f_greatestOrder, (nI w), f_height, (nI nc), f_max, f_writerOpen, f_writerSlot, f_readerOpen, f_readerSlot, f_column, f_left, f_above, f_aboveLeft, f_aboveRight, f_context, f_sign, a_picture, (jl_pbs (jl_msb v j) a_words bit), a_recordLength, a_recordBound, a_recordBits, (jl_ov a_levels 128 0 pos lev), (upd a_position 0 (nI pos)), a_bound, a_range, a_levelBits, a_threshold1, a_threshold2, a_threshold3, a_stream, (upd a_bitAt 0 (nI (bit + j))), (upd a_runIndex 0 (nI ri)), (upd a_runCount 0 (nI rc)), (upd a_inRun 0 (jl_bI ir)), (upd a_runBroken 0 (jl_bI rb)), (jl_ov a_magnitude 367 0 367 mg), (jl_ov a_biasSum 367 0 367 bs), (jl_ov a_correction 367 0 367 co), (jl_ov a_occurrences 367 0 367 oc)) → wX_putBits_4 post x1 n x3 f_writer f_reader f_scratch f_writerStream f_streamWords f_streamBits f_cellStride f_contextStride f_interruptionContext f_codeLimit f_resetCount f_greatestOrder (nI w) f_height (nI nc) f_max f_writerOpen f_writerSlot f_readerOpen f_readerSlot f_column f_left f_above f_aboveLeft f_aboveRight f_context f_sign a_picture a_words a_recordLength a_recordBound a_recordBits (jl_ov a_levels 128 0 pos lev) (upd a_position 0 (nI pos)) a_bound a_range a_levelBits a_threshold1 a_threshold2 a_threshold3 a_stream (upd a_bitAt 0 (nI bit)) (upd a_runIndex 0 (nI ri)) (upd a_runCount 0 (nI rc)) (upd a_inRun 0 (jl_bI ir)) (upd a_runBroken 0 (jl_bI rb)) (jl_ov a_magnitude 367 0 367 mg) (jl_ov a_biasSum 367 0 367 bs) (jl_ov a_correction 367 0 367 co) (jl_ov a_occurrences 367 0 367 oc) := by
  intro j
  induction j with
  | zero =>
    intro n bit W x3 hx hj hn hb h
    obtain ⟨m, rfl⟩ : ∃ m, n = m + 1 := ⟨n - 1, by omega⟩
    exact br_t (by rw [hx]; decide) h
  | succ j ih =>
    intro n bit W x3 hx hj hn hb h
    obtain ⟨m, rfl⟩ : ∃ m, n = m + 1 := ⟨n - 1, by omega⟩
    rw [pk_m1] at hx
    subst hx
    refine br_f (nI_pos (by omega)) (xw_putBit (x := v.testBit j) (by rw [h1]; exact jl_tb hv (by omega)) (by omega) (nm_e ?_))
    have e : bit + (j + 1) = bit + 1 + j := by omega
    rw [e, jl_msb] at h
    exact ih m (bit + 1) _ _ rfl (by omega) (by omega) (by omega) h
theorem xw_putBits {post : SX → Prop} {x1 x2 : Int32} {v num : Nat} (h1 : x1 = nI v) (h2 : x2 = nI num) (hv : v < 2 ^ 31) (hn : num ≤ 31) (hb : bit + num ≤ 4096) (h : post (f_writer, f_reader, f_scratch, f_writerStream, f_streamWords, f_streamBits, f_cellStride, f_contextStride, f_interruptionContext, f_codeLimit, f_resetCount, f_greatestOrder, (nI w), f_height, (nI nc), f_max, f_writerOpen, f_writerSlot, f_readerOpen, f_readerSlot, f_column, f_left, f_above, f_aboveLeft, f_aboveRight, f_context, f_sign, a_picture, (jl_pbs (jl_msb v num) a_words bit), a_recordLength, a_recordBound, a_recordBits, (jl_ov a_levels 128 0 pos lev), (upd a_position 0 (nI pos)), a_bound, a_range, a_levelBits, a_threshold1, a_threshold2, a_threshold3, a_stream, (upd a_bitAt 0 (nI (bit + num))), (upd a_runIndex 0 (nI ri)), (upd a_runCount 0 (nI rc)), (upd a_inRun 0 (jl_bI ir)), (upd a_runBroken 0 (jl_bI rb)), (jl_ov a_magnitude 367 0 367 mg), (jl_ov a_biasSum 367 0 367 bs), (jl_ov a_correction 367 0 367 co), (jl_ov a_occurrences 367 0 367 oc))) : wpX_putBits post (f_writer, f_reader, f_scratch, f_writerStream, f_streamWords, f_streamBits, f_cellStride, f_contextStride, f_interruptionContext, f_codeLimit, f_resetCount, f_greatestOrder, (nI w), f_height, (nI nc), f_max, f_writerOpen, f_writerSlot, f_readerOpen, f_readerSlot, f_column, f_left, f_above, f_aboveLeft, f_aboveRight, f_context, f_sign, a_picture, a_words, a_recordLength, a_recordBound, a_recordBits, (jl_ov a_levels 128 0 pos lev), (upd a_position 0 (nI pos)), a_bound, a_range, a_levelBits, a_threshold1, a_threshold2, a_threshold3, a_stream, (upd a_bitAt 0 (nI bit)), (upd a_runIndex 0 (nI ri)), (upd a_runCount 0 (nI rc)), (upd a_inRun 0 (jl_bI ir)), (upd a_runBroken 0 (jl_bI rb)), (jl_ov a_magnitude 367 0 367 mg), (jl_ov a_biasSum 367 0 367 bs), (jl_ov a_correction 367 0 367 co), (jl_ov a_occurrences 367 0 367 oc)) x1 x2 := by
  refine nm_e ⟨num + 1, xl_putBits h1 hv num (num + 1) bit a_words _ ?_ hn (by omega) hb h⟩
  rw [h2]
  exact Int32.sub_eq_add_neg _ _
theorem xl_putGol {post : SX → Prop} {x1 x2 x4 x5 x6 x7 : Int32} {m lb e hh z : Nat} (h1 : x1 = nI m) (hm : m < 2 ^ 31) (h2 : x2 = nI k) (hk : k ≤ 9) (h4 : x4 = nI lb) (hl : lb ≤ 8) (h5 : x5 = nI e) (he : e < 2 ^ 31) (h6 : x6 = nI hh) (hh1 : hh < 2 ^ 31) (h7 : x7 = nI z) (hz : z < 1000) (hpos : ¬ hh < e → 1 ≤ m) : ∀ (d i n bit : Nat) (a_words : Nat → Int32), i + d = z → d < n → bit + (List.replicate d false ++ (true :: (if hh < e then jl_msb m k else jl_msb (m - 1) lb))).length ≤ 4096 → post (f_writer, f_reader, f_scratch, f_writerStream, f_streamWords, f_streamBits, f_cellStride, f_contextStride, f_interruptionContext, f_codeLimit, f_resetCount, f_greatestOrder, (nI w), f_height, (nI nc), f_max, f_writerOpen, f_writerSlot, f_readerOpen, f_readerSlot, f_column, f_left, f_above, f_aboveLeft, f_aboveRight, f_context, f_sign, a_picture, (jl_pbs (List.replicate d false ++ (true :: (if hh < e then jl_msb m k else jl_msb (m - 1) lb))) a_words bit), a_recordLength, a_recordBound, a_recordBits, (jl_ov a_levels 128 0 pos lev), (upd a_position 0 (nI pos)), a_bound, a_range, a_levelBits, a_threshold1, a_threshold2, a_threshold3, a_stream, (upd a_bitAt 0 (nI (bit + (List.replicate d false ++ (true :: (if hh < e then jl_msb m k else jl_msb (m - 1) lb))).length))), (upd a_runIndex 0 (nI ri)), (upd a_runCount 0 (nI rc)), (upd a_inRun 0 (jl_bI ir)), (upd a_runBroken 0 (jl_bI rb)), (jl_ov a_magnitude 367 0 367 mg), (jl_ov a_biasSum 367 0 367 bs), (jl_ov a_correction 367 0 367 co), (jl_ov a_occurrences 367 0 367 oc)) → wX_putGolomb_34 post x1 x2 x4 x5 x6 x7 n (nI i) f_writer f_reader f_scratch f_writerStream f_streamWords f_streamBits f_cellStride f_contextStride f_interruptionContext f_codeLimit f_resetCount f_greatestOrder (nI w) f_height (nI nc) f_max f_writerOpen f_writerSlot f_readerOpen f_readerSlot f_column f_left f_above f_aboveLeft f_aboveRight f_context f_sign a_picture a_words a_recordLength a_recordBound a_recordBits (jl_ov a_levels 128 0 pos lev) (upd a_position 0 (nI pos)) a_bound a_range a_levelBits a_threshold1 a_threshold2 a_threshold3 a_stream (upd a_bitAt 0 (nI bit)) (upd a_runIndex 0 (nI ri)) (upd a_runCount 0 (nI rc)) (upd a_inRun 0 (jl_bI ir)) (upd a_runBroken 0 (jl_bI rb)) (jl_ov a_magnitude 367 0 367 mg) (jl_ov a_biasSum 367 0 367 bs) (jl_ov a_correction 367 0 367 co) (jl_ov a_occurrences 367 0 367 oc) := by
  intro d
  induction d with
  | zero =>
    intro i n bit W hi hn hb h
    obtain ⟨m', rfl⟩ : ∃ m', n = m' + 1 := ⟨n - 1, by omega⟩
    rw [List.replicate_zero, List.nil_append, List.length_cons] at hb h
    refine br_t (by rw [h7]; exact nI_le (by omega) (by omega)) (xw_putBit (x := true) rfl (by omega) ?_)
    rw [h5, h6]
    refine pk_le e hh (fun g => ?_) (fun g => ?_)
    · rw [if_neg (by omega)] at hb h
      rw [jl_msb_len] at hb h
      have hm1 := hpos (by omega)
      have e1 : bit + (lb + 1) = bit + 1 + lb := by omega
      rw [e1] at h
      refine xw_putBits (v := m - 1) ?_ h4 (by omega) (by omega) (by omega) h
      rw [h1]
      exact pk_sub (b := 1) hm1
    · rw [if_pos g] at hb h
      rw [jl_msb_len] at hb h
      have e1 : bit + (k + 1) = bit + 1 + k := by omega
      rw [e1] at h
      exact xw_putBits h1 h2 hm (by omega) (by omega) h
  | succ d ih =>
    intro i n bit W hi hn hb h
    obtain ⟨m', rfl⟩ : ∃ m', n = m' + 1 := ⟨n - 1, by omega⟩
    rw [List.replicate_succ, List.cons_append, List.length_cons] at hb h
    refine br_f (by rw [h7]; exact nI_ge (by omega) (by omega)) (xw_putBit (x := false) rfl (by omega) (nm_r (nI_1 i) ?_))
    refine ih (i + 1) m' (bit + 1) _ (by omega) (by omega) (by omega) ?_
    rw [show ∀ t : Nat, bit + 1 + t = bit + (t + 1) from fun t => by omega]
    exact h
theorem xw_putGol {post : SX → Prop} {p0 p1 p2 : Int32} {m L lb : Nat} (h0 : p0 = nI m) (hm : m < 2 ^ 31) (h1 : p1 = nI k) (hk : k ≤ 9) (h2 : p2 = nI L) (hL : L ≤ 32) (hlb : lb + 2 ≤ L) (hl : lb ≤ 8) (el : a_levelBits 0 = nI lb) (hb : bit + (jl_gc m k L lb).length ≤ 4096) (h : post (f_writer, f_reader, f_scratch, f_writerStream, f_streamWords, f_streamBits, f_cellStride, f_contextStride, f_interruptionContext, f_codeLimit, f_resetCount, f_greatestOrder, (nI w), f_height, (nI nc), f_max, f_writerOpen, f_writerSlot, f_readerOpen, f_readerSlot, f_column, f_left, f_above, f_aboveLeft, f_aboveRight, f_context, f_sign, a_picture, (jl_pbs (jl_gc m k L lb) a_words bit), a_recordLength, a_recordBound, a_recordBits, (jl_ov a_levels 128 0 pos lev), (upd a_position 0 (nI pos)), a_bound, a_range, a_levelBits, a_threshold1, a_threshold2, a_threshold3, a_stream, (upd a_bitAt 0 (nI (bit + (jl_gc m k L lb).length))), (upd a_runIndex 0 (nI ri)), (upd a_runCount 0 (nI rc)), (upd a_inRun 0 (jl_bI ir)), (upd a_runBroken 0 (jl_bI rb)), (jl_ov a_magnitude 367 0 367 mg), (jl_ov a_biasSum 367 0 367 bs), (jl_ov a_correction 367 0 367 co), (jl_ov a_occurrences 367 0 367 oc))) : wpX_putGolomb post (f_writer, f_reader, f_scratch, f_writerStream, f_streamWords, f_streamBits, f_cellStride, f_contextStride, f_interruptionContext, f_codeLimit, f_resetCount, f_greatestOrder, (nI w), f_height, (nI nc), f_max, f_writerOpen, f_writerSlot, f_readerOpen, f_readerSlot, f_column, f_left, f_above, f_aboveLeft, f_aboveRight, f_context, f_sign, a_picture, a_words, a_recordLength, a_recordBound, a_recordBits, (jl_ov a_levels 128 0 pos lev), (upd a_position 0 (nI pos)), a_bound, a_range, a_levelBits, a_threshold1, a_threshold2, a_threshold3, a_stream, (upd a_bitAt 0 (nI bit)), (upd a_runIndex 0 (nI ri)), (upd a_runCount 0 (nI rc)), (upd a_inRun 0 (jl_bI ir)), (upd a_runBroken 0 (jl_bI rb)), (jl_ov a_magnitude 367 0 367 mg), (jl_ov a_biasSum 367 0 367 bs), (jl_ov a_correction 367 0 367 co), (jl_ov a_occurrences 367 0 367 oc)) p0 p1 p2 := by
  have ee : p2 - nI lb - 1 = nI (L - lb - 1) := by
    rw [h2]
    have : (1 : Int32) = nI 1 := rfl
    rw [this, pk_sub (by omega), pk_sub (by omega)]
  have eh : p0 >>> (p1 &&& 31) = nI (m / 2 ^ k) := by
    rw [h0, h1]
    exact pk_shrN hm _ k (s_l k (by omega))
  have hd := Nat.div_le_self m (2 ^ k)
  have ez : jl_min (nI (m / 2 ^ k)) (nI (L - lb - 1)) = nI (if m / 2 ^ k < L - lb - 1 then m / 2 ^ k else L - lb - 1) := by
    unfold jl_min
    by_cases g : m / 2 ^ k < L - lb - 1
    · rw [if_pos g, if_neg (nI_ge g (by omega))]
    · rw [if_neg g, if_pos (nI_le (by omega) (by omega))]
  unfold jl_gc at hb h
  refine nm_r el (nm_r ee (nm_r eh (xv_smaller ⟨(if m / 2 ^ k < L - lb - 1 then m / 2 ^ k else L - lb - 1) + 1, ?_⟩)))
  refine xl_putGol (z := if m / 2 ^ k < L - lb - 1 then m / 2 ^ k else L - lb - 1) (hh := m / 2 ^ k) h0 hm h1 hk rfl hl rfl (by omega) rfl (by omega) ez ?_ ?_ _ 0 _ bit a_words (by omega) (by omega) hb h
  · split <;> omega
  · intro g
    rcases Nat.eq_zero_or_pos m with y | y
    · rw [y, Nat.zero_div] at g
      omega
    · exact y
end
end
section
/-! ===== coding one level: encodeInterruption, encodeRegular, flushRun, encodeInRun, encodeLevel (bank 0) ===== -/
section
variable {f_writer f_reader f_scratch f_writerStream f_streamWords f_streamBits f_cellStride f_contextStride f_interruptionContext f_codeLimit f_resetCount f_greatestOrder f_width f_height f_cells f_max f_writerOpen f_writerSlot f_readerOpen f_readerSlot f_column f_left f_above f_aboveLeft f_aboveRight f_context f_sign : Int32} {a_picture a_words a_recordLength a_recordBound a_recordBits a_levels a_position a_bound a_range a_levelBits a_threshold1 a_threshold2 a_threshold3 a_stream a_bitAt a_runIndex a_runCount a_inRun a_runBroken a_magnitude a_biasSum a_correction a_occurrences : Nat → Int32} {w nc pos bit ri rc k R : Nat} {lev mg bs co oc : Nat → Int32} {ir rb : Bool} {P : jP}
theorem xw_ei79 {post : SX → Prop} {x2 x3 x4 x6 x7 x9 x11 : Int32} {q L lb : Nat} (hq : q < 367) (h2 : x2 = nI L) (hL : L ≤ 32) (hlb : lb + 2 ≤ L) (hl : lb ≤ 8) (el : a_levelBits 0 = nI lb) (h4 : x4 = nI (367 * 0 + q)) (h7 : x7 = nI k) (hk : k ≤ 9) (h11 : ((2 * jl_abs x6) - x3) - x9 = x11) (hm : 0 ≤ x11.toInt) (hb : bit + (jl_gc x11.toNatClampNeg k L lb).length ≤ 4096) (h : post (f_writer, f_reader, f_scratch, f_writerStream, f_streamWords, f_streamBits, f_cellStride, f_contextStride, f_interruptionContext, f_codeLimit, f_resetCount, f_greatestOrder, (nI w), f_height, (nI nc), f_max, f_writerOpen, f_writerSlot, f_readerOpen, f_readerSlot, f_column, f_left, f_above, f_aboveLeft, f_aboveRight, f_context, f_sign, a_picture, (jl_pbs (jl_gc x11.toNatClampNeg k L lb) a_words bit), a_recordLength, a_recordBound, a_recordBits, (jl_ov a_levels 128 0 pos lev), (upd a_position 0 (nI pos)), a_bound, a_range, a_levelBits, a_threshold1, a_threshold2, a_threshold3, a_stream, (upd a_bitAt 0 (nI (bit + (jl_gc x11.toNatClampNeg k L lb).length))), (upd a_runIndex 0 (nI ri)), (upd a_runCount 0 (nI rc)), (upd a_inRun 0 (jl_bI ir)), (upd a_runBroken 0 (jl_bI rb)), (jl_ov a_magnitude 367 0 367 ((jl_updI (mg, bs, co, oc) q x3 x6 x11).1)), (jl_ov a_biasSum 367 0 367 ((jl_updI (mg, bs, co, oc) q x3 x6 x11).2.1)), (jl_ov a_correction 367 0 367 ((jl_updI (mg, bs, co, oc) q x3 x6 x11).2.2.1)), (jl_ov a_occurrences 367 0 367 ((jl_updI (mg, bs, co, oc) q x3 x6 x11).2.2.2)))) : wX_encodeInterruption_79 post x2 x3 x4 x6 x7 x9 f_writer f_reader f_scratch f_writerStream f_streamWords f_streamBits f_cellStride f_contextStride f_interruptionContext f_codeLimit f_resetCount f_greatestOrder (nI w) f_height (nI nc) f_max f_writerOpen f_writerSlot f_readerOpen f_readerSlot f_column f_left f_above f_aboveLeft f_aboveRight f_context f_sign a_picture a_words a_recordLength a_recordBound a_recordBits (jl_ov a_levels 128 0 pos lev) (upd a_position 0 (nI pos)) a_bound a_range a_levelBits a_threshold1 a_threshold2 a_threshold3 a_stream (upd a_bitAt 0 (nI bit)) (upd a_runIndex 0 (nI ri)) (upd a_runCount 0 (nI rc)) (upd a_inRun 0 (jl_bI ir)) (upd a_runBroken 0 (jl_bI rb)) (jl_ov a_magnitude 367 0 367 mg) (jl_ov a_biasSum 367 0 367 bs) (jl_ov a_correction 367 0 367 co) (jl_ov a_occurrences 367 0 367 oc) := by
  have mn := jl_inn hm
  have hlt : x11.toNatClampNeg < 2 ^ 31 := by
    have := x11.toInt_lt
    have := mn.2
    omega
  unfold wX_encodeInterruption_79
  exact xv_abs (nm_r h11 (xw_putGol mn.1 hlt h7 hk h2 hL hlb hl el hb (xw_updI h4 (by omega) hq h)))
theorem xw_eInt {post : SX → Prop} {p1 x : Int32} {L : Nat} (h1 : p1 = nI L) (hL1 : 16 ≤ L) (hL : L ≤ 32) (HP : jl_HP 0 P a_range a_levelBits a_threshold1 a_threshold2 a_threshold3) (hPR : jl_PR P R) (hx : jl_in R x) (ha : jl_in R f_above) (hn : x ≠ f_left) (hb : bit + (jl_eInt P L f_left f_above (mg, bs, co, oc) x).2.length ≤ 4096) (h : post (f_writer, f_reader, f_scratch, f_writerStream, f_streamWords, f_streamBits, f_cellStride, f_contextStride, f_interruptionContext, f_codeLimit, f_resetCount, f_greatestOrder, (nI w), f_height, (nI nc), f_max, f_writerOpen, f_writerSlot, f_readerOpen, f_readerSlot, f_column, f_left, f_above, f_aboveLeft, f_aboveRight, f_context, f_sign, a_picture, (jl_pbs (jl_eInt P L f_left f_above (mg, bs, co, oc) x).2 a_words bit), a_recordLength, a_recordBound, a_recordBits, (jl_ov a_levels 128 0 pos lev), (upd a_position 0 (nI pos)), a_bound, a_range, a_levelBits, a_threshold1, a_threshold2, a_threshold3, a_stream, (upd a_bitAt 0 (nI (bit + (jl_eInt P L f_left f_above (mg, bs, co, oc) x).2.length))), (upd a_runIndex 0 (nI ri)), (upd a_runCount 0 (nI rc)), (upd a_inRun 0 (jl_bI ir)), (upd a_runBroken 0 (jl_bI rb)), (jl_ov a_magnitude 367 0 367 ((jl_eInt P L f_left f_above (mg, bs, co, oc) x).1.1)), (jl_ov a_biasSum 367 0 367 ((jl_eInt P L f_left f_above (mg, bs, co, oc) x).1.2.1)), (jl_ov a_correction 367 0 367 ((jl_eInt P L f_left f_above (mg, bs, co, oc) x).1.2.2.1)), (jl_ov a_occurrences 367 0 367 ((jl_eInt P L f_left f_above (mg, bs, co, oc) x).1.2.2.2)))) : wpX_encodeInterruption post (f_writer, f_reader, f_scratch, f_writerStream, f_streamWords, f_streamBits, f_cellStride, f_contextStride, f_interruptionContext, f_codeLimit, f_resetCount, f_greatestOrder, (nI w), f_height, (nI nc), f_max, f_writerOpen, f_writerSlot, f_readerOpen, f_readerSlot, f_column, f_left, f_above, f_aboveLeft, f_aboveRight, f_context, f_sign, a_picture, a_words, a_recordLength, a_recordBound, a_recordBits, (jl_ov a_levels 128 0 pos lev), (upd a_position 0 (nI pos)), a_bound, a_range, a_levelBits, a_threshold1, a_threshold2, a_threshold3, a_stream, (upd a_bitAt 0 (nI bit)), (upd a_runIndex 0 (nI ri)), (upd a_runCount 0 (nI rc)), (upd a_inRun 0 (jl_bI ir)), (upd a_runBroken 0 (jl_bI rb)), (jl_ov a_magnitude 367 0 367 mg), (jl_ov a_biasSum 367 0 367 bs), (jl_ov a_correction 367 0 367 co), (jl_ov a_occurrences 367 0 367 oc)) x p1 := by
  obtain ⟨er, el, e1, e2, e3, hl⟩ := HP
  obtain ⟨_, _, eR, hR2, hR, _, hlb⟩ := hPR
  unfold jl_eInt at hb h
  dsimp only at hb h
  have hq := jl_ti_lt f_left f_above
  have hk : jl_io f_left f_above (mg (jl_ti f_left f_above)) (oc (jl_ti f_left f_above)) ≤ 9 := jl_ord_le _ _
  have et : (365 : Int32) + jl_ty f_left f_above = nI (367 * 0 + jl_ti f_left f_above) := jl_ti_e (b := 0) rfl
  have t := jl_turn_law hR hR2 hx ha (jl_turn_pm f_left f_above)
  rw [eR] at hb h
  rw [eR] at er
  unfold wpX_encodeInterruption
  refine xv_type (nm_r et (xv_turn (xv_reduce (rng := nI R) (vp_in_nI (n := 0) (by omega) (by omega)) er ?_)))
  generalize jl_red (nI R) ((x - f_above) * jl_turn f_left f_above) = e at t hb h ⊢
  refine xw_io (b := 0) rfl rfl (by omega) hq (xw_tilted (b := 0) rfl rfl hk (by omega) hq ?_)
  generalize jl_io f_left f_above (mg (jl_ti f_left f_above)) (oc (jl_ti f_left f_above)) = k at hk hb h ⊢
  generalize jl_tilt k (bs (jl_ti f_left f_above)) (oc (jl_ti f_left f_above)) = tl at hb h ⊢
  have ml := jl_imap_law (l := f_left) (a := f_above) (R := R) tl hR t.1.1 t.1.2.1 (fun z => t.1.2.2 (fun y => hn (y.trans z.symm)))
  have fin : ∀ od : Int32, jl_iodd e tl = od → wX_encodeInterruption_79 post p1 (jl_ty f_left f_above) (nI (367 * 0 + jl_ti f_left f_above)) e (nI k) od f_writer f_reader f_scratch f_writerStream f_streamWords f_streamBits f_cellStride f_contextStride f_interruptionContext f_codeLimit f_resetCount f_greatestOrder (nI w) f_height (nI nc) f_max f_writerOpen f_writerSlot f_readerOpen f_readerSlot f_column f_left f_above f_aboveLeft f_aboveRight f_context f_sign a_picture a_words a_recordLength a_recordBound a_recordBits (jl_ov a_levels 128 0 pos lev) (upd a_position 0 (nI pos)) a_bound a_range a_levelBits a_threshold1 a_threshold2 a_threshold3 a_stream (upd a_bitAt 0 (nI bit)) (upd a_runIndex 0 (nI ri)) (upd a_runCount 0 (nI rc)) (upd a_inRun 0 (jl_bI ir)) (upd a_runBroken 0 (jl_bI rb)) (jl_ov a_magnitude 367 0 367 mg) (jl_ov a_biasSum 367 0 367 bs) (jl_ov a_correction 367 0 367 co) (jl_ov a_occurrences 367 0 367 oc) := by
    intro od ho
    exact xw_ei79 hq h1 hL (by omega) hl el rfl rfl hk (by rw [← ho]; rfl) ml.2.1 hb h
  refine br_c (fun z => ?_) (fun z => ?_)
  · rw [jl_ile, jl_i0] at z
    refine br_c (fun y => ?_) (fun y => ?_)
    · rw [jl_ile, jl_i0] at y
      refine fin 0 ?_
      unfold jl_iodd
      rw [if_neg]
      rw [jl_ilt, jl_ilt, jl_i0]
      omega
    · rw [jl_ile, jl_i0] at y
      refine jl_bb (fun u => fin 1 ?_) (fun u => fin 0 ?_)
      · unfold jl_iodd
        rw [if_pos]
        rw [jl_ilt, jl_ilt, jl_i0]
        exact Or.inr ⟨by omega, u⟩
      · unfold jl_iodd
        rw [if_neg]
        rw [jl_ilt, jl_ilt, jl_i0, u]
        intro q
        rcases q with q | q
        · omega
        · exact absurd q.2 (by decide)
  · rw [jl_ile, jl_i0] at z
    refine jl_bb (fun u => ?_) (fun u => fin 1 ?_)
    · refine br_c (fun y => fin 0 ?_) (fun y => ?_)
      · unfold jl_iodd
        rw [if_neg]
        rw [jl_ilt, jl_ilt, jl_i0, u]
        intro q
        rcases q with q | q
        · exact absurd q.2 (by decide)
        · omega
      · rw [jl_ile, jl_i0] at y
        omega
    · unfold jl_iodd
      rw [if_pos]
      rw [jl_ilt, jl_ilt, jl_i0]
      exact Or.inl ⟨by omega, u⟩
theorem xw_er99 {post : SX → Prop} {x3 x4 x5 : Int32} {q lb : Nat} (hq : q < 367) (hl : lb ≤ 8) (el : a_levelBits 0 = nI lb) (h4 : x4 = nI k) (hk : k ≤ 9) (hm : 0 ≤ x5.toInt) (hb : bit + (jl_gc x5.toNatClampNeg k 32 lb).length ≤ 4096) (h : post (f_writer, f_reader, f_scratch, f_writerStream, f_streamWords, f_streamBits, f_cellStride, f_contextStride, f_interruptionContext, f_codeLimit, f_resetCount, f_greatestOrder, (nI w), f_height, (nI nc), f_max, f_writerOpen, f_writerSlot, f_readerOpen, f_readerSlot, f_column, f_left, f_above, f_aboveLeft, f_aboveRight, (nI (367 * 0 + q)), f_sign, a_picture, (jl_pbs (jl_gc x5.toNatClampNeg k 32 lb) a_words bit), a_recordLength, a_recordBound, a_recordBits, (jl_ov a_levels 128 0 pos lev), (upd a_position 0 (nI pos)), a_bound, a_range, a_levelBits, a_threshold1, a_threshold2, a_threshold3, a_stream, (upd a_bitAt 0 (nI (bit + (jl_gc x5.toNatClampNeg k 32 lb).length))), (upd a_runIndex 0 (nI ri)), (upd a_runCount 0 (nI rc)), (upd a_inRun 0 (jl_bI ir)), (upd a_runBroken 0 (jl_bI rb)), (jl_ov a_magnitude 367 0 367 ((jl_updR (mg, bs, co, oc) q x3).1)), (jl_ov a_biasSum 367 0 367 ((jl_updR (mg, bs, co, oc) q x3).2.1)), (jl_ov a_correction 367 0 367 ((jl_updR (mg, bs, co, oc) q x3).2.2.1)), (jl_ov a_occurrences 367 0 367 ((jl_updR (mg, bs, co, oc) q x3).2.2.2)))) : wX_encodeRegular_99 post x3 x4 x5 f_writer f_reader f_scratch f_writerStream f_streamWords f_streamBits f_cellStride f_contextStride f_interruptionContext f_codeLimit f_resetCount f_greatestOrder (nI w) f_height (nI nc) f_max f_writerOpen f_writerSlot f_readerOpen f_readerSlot f_column f_left f_above f_aboveLeft f_aboveRight (nI (367 * 0 + q)) f_sign a_picture a_words a_recordLength a_recordBound a_recordBits (jl_ov a_levels 128 0 pos lev) (upd a_position 0 (nI pos)) a_bound a_range a_levelBits a_threshold1 a_threshold2 a_threshold3 a_stream (upd a_bitAt 0 (nI bit)) (upd a_runIndex 0 (nI ri)) (upd a_runCount 0 (nI rc)) (upd a_inRun 0 (jl_bI ir)) (upd a_runBroken 0 (jl_bI rb)) (jl_ov a_magnitude 367 0 367 mg) (jl_ov a_biasSum 367 0 367 bs) (jl_ov a_correction 367 0 367 co) (jl_ov a_occurrences 367 0 367 oc) := by
  have mn := jl_inn hm
  have hlt : x5.toNatClampNeg < 2 ^ 31 := by
    have := x5.toInt_lt
    have := mn.2
    omega
  unfold wX_encodeRegular_99
  exact xw_putGol (L := 32) mn.1 hlt h4 hk rfl (by omega) (by omega) hl el hb (xw_updR (by omega) hq h)
theorem xw_eReg {post : SX → Prop} {x : Int32} (HP : jl_HP 0 P a_range a_levelBits a_threshold1 a_threshold2 a_threshold3) (hPR : jl_PR P R) (hx : jl_in R x) (hb : bit + (jl_eReg P f_left f_above f_aboveLeft f_aboveRight (mg, bs, co, oc) x).2.length ≤ 4096) (h : ∀ cx sg : Int32, post (f_writer, f_reader, f_scratch, f_writerStream, f_streamWords, f_streamBits, f_cellStride, f_contextStride, f_interruptionContext, f_codeLimit, f_resetCount, f_greatestOrder, (nI w), f_height, (nI nc), f_max, f_writerOpen, f_writerSlot, f_readerOpen, f_readerSlot, f_column, f_left, f_above, f_aboveLeft, f_aboveRight, cx, sg, a_picture, (jl_pbs (jl_eReg P f_left f_above f_aboveLeft f_aboveRight (mg, bs, co, oc) x).2 a_words bit), a_recordLength, a_recordBound, a_recordBits, (jl_ov a_levels 128 0 pos lev), (upd a_position 0 (nI pos)), a_bound, a_range, a_levelBits, a_threshold1, a_threshold2, a_threshold3, a_stream, (upd a_bitAt 0 (nI (bit + (jl_eReg P f_left f_above f_aboveLeft f_aboveRight (mg, bs, co, oc) x).2.length))), (upd a_runIndex 0 (nI ri)), (upd a_runCount 0 (nI rc)), (upd a_inRun 0 (jl_bI ir)), (upd a_runBroken 0 (jl_bI rb)), (jl_ov a_magnitude 367 0 367 ((jl_eReg P f_left f_above f_aboveLeft f_aboveRight (mg, bs, co, oc) x).1.1)), (jl_ov a_biasSum 367 0 367 ((jl_eReg P f_left f_above f_aboveLeft f_aboveRight (mg, bs, co, oc) x).1.2.1)), (jl_ov a_correction 367 0 367 ((jl_eReg P f_left f_above f_aboveLeft f_aboveRight (mg, bs, co, oc) x).1.2.2.1)), (jl_ov a_occurrences 367 0 367 ((jl_eReg P f_left f_above f_aboveLeft f_aboveRight (mg, bs, co, oc) x).1.2.2.2)))) : wpX_encodeRegular post (f_writer, f_reader, f_scratch, f_writerStream, f_streamWords, f_streamBits, f_cellStride, f_contextStride, f_interruptionContext, f_codeLimit, f_resetCount, f_greatestOrder, (nI w), f_height, (nI nc), f_max, f_writerOpen, f_writerSlot, f_readerOpen, f_readerSlot, f_column, f_left, f_above, f_aboveLeft, f_aboveRight, f_context, f_sign, a_picture, a_words, a_recordLength, a_recordBound, a_recordBits, (jl_ov a_levels 128 0 pos lev), (upd a_position 0 (nI pos)), a_bound, a_range, a_levelBits, a_threshold1, a_threshold2, a_threshold3, a_stream, (upd a_bitAt 0 (nI bit)), (upd a_runIndex 0 (nI ri)), (upd a_runCount 0 (nI rc)), (upd a_inRun 0 (jl_bI ir)), (upd a_runBroken 0 (jl_bI rb)), (jl_ov a_magnitude 367 0 367 mg), (jl_ov a_biasSum 367 0 367 bs), (jl_ov a_correction 367 0 367 co), (jl_ov a_occurrences 367 0 367 oc)) x := by
  obtain ⟨er, el, e1, e2, e3, hl⟩ := HP
  obtain ⟨_, _, eR, hR2, hR, _, hlb⟩ := hPR
  unfold jl_eReg at hb h
  dsimp only at hb h
  rw [eR] at hb h
  rw [eR] at er
  have r := jl_fold_r P.2.2.2.1 P.2.2.2.2.1 P.2.2.2.2.2 f_left f_above f_aboveLeft f_aboveRight
  have hq0 := (jl_q_f r.1 r.2).2
  unfold wpX_encodeRegular
  refine xw_select (b := 0) rfl (by omega) e1 e2 e3 ?_
  generalize jl_fold P.2.2.2.1 P.2.2.2.2.1 P.2.2.2.2.2 f_left f_above f_aboveLeft f_aboveRight = f at hq0 hb h ⊢
  generalize jl_q f = q at hq0 hb h ⊢
  have hq : q < 367 := by omega
  have hv := jl_cx (b := 0) (by omega) hq
  have hc := jl_cc (b := 0) (by omega) hq
  have ho : jl_ov a_occurrences 367 0 367 oc (nI (367 * 0 + q)).toNatClampNeg = oc q := jl_ovr hc hq
  have hmg : jl_ov a_magnitude 367 0 367 mg (nI (367 * 0 + q)).toNatClampNeg = mg q := jl_ovr hc hq
  refine xw_predict (b := 0) rfl (by omega) hq er ?_
  have hg := jl_guess_in f_left f_above f_aboveLeft (jl_sgn f) (co q) hR hR2
  generalize jl_guess (nI R) f_left f_above f_aboveLeft (jl_sgn f) (co q) = g at hg hb h ⊢
  have t := jl_turn_law hR hR2 hx hg (jl_sgn_pm f)
  refine xv_reduce (rng := nI R) (vp_in_nI (n := 0) (by omega) (by omega)) er ?_
  generalize jl_red (nI R) ((x - g) * jl_sgn f) = e at t hb h ⊢
  refine ⟨hv, hv, ?_⟩
  rw [ho, hmg]
  have hk := jl_ord_le (oc q) (mg q)
  refine xv_order ?_
  generalize jl_ord (oc q) (mg q) = k at hk hb h ⊢
  have h' := h (nI (367 * 0 + q)) (jl_sgn f)
  refine xw_turned (b := 0) rfl hk (by omega) hq ?_
  generalize jl_turned k (bs q) (oc q) = tn at hb h' ⊢
  have ml := jl_map_law (R := R) tn hR t.1.1 t.1.2.1
  refine jl_bb (fun u => ?_) (fun u => ?_)
  · subst u
    refine br_c (fun z => ?_) (fun z => ?_)
    · rw [jl_map, if_neg (by decide), if_pos z] at ml hb h'
      exact xw_er99 hq hl el rfl hk ml.2.1 hb h'
    · rw [jl_map, if_neg (by decide), if_neg z] at ml hb h'
      exact xw_er99 hq hl el rfl hk ml.2.1 hb h'
  · subst u
    refine br_c (fun z => ?_) (fun z => ?_)
    · rw [jl_map, if_pos rfl, if_pos z] at ml hb h'
      exact xw_er99 hq hl el rfl hk ml.2.1 hb h'
    · rw [jl_map, if_pos rfl, if_neg z] at ml hb h'
      exact xw_er99 hq hl el rfl hk ml.2.1 hb h'
theorem xw_flush {post : SX → Prop} (hrc : rc < 100000) (hb : bit < 4096 ∨ ¬ (ir = true ∧ 0 < rc)) (h1 : ir = true ∧ 0 < rc → post (f_writer, f_reader, f_scratch, f_writerStream, f_streamWords, f_streamBits, f_cellStride, f_contextStride, f_interruptionContext, f_codeLimit, f_resetCount, f_greatestOrder, (nI w), f_height, (nI nc), f_max, f_writerOpen, f_writerSlot, f_readerOpen, f_readerSlot, f_column, f_left, f_above, f_aboveLeft, f_aboveRight, f_context, f_sign, a_picture, (jl_pb a_words bit true), a_recordLength, a_recordBound, a_recordBits, (jl_ov a_levels 128 0 pos lev), (upd a_position 0 (nI pos)), a_bound, a_range, a_levelBits, a_threshold1, a_threshold2, a_threshold3, a_stream, (upd a_bitAt 0 (nI (bit + 1))), (upd a_runIndex 0 (nI ri)), (upd a_runCount 0 (nI 0)), (upd a_inRun 0 (jl_bI ir)), (upd a_runBroken 0 (jl_bI rb)), (jl_ov a_magnitude 367 0 367 mg), (jl_ov a_biasSum 367 0 367 bs), (jl_ov a_correction 367 0 367 co), (jl_ov a_occurrences 367 0 367 oc))) (h2 : ¬ (ir = true ∧ 0 < rc) → post (f_writer, f_reader, f_scratch, f_writerStream, f_streamWords, f_streamBits, f_cellStride, f_contextStride, f_interruptionContext, f_codeLimit, f_resetCount, f_greatestOrder, (nI w), f_height, (nI nc), f_max, f_writerOpen, f_writerSlot, f_readerOpen, f_readerSlot, f_column, f_left, f_above, f_aboveLeft, f_aboveRight, f_context, f_sign, a_picture, a_words, a_recordLength, a_recordBound, a_recordBits, (jl_ov a_levels 128 0 pos lev), (upd a_position 0 (nI pos)), a_bound, a_range, a_levelBits, a_threshold1, a_threshold2, a_threshold3, a_stream, (upd a_bitAt 0 (nI bit)), (upd a_runIndex 0 (nI ri)), (upd a_runCount 0 (nI rc)), (upd a_inRun 0 (jl_bI ir)), (upd a_runBroken 0 (jl_bI rb)), (jl_ov a_magnitude 367 0 367 mg), (jl_ov a_biasSum 367 0 367 bs), (jl_ov a_correction 367 0 367 co), (jl_ov a_occurrences 367 0 367 oc))) : wpX_flushRun post (f_writer, f_reader, f_scratch, f_writerStream, f_streamWords, f_streamBits, f_cellStride, f_contextStride, f_interruptionContext, f_codeLimit, f_resetCount, f_greatestOrder, (nI w), f_height, (nI nc), f_max, f_writerOpen, f_writerSlot, f_readerOpen, f_readerSlot, f_column, f_left, f_above, f_aboveLeft, f_aboveRight, f_context, f_sign, a_picture, a_words, a_recordLength, a_recordBound, a_recordBits, (jl_ov a_levels 128 0 pos lev), (upd a_position 0 (nI pos)), a_bound, a_range, a_levelBits, a_threshold1, a_threshold2, a_threshold3, a_stream, (upd a_bitAt 0 (nI bit)), (upd a_runIndex 0 (nI ri)), (upd a_runCount 0 (nI rc)), (upd a_inRun 0 (jl_bI ir)), (upd a_runBroken 0 (jl_bI rb)), (jl_ov a_magnitude 367 0 367 mg), (jl_ov a_biasSum 367 0 367 bs), (jl_ov a_correction 367 0 367 co), (jl_ov a_occurrences 367 0 367 oc)) := by
  refine jl_bbe (jl_ur rfl) (fun g => ?_) (fun g => ?_)
  · exact h2 (fun y => by rw [g] at y; exact absurd y.1 (by decide))
  · refine pk_le rc 0 (fun z => ?_) (fun z => ?_) (jl_ur rfl) rfl
    · exact h2 (fun y => by omega)
    · refine xw_putBit (x := true) rfl ?_ (nm_r (jl_uu rfl nI_0.symm) (h1 ⟨g, z⟩))
      rcases hb with y | y
      · exact y
      · exact absurd ⟨g, z⟩ y
theorem xw_eRun {post : SX → Prop} {x : Int32} {col : Nat} (HP : jl_HP 0 P a_range a_levelBits a_threshold1 a_threshold2 a_threshold3) (hPR : jl_PR P R) (hPw : P.1 = w) (hcol : col < w) (hri : ri ≤ 31) (hrc : rc < 2 ^ jl_ro ri) (hx : jl_in R x) (ha : jl_in R f_above) (hb : bit + (jl_eRun P col f_left f_above (mg, bs, co, oc) ri rc x).2.2.2.2.length ≤ 4096) (h : post (f_writer, f_reader, f_scratch, f_writerStream, f_streamWords, f_streamBits, f_cellStride, f_contextStride, f_interruptionContext, f_codeLimit, f_resetCount, f_greatestOrder, (nI w), f_height, (nI nc), f_max, f_writerOpen, f_writerSlot, f_readerOpen, f_readerSlot, (nI col), f_left, f_above, f_aboveLeft, f_aboveRight, f_context, f_sign, a_picture, (jl_pbs (jl_eRun P col f_left f_above (mg, bs, co, oc) ri rc x).2.2.2.2 a_words bit), a_recordLength, a_recordBound, a_recordBits, (jl_ov a_levels 128 0 pos lev), (upd a_position 0 (nI pos)), a_bound, a_range, a_levelBits, a_threshold1, a_threshold2, a_threshold3, a_stream, (upd a_bitAt 0 (nI (bit + (jl_eRun P col f_left f_above (mg, bs, co, oc) ri rc x).2.2.2.2.length))), (upd a_runIndex 0 (nI ((jl_eRun P col f_left f_above (mg, bs, co, oc) ri rc x).1))), (upd a_runCount 0 (nI ((jl_eRun P col f_left f_above (mg, bs, co, oc) ri rc x).2.1))), (upd a_inRun 0 (jl_bI ((jl_eRun P col f_left f_above (mg, bs, co, oc) ri rc x).2.2.1))), (upd a_runBroken 0 (jl_bI false)), (jl_ov a_magnitude 367 0 367 ((jl_eRun P col f_left f_above (mg, bs, co, oc) ri rc x).2.2.2.1.1)), (jl_ov a_biasSum 367 0 367 ((jl_eRun P col f_left f_above (mg, bs, co, oc) ri rc x).2.2.2.1.2.1)), (jl_ov a_correction 367 0 367 ((jl_eRun P col f_left f_above (mg, bs, co, oc) ri rc x).2.2.2.1.2.2.1)), (jl_ov a_occurrences 367 0 367 ((jl_eRun P col f_left f_above (mg, bs, co, oc) ri rc x).2.2.2.1.2.2.2)))) : wpX_encodeInRun post (f_writer, f_reader, f_scratch, f_writerStream, f_streamWords, f_streamBits, f_cellStride, f_contextStride, f_interruptionContext, f_codeLimit, f_resetCount, f_greatestOrder, (nI w), f_height, (nI nc), f_max, f_writerOpen, f_writerSlot, f_readerOpen, f_readerSlot, (nI col), f_left, f_above, f_aboveLeft, f_aboveRight, f_context, f_sign, a_picture, a_words, a_recordLength, a_recordBound, a_recordBits, (jl_ov a_levels 128 0 pos lev), (upd a_position 0 (nI pos)), a_bound, a_range, a_levelBits, a_threshold1, a_threshold2, a_threshold3, a_stream, (upd a_bitAt 0 (nI bit)), (upd a_runIndex 0 (nI ri)), (upd a_runCount 0 (nI rc)), (upd a_inRun 0 (jl_bI true)), (upd a_runBroken 0 (jl_bI false)), (jl_ov a_magnitude 367 0 367 mg), (jl_ov a_biasSum 367 0 367 bs), (jl_ov a_correction 367 0 367 co), (jl_ov a_occurrences 367 0 367 oc)) x := by
  have hw := hPR.1
  have hw2 := hPR.2.1
  have hro := jl_ro_le hri
  have hp2 : 2 ^ jl_ro ri ≤ 2 ^ 15 := Nat.pow_le_pow_right (by decide) hro
  unfold jl_eRun at hb h
  rw [hPw] at hb h hw hw2
  unfold wpX_encodeInRun
  refine xv_runOrder (jl_ur rfl) hri (br_c (fun z => ?_) (fun z => ?_))
  · rw [if_pos z] at hb h
    refine nm_r (jl_uu rfl (z := nI (rc + 1)) (by rw [jl_ur rfl, nI_1])) (pk_lt (rc + 1) (2 ^ jl_ro ri) (fun g => ?_) (fun g => ?_) (jl_ur rfl) (jl_1sh _ (by omega)))
    · rw [if_pos g] at hb h
      refine xv_rowEnd hw hw2 hcol (jl_bb (fun u => ?_) (fun u => ?_))
      · rw [if_neg (of_decide_eq_false u)] at hb h
        exact h
      · rw [if_pos (of_decide_eq_true u)] at hb h
        refine xw_flush (by omega) (Or.inl (by have hb' : bit + 1 ≤ 4096 := hb; omega)) (fun _ => xw_endRun (b := 0) rfl (by omega) h) (fun y => absurd ⟨rfl, by omega⟩ y)
    · rw [if_neg (by omega)] at hb h
      have hb' : bit + 1 ≤ 4096 := by
        split at hb
        · exact hb
        · exact hb
      refine xw_putBit (x := true) rfl (by omega) (nm_r (jl_uu rfl nI_0.symm) (xw_raise (b := 0) rfl (by omega) hri ?_))
      refine xv_rowEnd hw hw2 hcol (jl_bb (fun u => ?_) (fun u => ?_))
      · rw [if_neg (of_decide_eq_false u)] at h
        exact h
      · rw [if_pos (of_decide_eq_true u)] at h
        exact xw_flush (by omega) (Or.inr (fun y => by omega)) (fun y => by omega) (fun _ => xw_endRun (b := 0) rfl (by omega) h)
  · rw [if_neg z] at hb h
    dsimp only at hb h
    rw [List.length_cons, List.length_append, jl_msb_len] at hb h
    have e1 : bit + (jl_ro ri + (jl_eInt P (31 - jl_ro ri) f_left f_above (mg, bs, co, oc) x).2.length + 1) = bit + 1 + jl_ro ri + (jl_eInt P (31 - jl_ro ri) f_left f_above (mg, bs, co, oc) x).2.length := by omega
    rw [e1] at hb h
    have e2 : jl_pbs (false :: (jl_msb rc (jl_ro ri) ++ (jl_eInt P (31 - jl_ro ri) f_left f_above (mg, bs, co, oc) x).2)) a_words bit = jl_pbs (jl_eInt P (31 - jl_ro ri) f_left f_above (mg, bs, co, oc) x).2 (jl_pbs (jl_msb rc (jl_ro ri)) (jl_pb a_words bit false) (bit + 1)) (bit + 1 + jl_ro ri) := by
      rw [jl_pbs, jl_pbs_app, jl_msb_len]
    rw [e2] at h
    refine xw_putBit (x := false) rfl (by omega) (xw_putBits (v := rc) (jl_ur rfl) rfl (by omega) (by omega) (by omega) ?_)
    refine xw_eInt (L := 31 - jl_ro ri) ?_ (by omega) (by omega) HP hPR hx ha z hb (xw_lower (b := 0) rfl (by omega) hri (xw_endRun (b := 0) rfl (by omega) h))
    show (nI 32 - nI (jl_ro ri)) - nI 1 = _
    rw [pk_sub (by omega), pk_sub (by omega)]
    congr 1
    omega
theorem xw_encodeLevel {post : SX → Prop} {x : Int32} (HP : jl_HP 0 P a_range a_levelBits a_threshold1 a_threshold2 a_threshold3) (hPR : jl_PR P R) (hPw : P.1 = w) (hpos : pos < nc) (hnc : nc ≤ 128) (hri : ri ≤ 31) (hrc : rc < 2 ^ jl_ro ri) (hir : ir = false → rc = 0) (hx : jl_in R x) (hlev : ∀ i, i < pos → jl_in R (lev i)) (hb : bit + (jl_E P (pos, lev, bit, ri, rc, ir, false, mg, bs, co, oc) x).2.length ≤ 4096) (h : ∀ cl l a al ar cx sg : Int32, post (f_writer, f_reader, f_scratch, f_writerStream, f_streamWords, f_streamBits, f_cellStride, f_contextStride, f_interruptionContext, f_codeLimit, f_resetCount, f_greatestOrder, (nI w), f_height, (nI nc), f_max, f_writerOpen, f_writerSlot, f_readerOpen, f_readerSlot, cl, l, a, al, ar, cx, sg, a_picture, (jl_pbs (jl_E P (pos, lev, bit, ri, rc, ir, false, mg, bs, co, oc) x).2 a_words bit), a_recordLength, a_recordBound, a_recordBits, (jl_ov a_levels 128 0 ((jl_E P (pos, lev, bit, ri, rc, ir, false, mg, bs, co, oc) x).1.1) ((jl_E P (pos, lev, bit, ri, rc, ir, false, mg, bs, co, oc) x).1.2.1)), (upd a_position 0 (nI ((jl_E P (pos, lev, bit, ri, rc, ir, false, mg, bs, co, oc) x).1.1))), a_bound, a_range, a_levelBits, a_threshold1, a_threshold2, a_threshold3, a_stream, (upd a_bitAt 0 (nI ((jl_E P (pos, lev, bit, ri, rc, ir, false, mg, bs, co, oc) x).1.2.2.1))), (upd a_runIndex 0 (nI ((jl_E P (pos, lev, bit, ri, rc, ir, false, mg, bs, co, oc) x).1.2.2.2.1))), (upd a_runCount 0 (nI ((jl_E P (pos, lev, bit, ri, rc, ir, false, mg, bs, co, oc) x).1.2.2.2.2.1))), (upd a_inRun 0 (jl_bI ((jl_E P (pos, lev, bit, ri, rc, ir, false, mg, bs, co, oc) x).1.2.2.2.2.2.1))), (upd a_runBroken 0 (jl_bI ((jl_E P (pos, lev, bit, ri, rc, ir, false, mg, bs, co, oc) x).1.2.2.2.2.2.2.1))), (jl_ov a_magnitude 367 0 367 ((jl_E P (pos, lev, bit, ri, rc, ir, false, mg, bs, co, oc) x).1.2.2.2.2.2.2.2.1)), (jl_ov a_biasSum 367 0 367 ((jl_E P (pos, lev, bit, ri, rc, ir, false, mg, bs, co, oc) x).1.2.2.2.2.2.2.2.2.1)), (jl_ov a_correction 367 0 367 ((jl_E P (pos, lev, bit, ri, rc, ir, false, mg, bs, co, oc) x).1.2.2.2.2.2.2.2.2.2.1)), (jl_ov a_occurrences 367 0 367 ((jl_E P (pos, lev, bit, ri, rc, ir, false, mg, bs, co, oc) x).1.2.2.2.2.2.2.2.2.2.2)))) : wpX_encodeLevel post (f_writer, f_reader, f_scratch, f_writerStream, f_streamWords, f_streamBits, f_cellStride, f_contextStride, f_interruptionContext, f_codeLimit, f_resetCount, f_greatestOrder, (nI w), f_height, (nI nc), f_max, f_writerOpen, f_writerSlot, f_readerOpen, f_readerSlot, f_column, f_left, f_above, f_aboveLeft, f_aboveRight, f_context, f_sign, a_picture, a_words, a_recordLength, a_recordBound, a_recordBits, (jl_ov a_levels 128 0 pos lev), (upd a_position 0 (nI pos)), a_bound, a_range, a_levelBits, a_threshold1, a_threshold2, a_threshold3, a_stream, (upd a_bitAt 0 (nI bit)), (upd a_runIndex 0 (nI ri)), (upd a_runCount 0 (nI rc)), (upd a_inRun 0 (jl_bI ir)), (upd a_runBroken 0 (jl_bI false)), (jl_ov a_magnitude 367 0 367 mg), (jl_ov a_biasSum 367 0 367 bs), (jl_ov a_correction 367 0 367 co), (jl_ov a_occurrences 367 0 367 oc)) x := by
  have hw := hPR.1
  have hw2 := hPR.2.1
  have hR2 := hPR.2.2.2.1
  rw [hPw] at hw hw2
  have hcol : pos % w < w := Nat.mod_lt _ hw
  have ha : jl_in R (jl_above w pos lev) := jl_above_in hw hR2 hlev
  refine br_t (by rw [jl_ur rfl]; exact nI_lt hpos (by omega)) (xw_look (b := 0) rfl (by omega) hw hw2 (by omega) (xw_start (b := 0) rfl (by omega) (fun g1 g2 => ?_) (fun g1 g2 => ?_) (fun g1 => ?_)))
  · subst g1
    have hrc0 := hir rfl
    subst hrc0
    refine jl_bbe (jl_ur rfl) (fun y => absurd y (by decide)) (fun _ => ?_)
    have e := jl_E_run (P := P) (p := pos) (L := lev) (bit := bit) (ri := ri) (k := 0) (ir := false) (M := (mg, bs, co, oc)) (x := x) (Or.inr ⟨by unfold jl_fl; rw [hPw]; exact g2, rfl⟩)
    rw [hPw] at e
    rw [e] at h hb
    exact xw_eRun HP hPR hPw hcol hri hrc hx ha hb (xw_append (b := 0) rfl (by omega) (by omega) (h _ _ _ _ _ _ _))
  · subst g1
    refine jl_bbe (jl_ur rfl) (fun _ => ?_) (fun y => absurd y (by decide))
    have e := jl_E_reg (P := P) (p := pos) (L := lev) (bit := bit) (ri := ri) (k := rc) (ir := false) (M := (mg, bs, co, oc)) (x := x) rfl (by unfold jl_fl; rw [hPw]; exact g2)
    rw [hPw] at e
    rw [e] at h hb
    exact xw_eReg HP hPR hx hb (fun cx sg => xw_append (b := 0) rfl (by omega) (by omega) (h _ _ _ _ _ cx sg))
  · subst g1
    refine jl_bbe (jl_ur rfl) (fun y => absurd y (by decide)) (fun _ => ?_)
    have e := jl_E_run (P := P) (p := pos) (L := lev) (bit := bit) (ri := ri) (k := rc) (ir := true) (M := (mg, bs, co, oc)) (x := x) (Or.inl rfl)
    rw [hPw] at e
    rw [e] at h hb
    exact xw_eRun HP hPR hPw hcol hri hrc hx ha hb (xw_append (b := 0) rfl (by omega) (by omega) (h _ _ _ _ _ _ _))
end
end
section
/-! ===== resetCoder ===== -/
section
variable {f_writer f_reader f_scratch f_writerStream f_streamWords f_streamBits f_cellStride f_contextStride f_interruptionContext f_codeLimit f_resetCount f_greatestOrder f_width f_height f_cells f_max f_writerOpen f_writerSlot f_readerOpen f_readerSlot f_column f_left f_above f_aboveLeft f_aboveRight f_context f_sign : Int32} {a_picture a_words a_recordLength a_recordBound a_recordBits a_levels a_position a_bound a_range a_levelBits a_threshold1 a_threshold2 a_threshold3 a_stream a_bitAt a_runIndex a_runCount a_inRun a_runBroken a_magnitude a_biasSum a_correction a_occurrences : Nat → Int32} {b k : Nat}
theorem xr_endRun {post : SX → Prop} {p0 : Int32} (hp : p0 = nI b) (hb : b < 3) (h : post (f_writer, f_reader, f_scratch, f_writerStream, f_streamWords, f_streamBits, f_cellStride, f_contextStride, f_interruptionContext, f_codeLimit, f_resetCount, f_greatestOrder, f_width, f_height, f_cells, f_max, f_writerOpen, f_writerSlot, f_readerOpen, f_readerSlot, f_column, f_left, f_above, f_aboveLeft, f_aboveRight, f_context, f_sign, a_picture, a_words, a_recordLength, a_recordBound, a_recordBits, a_levels, a_position, a_bound, a_range, a_levelBits, a_threshold1, a_threshold2, a_threshold3, a_stream, a_bitAt, a_runIndex, (upd a_runCount b (nI 0)), (upd a_inRun b (jl_bI false)), (upd a_runBroken b (jl_bI false)), a_magnitude, a_biasSum, a_correction, a_occurrences)) : wpX_endRun post (f_writer, f_reader, f_scratch, f_writerStream, f_streamWords, f_streamBits, f_cellStride, f_contextStride, f_interruptionContext, f_codeLimit, f_resetCount, f_greatestOrder, f_width, f_height, f_cells, f_max, f_writerOpen, f_writerSlot, f_readerOpen, f_readerSlot, f_column, f_left, f_above, f_aboveLeft, f_aboveRight, f_context, f_sign, a_picture, a_words, a_recordLength, a_recordBound, a_recordBits, a_levels, a_position, a_bound, a_range, a_levelBits, a_threshold1, a_threshold2, a_threshold3, a_stream, a_bitAt, a_runIndex, a_runCount, a_inRun, a_runBroken, a_magnitude, a_biasSum, a_correction, a_occurrences) p0 := by
  subst hp
  have hc := jl_cl hb
  have hv := jl_vi hb
  exact ⟨hv, nm_r (e' := upd a_inRun b (jl_bI false)) (by rw [hc]; rfl) ⟨hv, nm_r (e' := upd a_runCount b (nI 0)) (by rw [hc]; rfl) ⟨hv, nm_r (e' := upd a_runBroken b (jl_bI false)) (by rw [hc]; rfl) h⟩⟩⟩
theorem xr_st26 {post : SX → Prop} {x1 x2 x3 : Int32} (hp : x1 = nI b) (hb : b < 3) (h3 : ¬ x3 = 0) (h : post (f_writer, f_reader, f_scratch, f_writerStream, f_streamWords, f_streamBits, f_cellStride, f_contextStride, f_interruptionContext, f_codeLimit, f_resetCount, f_greatestOrder, f_width, f_height, f_cells, f_max, f_writerOpen, f_writerSlot, f_readerOpen, f_readerSlot, f_column, f_left, f_above, f_aboveLeft, f_aboveRight, f_context, f_sign, a_picture, a_words, a_recordLength, a_recordBound, a_recordBits, a_levels, a_position, a_bound, a_range, a_levelBits, (upd a_threshold1 b (jl_fit (jl_max 2 (3 / x3)) 1 (x2 - 1))), (upd a_threshold2 b (jl_fit (jl_max 3 (7 / x3)) (jl_fit (jl_max 2 (3 / x3)) 1 (x2 - 1)) (x2 - 1))), (upd a_threshold3 b (jl_fit (jl_max 4 (21 / x3)) (jl_fit (jl_max 3 (7 / x3)) (jl_fit (jl_max 2 (3 / x3)) 1 (x2 - 1)) (x2 - 1)) (x2 - 1))), a_stream, a_bitAt, a_runIndex, a_runCount, a_inRun, a_runBroken, a_magnitude, a_biasSum, a_correction, a_occurrences)) : wX_setThresholds_26 post x1 x2 x3 f_writer f_reader f_scratch f_writerStream f_streamWords f_streamBits f_cellStride f_contextStride f_interruptionContext f_codeLimit f_resetCount f_greatestOrder f_width f_height f_cells f_max f_writerOpen f_writerSlot f_readerOpen f_readerSlot f_column f_left f_above f_aboveLeft f_aboveRight f_context f_sign a_picture a_words a_recordLength a_recordBound a_recordBits a_levels a_position a_bound a_range a_levelBits a_threshold1 a_threshold2 a_threshold3 a_stream a_bitAt a_runIndex a_runCount a_inRun a_runBroken a_magnitude a_biasSum a_correction a_occurrences := by
  subst hp
  have hc := jl_cl hb
  have hv := jl_vi hb
  refine nm_e ⟨h3, xv_greater ⟨h3, xv_greater ⟨h3, xv_greater (xv_fit (xv_fit (xv_fit ⟨hv, nm_r (e' := upd a_threshold1 b (jl_fit (jl_max 2 (3 / x3)) 1 (x2 - 1))) (by rw [hc]) ⟨hv, nm_r (e' := upd a_threshold2 b (jl_fit (jl_max 3 (7 / x3)) (jl_fit (jl_max 2 (3 / x3)) 1 (x2 - 1)) (x2 - 1))) (by rw [hc]) ⟨hv, nm_r (e' := upd a_threshold3 b (jl_fit (jl_max 4 (21 / x3)) (jl_fit (jl_max 3 (7 / x3)) (jl_fit (jl_max 2 (3 / x3)) 1 (x2 - 1)) (x2 - 1)) (x2 - 1))) (by rw [hc]) h⟩⟩⟩)))⟩⟩⟩
theorem xr_st19 {post : SX → Prop} {x1 x2 x3 : Int32} (hp : x1 = nI b) (hb : b < 3) (h3 : jl_fac0 x2 = x3) (h : post (f_writer, f_reader, f_scratch, f_writerStream, f_streamWords, f_streamBits, f_cellStride, f_contextStride, f_interruptionContext, f_codeLimit, f_resetCount, f_greatestOrder, f_width, f_height, f_cells, f_max, f_writerOpen, f_writerSlot, f_readerOpen, f_readerSlot, f_column, f_left, f_above, f_aboveLeft, f_aboveRight, f_context, f_sign, a_picture, a_words, a_recordLength, a_recordBound, a_recordBits, a_levels, a_position, a_bound, a_range, a_levelBits, (upd a_threshold1 b (jl_t1 x2)), (upd a_threshold2 b (jl_t2 x2)), (upd a_threshold3 b (jl_t3 x2)), a_stream, a_bitAt, a_runIndex, a_runCount, a_inRun, a_runBroken, a_magnitude, a_biasSum, a_correction, a_occurrences)) : wX_setThresholds_19 post x1 x2 x3 f_writer f_reader f_scratch f_writerStream f_streamWords f_streamBits f_cellStride f_contextStride f_interruptionContext f_codeLimit f_resetCount f_greatestOrder f_width f_height f_cells f_max f_writerOpen f_writerSlot f_readerOpen f_readerSlot f_column f_left f_above f_aboveLeft f_aboveRight f_context f_sign a_picture a_words a_recordLength a_recordBound a_recordBits a_levels a_position a_bound a_range a_levelBits a_threshold1 a_threshold2 a_threshold3 a_stream a_bitAt a_runIndex a_runCount a_inRun a_runBroken a_magnitude a_biasSum a_correction a_occurrences := by
  subst h3
  unfold jl_t3 jl_t2 jl_t1 jl_fac at h
  refine br_c (fun z => ?_) (fun z => ?_)
  · rw [if_pos z] at h
    refine xr_st26 hp hb (fun y => ?_) h
    rw [y] at z
    exact absurd z (by decide)
  · rw [if_neg z] at h
    exact xr_st26 hp hb (by decide) h
theorem xr_setT {post : SX → Prop} {p0 p1 : Int32} (hp : p0 = nI b) (hb : b < 3) (h : post (f_writer, f_reader, f_scratch, f_writerStream, f_streamWords, f_streamBits, f_cellStride, f_contextStride, f_interruptionContext, f_codeLimit, f_resetCount, f_greatestOrder, f_width, f_height, f_cells, f_max, f_writerOpen, f_writerSlot, f_readerOpen, f_readerSlot, f_column, f_left, f_above, f_aboveLeft, f_aboveRight, f_context, f_sign, a_picture, a_words, a_recordLength, a_recordBound, a_recordBits, a_levels, a_position, a_bound, a_range, a_levelBits, (upd a_threshold1 b (jl_t1 p1)), (upd a_threshold2 b (jl_t2 p1)), (upd a_threshold3 b (jl_t3 p1)), a_stream, a_bitAt, a_runIndex, a_runCount, a_inRun, a_runBroken, a_magnitude, a_biasSum, a_correction, a_occurrences)) : wpX_setThresholds post (f_writer, f_reader, f_scratch, f_writerStream, f_streamWords, f_streamBits, f_cellStride, f_contextStride, f_interruptionContext, f_codeLimit, f_resetCount, f_greatestOrder, f_width, f_height, f_cells, f_max, f_writerOpen, f_writerSlot, f_readerOpen, f_readerSlot, f_column, f_left, f_above, f_aboveLeft, f_aboveRight, f_context, f_sign, a_picture, a_words, a_recordLength, a_recordBound, a_recordBits, a_levels, a_position, a_bound, a_range, a_levelBits, a_threshold1, a_threshold2, a_threshold3, a_stream, a_bitAt, a_runIndex, a_runCount, a_inRun, a_runBroken, a_magnitude, a_biasSum, a_correction, a_occurrences) p0 p1 := by
  refine br_c (fun z => ?_) (fun z => br_c (fun y => ?_) (fun y => ⟨?_, nm_e ?_⟩))
  · exact xr_st19 hp hb (by rw [jl_fac0, if_pos z]) h
  · exact xr_st19 hp hb (by rw [jl_fac0, if_neg z, if_pos y]) h
  · intro q
    rw [q] at z
    exact absurd z (by decide)
  · exact xr_st19 hp hb (by rw [jl_fac0, if_neg z, if_neg y]) h
theorem xl_reset133 {post : SX → Prop} {x7 x8 : Int32} (h8 : x8 = nI (367 * b)) (hb : b < 3) : ∀ (d i n : Nat), i + d = 367 → d < n → post (f_writer, f_reader, f_scratch, f_writerStream, f_streamWords, f_streamBits, f_cellStride, f_contextStride, f_interruptionContext, f_codeLimit, f_resetCount, f_greatestOrder, f_width, f_height, f_cells, f_max, f_writerOpen, f_writerSlot, f_readerOpen, f_readerSlot, f_column, f_left, f_above, f_aboveLeft, f_aboveRight, f_context, f_sign, a_picture, a_words, a_recordLength, a_recordBound, a_recordBits, a_levels, a_position, a_bound, a_range, a_levelBits, a_threshold1, a_threshold2, a_threshold3, a_stream, a_bitAt, a_runIndex, a_runCount, a_inRun, a_runBroken, (jl_ov a_magnitude 367 b 367 (fun _ => x7)), (jl_ov a_biasSum 367 b 367 (fun _ => 0)), (jl_ov a_correction 367 b 367 (fun _ => 0)), (jl_ov a_occurrences 367 b 367 (fun _ => 1))) → wX_resetCoder_133 post x7 x8 f_writer f_reader f_scratch f_writerStream f_streamWords f_streamBits f_cellStride f_contextStride f_interruptionContext f_codeLimit f_resetCount f_greatestOrder f_width f_height f_cells f_max f_writerOpen f_writerSlot f_readerOpen f_readerSlot f_column f_left f_above f_aboveLeft f_aboveRight f_context f_sign n (nI i) a_picture a_words a_recordLength a_recordBound a_recordBits a_levels a_position a_bound a_range a_levelBits a_threshold1 a_threshold2 a_threshold3 a_stream a_bitAt a_runIndex a_runCount a_inRun a_runBroken (jl_ov a_magnitude 367 b i (fun _ => x7)) (jl_ov a_biasSum 367 b i (fun _ => 0)) (jl_ov a_correction 367 b i (fun _ => 0)) (jl_ov a_occurrences 367 b i (fun _ => 1)) := by
  intro d
  induction d with
  | zero =>
    intro i n hi hn h
    obtain ⟨m, rfl⟩ : ∃ m, n = m + 1 := ⟨n - 1, by omega⟩
    have e : i = 367 := by omega
    subst e
    exact br_t (nI_le (a := 367) (by omega) (by omega)) h
  | succ d ih =>
    intro i n hi hn h
    obtain ⟨m, rfl⟩ : ∃ m, n = m + 1 := ⟨n - 1, by omega⟩
    have e : x8 + nI i = nI (367 * b + i) := by rw [h8, nI_add]
    have hv : vp_in (x8 + nI i) 1101 := by rw [e]; exact vp_in_nI (by omega) (by omega)
    have hc : (x8 + nI i).toNatClampNeg = 367 * b + i := by rw [e]; exact nI_clamp (by omega)
    have u : ∀ (A : Nat → Int32) (y : Int32), upd (jl_ov A 367 b i (fun _ => y)) (x8 + nI i).toNatClampNeg y = jl_ov A 367 b (i + 1) (fun _ => y) := by
      intro A y
      rw [jl_ova hc, jl_uid (A := fun _ => y) rfl]
    exact br_f (nI_ge (b := 367) (by omega) (by omega)) ⟨hv, nm_r (u _ _) ⟨hv, nm_r (u _ _) ⟨hv, nm_r (u _ _) ⟨hv, nm_r (u _ _) (nm_r (nI_1 i) (ih (i + 1) m (by omega) (by omega) h))⟩⟩⟩⟩
theorem xr_reset93 {post : SX → Prop} {x1 x5 x6 : Int32} (hp : x1 = nI b) (hb : b < 3) (h : post (f_writer, f_reader, f_scratch, f_writerStream, f_streamWords, f_streamBits, f_cellStride, f_contextStride, f_interruptionContext, f_codeLimit, f_resetCount, f_greatestOrder, f_width, f_height, f_cells, f_max, f_writerOpen, f_writerSlot, f_readerOpen, f_readerSlot, f_column, f_left, f_above, f_aboveLeft, f_aboveRight, f_context, f_sign, a_picture, a_words, a_recordLength, a_recordBound, a_recordBits, a_levels, a_position, a_bound, a_range, (upd a_levelBits b x6), (upd a_threshold1 b (jl_t1 x5)), (upd a_threshold2 b (jl_t2 x5)), (upd a_threshold3 b (jl_t3 x5)), a_stream, a_bitAt, a_runIndex, a_runCount, a_inRun, a_runBroken, (jl_ov a_magnitude 367 b 367 (fun _ => jl_st x5)), (jl_ov a_biasSum 367 b 367 (fun _ => 0)), (jl_ov a_correction 367 b 367 (fun _ => 0)), (jl_ov a_occurrences 367 b 367 (fun _ => 1)))) : wX_resetCoder_93 post x1 x5 x6 f_writer f_reader f_scratch f_writerStream f_streamWords f_streamBits f_cellStride f_contextStride f_interruptionContext f_codeLimit f_resetCount f_greatestOrder f_width f_height f_cells f_max f_writerOpen f_writerSlot f_readerOpen f_readerSlot f_column f_left f_above f_aboveLeft f_aboveRight f_context f_sign a_picture a_words a_recordLength a_recordBound a_recordBits a_levels a_position a_bound a_range a_levelBits a_threshold1 a_threshold2 a_threshold3 a_stream a_bitAt a_runIndex a_runCount a_inRun a_runBroken a_magnitude a_biasSum a_correction a_occurrences := by
  have hc : x1.toNatClampNeg = b := by rw [hp]; exact jl_cl hb
  have hv : vp_in x1 3 := by rw [hp]; exact jl_vi hb
  refine ⟨hv, nm_r (e' := upd a_levelBits b x6) (by rw [hc]) (xr_setT hp hb (xv_greater (nm_r (e' := nI (367 * b)) ?_ ⟨368, ?_⟩)))⟩
  · rw [hp]
    show nI b * nI 367 = _
    rw [pk_mul, Nat.mul_comm]
  · have g := xl_reset133 (post := post) (x7 := jl_st x5) (x8 := nI (367 * b)) rfl hb 367 0 368 (by omega) (by omega) h
    rw [jl_ov0, jl_ov0, jl_ov0, jl_ov0] at g
    exact g
theorem xl_reset71 {post : SX → Prop} {x1 x5 : Int32} (hp : x1 = nI b) (hb : b < 3) : ∀ (f k n : Nat), k + f = 8 → f < n → (∀ x6 : Int32, x6 = nI (jl_lbF x5 f k) → post (f_writer, f_reader, f_scratch, f_writerStream, f_streamWords, f_streamBits, f_cellStride, f_contextStride, f_interruptionContext, f_codeLimit, f_resetCount, f_greatestOrder, f_width, f_height, f_cells, f_max, f_writerOpen, f_writerSlot, f_readerOpen, f_readerSlot, f_column, f_left, f_above, f_aboveLeft, f_aboveRight, f_context, f_sign, a_picture, a_words, a_recordLength, a_recordBound, a_recordBits, a_levels, a_position, a_bound, a_range, (upd a_levelBits b x6), (upd a_threshold1 b (jl_t1 x5)), (upd a_threshold2 b (jl_t2 x5)), (upd a_threshold3 b (jl_t3 x5)), a_stream, a_bitAt, a_runIndex, a_runCount, a_inRun, a_runBroken, (jl_ov a_magnitude 367 b 367 (fun _ => jl_st x5)), (jl_ov a_biasSum 367 b 367 (fun _ => 0)), (jl_ov a_correction 367 b 367 (fun _ => 0)), (jl_ov a_occurrences 367 b 367 (fun _ => 1)))) → wX_resetCoder_71 post x1 x5 f_writer f_reader f_scratch f_writerStream f_streamWords f_streamBits f_cellStride f_contextStride f_interruptionContext f_codeLimit f_resetCount f_greatestOrder f_width f_height f_cells f_max f_writerOpen f_writerSlot f_readerOpen f_readerSlot f_column f_left f_above f_aboveLeft f_aboveRight f_context f_sign a_picture a_words a_recordLength a_recordBound a_recordBits a_levels a_position a_bound a_range a_levelBits a_threshold1 a_threshold2 a_threshold3 a_stream a_bitAt a_runIndex a_runCount a_inRun a_runBroken a_magnitude a_biasSum a_correction a_occurrences n (nI k) := by
  intro f
  induction f with
  | zero =>
    intro k n hk hn h
    obtain ⟨m, rfl⟩ : ∃ m, n = m + 1 := ⟨n - 1, by omega⟩
    exact br_t (nI_le (a := 8) (by omega) (by omega)) (xr_reset93 hp hb (h _ rfl))
  | succ f ih =>
    intro k n hk hn h
    obtain ⟨m, rfl⟩ : ∃ m, n = m + 1 := ⟨n - 1, by omega⟩
    refine br_f (nI_ge (b := 8) (by omega) (by omega)) ?_
    by_cases hs : x5 ≤ ((1 : Int32) <<< (nI k &&& 31))
    · exact br_t hs (xr_reset93 hp hb (h _ (by rw [jl_lbF, if_pos hs])))
    · refine br_f hs (nm_r (nI_1 k) (ih (k + 1) m (by omega) (by omega) (fun x6 e => h x6 ?_)))
      rw [e, jl_lbF, if_neg hs]
theorem xw_reset {post : SX → Prop} {p0 p1 p2 : Int32} (hp : p0 = nI b) (hb : b < 3) (hnz : ¬ ((2 * p2) + 1 : Int32) = 0) (h : post (f_writer, f_reader, f_scratch, f_writerStream, f_streamWords, f_streamBits, f_cellStride, f_contextStride, f_interruptionContext, f_codeLimit, f_resetCount, f_greatestOrder, f_width, f_height, f_cells, f_max, f_writerOpen, f_writerSlot, f_readerOpen, f_readerSlot, f_column, f_left, f_above, f_aboveLeft, f_aboveRight, f_context, f_sign, a_picture, a_words, a_recordLength, a_recordBound, a_recordBits, (jl_ov a_levels 128 b 0 (fun _ => 0)), (upd a_position b (nI 0)), (upd a_bound b p2), (upd a_range b (jl_size f_max p2)), (upd a_levelBits b (nI (jl_lb (jl_size f_max p2)))), (upd a_threshold1 b (jl_t1 (jl_size f_max p2))), (upd a_threshold2 b (jl_t2 (jl_size f_max p2))), (upd a_threshold3 b (jl_t3 (jl_size f_max p2))), (upd a_stream b p1), (upd a_bitAt b (nI 0)), (upd a_runIndex b (nI 0)), (upd a_runCount b (nI 0)), (upd a_inRun b (jl_bI false)), (upd a_runBroken b (jl_bI false)), (jl_ov a_magnitude 367 b 367 (fun _ => jl_st (jl_size f_max p2))), (jl_ov a_biasSum 367 b 367 (fun _ => 0)), (jl_ov a_correction 367 b 367 (fun _ => 0)), (jl_ov a_occurrences 367 b 367 (fun _ => 1)))) : wpX_resetCoder post (f_writer, f_reader, f_scratch, f_writerStream, f_streamWords, f_streamBits, f_cellStride, f_contextStride, f_interruptionContext, f_codeLimit, f_resetCount, f_greatestOrder, f_width, f_height, f_cells, f_max, f_writerOpen, f_writerSlot, f_readerOpen, f_readerSlot, f_column, f_left, f_above, f_aboveLeft, f_aboveRight, f_context, f_sign, a_picture, a_words, a_recordLength, a_recordBound, a_recordBits, a_levels, a_position, a_bound, a_range, a_levelBits, a_threshold1, a_threshold2, a_threshold3, a_stream, a_bitAt, a_runIndex, a_runCount, a_inRun, a_runBroken, a_magnitude, a_biasSum, a_correction, a_occurrences) p0 p1 p2 := by
  have hc : p0.toNatClampNeg = b := by rw [hp]; exact jl_cl hb
  have hv : vp_in p0 3 := by rw [hp]; exact jl_vi hb
  rw [jl_ov0] at h
  refine nm_e ⟨hnz, nm_e ⟨hv, nm_r (e' := upd a_bound b p2) (by rw [hc]) ⟨hv, nm_r (e' := upd a_range b (jl_size f_max p2)) (by rw [hc]; rfl) ⟨hv, nm_r (e' := upd a_stream b p1) (by rw [hc]) ⟨hv, nm_r (e' := upd a_position b (nI 0)) (by rw [hc]; rfl) ⟨hv, nm_r (e' := upd a_bitAt b (nI 0)) (by rw [hc]; rfl) ⟨hv, nm_r (e' := upd a_runIndex b (nI 0)) (by rw [hc]; rfl) (xr_endRun hp hb ⟨9, xl_reset71 hp hb 8 0 9 (by omega) (by omega) (fun x6 e => ?_)⟩)⟩⟩⟩⟩⟩⟩⟩
  subst e
  exact h
end
end
section
/-! ===== a bank of the arrays as a coder's state; decodeNext, encodeLevel, flushRun, resetCoder in these terms ===== -/
def jl_BV (b : Nat) (c : jC) (lv po bi rI rC iR rB mg bs co oc : Nat → Int32) : Prop :=
  po b = nI c.1 ∧ bi b = nI c.2.2.1 ∧ rI b = nI c.2.2.2.1 ∧ rC b = nI c.2.2.2.2.1 ∧ iR b = jl_bI c.2.2.2.2.2.1 ∧ rB b = jl_bI c.2.2.2.2.2.2.1 ∧ c.1 ≤ 128 ∧ (∀ i, i < c.1 → lv (128 * b + i) = c.2.1 i) ∧
  (∀ i, i < 367 → mg (367 * b + i) = c.2.2.2.2.2.2.2.1 i) ∧ (∀ i, i < 367 → bs (367 * b + i) = c.2.2.2.2.2.2.2.2.1 i) ∧ (∀ i, i < 367 → co (367 * b + i) = c.2.2.2.2.2.2.2.2.2.1 i) ∧ (∀ i, i < 367 → oc (367 * b + i) = c.2.2.2.2.2.2.2.2.2.2 i)
def jl_PV (b s : Nat) (mx near : Int32) (bo rg lb t1 t2 t3 st : Nat → Int32) : Prop :=
  bo b = near ∧ rg b = jl_size mx near ∧ lb b = nI (jl_lb (jl_size mx near)) ∧ t1 b = jl_t1 (jl_size mx near) ∧ t2 b = jl_t2 (jl_size mx near) ∧ t3 b = jl_t3 (jl_size mx near) ∧ st b = nI s
section
variable {lv po bi rI rC iR rB mg bs co oc : Nat → Int32} {b b' : Nat} {c c' : jC}
theorem jl_BV_ov (h : c.1 ≤ 128) : jl_BV b c (jl_ov lv 128 b c.1 c.2.1) (upd po b (nI c.1)) (upd bi b (nI c.2.2.1)) (upd rI b (nI c.2.2.2.1)) (upd rC b (nI c.2.2.2.2.1)) (upd iR b (jl_bI c.2.2.2.2.2.1)) (upd rB b (jl_bI c.2.2.2.2.2.2.1)) (jl_ov mg 367 b 367 c.2.2.2.2.2.2.2.1) (jl_ov bs 367 b 367 c.2.2.2.2.2.2.2.2.1) (jl_ov co 367 b 367 c.2.2.2.2.2.2.2.2.2.1) (jl_ov oc 367 b 367 c.2.2.2.2.2.2.2.2.2.2) :=
  ⟨jl_ur rfl, jl_ur rfl, jl_ur rfl, jl_ur rfl, jl_ur rfl, jl_ur rfl, h, fun i hi => jl_ovr rfl hi, fun i hi => jl_ovr rfl hi, fun i hi => jl_ovr rfl hi, fun i hi => jl_ovr rfl hi, fun i hi => jl_ovr rfl hi⟩
theorem jl_BV_fr (h : c.1 ≤ 128) (hne : b' ≠ b) (hB : jl_BV b' c' lv po bi rI rC iR rB mg bs co oc) : jl_BV b' c' (jl_ov lv 128 b c.1 c.2.1) (upd po b (nI c.1)) (upd bi b (nI c.2.2.1)) (upd rI b (nI c.2.2.2.1)) (upd rC b (nI c.2.2.2.2.1)) (upd iR b (jl_bI c.2.2.2.2.2.1)) (upd rB b (jl_bI c.2.2.2.2.2.2.1)) (jl_ov mg 367 b 367 c.2.2.2.2.2.2.2.1) (jl_ov bs 367 b 367 c.2.2.2.2.2.2.2.2.1) (jl_ov co 367 b 367 c.2.2.2.2.2.2.2.2.2.1) (jl_ov oc 367 b 367 c.2.2.2.2.2.2.2.2.2.2) := by
  obtain ⟨h1, h2, h3, h4, h5, h6, h7, h8, h9, h10, h11, h12⟩ := hB
  refine ⟨(jl_uo hne).trans h1, (jl_uo hne).trans h2, (jl_uo hne).trans h3, (jl_uo hne).trans h4, (jl_uo hne).trans h5, (jl_uo hne).trans h6, h7, fun i hi => ?_, fun i hi => ?_, fun i hi => ?_, fun i hi => ?_, fun i hi => ?_⟩
  · exact (jl_ovo hne (by omega) h).trans (h8 i hi)
  · exact (jl_ovo hne hi (Nat.le_refl _)).trans (h9 i hi)
  · exact (jl_ovo hne hi (Nat.le_refl _)).trans (h10 i hi)
  · exact (jl_ovo hne hi (Nat.le_refl _)).trans (h11 i hi)
  · exact (jl_ovo hne hi (Nat.le_refl _)).trans (h12 i hi)
end
theorem jl_lb_le (sz : Int32) : jl_lb sz ≤ 8 := by
  have h : ∀ f k : Nat, jl_lbF sz f k ≤ k + f := by
    intro f
    induction f with
    | zero => intro k; exact Nat.le_refl _
    | succ f ih =>
      intro k
      rw [jl_lbF]
      split
      · omega
      · have := ih (k + 1); omega
  exact h 8 0
theorem jl_PV_HP {b s w : Nat} {mx near : Int32} {bo rg lb t1 t2 t3 st : Nat → Int32} (h : jl_PV b s mx near bo rg lb t1 t2 t3 st) : jl_HP b (jl_P w mx near) rg lb t1 t2 t3 := by
  obtain ⟨h1, h2, h3, h4, h5, h6, h7⟩ := h
  exact ⟨h2, h3, h4, h5, h6, jl_lb_le _⟩
section
variable {f_writer f_reader f_scratch f_writerStream f_streamWords f_streamBits f_cellStride f_contextStride f_interruptionContext f_codeLimit f_resetCount f_greatestOrder f_width f_height f_cells f_max f_writerOpen f_writerSlot f_readerOpen f_readerSlot f_column f_left f_above f_aboveLeft f_aboveRight f_context f_sign : Int32} {a_picture a_words a_recordLength a_recordBound a_recordBits a_levels a_position a_bound a_range a_levelBits a_threshold1 a_threshold2 a_threshold3 a_stream a_bitAt a_runIndex a_runCount a_inRun a_runBroken a_magnitude a_biasSum a_correction a_occurrences : Nat → Int32} {w nc b s N R : Nat} {P : jP} {c : jC}
theorem xb_decodeNext {post : SX → Prop} {p0 : Int32} (hp : p0 = nI b) (H : jl_HS b s N a_stream a_recordBits) (HP : jl_HP b P a_range a_levelBits a_threshold1 a_threshold2 a_threshold3) (hPw : P.1 = w) (hw : 0 < w) (hw2 : w ≤ 16) (hnc : nc ≤ 128) (hB : jl_BV b c a_levels a_position a_bitAt a_runIndex a_runCount a_inRun a_runBroken a_magnitude a_biasSum a_correction a_occurrences) (hpos : c.1 < nc) (hok : jl_ok c) (hN : (jl_D P (jl_bs a_words s) c).2.2.1 ≤ N) (h : ∀ (cl l a al ar cx sg : Int32) (a_levels' a_position' a_bitAt' a_runIndex' a_runCount' a_inRun' a_runBroken' a_magnitude' a_biasSum' a_correction' a_occurrences' : Nat → Int32), jl_BV b (jl_D P (jl_bs a_words s) c) a_levels' a_position' a_bitAt' a_runIndex' a_runCount' a_inRun' a_runBroken' a_magnitude' a_biasSum' a_correction' a_occurrences' → (∀ (b' : Nat) (c' : jC), b' ≠ b → jl_BV b' c' a_levels a_position a_bitAt a_runIndex a_runCount a_inRun a_runBroken a_magnitude a_biasSum a_correction a_occurrences → jl_BV b' c' a_levels' a_position' a_bitAt' a_runIndex' a_runCount' a_inRun' a_runBroken' a_magnitude' a_biasSum' a_correction' a_occurrences') → post (f_writer, f_reader, f_scratch, f_writerStream, f_streamWords, f_streamBits, f_cellStride, f_contextStride, f_interruptionContext, f_codeLimit, f_resetCount, f_greatestOrder, (nI w), f_height, (nI nc), f_max, f_writerOpen, f_writerSlot, f_readerOpen, f_readerSlot, cl, l, a, al, ar, cx, sg, a_picture, a_words, a_recordLength, a_recordBound, a_recordBits, a_levels', a_position', a_bound, a_range, a_levelBits, a_threshold1, a_threshold2, a_threshold3, a_stream, a_bitAt', a_runIndex', a_runCount', a_inRun', a_runBroken', a_magnitude', a_biasSum', a_correction', a_occurrences')) : wpX_decodeNext post (f_writer, f_reader, f_scratch, f_writerStream, f_streamWords, f_streamBits, f_cellStride, f_contextStride, f_interruptionContext, f_codeLimit, f_resetCount, f_greatestOrder, (nI w), f_height, (nI nc), f_max, f_writerOpen, f_writerSlot, f_readerOpen, f_readerSlot, f_column, f_left, f_above, f_aboveLeft, f_aboveRight, f_context, f_sign, a_picture, a_words, a_recordLength, a_recordBound, a_recordBits, a_levels, a_position, a_bound, a_range, a_levelBits, a_threshold1, a_threshold2, a_threshold3, a_stream, a_bitAt, a_runIndex, a_runCount, a_inRun, a_runBroken, a_magnitude, a_biasSum, a_correction, a_occurrences) p0 := by
  obtain ⟨pos, lev, bit, ri, rc, ir, rb, mg, bs, co, oc⟩ := c
  have hB' := hB
  obtain ⟨h1, h2, h3, h4, h5, h6, h7, h8, h9, h10, h11, h12⟩ := hB'
  have hle : (jl_D P (jl_bs a_words s) (pos, lev, bit, ri, rc, ir, rb, mg, bs, co, oc)).1 ≤ 128 := by
    rw [jl_D_pos]
    dsimp only at hpos ⊢
    omega
  have key : wpX_decodeNext post (f_writer, f_reader, f_scratch, f_writerStream, f_streamWords, f_streamBits, f_cellStride, f_contextStride, f_interruptionContext, f_codeLimit, f_resetCount, f_greatestOrder, (nI w), f_height, (nI nc), f_max, f_writerOpen, f_writerSlot, f_readerOpen, f_readerSlot, f_column, f_left, f_above, f_aboveLeft, f_aboveRight, f_context, f_sign, a_picture, a_words, a_recordLength, a_recordBound, a_recordBits, (jl_ov a_levels 128 b pos lev), (upd a_position b (nI pos)), a_bound, a_range, a_levelBits, a_threshold1, a_threshold2, a_threshold3, a_stream, (upd a_bitAt b (nI bit)), (upd a_runIndex b (nI ri)), (upd a_runCount b (nI rc)), (upd a_inRun b (jl_bI ir)), (upd a_runBroken b (jl_bI rb)), (jl_ov a_magnitude 367 b 367 mg), (jl_ov a_biasSum 367 b 367 bs), (jl_ov a_correction 367 b 367 co), (jl_ov a_occurrences 367 b 367 oc)) p0 := xw_decodeNext hp H HP hPw hw hw2 hpos hnc hok.1 hok.2 hN (fun cl l a al ar cx sg => h cl l a al ar cx sg _ _ _ _ _ _ _ _ _ _ _ (jl_BV_ov hle) (fun b' c' hne hb' => jl_BV_fr hle hne hb'))
  rw [jl_uid h1, jl_uid h2, jl_uid h3, jl_uid h4, jl_uid h5, jl_uid h6, jl_ovid h8, jl_ovid h9, jl_ovid h10, jl_ovid h11, jl_ovid h12] at key
  exact key
theorem xb_encodeLevel {post : SX → Prop} {x : Int32} (HP : jl_HP 0 P a_range a_levelBits a_threshold1 a_threshold2 a_threshold3) (hPR : jl_PR P R) (hPw : P.1 = w) (hnc : nc ≤ 128) (hB : jl_BV 0 c a_levels a_position a_bitAt a_runIndex a_runCount a_inRun a_runBroken a_magnitude a_biasSum a_correction a_occurrences) (hpos : c.1 < nc) (hri : c.2.2.2.1 ≤ 31) (hrc : c.2.2.2.2.1 < 2 ^ jl_ro c.2.2.2.1) (hir : c.2.2.2.2.2.1 = false → c.2.2.2.2.1 = 0) (hrb : c.2.2.2.2.2.2.1 = false) (hx : jl_in R x) (hlev : ∀ i, i < c.1 → jl_in R (c.2.1 i)) (hb : c.2.2.1 + (jl_E P c x).2.length ≤ 4096) (h : ∀ (cl l a al ar cx sg : Int32) (a_levels' a_position' a_bitAt' a_runIndex' a_runCount' a_inRun' a_runBroken' a_magnitude' a_biasSum' a_correction' a_occurrences' : Nat → Int32), jl_BV 0 (jl_E P c x).1 a_levels' a_position' a_bitAt' a_runIndex' a_runCount' a_inRun' a_runBroken' a_magnitude' a_biasSum' a_correction' a_occurrences' → (∀ (b' : Nat) (c' : jC), b' ≠ 0 → jl_BV b' c' a_levels a_position a_bitAt a_runIndex a_runCount a_inRun a_runBroken a_magnitude a_biasSum a_correction a_occurrences → jl_BV b' c' a_levels' a_position' a_bitAt' a_runIndex' a_runCount' a_inRun' a_runBroken' a_magnitude' a_biasSum' a_correction' a_occurrences') → post (f_writer, f_reader, f_scratch, f_writerStream, f_streamWords, f_streamBits, f_cellStride, f_contextStride, f_interruptionContext, f_codeLimit, f_resetCount, f_greatestOrder, (nI w), f_height, (nI nc), f_max, f_writerOpen, f_writerSlot, f_readerOpen, f_readerSlot, cl, l, a, al, ar, cx, sg, a_picture, (jl_pbs (jl_E P c x).2 a_words c.2.2.1), a_recordLength, a_recordBound, a_recordBits, a_levels', a_position', a_bound, a_range, a_levelBits, a_threshold1, a_threshold2, a_threshold3, a_stream, a_bitAt', a_runIndex', a_runCount', a_inRun', a_runBroken', a_magnitude', a_biasSum', a_correction', a_occurrences')) : wpX_encodeLevel post (f_writer, f_reader, f_scratch, f_writerStream, f_streamWords, f_streamBits, f_cellStride, f_contextStride, f_interruptionContext, f_codeLimit, f_resetCount, f_greatestOrder, (nI w), f_height, (nI nc), f_max, f_writerOpen, f_writerSlot, f_readerOpen, f_readerSlot, f_column, f_left, f_above, f_aboveLeft, f_aboveRight, f_context, f_sign, a_picture, a_words, a_recordLength, a_recordBound, a_recordBits, a_levels, a_position, a_bound, a_range, a_levelBits, a_threshold1, a_threshold2, a_threshold3, a_stream, a_bitAt, a_runIndex, a_runCount, a_inRun, a_runBroken, a_magnitude, a_biasSum, a_correction, a_occurrences) x := by
  obtain ⟨pos, lev, bit, ri, rc, ir, rb, mg, bs, co, oc⟩ := c
  have hrb' : rb = false := hrb
  subst hrb'
  have hB' := hB
  obtain ⟨h1, h2, h3, h4, h5, h6, h7, h8, h9, h10, h11, h12⟩ := hB'
  have hle : (jl_E P (pos, lev, bit, ri, rc, ir, false, mg, bs, co, oc) x).1.1 ≤ 128 := by
    have e : (jl_E P (pos, lev, bit, ri, rc, ir, false, mg, bs, co, oc) x).1.1 = pos + 1 := by
      unfold jl_E
      dsimp only
      split <;> rfl
    rw [e]
    dsimp only at hpos
    omega
  have key : wpX_encodeLevel post (f_writer, f_reader, f_scratch, f_writerStream, f_streamWords, f_streamBits, f_cellStride, f_contextStride, f_interruptionContext, f_codeLimit, f_resetCount, f_greatestOrder, (nI w), f_height, (nI nc), f_max, f_writerOpen, f_writerSlot, f_readerOpen, f_readerSlot, f_column, f_left, f_above, f_aboveLeft, f_aboveRight, f_context, f_sign, a_picture, a_words, a_recordLength, a_recordBound, a_recordBits, (jl_ov a_levels 128 0 pos lev), (upd a_position 0 (nI pos)), a_bound, a_range, a_levelBits, a_threshold1, a_threshold2, a_threshold3, a_stream, (upd a_bitAt 0 (nI bit)), (upd a_runIndex 0 (nI ri)), (upd a_runCount 0 (nI rc)), (upd a_inRun 0 (jl_bI ir)), (upd a_runBroken 0 (jl_bI false)), (jl_ov a_magnitude 367 0 367 mg), (jl_ov a_biasSum 367 0 367 bs), (jl_ov a_correction 367 0 367 co), (jl_ov a_occurrences 367 0 367 oc)) x := xw_encodeLevel HP hPR hPw hpos hnc hri hrc hir hx hlev hb (fun cl l a al ar cx sg => h cl l a al ar cx sg _ _ _ _ _ _ _ _ _ _ _ (jl_BV_ov hle) (fun b' c' hne hb' => jl_BV_fr hle hne hb'))
  rw [jl_uid h1, jl_uid h2, jl_uid h3, jl_uid h4, jl_uid h5, jl_uid h6, jl_ovid h8, jl_ovid h9, jl_ovid h10, jl_ovid h11, jl_ovid h12] at key
  exact key
/-- the bits that flushRun puts -/
def jl_fb (c : jC) : List Bool := if c.2.2.2.2.2.1 = true ∧ 0 < c.2.2.2.2.1 then [true] else []
theorem xb_flush {post : SX → Prop} (hB : jl_BV 0 c a_levels a_position a_bitAt a_runIndex a_runCount a_inRun a_runBroken a_magnitude a_biasSum a_correction a_occurrences) (hrc : c.2.2.2.2.1 < 100000) (hb : c.2.2.1 + (jl_fb c).length ≤ 4096) (h : ∀ (a_bitAt' a_runCount' : Nat → Int32), a_bitAt' 0 = nI (c.2.2.1 + (jl_fb c).length) → (∀ (b' : Nat) (c' : jC), b' ≠ 0 → jl_BV b' c' a_levels a_position a_bitAt a_runIndex a_runCount a_inRun a_runBroken a_magnitude a_biasSum a_correction a_occurrences → jl_BV b' c' a_levels a_position a_bitAt' a_runIndex a_runCount' a_inRun a_runBroken a_magnitude a_biasSum a_correction a_occurrences) → post (f_writer, f_reader, f_scratch, f_writerStream, f_streamWords, f_streamBits, f_cellStride, f_contextStride, f_interruptionContext, f_codeLimit, f_resetCount, f_greatestOrder, (nI w), f_height, (nI nc), f_max, f_writerOpen, f_writerSlot, f_readerOpen, f_readerSlot, f_column, f_left, f_above, f_aboveLeft, f_aboveRight, f_context, f_sign, a_picture, (jl_pbs (jl_fb c) a_words c.2.2.1), a_recordLength, a_recordBound, a_recordBits, a_levels, a_position, a_bound, a_range, a_levelBits, a_threshold1, a_threshold2, a_threshold3, a_stream, a_bitAt', a_runIndex, a_runCount', a_inRun, a_runBroken, a_magnitude, a_biasSum, a_correction, a_occurrences)) : wpX_flushRun post (f_writer, f_reader, f_scratch, f_writerStream, f_streamWords, f_streamBits, f_cellStride, f_contextStride, f_interruptionContext, f_codeLimit, f_resetCount, f_greatestOrder, (nI w), f_height, (nI nc), f_max, f_writerOpen, f_writerSlot, f_readerOpen, f_readerSlot, f_column, f_left, f_above, f_aboveLeft, f_aboveRight, f_context, f_sign, a_picture, a_words, a_recordLength, a_recordBound, a_recordBits, a_levels, a_position, a_bound, a_range, a_levelBits, a_threshold1, a_threshold2, a_threshold3, a_stream, a_bitAt, a_runIndex, a_runCount, a_inRun, a_runBroken, a_magnitude, a_biasSum, a_correction, a_occurrences) := by
  obtain ⟨pos, lev, bit, ri, rc, ir, rb, mg, bs, co, oc⟩ := c
  have hB' := hB
  obtain ⟨h1, h2, h3, h4, h5, h6, h7, h8, h9, h10, h11, h12⟩ := hB'
  unfold jl_fb at hb h
  dsimp only at h1 h2 h3 h4 h5 h6 h7 h8 h9 h10 h11 h12 hrc hb h
  have key : wpX_flushRun post (f_writer, f_reader, f_scratch, f_writerStream, f_streamWords, f_streamBits, f_cellStride, f_contextStride, f_interruptionContext, f_codeLimit, f_resetCount, f_greatestOrder, (nI w), f_height, (nI nc), f_max, f_writerOpen, f_writerSlot, f_readerOpen, f_readerSlot, f_column, f_left, f_above, f_aboveLeft, f_aboveRight, f_context, f_sign, a_picture, a_words, a_recordLength, a_recordBound, a_recordBits, (jl_ov a_levels 128 0 pos lev), (upd a_position 0 (nI pos)), a_bound, a_range, a_levelBits, a_threshold1, a_threshold2, a_threshold3, a_stream, (upd a_bitAt 0 (nI bit)), (upd a_runIndex 0 (nI ri)), (upd a_runCount 0 (nI rc)), (upd a_inRun 0 (jl_bI ir)), (upd a_runBroken 0 (jl_bI rb)), (jl_ov a_magnitude 367 0 367 mg), (jl_ov a_biasSum 367 0 367 bs), (jl_ov a_correction 367 0 367 co), (jl_ov a_occurrences 367 0 367 oc)) := by
    refine xw_flush hrc ?_ (fun z => ?_) (fun z => ?_)
    · by_cases z : ir = true ∧ 0 < rc
      · rw [if_pos z] at hb
        have hb' : bit + 1 ≤ 4096 := hb
        exact Or.inl (by omega)
      · exact Or.inr z
    · rw [if_pos z] at h
      rw [jl_uid h1, jl_uid h3, jl_uid h5, jl_uid h6, jl_ovid h8, jl_ovid h9, jl_ovid h10, jl_ovid h11, jl_ovid h12]
      refine h _ _ (jl_ur rfl) (fun b' c' hne hb' => ?_)
      obtain ⟨g1, g2, g3, g4, g5, g6, g7⟩ := hb'
      exact ⟨g1, (jl_uo hne).trans g2, g3, (jl_uo hne).trans g4, g5, g6, g7⟩
    · rw [if_neg z] at h
      rw [jl_uid h1, jl_uid h2, jl_uid h3, jl_uid h4, jl_uid h5, jl_uid h6, jl_ovid h8, jl_ovid h9, jl_ovid h10, jl_ovid h11, jl_ovid h12]
      exact h _ _ h2 (fun b' c' hne hb' => hb')
  rw [jl_uid h1, jl_uid h2, jl_uid h3, jl_uid h4, jl_uid h5, jl_uid h6, jl_ovid h8, jl_ovid h9, jl_ovid h10, jl_ovid h11, jl_ovid h12] at key
  exact key
theorem xb_reset {post : SX → Prop} {p0 p1 p2 : Int32} {s : Nat} (hp : p0 = nI b) (hb : b < 3) (h1 : p1 = nI s) (hnz : ¬ ((2 * p2) + 1 : Int32) = 0) (h : ∀ (a_levels' a_position' a_bitAt' a_runIndex' a_runCount' a_inRun' a_runBroken' a_magnitude' a_biasSum' a_correction' a_occurrences' a_bound' a_range' a_levelBits' a_threshold1' a_threshold2' a_threshold3' a_stream' : Nat → Int32), jl_BV b (jl_c0 (jl_size f_max p2)) a_levels' a_position' a_bitAt' a_runIndex' a_runCount' a_inRun' a_runBroken' a_magnitude' a_biasSum' a_correction' a_occurrences' → jl_PV b s f_max p2 a_bound' a_range' a_levelBits' a_threshold1' a_threshold2' a_threshold3' a_stream' → (∀ (b' : Nat) (c' : jC), b' ≠ b → jl_BV b' c' a_levels a_position a_bitAt a_runIndex a_runCount a_inRun a_runBroken a_magnitude a_biasSum a_correction a_occurrences → jl_BV b' c' a_levels' a_position' a_bitAt' a_runIndex' a_runCount' a_inRun' a_runBroken' a_magnitude' a_biasSum' a_correction' a_occurrences') → (∀ (b' s' : Nat) (m' n' : Int32), b' ≠ b → jl_PV b' s' m' n' a_bound a_range a_levelBits a_threshold1 a_threshold2 a_threshold3 a_stream → jl_PV b' s' m' n' a_bound' a_range' a_levelBits' a_threshold1' a_threshold2' a_threshold3' a_stream') → post (f_writer, f_reader, f_scratch, f_writerStream, f_streamWords, f_streamBits, f_cellStride, f_contextStride, f_interruptionContext, f_codeLimit, f_resetCount, f_greatestOrder, f_width, f_height, f_cells, f_max, f_writerOpen, f_writerSlot, f_readerOpen, f_readerSlot, f_column, f_left, f_above, f_aboveLeft, f_aboveRight, f_context, f_sign, a_picture, a_words, a_recordLength, a_recordBound, a_recordBits, a_levels', a_position', a_bound', a_range', a_levelBits', a_threshold1', a_threshold2', a_threshold3', a_stream', a_bitAt', a_runIndex', a_runCount', a_inRun', a_runBroken', a_magnitude', a_biasSum', a_correction', a_occurrences')) : wpX_resetCoder post (f_writer, f_reader, f_scratch, f_writerStream, f_streamWords, f_streamBits, f_cellStride, f_contextStride, f_interruptionContext, f_codeLimit, f_resetCount, f_greatestOrder, f_width, f_height, f_cells, f_max, f_writerOpen, f_writerSlot, f_readerOpen, f_readerSlot, f_column, f_left, f_above, f_aboveLeft, f_aboveRight, f_context, f_sign, a_picture, a_words, a_recordLength, a_recordBound, a_recordBits, a_levels, a_position, a_bound, a_range, a_levelBits, a_threshold1, a_threshold2, a_threshold3, a_stream, a_bitAt, a_runIndex, a_runCount, a_inRun, a_runBroken, a_magnitude, a_biasSum, a_correction, a_occurrences) p0 p1 p2 := by
  subst h1
  have hle : (jl_c0 (jl_size f_max p2)).1 ≤ 128 := Nat.zero_le _
  refine xw_reset hp hb hnz (h _ _ _ _ _ _ _ _ _ _ _ _ _ _ _ _ _ _ (jl_BV_ov hle) ⟨jl_ur rfl, jl_ur rfl, jl_ur rfl, jl_ur rfl, jl_ur rfl, jl_ur rfl, jl_ur rfl⟩ (fun b' c' hne hb' => jl_BV_fr hle hne hb') (fun b' s' m' n' hne hb' => ?_))
  obtain ⟨g1, g2, g3, g4, g5, g6, g7⟩ := hb'
  exact ⟨(jl_uo hne).trans g1, (jl_uo hne).trans g2, (jl_uo hne).trans g3, (jl_uo hne).trans g4, (jl_uo hne).trans g5, (jl_uo hne).trans g6, (jl_uo hne).trans g7⟩
end
end
section
/-! ===== bits in the words; the writer's invariant; records ===== -/
theorem jl_bs_pb {W : Nat → Int32} {p s : Nat} {x : Bool} (hs : s < 4) : jl_bs (jl_pb W p x) s = jl_bs W s := by
  funext k
  unfold jl_bs
  by_cases hk : k < 4096
  · have e : jl_pb W p x (s * 128 + k / 32) = W (s * 128 + k / 32) := pk_un (by omega)
    rw [e]
  · rw [jl_df hk]
    rfl
theorem jl_mask {p i : Nat} (hp : p < 4096) (hi : i < 32) : bt ((1 : Int32) <<< ((nI p &&& 31) &&& 31)) i = decide (i = p % 32) := by
  rw [jl_m32 p (by omega), b_shl (p % 32) (by omega) 1 hi]
  by_cases h : i = p % 32
  · rw [jl_dt h, jl_dt (show p % 32 ≤ i by omega), jl_bt1 _ (by omega), jl_dt (show i - p % 32 = 0 by omega)]
    rfl
  · rw [jl_df h]
    by_cases g : p % 32 ≤ i
    · rw [jl_dt g, jl_bt1 _ (by omega), jl_df (show ¬ i - p % 32 = 0 by omega)]
      rfl
    · rw [jl_df g]
      rfl
theorem jl_bs4 {W : Nat → Int32} {p k : Nat} {x : Bool} (hp : p < 4096) : jl_bs (jl_pb W p x) 4 k = if k = p then x else jl_bs W 4 k := by
  unfold jl_bs
  by_cases hk : k < 4096
  · rw [jl_dt hk, Bool.true_and, Bool.true_and, show 4 * 128 + k / 32 = 512 + k / 32 by omega]
    unfold jl_pb
    by_cases hq : k / 32 = p / 32
    · rw [hq, pk_us]
      have hb := jl_mask (i := k % 32) hp (by omega)
      cases x
      · rw [if_neg (by decide), b_and, b_xor, hb, b_m1 _ (by omega)]
        by_cases h : k = p
        · rw [if_pos h, jl_dt (show k % 32 = p % 32 by omega)]
          simp
        · rw [if_neg h, jl_df (show ¬ k % 32 = p % 32 by omega)]
          simp
      · rw [if_pos rfl, b_or, hb]
        by_cases h : k = p
        · rw [if_pos h, jl_dt (show k % 32 = p % 32 by omega)]
          simp
        · rw [if_neg h, jl_df (show ¬ k % 32 = p % 32 by omega)]
          simp
    · rw [pk_un (by omega), if_neg (by omega)]
  · rw [jl_df hk, Bool.false_and, Bool.false_and, if_neg (by omega)]
theorem jl_bs_pbs {s : Nat} (hs : s < 4) : ∀ (xs : List Bool) (W : Nat → Int32) (p : Nat), jl_bs (jl_pbs xs W p) s = jl_bs W s := by
  intro xs
  induction xs with
  | nil => intro W p; rfl
  | cons x xs ih =>
    intro W p
    rw [jl_pbs, ih, jl_bs_pb hs]
theorem jl_bs4_lo : ∀ (xs : List Bool) (W : Nat → Int32) (p k : Nat), p + xs.length ≤ 4096 → k < p → jl_bs (jl_pbs xs W p) 4 k = jl_bs W 4 k := by
  intro xs
  induction xs with
  | nil => intro W p k _ _; rfl
  | cons x xs ih =>
    intro W p k hp hk
    rw [List.length_cons] at hp
    rw [jl_pbs, ih _ _ _ (by omega) (by omega), jl_bs4 (by omega), if_neg (by omega)]
theorem jl_rd_pbs : ∀ (xs : List Bool) (W : Nat → Int32) (p : Nat), p + xs.length ≤ 4096 → jl_rdL (jl_bs (jl_pbs xs W p) 4) xs p := by
  intro xs
  induction xs with
  | nil => intro W p _; exact True.intro
  | cons x xs ih =>
    intro W p hp
    rw [List.length_cons] at hp
    rw [jl_pbs]
    refine ⟨?_, ih _ _ (by omega)⟩
    rw [jl_bs4_lo _ _ _ _ (by omega) (by omega), jl_bs4 (by omega), if_pos rfl]
theorem jl_rdL_c {β β' : Nat → Bool} : ∀ (xs : List Bool) (p : Nat), (∀ k, k < p + xs.length → β' k = β k) → jl_rdL β xs p → jl_rdL β' xs p := by
  intro xs
  induction xs with
  | nil => intro p _ _; exact True.intro
  | cons x xs ih =>
    intro p h r
    rw [List.length_cons] at h
    exact ⟨(h p (by omega)).trans r.1, ih (p + 1) (fun k hk => h k (by omega)) r.2⟩
theorem jl_E_bit (P : jP) (c : jC) (x : Int32) : (jl_E P c x).1.2.2.1 = c.2.2.1 + (jl_E P c x).2.length := by
  unfold jl_E
  dsimp only
  split <;> rfl
theorem jl_E_pos (P : jP) (c : jC) (x : Int32) : (jl_E P c x).1.1 = c.1 + 1 := by
  unfold jl_E
  dsimp only
  split <;> rfl
theorem jl_E_lev (P : jP) (c : jC) (x : Int32) : (jl_E P c x).1.2.1 = upd c.2.1 c.1 x := by
  unfold jl_E
  dsimp only
  split <;> rfl
/-- the writer's invariant: every stream that holds its bits brings a decoder to the lagging state -/
def jl_WI (P : jP) (R : Nat) (c0 c : jC) (wβ : Nat → Bool) : Prop := ∃ dir : Bool, jl_LG P R c dir ∧ ∀ β : Nat → Bool, (∀ k, k < c.2.2.1 → β k = wβ k) → jl_Dit P β (c.1 - c.2.2.2.2.1) c0 = jl_lag c dir
theorem jl_WI_0 {P : jP} {R : Nat} {sz : Int32} {wβ : Nat → Bool} (hw : 0 < P.1) : jl_WI P R (jl_c0 sz) (jl_c0 sz) wβ := by
  have e : jl_cut 0 (fun _ => (0 : Int32)) = fun _ => 0 := by
    funext j
    unfold jl_cut
    rw [if_neg (by omega)]
  refine ⟨false, ⟨rfl, e, Nat.le_refl _, fun _ => rfl, fun h => absurd h (Nat.lt_irrefl _), ?_, fun j _ h => absurd h (Nat.not_lt_zero _), Nat.two_pow_pos _, Nat.zero_le _, Nat.zero_le _, fun i h => absurd h (Nat.not_lt_zero _)⟩, fun β _ => ?_⟩
  · show 0 % P.1 + 0 < P.1
    rw [Nat.zero_mod]
    omega
  · unfold jl_lag jl_c0
    dsimp only
    show _ = (0, jl_cut 0 (fun _ => (0 : Int32)), 0, 0, 0, false, false, jl_M0 sz)
    rw [e]
    rfl
theorem jl_WI_E {P : jP} {R : Nat} {c0 c : jC} {x : Int32} {W : Nat → Int32} (hP : jl_PR P R) (hx : jl_in R x) (hpos : c.1 < 128) (h : jl_WI P R c0 c (jl_bs W 4)) : c.2.2.1 + (jl_E P c x).2.length ≤ 4096 ∧ jl_WI P R c0 (jl_E P c x).1 (jl_bs (jl_pbs (jl_E P c x).2 W c.2.2.1) 4) := by
  obtain ⟨dir, hL, hd⟩ := h
  have hb := jl_E_bit P c x
  have hp := jl_E_pos P c x
  have key : ∃ (dir' : Bool) (n : Nat), jl_LG P R (jl_E P c x).1 dir' ∧ (jl_E P c x).1.1 - (jl_E P c x).1.2.2.2.2.1 = (c.1 - c.2.2.2.2.1) + n ∧ ∀ β : Nat → Bool, jl_rdL β (jl_E P c x).2 c.2.2.1 → jl_Dit P β n (jl_lag c dir) = jl_lag (jl_E P c x).1 dir' := by
    obtain ⟨p, L, bit, ri, k, ir, rb, M⟩ := c
    have hrb : rb = false := hL.1
    subst hrb
    exact jl_E_step hP hx hL
  obtain ⟨dir', n, hL', hn, hs⟩ := key
  have hcap : c.2.2.1 + (jl_E P c x).2.length ≤ 4096 := by
    have := hL'.2.2.2.2.2.2.2.2.2.1
    omega
  refine ⟨hcap, dir', hL', fun β hβ => ?_⟩
  rw [hb] at hβ
  rw [hn, jl_Dit_add, hd β (fun k hk => (hβ k (by omega)).trans (jl_bs4_lo _ _ _ _ hcap hk))]
  exact hs β (jl_rdL_c _ _ hβ (jl_rd_pbs _ _ _ hcap))
/-- what flushRun leaves is a stream that decodes to the levels -/
theorem jl_flush_law {P : jP} {R : Nat} {c0 c : jC} {W : Nat → Int32} (hP : jl_PR P R) (hpos : c.1 ≤ 128) (h : jl_WI P R c0 c (jl_bs W 4)) : c.2.2.1 + (jl_fb c).length ≤ 4096 ∧ ∀ β : Nat → Bool, (∀ k, k < c.2.2.1 + (jl_fb c).length → β k = jl_bs (jl_pbs (jl_fb c) W c.2.2.1) 4 k) → (jl_Dit P β c.1 c0).2.1 = c.2.1 ∧ (jl_Dit P β c.1 c0).2.2.1 ≤ c.2.2.1 + (jl_fb c).length := by
  obtain ⟨dir, hL, hd⟩ := h
  obtain ⟨p, L, bit, ri, k, ir, rb, M⟩ := c
  obtain ⟨hw, hw2, _⟩ := hP
  obtain ⟨hrb, hcut, hk, hd0, hd1, hcol, hlv, hko, hri, hbit, hin⟩ := hL
  have hrb' : rb = false := hrb
  subst hrb'
  unfold jl_fb
  dsimp only at hcut hk hd0 hd1 hcol hlv hko hri hbit hin hd hpos ⊢
  rcases Nat.eq_zero_or_pos k with e | e
  · subst e
    rw [if_neg (fun y => absurd y.2 (Nat.lt_irrefl 0))]
    have hcap : bit + ([] : List Bool).length ≤ 4096 := by
      show bit + 0 ≤ 4096
      omega
    refine ⟨hcap, fun β hβ => ?_⟩
    have g := hd β (fun k hk => hβ k hk)
    rw [Nat.sub_zero] at g
    rw [g]
    unfold jl_lag
    dsimp only
    rw [Nat.sub_zero]
    exact ⟨hcut, Nat.le_refl _⟩
  · have hir := (hd1 e).1
    have hdir := (hd1 e).2
    rw [if_pos ⟨hir, e⟩]
    have hcap : bit + ([true] : List Bool).length ≤ 4096 := by
      show bit + 1 ≤ 4096
      omega
    refine ⟨hcap, fun β hβ => ?_⟩
    have r := jl_rdL_c _ _ hβ (jl_rd_pbs _ W _ hcap)
    have r1 : β bit = true := r.1
    have g := hd β (fun k hk => (hβ k (by show k < bit + 1; omega)).trans (jl_bs4_lo _ _ _ _ hcap hk))
    have ep : p - k + k = p := by omega
    have hm : ∀ j, p - k ≤ j → j < p → j % P.1 ≠ P.1 - 1 := by
      intro j h1 h2
      have g := jl_mod_run (j := j - (p - k)) hw hcol (by omega)
      rw [show p - k + (j - (p - k)) = j by omega] at g
      omega
    have hz : ∃ (ri' r : Nat), k ≤ r ∧ jl_rd P.1 ((p - k) % P.1) β bit ri = (bit + 1, ri', r, false) := by
      unfold jl_rd
      rw [if_neg (by rw [r1]; decide)]
      by_cases z : P.1 - (p - k) % P.1 < 2 ^ jl_ro ri
      · rw [if_pos z]
        exact ⟨_, _, by omega, rfl⟩
      · rw [if_neg z]
        exact ⟨_, _, by omega, rfl⟩
    obtain ⟨ri', r', hr, hz⟩ := hz
    have it : jl_Dit P β p c0 = jl_Dit P β k (jl_Dit P β (p - k) c0) := by rw [← jl_Dit_add, ep]
    rw [it, g, jl_lag_it hw hdir hz (fun y => absurd y.1 (by dsimp only; omega)) e]
    dsimp only
    rw [jl_runs hw k (p - k) r' hr (fun i h1 h2 => ⟨hlv i h1 (by omega), hm i h1 (by omega)⟩), ep]
    exact ⟨hcut, Nat.le_refl _⟩
/-! runs of the decoder -/
theorem jl_D_lev (P : jP) (β : Nat → Bool) (c : jC) : ∃ x : Int32, (jl_D P β c).2.1 = upd c.2.1 c.1 x := by
  unfold jl_D
  dsimp only
  split
  · exact ⟨_, rfl⟩
  · exact ⟨_, rfl⟩
theorem jl_Dit_pos {P : jP} {β : Nat → Bool} {sz : Int32} : ∀ n : Nat, (jl_Dit P β n (jl_c0 sz)).1 = n := by
  intro n
  induction n with
  | zero => rfl
  | succ n ih => rw [jl_Dit, jl_D_pos, ih]
theorem jl_Dit_ok {P : jP} {β : Nat → Bool} {sz : Int32} (hw : P.1 ≤ 16) : ∀ n : Nat, jl_ok (jl_Dit P β n (jl_c0 sz)) := by
  intro n
  induction n with
  | zero => exact ⟨Nat.zero_le _, Nat.zero_le _⟩
  | succ n ih => exact jl_D_ok hw ih
theorem jl_Dit_bit {P : jP} {β : Nat → Bool} {c : jC} {m : Nat} : ∀ d : Nat, (jl_Dit P β m c).2.2.1 ≤ (jl_Dit P β (m + d) c).2.2.1 := by
  intro d
  induction d with
  | zero => exact Nat.le_refl _
  | succ d ih => exact Nat.le_trans ih (jl_D_ge _ _ _)
theorem jl_Dit_lev {P : jP} {β : Nat → Bool} {sz : Int32} {m i : Nat} (hi : i < m) : ∀ d : Nat, (jl_Dit P β (m + d) (jl_c0 sz)).2.1 i = (jl_Dit P β m (jl_c0 sz)).2.1 i := by
  intro d
  induction d with
  | zero => rfl
  | succ d ih =>
    obtain ⟨x, hx⟩ := jl_D_lev P β (jl_Dit P β (m + d) (jl_c0 sz))
    show (jl_D P β (jl_Dit P β (m + d) (jl_c0 sz))).2.1 i = _
    rw [hx, pk_un (by rw [jl_Dit_pos]; omega), ih]
/-- n levels decode out of a stream of N bits, each below R -/
def jl_RO (P : jP) (R : Nat) (c0 : jC) (β : Nat → Bool) (N n : Nat) : Prop := (jl_Dit P β n c0).2.2.1 ≤ N ∧ ∀ i, i < n → jl_in R ((jl_Dit P β n c0).2.1 i)
theorem jl_RO_bit {P : jP} {R N n i : Nat} {c0 : jC} {β : Nat → Bool} (h : jl_RO P R c0 β N n) (hi : i < n) : (jl_D P β (jl_Dit P β i c0)).2.2.1 ≤ N := by
  have g := jl_Dit_bit (P := P) (β := β) (c := c0) (m := i + 1) (n - (i + 1))
  rw [show i + 1 + (n - (i + 1)) = n by omega] at g
  exact Nat.le_trans g h.1
theorem jl_RO_lev {P : jP} {n m i : Nat} {sz : Int32} {β : Nat → Bool} (hi : i < m) (hm : m ≤ n) : (jl_Dit P β m (jl_c0 sz)).2.1 i = (jl_Dit P β n (jl_c0 sz)).2.1 i := by
  have g := jl_Dit_lev (P := P) (β := β) (sz := sz) hi (n - m)
  rw [show m + (n - m) = n by omega] at g
  exact g.symm
theorem jl_RO_cut {P : jP} {R N n m : Nat} {sz : Int32} {β : Nat → Bool} (h : jl_RO P R (jl_c0 sz) β N n) (hm : m ≤ n) : jl_RO P R (jl_c0 sz) β (jl_Dit P β m (jl_c0 sz)).2.2.1 m := ⟨Nat.le_refl _, fun i hi => by rw [jl_RO_lev hi hm]; exact h.2 i (by omega)⟩
/-! the parameters: greatest sample mx = 2 ^ d - 1, bound near -/
def jl_R (mx near : Nat) : Nat := (mx + near) / (2 * near + 1) + 1
theorem jl_step_e {near : Nat} : (2 * nI near) + 1 = nI (2 * near + 1) := by
  show nI 2 * nI near + nI 1 = _
  rw [pk_mul, nI_add]
theorem jl_size_e {mx near : Nat} (hm : mx ≤ 255) (hn : near ≤ 7) : jl_size (nI mx) (nI near) = nI (jl_R mx near) := by
  unfold jl_size jl_R
  rw [jl_step_e, nI_add, pk_div (by omega) (by omega) (by omega), nI_1]
theorem jl_R_r {mx near : Nat} (h3 : 3 ≤ mx) (hm : mx ≤ 255) (hn : 2 * near ≤ mx) : 2 ≤ jl_R mx near ∧ jl_R mx near ≤ 256 := by
  unfold jl_R
  have h1 : 1 ≤ (mx + near) / (2 * near + 1) := (Nat.le_div_iff_mul_le (by omega)).mpr (by omega)
  have h2 : (mx + near) / (2 * near + 1) ≤ 255 := by
    apply Nat.div_le_of_le_mul
    have := Nat.mul_le_mul_right 255 (show 1 ≤ 2 * near + 1 by omega)
    rcases Nat.eq_zero_or_pos near with e | e
    · subst e; omega
    · have := Nat.mul_le_mul_right 255 (show 2 ≤ 2 * near + 1 by omega)
      omega
  omega
theorem jl_lb_tab : ∀ R, R < 257 → R ≤ 2 ^ jl_lb (nI R) := by decide +kernel
theorem jl_PR_e {w mx near : Nat} (hw : 0 < w) (hw2 : w ≤ 16) (h3 : 3 ≤ mx) (hm : mx ≤ 255) (hn : near ≤ 7) (hn2 : 2 * near ≤ mx) : jl_PR (jl_P w (nI mx) (nI near)) (jl_R mx near) := by
  have r := jl_R_r h3 hm hn2
  refine ⟨hw, hw2, jl_size_e hm hn, r.1, r.2, jl_lb_le _, ?_⟩
  show _ ≤ 2 ^ jl_lb (jl_size (nI mx) (nI near))
  rw [jl_size_e hm hn]
  exact jl_lb_tab _ (by omega)
theorem jl_nz {near : Nat} (hn : near ≤ 7) : ¬ ((2 * nI near) + 1 : Int32) = 0 := by
  rw [jl_step_e]
  exact nI_ne0 (by omega) (by omega)
/-- the level of a sample -/
theorem jl_level {mx near : Nat} {v : Int32} (hm : mx ≤ 255) (hn : near ≤ 7) (hv : jl_in (mx + 1) v) : ∃ q : Nat, (v + nI near) / ((2 * nI near) + 1) = nI q ∧ q < jl_R mx near ∧ jl_in (jl_R mx near) (nI q) := by
  obtain ⟨h0, h1⟩ := hv
  have g := jl_inn h0
  have e : v = nI v.toNatClampNeg := g.1
  generalize v.toNatClampNeg = j at e g
  subst e
  have hj : j ≤ mx := by
    have := g.2
    omega
  have hq : (j + near) / (2 * near + 1) < jl_R mx near := by
    unfold jl_R
    have := Nat.div_le_div_right (c := 2 * near + 1) (show j + near ≤ mx + near by omega)
    omega
  have hR : jl_R mx near ≤ 1000 := by
    unfold jl_R
    have := Nat.div_le_self (mx + near) (2 * near + 1)
    omega
  refine ⟨(j + near) / (2 * near + 1), ?_, hq, ?_⟩
  · rw [jl_step_e, nI_add, pk_div (by omega) (by omega) (by omega)]
  · generalize (j + near) / (2 * near + 1) = q at hq ⊢
    unfold jl_in
    rw [nI_toInt (by omega)]
    omega
/-- samples out of levels are within -/
theorem jl_smp_in {mx near : Nat} {x : Int32} (hm : mx ≤ 255) (hn : near ≤ 7) (hn2 : 2 * near ≤ mx) (h3 : 3 ≤ mx) (hx : jl_in (jl_R mx near) x) : jl_in (mx + 1) (jl_smp (nI mx) (nI near) x) := by
  have r := jl_R_r h3 hm hn2
  obtain ⟨h0, h1⟩ := hx
  have g := jl_inn h0
  have e : x = nI x.toNatClampNeg := g.1
  generalize x.toNatClampNeg = j at e g
  subst e
  have hj : j ≤ 256 := by
    have := g.2
    omega
  have hb : j * (2 * near + 1) ≤ 256 * 15 := Nat.mul_le_mul hj (by omega)
  unfold jl_smp jl_min jl_in
  rw [jl_step_e, pk_mul]
  split
  · rw [nI_toInt (by omega)]
    omega
  · rename_i z
    rw [nI_leI (by omega) (by omega)] at z
    rw [nI_toInt (by omega)]
    omega
end
section
/-! ===== the relation ===== -/
def jl_mx (mx : Nat) : Prop := ∃ d : Nat, 2 ≤ d ∧ d ≤ 8 ∧ mx = 2 ^ d - 1
theorem jl_mx_r {mx : Nat} (h : jl_mx mx) : 3 ≤ mx ∧ mx ≤ 255 := by
  obtain ⟨d, h1, h2, rfl⟩ := h
  have a : 2 ^ 2 ≤ 2 ^ d := Nat.pow_le_pow_right (by decide) h1
  have b : 2 ^ d ≤ 2 ^ 8 := Nat.pow_le_pow_right (by decide) h2
  omega
theorem jl_mx_and {mx : Nat} (h : jl_mx mx) (x : Int32) : jl_in (mx + 1) (x &&& nI mx) := by
  obtain ⟨d, h1, h2, rfl⟩ := h
  have a : 2 ^ 2 ≤ 2 ^ d := Nat.pow_le_pow_right (by decide) h1
  have b : 2 ^ d ≤ 2 ^ 8 := Nat.pow_le_pow_right (by decide) h2
  have e : (nI (2 ^ d - 1)).toBitVec.toNat = 2 ^ d - 1 := pk_tn (by omega)
  rw [pk_and x d e]
  have hm := Nat.mod_lt x.toBitVec.toNat (show 0 < 2 ^ d by omega)
  unfold jl_in
  generalize x.toBitVec.toNat % 2 ^ d = t at hm ⊢
  rw [nI_toInt (by omega)]
  omega
/-- n levels out of a stream -/
def jl_dn (w mx near : Nat) (β : Nat → Bool) (n : Nat) : jC := jl_Dit (jl_P w (nI mx) (nI near)) β n (jl_c0 (jl_size (nI mx) (nI near)))
def jl_ro1 (w mx near : Nat) (β : Nat → Bool) (N n : Nat) : Prop := jl_RO (jl_P w (nI mx) (nI near)) (jl_R mx near) (jl_c0 (jl_size (nI mx) (nI near))) β N n
def jl_wi1 (w mx near : Nat) (c : jC) (β : Nat → Bool) : Prop := jl_WI (jl_P w (nI mx) (nI near)) (jl_R mx near) (jl_c0 (jl_size (nI mx) (nI near))) c β
/-- record s: n levels within, and the reference's samples are theirs -/
def jl_Rec (w nc mx s : Nat) (wd rl bo rbi yr : Nat → Int32) : Prop :=
  ∃ n near N : Nat, rl s = nI n ∧ bo s = nI near ∧ rbi s = nI N ∧ n ≤ nc ∧ near ≤ 7 ∧ 2 * near ≤ mx ∧ N ≤ 4096 ∧ jl_ro1 w mx near (jl_bs wd s) N n ∧ ∀ i, i < n → yr (128 * s + i) = jl_smp (nI mx) (nI near) ((jl_dn w mx near (jl_bs wd s) n).2.1 i)
def jl_Wr (w nc mx : Nat) (wo ws gs gn gp : Int32) (wd yw lv po bi rI rC iR rB mg bs co oc bn rg lb t1 t2 t3 st : Nat → Int32) : Prop :=
  (wo = 0 ∧ gs = -1) ∨ (wo = 1 ∧ ∃ (s near : Nat) (c : jC), s < 4 ∧ ws = nI s ∧ gs = nI s ∧ near ≤ 7 ∧ 2 * near ≤ mx ∧ gn = nI near ∧ c.1 ≤ nc ∧ gp = nI c.1 ∧ jl_BV 0 c lv po bi rI rC iR rB mg bs co oc ∧ jl_PV 0 4 (nI mx) (nI near) bn rg lb t1 t2 t3 st ∧ jl_wi1 w mx near c (jl_bs wd 4) ∧ ∀ i, i < c.1 → yw i = jl_smp (nI mx) (nI near) (c.2.1 i))
def jl_Rd (w nc mx : Nat) (ro rs gs gd : Int32) (wd rl bo yd lv po bi rI rC iR rB mg bs co oc bn rg lb t1 t2 t3 st : Nat → Int32) : Prop :=
  ∃ (c : jC) (s near : Nat), jl_BV 1 c lv po bi rI rC iR rB mg bs co oc ∧ jl_PV 1 s (nI mx) (nI near) bn rg lb t1 t2 t3 st ∧ c.1 ≤ nc ∧ gd = nI c.1 ∧ (∀ i, i < c.1 → yd i = jl_smp (nI mx) (nI near) (c.2.1 i)) ∧
  ((ro = 0 ∧ gs = -1) ∨ (ro = 1 ∧ s < 4 ∧ rs = nI s ∧ gs = nI s ∧ bo s = nI near ∧ near ≤ 7 ∧ (∃ n : Nat, rl s = nI n ∧ c.1 ≤ n ∧ n ≤ nc) ∧ c = jl_dn w mx near (jl_bs wd s) c.1))
def jl_F (w h mx : Nat) (f_writerOpen f_writerSlot f_readerOpen f_readerSlot : Int32) (a_words a_recordBits a_levels a_position a_bitAt a_runIndex a_runCount a_inRun a_runBroken a_magnitude a_biasSum a_correction a_occurrences a_bound a_range a_levelBits a_threshold1 a_threshold2 a_threshold3 a_stream : Nat → Int32) (g_wSlot g_wNear g_wPos g_rSlot g_d : Int32) (y_src y_rec y_len y_bound y_written y_dec : Nat → Int32) : Prop :=
  0 < w ∧ w ≤ 16 ∧ 0 < h ∧ h ≤ 8 ∧ jl_mx mx ∧ (∀ i, jl_in (mx + 1) (y_src i)) ∧ (∀ s, s < 4 → jl_Rec w (w * h) mx s a_words y_len y_bound a_recordBits y_rec) ∧
  jl_Wr w (w * h) mx f_writerOpen f_writerSlot g_wSlot g_wNear g_wPos a_words y_written a_levels a_position a_bitAt a_runIndex a_runCount a_inRun a_runBroken a_magnitude a_biasSum a_correction a_occurrences a_bound a_range a_levelBits a_threshold1 a_threshold2 a_threshold3 a_stream ∧ jl_Rd w (w * h) mx f_readerOpen f_readerSlot g_rSlot g_d a_words y_len y_bound y_dec a_levels a_position a_bitAt a_runIndex a_runCount a_inRun a_runBroken a_magnitude a_biasSum a_correction a_occurrences a_bound a_range a_levelBits a_threshold1 a_threshold2 a_threshold3 a_stream
def i_Rel (_ : Nat) (u : SX) (v : SY) : Prop := match u with
  | (f_writer, f_reader, f_scratch, f_writerStream, f_streamWords, f_streamBits, f_cellStride, f_contextStride, f_interruptionContext, f_codeLimit, f_resetCount, f_greatestOrder, f_width, f_height, f_cells, f_max, f_writerOpen, f_writerSlot, f_readerOpen, f_readerSlot, f_column, f_left, f_above, f_aboveLeft, f_aboveRight, f_context, f_sign, a_picture, a_words, a_recordLength, a_recordBound, a_recordBits, a_levels, a_position, a_bound, a_range, a_levelBits, a_threshold1, a_threshold2, a_threshold3, a_stream, a_bitAt, a_runIndex, a_runCount, a_inRun, a_runBroken, a_magnitude, a_biasSum, a_correction, a_occurrences) => match v with
    | (g_w, g_h, g_max, g_wSlot, g_wNear, g_wPos, g_rSlot, g_d, y_src, y_rec, y_len, y_bound, y_written, y_dec) => ∃ w h mx : Nat, f_width = nI w ∧ f_height = nI h ∧ f_cells = nI (w * h) ∧ f_max = nI mx ∧ g_w = nI w ∧ g_h = nI h ∧ g_max = nI mx ∧ a_picture = y_src ∧ a_recordLength = y_len ∧ a_recordBound = y_bound ∧ jl_F w h mx f_writerOpen f_writerSlot f_readerOpen f_readerSlot a_words a_recordBits a_levels a_position a_bitAt a_runIndex a_runCount a_inRun a_runBroken a_magnitude a_biasSum a_correction a_occurrences a_bound a_range a_levelBits a_threshold1 a_threshold2 a_threshold3 a_stream g_wSlot g_wNear g_wPos g_rSlot g_d y_src y_rec y_len y_bound y_written y_dec
theorem i_up {k : Nat} {u : SX} {v : SY} (h : i_Rel k u v) : i_Rel (k + 5) u v := h
section
variable {f_writer f_reader f_scratch f_writerStream f_streamWords f_streamBits f_cellStride f_contextStride f_interruptionContext f_codeLimit f_resetCount f_greatestOrder f_width f_height f_cells f_max f_writerOpen f_writerSlot f_readerOpen f_readerSlot f_column f_left f_above f_aboveLeft f_aboveRight f_context f_sign : Int32} {a_picture a_words a_recordLength a_recordBound a_recordBits a_levels a_position a_bound a_range a_levelBits a_threshold1 a_threshold2 a_threshold3 a_stream a_bitAt a_runIndex a_runCount a_inRun a_runBroken a_magnitude a_biasSum a_correction a_occurrences : Nat → Int32} {g_wSlot g_wNear g_wPos g_rSlot g_d : Int32} {y_src y_rec y_len y_bound y_written y_dec : Nat → Int32} {w h mx : Nat}
theorem jl_intro {k : Nat} (F : jl_F w h mx f_writerOpen f_writerSlot f_readerOpen f_readerSlot a_words a_recordBits a_levels a_position a_bitAt a_runIndex a_runCount a_inRun a_runBroken a_magnitude a_biasSum a_correction a_occurrences a_bound a_range a_levelBits a_threshold1 a_threshold2 a_threshold3 a_stream g_wSlot g_wNear g_wPos g_rSlot g_d y_src y_rec y_len y_bound y_written y_dec) : i_Rel k (f_writer, f_reader, f_scratch, f_writerStream, f_streamWords, f_streamBits, f_cellStride, f_contextStride, f_interruptionContext, f_codeLimit, f_resetCount, f_greatestOrder, (nI w), (nI h), (nI (w * h)), (nI mx), f_writerOpen, f_writerSlot, f_readerOpen, f_readerSlot, f_column, f_left, f_above, f_aboveLeft, f_aboveRight, f_context, f_sign, y_src, a_words, y_len, y_bound, a_recordBits, a_levels, a_position, a_bound, a_range, a_levelBits, a_threshold1, a_threshold2, a_threshold3, a_stream, a_bitAt, a_runIndex, a_runCount, a_inRun, a_runBroken, a_magnitude, a_biasSum, a_correction, a_occurrences) ((nI w), (nI h), (nI mx), g_wSlot, g_wNear, g_wPos, g_rSlot, g_d, y_src, y_rec, y_len, y_bound, y_written, y_dec) := ⟨w, h, mx, rfl, rfl, rfl, rfl, rfl, rfl, rfl, rfl, rfl, rfl, F⟩
end
theorem jl_el {k : Nat} {u : SX} {v : SY} {Q : SX → SY → Prop} (I : i_Rel k u v) (hQ : ∀ (f_writer f_reader f_scratch f_writerStream f_streamWords f_streamBits f_cellStride f_contextStride f_interruptionContext f_codeLimit f_resetCount f_greatestOrder f_writerOpen f_writerSlot f_readerOpen f_readerSlot f_column f_left f_above f_aboveLeft f_aboveRight f_context f_sign : Int32) (a_words a_recordBits a_levels a_position a_bitAt a_runIndex a_runCount a_inRun a_runBroken a_magnitude a_biasSum a_correction a_occurrences a_bound a_range a_levelBits a_threshold1 a_threshold2 a_threshold3 a_stream : Nat → Int32) (g_wSlot g_wNear g_wPos g_rSlot g_d : Int32) (y_src y_rec y_len y_bound y_written y_dec : Nat → Int32) (w h mx : Nat), jl_F w h mx f_writerOpen f_writerSlot f_readerOpen f_readerSlot a_words a_recordBits a_levels a_position a_bitAt a_runIndex a_runCount a_inRun a_runBroken a_magnitude a_biasSum a_correction a_occurrences a_bound a_range a_levelBits a_threshold1 a_threshold2 a_threshold3 a_stream g_wSlot g_wNear g_wPos g_rSlot g_d y_src y_rec y_len y_bound y_written y_dec → Q (f_writer, f_reader, f_scratch, f_writerStream, f_streamWords, f_streamBits, f_cellStride, f_contextStride, f_interruptionContext, f_codeLimit, f_resetCount, f_greatestOrder, (nI w), (nI h), (nI (w * h)), (nI mx), f_writerOpen, f_writerSlot, f_readerOpen, f_readerSlot, f_column, f_left, f_above, f_aboveLeft, f_aboveRight, f_context, f_sign, y_src, a_words, y_len, y_bound, a_recordBits, a_levels, a_position, a_bound, a_range, a_levelBits, a_threshold1, a_threshold2, a_threshold3, a_stream, a_bitAt, a_runIndex, a_runCount, a_inRun, a_runBroken, a_magnitude, a_biasSum, a_correction, a_occurrences) ((nI w), (nI h), (nI mx), g_wSlot, g_wNear, g_wPos, g_rSlot, g_d, y_src, y_rec, y_len, y_bound, y_written, y_dec)) : Q u v := by
  obtain ⟨f_writer, f_reader, f_scratch, f_writerStream, f_streamWords, f_streamBits, f_cellStride, f_contextStride, f_interruptionContext, f_codeLimit, f_resetCount, f_greatestOrder, f_width, f_height, f_cells, f_max, f_writerOpen, f_writerSlot, f_readerOpen, f_readerSlot, f_column, f_left, f_above, f_aboveLeft, f_aboveRight, f_context, f_sign, a_picture, a_words, a_recordLength, a_recordBound, a_recordBits, a_levels, a_position, a_bound, a_range, a_levelBits, a_threshold1, a_threshold2, a_threshold3, a_stream, a_bitAt, a_runIndex, a_runCount, a_inRun, a_runBroken, a_magnitude, a_biasSum, a_correction, a_occurrences⟩ := u
  obtain ⟨g_w, g_h, g_max, g_wSlot, g_wNear, g_wPos, g_rSlot, g_d, y_src, y_rec, y_len, y_bound, y_written, y_dec⟩ := v
  have I' : ∃ w h mx : Nat, f_width = nI w ∧ f_height = nI h ∧ f_cells = nI (w * h) ∧ f_max = nI mx ∧ g_w = nI w ∧ g_h = nI h ∧ g_max = nI mx ∧ a_picture = y_src ∧ a_recordLength = y_len ∧ a_recordBound = y_bound ∧ jl_F w h mx f_writerOpen f_writerSlot f_readerOpen f_readerSlot a_words a_recordBits a_levels a_position a_bitAt a_runIndex a_runCount a_inRun a_runBroken a_magnitude a_biasSum a_correction a_occurrences a_bound a_range a_levelBits a_threshold1 a_threshold2 a_threshold3 a_stream g_wSlot g_wNear g_wPos g_rSlot g_d y_src y_rec y_len y_bound y_written y_dec := I
  obtain ⟨w, h, mx, e1, e2, e3, e4, e5, e6, e7, e8, e9, e10, F⟩ := I'
  subst e1 e2 e3 e4 e5 e6 e7 e8 e9 e10
  exact hQ _ _ _ _ _ _ _ _ _ _ _ _ _ _ _ _ _ _ _ _ _ _ _ _ _ _ _ _ _ _ _ _ _ _ _ _ _ _ _ _ _ _ _ _ _ _ _ _ _ _ _ _ _ _ _ _ _ F
/-! ===== small walks: cells, slots, samples ===== -/
def jl_cell (w h : Nat) (x y : Int32) : Prop := ∃ a b : Nat, a < w ∧ b < h ∧ x = nI a ∧ y = nI b
def jl_slot (x : Int32) : Prop := ∃ s : Nat, s < 4 ∧ x = nI s
def jl_near (mx : Nat) (x : Int32) : Prop := ∃ n : Nat, n ≤ 7 ∧ 2 * n ≤ mx ∧ x = nI n
theorem jl_wh {w h a b : Nat} (hw : w ≤ 16) (hh : h ≤ 8) (ha : a < w) (hb : b < h) : b * w + a < w * h ∧ w * h ≤ 128 := by
  have h1 : (b + 1) * w ≤ h * w := Nat.mul_le_mul_right w hb
  have h2 : w * h ≤ 16 * 8 := Nat.mul_le_mul hw hh
  rw [Nat.add_mul, Nat.mul_comm h w] at h1
  omega
theorem jl_wh2 {w h : Nat} (hw : w ≤ 16) (hh : h ≤ 8) : w * h ≤ 128 := Nat.mul_le_mul hw hh
section
variable {f_writer f_reader f_scratch f_writerStream f_streamWords f_streamBits f_cellStride f_contextStride f_interruptionContext f_codeLimit f_resetCount f_greatestOrder f_width f_height f_cells f_max f_writerOpen f_writerSlot f_readerOpen f_readerSlot f_column f_left f_above f_aboveLeft f_aboveRight f_context f_sign : Int32} {a_picture a_words a_recordLength a_recordBound a_recordBits a_levels a_position a_bound a_range a_levelBits a_threshold1 a_threshold2 a_threshold3 a_stream a_bitAt a_runIndex a_runCount a_inRun a_runBroken a_magnitude a_biasSum a_correction a_occurrences : Nat → Int32} {g_w g_h g_max g_wSlot g_wNear g_wPos g_rSlot g_d : Int32} {y_src y_rec y_len y_bound y_written y_dec : Nat → Int32} {w h mx b i : Nat}
theorem xv_inPic {post : Int32 → Prop} {p0 p1 : Int32} (hw : w ≤ 16) (hh : h ≤ 8) (h1 : jl_cell w h p0 p1 → post 1) (h0 : ¬ jl_cell w h p0 p1 → post 0) : wpX_inPicture post (f_writer, f_reader, f_scratch, f_writerStream, f_streamWords, f_streamBits, f_cellStride, f_contextStride, f_interruptionContext, f_codeLimit, f_resetCount, f_greatestOrder, (nI w), (nI h), f_cells, f_max, f_writerOpen, f_writerSlot, f_readerOpen, f_readerSlot, f_column, f_left, f_above, f_aboveLeft, f_aboveRight, f_context, f_sign, a_picture, a_words, a_recordLength, a_recordBound, a_recordBits, a_levels, a_position, a_bound, a_range, a_levelBits, a_threshold1, a_threshold2, a_threshold3, a_stream, a_bitAt, a_runIndex, a_runCount, a_inRun, a_runBroken, a_magnitude, a_biasSum, a_correction, a_occurrences) p0 p1 := by
  refine br_c (fun a => h0 ?_) (fun a => ?_)
  · rintro ⟨x, y, hx, hy, rfl, rfl⟩
    exact nI_pos (by omega) a
  · obtain ⟨x, hx, rfl⟩ := nI_of a
    refine pk_le w x (fun c => h0 ?_) (fun c => br_c (fun d => h0 ?_) (fun d => ?_))
    · rintro ⟨x', y, hx', hy, e, rfl⟩
      rw [nI_eq (by omega) (by omega)] at e
      omega
    · rintro ⟨x', y, hx', hy, e, rfl⟩
      exact nI_pos (by omega) d
    · obtain ⟨y, hy, rfl⟩ := nI_of d
      refine pk_le h y (fun c2 => h0 ?_) (fun c2 => h1 ⟨x, y, c, c2, rfl, rfl⟩)
      rintro ⟨x', y', hx', hy', e, e2⟩
      rw [nI_eq (by omega) (by omega)] at e2
      omega
theorem yv_isCell {post : Int32 → Prop} {p0 p1 : Int32} (hw : w ≤ 16) (hh : h ≤ 8) (h1 : jl_cell w h p0 p1 → post 1) (h0 : ¬ jl_cell w h p0 p1 → post 0) : wpY_isCell post ((nI w), (nI h), g_max, g_wSlot, g_wNear, g_wPos, g_rSlot, g_d, y_src, y_rec, y_len, y_bound, y_written, y_dec) p0 p1 := by
  refine br_c (fun a => h0 ?_) (fun a => ?_)
  · rintro ⟨x, y, hx, hy, rfl, rfl⟩
    exact nI_pos (by omega) a
  · obtain ⟨x, hx, rfl⟩ := nI_of a
    refine pk_le w x (fun c => h0 ?_) (fun c => br_c (fun d => h0 ?_) (fun d => ?_))
    · rintro ⟨x', y, hx', hy, e, rfl⟩
      rw [nI_eq (by omega) (by omega)] at e
      omega
    · rintro ⟨x', y, hx', hy, e, rfl⟩
      exact nI_pos (by omega) d
    · obtain ⟨y, hy, rfl⟩ := nI_of d
      refine pk_le h y (fun c2 => h0 ?_) (fun c2 => h1 ⟨x, y, c, c2, rfl, rfl⟩)
      rintro ⟨x', y', hx', hy', e, e2⟩
      rw [nI_eq (by omega) (by omega)] at e2
      omega
theorem xv_isSlot {post : Int32 → Prop} {u : SX} {p0 : Int32} (h1 : jl_slot p0 → post 1) (h0 : ¬ jl_slot p0 → post 0) : wpX_isSlot post u p0 := by
  obtain ⟨f_writer, f_reader, f_scratch, f_writerStream, f_streamWords, f_streamBits, f_cellStride, f_contextStride, f_interruptionContext, f_codeLimit, f_resetCount, f_greatestOrder, f_width, f_height, f_cells, f_max, f_writerOpen, f_writerSlot, f_readerOpen, f_readerSlot, f_column, f_left, f_above, f_aboveLeft, f_aboveRight, f_context, f_sign, a_picture, a_words, a_recordLength, a_recordBound, a_recordBits, a_levels, a_position, a_bound, a_range, a_levelBits, a_threshold1, a_threshold2, a_threshold3, a_stream, a_bitAt, a_runIndex, a_runCount, a_inRun, a_runBroken, a_magnitude, a_biasSum, a_correction, a_occurrences⟩ := u
  refine br_c (fun a => h0 ?_) (fun a => ?_)
  · rintro ⟨s, hs, rfl⟩
    exact nI_pos (by omega) a
  · obtain ⟨s, hs, rfl⟩ := nI_of a
    refine pk_le 4 s (fun c => h0 ?_) (fun c => h1 ⟨s, c, rfl⟩)
    rintro ⟨s', hs', e⟩
    rw [nI_eq (by omega) (by omega)] at e
    omega
theorem yv_isSlot {post : Int32 → Prop} {u : SY} {p0 : Int32} (h1 : jl_slot p0 → post 1) (h0 : ¬ jl_slot p0 → post 0) : wpY_isSlot post u p0 := by
  obtain ⟨g_w, g_h, g_max, g_wSlot, g_wNear, g_wPos, g_rSlot, g_d, y_src, y_rec, y_len, y_bound, y_written, y_dec⟩ := u
  refine br_c (fun a => h0 ?_) (fun a => ?_)
  · rintro ⟨s, hs, rfl⟩
    exact nI_pos (by omega) a
  · obtain ⟨s, hs, rfl⟩ := nI_of a
    refine pk_lt 3 s (fun c => h0 ?_) (fun c => h1 ⟨s, by omega, rfl⟩)
    rintro ⟨s', hs', e⟩
    rw [nI_eq (by omega) (by omega)] at e
    omega
theorem xv_isBound {post : Int32 → Prop} {p0 : Int32} (hm : mx ≤ 255) (h1 : jl_near mx p0 → post 1) (h0 : ¬ jl_near mx p0 → post 0) : wpX_isBound post (f_writer, f_reader, f_scratch, f_writerStream, f_streamWords, f_streamBits, f_cellStride, f_contextStride, f_interruptionContext, f_codeLimit, f_resetCount, f_greatestOrder, f_width, f_height, f_cells, (nI mx), f_writerOpen, f_writerSlot, f_readerOpen, f_readerSlot, f_column, f_left, f_above, f_aboveLeft, f_aboveRight, f_context, f_sign, a_picture, a_words, a_recordLength, a_recordBound, a_recordBits, a_levels, a_position, a_bound, a_range, a_levelBits, a_threshold1, a_threshold2, a_threshold3, a_stream, a_bitAt, a_runIndex, a_runCount, a_inRun, a_runBroken, a_magnitude, a_biasSum, a_correction, a_occurrences) p0 := by
  have e1 : nI mx >>> ((1 : Int32) &&& 31) = nI (mx / 2) := pk_shrN (by omega) _ 1 (by decide)
  refine br_c (fun a => h0 ?_) (fun a => ?_)
  · rintro ⟨s, hs, _, rfl⟩
    exact nI_pos (by omega) a
  · obtain ⟨s, hs, rfl⟩ := nI_of a
    refine pk_lt 7 s (fun c => h0 ?_) (fun c => pk_lt (mx / 2) s (fun d => h0 ?_) (fun d => h1 ⟨s, c, by omega, rfl⟩) e1)
    · rintro ⟨s', hs', _, e⟩
      rw [nI_eq (by omega) (by omega)] at e
      omega
    · rintro ⟨s', hs', _, e⟩
      rw [nI_eq (by omega) (by omega)] at e
      omega
theorem xv_sampleOf {post : Int32 → Prop} {p0 p1 x near : Int32} (hp : p0 = nI b) (hb : b < 3) (h1 : p1 = nI i) (hi : i < 128) (el : a_levels (128 * b + i) = x) (eb : a_bound b = near) (h : post (jl_smp f_max near x)) : wpX_sampleOf post (f_writer, f_reader, f_scratch, f_writerStream, f_streamWords, f_streamBits, f_cellStride, f_contextStride, f_interruptionContext, f_codeLimit, f_resetCount, f_greatestOrder, f_width, f_height, f_cells, f_max, f_writerOpen, f_writerSlot, f_readerOpen, f_readerSlot, f_column, f_left, f_above, f_aboveLeft, f_aboveRight, f_context, f_sign, a_picture, a_words, a_recordLength, a_recordBound, a_recordBits, a_levels, a_position, a_bound, a_range, a_levelBits, a_threshold1, a_threshold2, a_threshold3, a_stream, a_bitAt, a_runIndex, a_runCount, a_inRun, a_runBroken, a_magnitude, a_biasSum, a_correction, a_occurrences) p0 p1 := by
  subst hp h1
  have e : (nI b * 128) + nI i = nI (128 * b + i) := by
    show nI b * nI 128 + nI i = _
    rw [pk_mul, nI_add, Nat.mul_comm]
  have hc := jl_cl hb
  refine ⟨by rw [e]; exact vp_in_nI (by omega) (by omega), jl_vi hb, nm_r (e' := x * ((2 * near) + 1)) ?_ (xv_smaller h)⟩
  rw [e, nI_clamp (by omega), el, hc, eb]
end
end
section
/-! ===== the owed statements that need no loop over the coders ===== -/
theorem jl_Rec_w {w nc mx s : Nat} {wd wd' rl bo rbi yr : Nat → Int32} (hw : jl_bs wd' s = jl_bs wd s) (h : jl_Rec w nc mx s wd rl bo rbi yr) : jl_Rec w nc mx s wd' rl bo rbi yr := by
  unfold jl_Rec at h ⊢
  rw [hw]
  exact h
theorem jl_Rd_map {w nc mx : Nat} {ro rs gs gd : Int32} {wd wd' rl bo yd lv po bi rI rC iR rB mg bs co oc lv' po' bi' rI' rC' iR' rB' mg' bs' co' oc' bn rg lb t1 t2 t3 st bn' rg' lb' t1' t2' t3' st' : Nat → Int32} (hB : ∀ c' : jC, jl_BV 1 c' lv po bi rI rC iR rB mg bs co oc → jl_BV 1 c' lv' po' bi' rI' rC' iR' rB' mg' bs' co' oc') (hP : ∀ (s' : Nat) (m' n' : Int32), jl_PV 1 s' m' n' bn rg lb t1 t2 t3 st → jl_PV 1 s' m' n' bn' rg' lb' t1' t2' t3' st') (hw : ∀ s, s < 4 → jl_bs wd' s = jl_bs wd s) (h : jl_Rd w nc mx ro rs gs gd wd rl bo yd lv po bi rI rC iR rB mg bs co oc bn rg lb t1 t2 t3 st) : jl_Rd w nc mx ro rs gs gd wd' rl bo yd lv' po' bi' rI' rC' iR' rB' mg' bs' co' oc' bn' rg' lb' t1' t2' t3' st' := by
  obtain ⟨c, s, near, h1, h2, h3, h4, h5, h6⟩ := h
  refine ⟨c, s, near, hB c h1, hP _ _ _ h2, h3, h4, h5, ?_⟩
  rcases h6 with h6 | ⟨g1, g2, g3, g4, g5, g6, g7, g8⟩
  · exact Or.inl h6
  · refine Or.inr ⟨g1, g2, g3, g4, g5, g6, g7, ?_⟩
    rw [hw s g2]
    exact g8
theorem jl_Wr_map {w nc mx : Nat} {wo ws gs gn gp : Int32} {wd yw lv po bi rI rC iR rB mg bs co oc lv' po' bi' rI' rC' iR' rB' mg' bs' co' oc' bn rg lb t1 t2 t3 st bn' rg' lb' t1' t2' t3' st' : Nat → Int32} (hB : ∀ c' : jC, jl_BV 0 c' lv po bi rI rC iR rB mg bs co oc → jl_BV 0 c' lv' po' bi' rI' rC' iR' rB' mg' bs' co' oc') (hP : ∀ (s' : Nat) (m' n' : Int32), jl_PV 0 s' m' n' bn rg lb t1 t2 t3 st → jl_PV 0 s' m' n' bn' rg' lb' t1' t2' t3' st') (h : jl_Wr w nc mx wo ws gs gn gp wd yw lv po bi rI rC iR rB mg bs co oc bn rg lb t1 t2 t3 st) : jl_Wr w nc mx wo ws gs gn gp wd yw lv' po' bi' rI' rC' iR' rB' mg' bs' co' oc' bn' rg' lb' t1' t2' t3' st' := by
  rcases h with h | ⟨h0, s, near, c, h1, h2, h3, h4, h5, h6, h7, h8, h9, h10, h11⟩
  · exact Or.inl h
  · exact Or.inr ⟨h0, s, near, c, h1, h2, h3, h4, h5, h6, h7, h8, hB c h9, hP _ _ _ h10, h11⟩
theorem yv_near {A B : Prop} {mx : Nat} {p1 : Int32} (hm : mx ≤ 255) (h1 : jl_near mx p1 → A) (h0 : ¬ jl_near mx p1 → B) : (p1 < 0 → B) ∧ (¬ p1 < 0 → ((7 < p1 → B) ∧ (¬ 7 < p1 → (¬ (2 : Int32) = 0 ∧ ((p1 ≤ (nI mx / 2) → A) ∧ (¬ p1 ≤ (nI mx / 2) → B)))))) := by
  have e1 : nI mx / 2 = nI (mx / 2) := pk_div (d := 2) (by omega) (by omega) (by omega)
  refine br_c (fun a => h0 ?_) (fun a => ?_)
  · rintro ⟨s, hs, _, rfl⟩
    exact nI_pos (by omega) a
  · obtain ⟨s, hs, rfl⟩ := nI_of a
    refine pk_lt 7 s (fun c => h0 ?_) (fun c => ⟨by decide, pk_le s (mx / 2) (fun d => h1 ⟨s, c, by omega, rfl⟩) (fun d => h0 ?_) rfl e1⟩)
    · rintro ⟨s', hs', _, e⟩
      rw [nI_eq (by omega) (by omega)] at e
      omega
    · rintro ⟨s', hs', _, e⟩
      rw [nI_eq (by omega) (by omega)] at e
      omega
theorem jl_ix {w h a b : Nat} : (nI b * nI w) + nI a = nI (b * w + a) := by rw [pk_mul, nI_add]
theorem i_vc_source {k : Nat} {u : SX} {v : SY} (I : i_Rel k u v) (hk : k + 5 ≤ 2563) (v1 : Int32) (v2 : Int32) : wpX_source (fun r => wpY_source (fun r' => r' = r ∧ i_Rel (k + 5) u v) v v1 v2) u v1 v2 := by
  refine jl_el (Q := fun u v => wpX_source (fun r => wpY_source (fun r' => r' = r ∧ i_Rel (k + 5) u v) v v1 v2) u v1 v2) I ?_
  intro f_writer f_reader f_scratch f_writerStream f_streamWords f_streamBits f_cellStride f_contextStride f_interruptionContext f_codeLimit f_resetCount f_greatestOrder f_writerOpen f_writerSlot f_readerOpen f_readerSlot f_column f_left f_above f_aboveLeft f_aboveRight f_context f_sign a_words a_recordBits a_levels a_position a_bitAt a_runIndex a_runCount a_inRun a_runBroken a_magnitude a_biasSum a_correction a_occurrences a_bound a_range a_levelBits a_threshold1 a_threshold2 a_threshold3 a_stream g_wSlot g_wNear g_wPos g_rSlot g_d y_src y_rec y_len y_bound y_written y_dec w h mx F
  have R : i_Rel (k + 5) (f_writer, f_reader, f_scratch, f_writerStream, f_streamWords, f_streamBits, f_cellStride, f_contextStride, f_interruptionContext, f_codeLimit, f_resetCount, f_greatestOrder, (nI w), (nI h), (nI (w * h)), (nI mx), f_writerOpen, f_writerSlot, f_readerOpen, f_readerSlot, f_column, f_left, f_above, f_aboveLeft, f_aboveRight, f_context, f_sign, y_src, a_words, y_len, y_bound, a_recordBits, a_levels, a_position, a_bound, a_range, a_levelBits, a_threshold1, a_threshold2, a_threshold3, a_stream, a_bitAt, a_runIndex, a_runCount, a_inRun, a_runBroken, a_magnitude, a_biasSum, a_correction, a_occurrences) ((nI w), (nI h), (nI mx), g_wSlot, g_wNear, g_wPos, g_rSlot, g_d, y_src, y_rec, y_len, y_bound, y_written, y_dec) := jl_intro F
  obtain ⟨hw, hw2, hh, hh2, hm, hp, hr, hW, hR⟩ := F
  unfold wpX_source
  refine xv_inPic hw2 hh2 (fun c => ?_) (fun n => ?_)
  · obtain ⟨a, b, ha, hb, rfl, rfl⟩ := id c
    have g := jl_wh hw2 hh2 ha hb
    have e : vp_in ((nI b * nI w) + nI a) 128 := by rw [jl_ix (h := h)]; exact vp_in_nI (by omega) (by omega)
    refine br_f jl_b10 ⟨e, ?_⟩
    unfold wpY_source
    exact yv_isCell hw2 hh2 (fun _ => br_f jl_b10 ⟨e, rfl, R⟩) (fun n => absurd c n)
  · refine br_t rfl ?_
    unfold wpY_source
    exact yv_isCell hw2 hh2 (fun c => absurd c n) (fun _ => br_t rfl ⟨rfl, R⟩)
theorem i_vc_recon {k : Nat} {u : SX} {v : SY} (I : i_Rel k u v) (hk : k + 5 ≤ 2563) (v1 : Int32) (v2 : Int32) : wpX_recon (fun r => wpY_recon (fun r' => r' = r ∧ i_Rel (k + 5) u v) v v1 v2) u v1 v2 := by
  refine jl_el (Q := fun u v => wpX_recon (fun r => wpY_recon (fun r' => r' = r ∧ i_Rel (k + 5) u v) v v1 v2) u v1 v2) I ?_
  intro f_writer f_reader f_scratch f_writerStream f_streamWords f_streamBits f_cellStride f_contextStride f_interruptionContext f_codeLimit f_resetCount f_greatestOrder f_writerOpen f_writerSlot f_readerOpen f_readerSlot f_column f_left f_above f_aboveLeft f_aboveRight f_context f_sign a_words a_recordBits a_levels a_position a_bitAt a_runIndex a_runCount a_inRun a_runBroken a_magnitude a_biasSum a_correction a_occurrences a_bound a_range a_levelBits a_threshold1 a_threshold2 a_threshold3 a_stream g_wSlot g_wNear g_wPos g_rSlot g_d y_src y_rec y_len y_bound y_written y_dec w h mx F
  have R : i_Rel (k + 5) (f_writer, f_reader, f_scratch, f_writerStream, f_streamWords, f_streamBits, f_cellStride, f_contextStride, f_interruptionContext, f_codeLimit, f_resetCount, f_greatestOrder, (nI w), (nI h), (nI (w * h)), (nI mx), f_writerOpen, f_writerSlot, f_readerOpen, f_readerSlot, f_column, f_left, f_above, f_aboveLeft, f_aboveRight, f_context, f_sign, y_src, a_words, y_len, y_bound, a_recordBits, a_levels, a_position, a_bound, a_range, a_levelBits, a_threshold1, a_threshold2, a_threshold3, a_stream, a_bitAt, a_runIndex, a_runCount, a_inRun, a_runBroken, a_magnitude, a_biasSum, a_correction, a_occurrences) ((nI w), (nI h), (nI mx), g_wSlot, g_wNear, g_wPos, g_rSlot, g_d, y_src, y_rec, y_len, y_bound, y_written, y_dec) := jl_intro F
  obtain ⟨hw, hw2, hh, hh2, hm, hp, hr, hW, hR⟩ := F
  unfold wpX_recon
  refine xv_inPic hw2 hh2 (fun c => ?_) (fun n => ?_)
  · obtain ⟨a, b, ha, hb, rfl, rfl⟩ := id c
    have g := jl_wh hw2 hh2 ha hb
    have e : vp_in ((nI b * nI w) + nI a) 128 := by rw [jl_ix (h := h)]; exact vp_in_nI (by omega) (by omega)
    refine br_f jl_b10 ?_
    rcases hW with ⟨rfl, rfl⟩ | ⟨rfl, s, near, c', h1, rfl, rfl, h4, h5, rfl, h7, rfl, h9, h10, h11, h12⟩
    · refine br_t rfl ?_
      unfold wpY_recon
      exact yv_isCell hw2 hh2 (fun _ => br_f jl_b10 (br_f (by decide) ⟨rfl, R⟩)) (fun n => absurd c n)
    · refine br_f jl_b10 (nm_r (jl_ix (h := h)) (pk_lt (b * w + a) c'.1 (fun z => ?_) (fun z => ?_) rfl h9.1))
      · refine xv_sampleOf (b := 0) rfl (by omega) rfl (by omega) (h9.2.2.2.2.2.2.2.1 _ z) h10.1 ?_
        unfold wpY_recon
        refine yv_isCell hw2 hh2 (fun _ => br_f jl_b10 (br_t (nI_pos' (by omega)) (br_t (by rw [jl_ix (h := h)]; exact nI_lt z (by omega)) ⟨e, ?_, R⟩))) (fun n => absurd c n)
        rw [jl_ix (h := h), nI_clamp (by omega)]
        exact h12 _ z
      · unfold wpY_recon
        exact yv_isCell hw2 hh2 (fun _ => br_f jl_b10 (br_t (nI_pos' (by omega)) (br_f (by rw [jl_ix (h := h)]; exact nI_nlt z (by omega)) ⟨rfl, R⟩))) (fun n => absurd c n)
  · refine br_t rfl ?_
    unfold wpY_recon
    exact yv_isCell hw2 hh2 (fun c => absurd c n) (fun _ => br_t rfl ⟨rfl, R⟩)
theorem i_vc_writing {k : Nat} {u : SX} {v : SY} (I : i_Rel k u v) (hk : k + 5 ≤ 2563) : wpX_writing (fun r => wpY_writing (fun r' => r' = r ∧ i_Rel (k + 5) u v) v) u := by
  refine jl_el (Q := fun u v => wpX_writing (fun r => wpY_writing (fun r' => r' = r ∧ i_Rel (k + 5) u v) v) u) I ?_
  intro f_writer f_reader f_scratch f_writerStream f_streamWords f_streamBits f_cellStride f_contextStride f_interruptionContext f_codeLimit f_resetCount f_greatestOrder f_writerOpen f_writerSlot f_readerOpen f_readerSlot f_column f_left f_above f_aboveLeft f_aboveRight f_context f_sign a_words a_recordBits a_levels a_position a_bitAt a_runIndex a_runCount a_inRun a_runBroken a_magnitude a_biasSum a_correction a_occurrences a_bound a_range a_levelBits a_threshold1 a_threshold2 a_threshold3 a_stream g_wSlot g_wNear g_wPos g_rSlot g_d y_src y_rec y_len y_bound y_written y_dec w h mx F
  have R : i_Rel (k + 5) (f_writer, f_reader, f_scratch, f_writerStream, f_streamWords, f_streamBits, f_cellStride, f_contextStride, f_interruptionContext, f_codeLimit, f_resetCount, f_greatestOrder, (nI w), (nI h), (nI (w * h)), (nI mx), f_writerOpen, f_writerSlot, f_readerOpen, f_readerSlot, f_column, f_left, f_above, f_aboveLeft, f_aboveRight, f_context, f_sign, y_src, a_words, y_len, y_bound, a_recordBits, a_levels, a_position, a_bound, a_range, a_levelBits, a_threshold1, a_threshold2, a_threshold3, a_stream, a_bitAt, a_runIndex, a_runCount, a_inRun, a_runBroken, a_magnitude, a_biasSum, a_correction, a_occurrences) ((nI w), (nI h), (nI mx), g_wSlot, g_wNear, g_wPos, g_rSlot, g_d, y_src, y_rec, y_len, y_bound, y_written, y_dec) := jl_intro F
  obtain ⟨hw, hw2, hh, hh2, hm, hp, hr, hW, hR⟩ := F
  rcases hW with ⟨rfl, rfl⟩ | ⟨rfl, s, near, c', h1, rfl, rfl, h4, h5, rfl, h7, rfl, h9, h10, h11, h12⟩
  · exact br_t rfl (br_f (by decide) ⟨rfl, R⟩)
  · exact br_f jl_b10 (br_t (nI_pos' (by omega)) ⟨by rw [h10.1], R⟩)
theorem i_vc_writePosition {k : Nat} {u : SX} {v : SY} (I : i_Rel k u v) (hk : k + 5 ≤ 2563) : wpX_writePosition (fun r => wpY_writePosition (fun r' => r' = r ∧ i_Rel (k + 5) u v) v) u := by
  refine jl_el (Q := fun u v => wpX_writePosition (fun r => wpY_writePosition (fun r' => r' = r ∧ i_Rel (k + 5) u v) v) u) I ?_
  intro f_writer f_reader f_scratch f_writerStream f_streamWords f_streamBits f_cellStride f_contextStride f_interruptionContext f_codeLimit f_resetCount f_greatestOrder f_writerOpen f_writerSlot f_readerOpen f_readerSlot f_column f_left f_above f_aboveLeft f_aboveRight f_context f_sign a_words a_recordBits a_levels a_position a_bitAt a_runIndex a_runCount a_inRun a_runBroken a_magnitude a_biasSum a_correction a_occurrences a_bound a_range a_levelBits a_threshold1 a_threshold2 a_threshold3 a_stream g_wSlot g_wNear g_wPos g_rSlot g_d y_src y_rec y_len y_bound y_written y_dec w h mx F
  have R : i_Rel (k + 5) (f_writer, f_reader, f_scratch, f_writerStream, f_streamWords, f_streamBits, f_cellStride, f_contextStride, f_interruptionContext, f_codeLimit, f_resetCount, f_greatestOrder, (nI w), (nI h), (nI (w * h)), (nI mx), f_writerOpen, f_writerSlot, f_readerOpen, f_readerSlot, f_column, f_left, f_above, f_aboveLeft, f_aboveRight, f_context, f_sign, y_src, a_words, y_len, y_bound, a_recordBits, a_levels, a_position, a_bound, a_range, a_levelBits, a_threshold1, a_threshold2, a_threshold3, a_stream, a_bitAt, a_runIndex, a_runCount, a_inRun, a_runBroken, a_magnitude, a_biasSum, a_correction, a_occurrences) ((nI w), (nI h), (nI mx), g_wSlot, g_wNear, g_wPos, g_rSlot, g_d, y_src, y_rec, y_len, y_bound, y_written, y_dec) := jl_intro F
  obtain ⟨hw, hw2, hh, hh2, hm, hp, hr, hW, hR⟩ := F
  rcases hW with ⟨rfl, rfl⟩ | ⟨rfl, s, near, c', h1, rfl, rfl, h4, h5, rfl, h7, rfl, h9, h10, h11, h12⟩
  · exact br_t rfl (br_f (by decide) ⟨rfl, R⟩)
  · exact br_f jl_b10 (br_t (nI_pos' (by omega)) ⟨h9.1.symm, R⟩)
theorem i_vc_decoded {k : Nat} {u : SX} {v : SY} (I : i_Rel k u v) (hk : k + 5 ≤ 2563) (v1 : Int32) (v2 : Int32) : wpX_decoded (fun r => wpY_decoded (fun r' => r' = r ∧ i_Rel (k + 5) u v) v v1 v2) u v1 v2 := by
  refine jl_el (Q := fun u v => wpX_decoded (fun r => wpY_decoded (fun r' => r' = r ∧ i_Rel (k + 5) u v) v v1 v2) u v1 v2) I ?_
  intro f_writer f_reader f_scratch f_writerStream f_streamWords f_streamBits f_cellStride f_contextStride f_interruptionContext f_codeLimit f_resetCount f_greatestOrder f_writerOpen f_writerSlot f_readerOpen f_readerSlot f_column f_left f_above f_aboveLeft f_aboveRight f_context f_sign a_words a_recordBits a_levels a_position a_bitAt a_runIndex a_runCount a_inRun a_runBroken a_magnitude a_biasSum a_correction a_occurrences a_bound a_range a_levelBits a_threshold1 a_threshold2 a_threshold3 a_stream g_wSlot g_wNear g_wPos g_rSlot g_d y_src y_rec y_len y_bound y_written y_dec w h mx F
  have R : i_Rel (k + 5) (f_writer, f_reader, f_scratch, f_writerStream, f_streamWords, f_streamBits, f_cellStride, f_contextStride, f_interruptionContext, f_codeLimit, f_resetCount, f_greatestOrder, (nI w), (nI h), (nI (w * h)), (nI mx), f_writerOpen, f_writerSlot, f_readerOpen, f_readerSlot, f_column, f_left, f_above, f_aboveLeft, f_aboveRight, f_context, f_sign, y_src, a_words, y_len, y_bound, a_recordBits, a_levels, a_position, a_bound, a_range, a_levelBits, a_threshold1, a_threshold2, a_threshold3, a_stream, a_bitAt, a_runIndex, a_runCount, a_inRun, a_runBroken, a_magnitude, a_biasSum, a_correction, a_occurrences) ((nI w), (nI h), (nI mx), g_wSlot, g_wNear, g_wPos, g_rSlot, g_d, y_src, y_rec, y_len, y_bound, y_written, y_dec) := jl_intro F
  obtain ⟨hw, hw2, hh, hh2, hm, hp, hr, hW, hR⟩ := F
  obtain ⟨c', s, near, h9, h10, h3, rfl, h12, _⟩ := hR
  unfold wpX_decoded
  refine xv_inPic hw2 hh2 (fun c => ?_) (fun n => ?_)
  · obtain ⟨a, b, ha, hb, rfl, rfl⟩ := id c
    have g := jl_wh hw2 hh2 ha hb
    have e : vp_in ((nI b * nI w) + nI a) 128 := by rw [jl_ix (h := h)]; exact vp_in_nI (by omega) (by omega)
    refine br_f jl_b10 (nm_r (jl_ix (h := h)) (pk_lt (b * w + a) c'.1 (fun z => ?_) (fun z => ?_) rfl h9.1))
    · refine xv_sampleOf (b := 1) rfl (by omega) rfl (by omega) (h9.2.2.2.2.2.2.2.1 _ z) h10.1 ?_
      unfold wpY_decoded
      refine yv_isCell hw2 hh2 (fun _ => br_f jl_b10 (br_t (by rw [jl_ix (h := h)]; exact nI_lt z (by omega)) ⟨e, ?_, R⟩)) (fun n => absurd c n)
      rw [jl_ix (h := h), nI_clamp (by omega)]
      exact h12 _ z
    · unfold wpY_decoded
      exact yv_isCell hw2 hh2 (fun _ => br_f jl_b10 (br_f (by rw [jl_ix (h := h)]; exact nI_nlt z (by omega)) ⟨rfl, R⟩)) (fun n => absurd c n)
  · refine br_t rfl ?_
    unfold wpY_decoded
    exact yv_isCell hw2 hh2 (fun c => absurd c n) (fun _ => br_t rfl ⟨rfl, R⟩)
theorem i_vc_reading {k : Nat} {u : SX} {v : SY} (I : i_Rel k u v) (hk : k + 5 ≤ 2563) : wpX_reading (fun r => wpY_reading (fun r' => r' = r ∧ i_Rel (k + 5) u v) v) u := by
  refine jl_el (Q := fun u v => wpX_reading (fun r => wpY_reading (fun r' => r' = r ∧ i_Rel (k + 5) u v) v) u) I ?_
  intro f_writer f_reader f_scratch f_writerStream f_streamWords f_streamBits f_cellStride f_contextStride f_interruptionContext f_codeLimit f_resetCount f_greatestOrder f_writerOpen f_writerSlot f_readerOpen f_readerSlot f_column f_left f_above f_aboveLeft f_aboveRight f_context f_sign a_words a_recordBits a_levels a_position a_bitAt a_runIndex a_runCount a_inRun a_runBroken a_magnitude a_biasSum a_correction a_occurrences a_bound a_range a_levelBits a_threshold1 a_threshold2 a_threshold3 a_stream g_wSlot g_wNear g_wPos g_rSlot g_d y_src y_rec y_len y_bound y_written y_dec w h mx F
  have R : i_Rel (k + 5) (f_writer, f_reader, f_scratch, f_writerStream, f_streamWords, f_streamBits, f_cellStride, f_contextStride, f_interruptionContext, f_codeLimit, f_resetCount, f_greatestOrder, (nI w), (nI h), (nI (w * h)), (nI mx), f_writerOpen, f_writerSlot, f_readerOpen, f_readerSlot, f_column, f_left, f_above, f_aboveLeft, f_aboveRight, f_context, f_sign, y_src, a_words, y_len, y_bound, a_recordBits, a_levels, a_position, a_bound, a_range, a_levelBits, a_threshold1, a_threshold2, a_threshold3, a_stream, a_bitAt, a_runIndex, a_runCount, a_inRun, a_runBroken, a_magnitude, a_biasSum, a_correction, a_occurrences) ((nI w), (nI h), (nI mx), g_wSlot, g_wNear, g_wPos, g_rSlot, g_d, y_src, y_rec, y_len, y_bound, y_written, y_dec) := jl_intro F
  obtain ⟨hw, hw2, hh, hh2, hm, hp, hr, hW, hR⟩ := F
  obtain ⟨c', s, near, h9, h10, h3, rfl, h12, h6⟩ := hR
  rcases h6 with ⟨rfl, rfl⟩ | ⟨rfl, g2, rfl, rfl, g5⟩
  · exact br_t rfl (br_f (by decide) ⟨rfl, R⟩)
  · exact br_f jl_b10 (br_t (nI_pos' (by omega)) ⟨rfl, R⟩)
theorem i_vc_readPosition {k : Nat} {u : SX} {v : SY} (I : i_Rel k u v) (hk : k + 5 ≤ 2563) : wpX_readPosition (fun r => wpY_readPosition (fun r' => r' = r ∧ i_Rel (k + 5) u v) v) u := by
  refine jl_el (Q := fun u v => wpX_readPosition (fun r => wpY_readPosition (fun r' => r' = r ∧ i_Rel (k + 5) u v) v) u) I ?_
  intro f_writer f_reader f_scratch f_writerStream f_streamWords f_streamBits f_cellStride f_contextStride f_interruptionContext f_codeLimit f_resetCount f_greatestOrder f_writerOpen f_writerSlot f_readerOpen f_readerSlot f_column f_left f_above f_aboveLeft f_aboveRight f_context f_sign a_words a_recordBits a_levels a_position a_bitAt a_runIndex a_runCount a_inRun a_runBroken a_magnitude a_biasSum a_correction a_occurrences a_bound a_range a_levelBits a_threshold1 a_threshold2 a_threshold3 a_stream g_wSlot g_wNear g_wPos g_rSlot g_d y_src y_rec y_len y_bound y_written y_dec w h mx F
  have R : i_Rel (k + 5) (f_writer, f_reader, f_scratch, f_writerStream, f_streamWords, f_streamBits, f_cellStride, f_contextStride, f_interruptionContext, f_codeLimit, f_resetCount, f_greatestOrder, (nI w), (nI h), (nI (w * h)), (nI mx), f_writerOpen, f_writerSlot, f_readerOpen, f_readerSlot, f_column, f_left, f_above, f_aboveLeft, f_aboveRight, f_context, f_sign, y_src, a_words, y_len, y_bound, a_recordBits, a_levels, a_position, a_bound, a_range, a_levelBits, a_threshold1, a_threshold2, a_threshold3, a_stream, a_bitAt, a_runIndex, a_runCount, a_inRun, a_runBroken, a_magnitude, a_biasSum, a_correction, a_occurrences) ((nI w), (nI h), (nI mx), g_wSlot, g_wNear, g_wPos, g_rSlot, g_d, y_src, y_rec, y_len, y_bound, y_written, y_dec) := jl_intro F
  obtain ⟨hw, hw2, hh, hh2, hm, hp, hr, hW, hR⟩ := F
  obtain ⟨c', s, near, h9, h10, h3, rfl, h12, h6⟩ := hR
  exact ⟨h9.1.symm, R⟩
theorem i_vc_count {k : Nat} {u : SX} {v : SY} (I : i_Rel k u v) (hk : k + 5 ≤ 2563) (v1 : Int32) : wpX_count (fun r => wpY_count (fun r' => r' = r ∧ i_Rel (k + 5) u v) v v1) u v1 := by
  refine jl_el (Q := fun u v => wpX_count (fun r => wpY_count (fun r' => r' = r ∧ i_Rel (k + 5) u v) v v1) u v1) I ?_
  intro f_writer f_reader f_scratch f_writerStream f_streamWords f_streamBits f_cellStride f_contextStride f_interruptionContext f_codeLimit f_resetCount f_greatestOrder f_writerOpen f_writerSlot f_readerOpen f_readerSlot f_column f_left f_above f_aboveLeft f_aboveRight f_context f_sign a_words a_recordBits a_levels a_position a_bitAt a_runIndex a_runCount a_inRun a_runBroken a_magnitude a_biasSum a_correction a_occurrences a_bound a_range a_levelBits a_threshold1 a_threshold2 a_threshold3 a_stream g_wSlot g_wNear g_wPos g_rSlot g_d y_src y_rec y_len y_bound y_written y_dec w h mx F
  have R : i_Rel (k + 5) (f_writer, f_reader, f_scratch, f_writerStream, f_streamWords, f_streamBits, f_cellStride, f_contextStride, f_interruptionContext, f_codeLimit, f_resetCount, f_greatestOrder, (nI w), (nI h), (nI (w * h)), (nI mx), f_writerOpen, f_writerSlot, f_readerOpen, f_readerSlot, f_column, f_left, f_above, f_aboveLeft, f_aboveRight, f_context, f_sign, y_src, a_words, y_len, y_bound, a_recordBits, a_levels, a_position, a_bound, a_range, a_levelBits, a_threshold1, a_threshold2, a_threshold3, a_stream, a_bitAt, a_runIndex, a_runCount, a_inRun, a_runBroken, a_magnitude, a_biasSum, a_correction, a_occurrences) ((nI w), (nI h), (nI mx), g_wSlot, g_wNear, g_wPos, g_rSlot, g_d, y_src, y_rec, y_len, y_bound, y_written, y_dec) := jl_intro F
  unfold wpX_count
  refine xv_isSlot (fun c => ?_) (fun n => br_t rfl ?_)
  · obtain ⟨s, hs, rfl⟩ := id c
    have e : vp_in (nI s) 4 := vp_in_nI hs (by omega)
    refine br_f jl_b10 ⟨e, ?_⟩
    unfold wpY_count
    exact yv_isSlot (fun _ => br_f jl_b10 ⟨e, rfl, R⟩) (fun n => absurd c n)
  · unfold wpY_count
    exact yv_isSlot (fun c => absurd c n) (fun _ => br_t rfl ⟨rfl, R⟩)
theorem i_vc_nearOf {k : Nat} {u : SX} {v : SY} (I : i_Rel k u v) (hk : k + 5 ≤ 2563) (v1 : Int32) : wpX_nearOf (fun r => wpY_nearOf (fun r' => r' = r ∧ i_Rel (k + 5) u v) v v1) u v1 := by
  refine jl_el (Q := fun u v => wpX_nearOf (fun r => wpY_nearOf (fun r' => r' = r ∧ i_Rel (k + 5) u v) v v1) u v1) I ?_
  intro f_writer f_reader f_scratch f_writerStream f_streamWords f_streamBits f_cellStride f_contextStride f_interruptionContext f_codeLimit f_resetCount f_greatestOrder f_writerOpen f_writerSlot f_readerOpen f_readerSlot f_column f_left f_above f_aboveLeft f_aboveRight f_context f_sign a_words a_recordBits a_levels a_position a_bitAt a_runIndex a_runCount a_inRun a_runBroken a_magnitude a_biasSum a_correction a_occurrences a_bound a_range a_levelBits a_threshold1 a_threshold2 a_threshold3 a_stream g_wSlot g_wNear g_wPos g_rSlot g_d y_src y_rec y_len y_bound y_written y_dec w h mx F
  have R : i_Rel (k + 5) (f_writer, f_reader, f_scratch, f_writerStream, f_streamWords, f_streamBits, f_cellStride, f_contextStride, f_interruptionContext, f_codeLimit, f_resetCount, f_greatestOrder, (nI w), (nI h), (nI (w * h)), (nI mx), f_writerOpen, f_writerSlot, f_readerOpen, f_readerSlot, f_column, f_left, f_above, f_aboveLeft, f_aboveRight, f_context, f_sign, y_src, a_words, y_len, y_bound, a_recordBits, a_levels, a_position, a_bound, a_range, a_levelBits, a_threshold1, a_threshold2, a_threshold3, a_stream, a_bitAt, a_runIndex, a_runCount, a_inRun, a_runBroken, a_magnitude, a_biasSum, a_correction, a_occurrences) ((nI w), (nI h), (nI mx), g_wSlot, g_wNear, g_wPos, g_rSlot, g_d, y_src, y_rec, y_len, y_bound, y_written, y_dec) := jl_intro F
  unfold wpX_nearOf
  refine xv_isSlot (fun c => ?_) (fun n => br_t rfl ?_)
  · obtain ⟨s, hs, rfl⟩ := id c
    have e : vp_in (nI s) 4 := vp_in_nI hs (by omega)
    refine br_f jl_b10 ⟨e, br_c (fun z => ?_) (fun z => ⟨e, ?_⟩)⟩
    · unfold wpY_nearOf
      exact yv_isSlot (fun _ => br_f jl_b10 ⟨e, br_t z ⟨rfl, R⟩⟩) (fun n => absurd c n)
    · unfold wpY_nearOf
      exact yv_isSlot (fun _ => br_f jl_b10 ⟨e, br_f z ⟨e, rfl, R⟩⟩) (fun n => absurd c n)
  · unfold wpY_nearOf
    exact yv_isSlot (fun c => absurd c n) (fun _ => br_t rfl ⟨rfl, R⟩)
end
section
/-! ===== begin, the reader, the constructors ===== -/
section
variable {f_writer f_reader f_scratch f_writerStream f_streamWords f_streamBits f_cellStride f_contextStride f_interruptionContext f_codeLimit f_resetCount f_greatestOrder f_width f_height f_cells f_max f_writerOpen f_writerSlot f_readerOpen f_readerSlot f_column f_left f_above f_aboveLeft f_aboveRight f_context f_sign : Int32} {a_picture a_words a_recordLength a_recordBound a_recordBits a_levels a_position a_bound a_range a_levelBits a_threshold1 a_threshold2 a_threshold3 a_stream a_bitAt a_runIndex a_runCount a_inRun a_runBroken a_magnitude a_biasSum a_correction a_occurrences : Nat → Int32} {g_wSlot g_wNear g_wPos g_rSlot g_d : Int32} {y_src y_rec y_len y_bound y_written y_dec : Nat → Int32} {w h mx : Nat}
theorem xb_openWriter {post : SX → Prop} {p0 p1 : Int32} (hnz : ¬ ((2 * p1) + 1 : Int32) = 0) (hq : ∀ (a_levels' a_position' a_bitAt' a_runIndex' a_runCount' a_inRun' a_runBroken' a_magnitude' a_biasSum' a_correction' a_occurrences' a_bound' a_range' a_levelBits' a_threshold1' a_threshold2' a_threshold3' a_stream' : Nat → Int32), jl_BV 0 (jl_c0 (jl_size f_max p1)) a_levels' a_position' a_bitAt' a_runIndex' a_runCount' a_inRun' a_runBroken' a_magnitude' a_biasSum' a_correction' a_occurrences' → jl_PV 0 4 f_max p1 a_bound' a_range' a_levelBits' a_threshold1' a_threshold2' a_threshold3' a_stream' → (∀ (b' : Nat) (c' : jC), b' ≠ 0 → jl_BV b' c' a_levels a_position a_bitAt a_runIndex a_runCount a_inRun a_runBroken a_magnitude a_biasSum a_correction a_occurrences → jl_BV b' c' a_levels' a_position' a_bitAt' a_runIndex' a_runCount' a_inRun' a_runBroken' a_magnitude' a_biasSum' a_correction' a_occurrences') → (∀ (b' s' : Nat) (m' n' : Int32), b' ≠ 0 → jl_PV b' s' m' n' a_bound a_range a_levelBits a_threshold1 a_threshold2 a_threshold3 a_stream → jl_PV b' s' m' n' a_bound' a_range' a_levelBits' a_threshold1' a_threshold2' a_threshold3' a_stream') → post (f_writer, f_reader, f_scratch, f_writerStream, f_streamWords, f_streamBits, f_cellStride, f_contextStride, f_interruptionContext, f_codeLimit, f_resetCount, f_greatestOrder, f_width, f_height, f_cells, f_max, 1, p0, f_readerOpen, f_readerSlot, f_column, f_left, f_above, f_aboveLeft, f_aboveRight, f_context, f_sign, a_picture, a_words, a_recordLength, a_recordBound, a_recordBits, a_levels', a_position', a_bound', a_range', a_levelBits', a_threshold1', a_threshold2', a_threshold3', a_stream', a_bitAt', a_runIndex', a_runCount', a_inRun', a_runBroken', a_magnitude', a_biasSum', a_correction', a_occurrences')) : wpX_openWriter post (f_writer, f_reader, f_scratch, f_writerStream, f_streamWords, f_streamBits, f_cellStride, f_contextStride, f_interruptionContext, f_codeLimit, f_resetCount, f_greatestOrder, f_width, f_height, f_cells, f_max, f_writerOpen, f_writerSlot, f_readerOpen, f_readerSlot, f_column, f_left, f_above, f_aboveLeft, f_aboveRight, f_context, f_sign, a_picture, a_words, a_recordLength, a_recordBound, a_recordBits, a_levels, a_position, a_bound, a_range, a_levelBits, a_threshold1, a_threshold2, a_threshold3, a_stream, a_bitAt, a_runIndex, a_runCount, a_inRun, a_runBroken, a_magnitude, a_biasSum, a_correction, a_occurrences) p0 p1 := by
  unfold wpX_openWriter
  exact xb_reset (b := 0) (s := 4) rfl (by omega) rfl hnz (fun _ _ _ _ _ _ _ _ _ _ _ _ _ _ _ _ _ _ h1 h2 h3 h4 => hq _ _ _ _ _ _ _ _ _ _ _ _ _ _ _ _ _ _ h1 h2 h3 h4)
theorem xb_loadScratch {post : SX → Prop} {p0 near : Int32} {s : Nat} (hp : p0 = nI s) (hs : s < 4) (eb : a_recordBound s = near) (hnz : ¬ ((2 * near) + 1 : Int32) = 0) (hq : ∀ (a_levels' a_position' a_bitAt' a_runIndex' a_runCount' a_inRun' a_runBroken' a_magnitude' a_biasSum' a_correction' a_occurrences' a_bound' a_range' a_levelBits' a_threshold1' a_threshold2' a_threshold3' a_stream' : Nat → Int32), jl_BV 2 (jl_c0 (jl_size f_max near)) a_levels' a_position' a_bitAt' a_runIndex' a_runCount' a_inRun' a_runBroken' a_magnitude' a_biasSum' a_correction' a_occurrences' → jl_PV 2 s f_max near a_bound' a_range' a_levelBits' a_threshold1' a_threshold2' a_threshold3' a_stream' → (∀ (b' : Nat) (c' : jC), b' ≠ 2 → jl_BV b' c' a_levels a_position a_bitAt a_runIndex a_runCount a_inRun a_runBroken a_magnitude a_biasSum a_correction a_occurrences → jl_BV b' c' a_levels' a_position' a_bitAt' a_runIndex' a_runCount' a_inRun' a_runBroken' a_magnitude' a_biasSum' a_correction' a_occurrences') → (∀ (b' s' : Nat) (m' n' : Int32), b' ≠ 2 → jl_PV b' s' m' n' a_bound a_range a_levelBits a_threshold1 a_threshold2 a_threshold3 a_stream → jl_PV b' s' m' n' a_bound' a_range' a_levelBits' a_threshold1' a_threshold2' a_threshold3' a_stream') → post (f_writer, f_reader, f_scratch, f_writerStream, f_streamWords, f_streamBits, f_cellStride, f_contextStride, f_interruptionContext, f_codeLimit, f_resetCount, f_greatestOrder, f_width, f_height, f_cells, f_max, f_writerOpen, f_writerSlot, f_readerOpen, f_readerSlot, f_column, f_left, f_above, f_aboveLeft, f_aboveRight, f_context, f_sign, a_picture, a_words, a_recordLength, a_recordBound, a_recordBits, a_levels', a_position', a_bound', a_range', a_levelBits', a_threshold1', a_threshold2', a_threshold3', a_stream', a_bitAt', a_runIndex', a_runCount', a_inRun', a_runBroken', a_magnitude', a_biasSum', a_correction', a_occurrences')) : wpX_loadScratch post (f_writer, f_reader, f_scratch, f_writerStream, f_streamWords, f_streamBits, f_cellStride, f_contextStride, f_interruptionContext, f_codeLimit, f_resetCount, f_greatestOrder, f_width, f_height, f_cells, f_max, f_writerOpen, f_writerSlot, f_readerOpen, f_readerSlot, f_column, f_left, f_above, f_aboveLeft, f_aboveRight, f_context, f_sign, a_picture, a_words, a_recordLength, a_recordBound, a_recordBits, a_levels, a_position, a_bound, a_range, a_levelBits, a_threshold1, a_threshold2, a_threshold3, a_stream, a_bitAt, a_runIndex, a_runCount, a_inRun, a_runBroken, a_magnitude, a_biasSum, a_correction, a_occurrences) p0 := by
  have hc : p0.toNatClampNeg = s := by rw [hp]; exact nI_clamp (by omega)
  refine ⟨by rw [hp]; exact vp_in_nI hs (by omega), ?_⟩
  rw [hc, eb]
  exact xb_reset (b := 2) (s := s) rfl (by omega) hp hnz (fun _ _ _ _ _ _ _ _ _ _ _ _ _ _ _ _ _ _ h1 h2 h3 h4 => hq _ _ _ _ _ _ _ _ _ _ _ _ _ _ _ _ _ _ h1 h2 h3 h4)
end
theorem i_vc_begin {k : Nat} {u : SX} {v : SY} (I : i_Rel k u v) (hk : k + 5 ≤ 2563) (v1 : Int32) (v2 : Int32) : wpX_begin (fun r u' => wpY_begin (fun r' v' => r' = r ∧ i_Rel (k + 5) u' v') v v1 v2) u v1 v2 := by
  refine jl_el (Q := fun u v => wpX_begin (fun r u' => wpY_begin (fun r' v' => r' = r ∧ i_Rel (k + 5) u' v') v v1 v2) u v1 v2) I ?_
  intro f_writer f_reader f_scratch f_writerStream f_streamWords f_streamBits f_cellStride f_contextStride f_interruptionContext f_codeLimit f_resetCount f_greatestOrder f_writerOpen f_writerSlot f_readerOpen f_readerSlot f_column f_left f_above f_aboveLeft f_aboveRight f_context f_sign a_words a_recordBits a_levels a_position a_bitAt a_runIndex a_runCount a_inRun a_runBroken a_magnitude a_biasSum a_correction a_occurrences a_bound a_range a_levelBits a_threshold1 a_threshold2 a_threshold3 a_stream g_wSlot g_wNear g_wPos g_rSlot g_d y_src y_rec y_len y_bound y_written y_dec w h mx F
  have R : i_Rel (k + 5) (f_writer, f_reader, f_scratch, f_writerStream, f_streamWords, f_streamBits, f_cellStride, f_contextStride, f_interruptionContext, f_codeLimit, f_resetCount, f_greatestOrder, (nI w), (nI h), (nI (w * h)), (nI mx), f_writerOpen, f_writerSlot, f_readerOpen, f_readerSlot, f_column, f_left, f_above, f_aboveLeft, f_aboveRight, f_context, f_sign, y_src, a_words, y_len, y_bound, a_recordBits, a_levels, a_position, a_bound, a_range, a_levelBits, a_threshold1, a_threshold2, a_threshold3, a_stream, a_bitAt, a_runIndex, a_runCount, a_inRun, a_runBroken, a_magnitude, a_biasSum, a_correction, a_occurrences) ((nI w), (nI h), (nI mx), g_wSlot, g_wNear, g_wPos, g_rSlot, g_d, y_src, y_rec, y_len, y_bound, y_written, y_dec) := jl_intro F
  obtain ⟨hw, hw2, hh, hh2, hm, hp, hr, hW, hR⟩ := F
  have hm2 := jl_mx_r hm
  unfold wpX_begin
  refine xv_isSlot (fun c => br_f jl_b10 (xv_isBound hm2.2 (fun n => br_f jl_b10 ?_) (fun n => br_t rfl ?_))) (fun n => br_t rfl ?_)
  · obtain ⟨s, hs, rfl⟩ := id c
    obtain ⟨near, hn, hn2, rfl⟩ := id n
    refine xb_openWriter (jl_nz hn) (fun a_levels' a_position' a_bitAt' a_runIndex' a_runCount' a_inRun' a_runBroken' a_magnitude' a_biasSum' a_correction' a_occurrences' a_bound' a_range' a_levelBits' a_threshold1' a_threshold2' a_threshold3' a_stream' h1 h2 h3 h4 => ?_)
    unfold wpY_begin
    refine yv_isSlot (fun _ => br_f jl_b10 (yv_near hm2.2 (fun _ => ⟨rfl, jl_intro ⟨hw, hw2, hh, hh2, hm, hp, hr, ?_, ?_⟩⟩) (fun n' => absurd n n'))) (fun n' => absurd c n')
    · exact Or.inr ⟨rfl, s, near, _, hs, rfl, rfl, hn, hn2, rfl, Nat.zero_le _, rfl, h1, h2, jl_WI_0 hw, fun i hi => absurd hi (Nat.not_lt_zero _)⟩
    · exact jl_Rd_map (fun c' => h3 1 c' (by decide)) (fun s' m' n' => h4 1 s' m' n' (by decide)) (fun _ _ => rfl) hR
  · unfold wpY_begin
    exact yv_isSlot (fun _ => br_f jl_b10 (yv_near hm2.2 (fun y => absurd y n) (fun _ => ⟨rfl, R⟩))) (fun n' => absurd c n')
  · unfold wpY_begin
    exact yv_isSlot (fun c => absurd c n) (fun _ => br_t rfl ⟨rfl, R⟩)
theorem i_vc_open {k : Nat} {u : SX} {v : SY} (I : i_Rel k u v) (hk : k + 5 ≤ 2563) (v1 : Int32) : wpX_open (fun r u' => wpY_open (fun r' v' => r' = r ∧ i_Rel (k + 5) u' v') v v1) u v1 := by
  refine jl_el (Q := fun u v => wpX_open (fun r u' => wpY_open (fun r' v' => r' = r ∧ i_Rel (k + 5) u' v') v v1) u v1) I ?_
  intro f_writer f_reader f_scratch f_writerStream f_streamWords f_streamBits f_cellStride f_contextStride f_interruptionContext f_codeLimit f_resetCount f_greatestOrder f_writerOpen f_writerSlot f_readerOpen f_readerSlot f_column f_left f_above f_aboveLeft f_aboveRight f_context f_sign a_words a_recordBits a_levels a_position a_bitAt a_runIndex a_runCount a_inRun a_runBroken a_magnitude a_biasSum a_correction a_occurrences a_bound a_range a_levelBits a_threshold1 a_threshold2 a_threshold3 a_stream g_wSlot g_wNear g_wPos g_rSlot g_d y_src y_rec y_len y_bound y_written y_dec w h mx F
  have R : i_Rel (k + 5) (f_writer, f_reader, f_scratch, f_writerStream, f_streamWords, f_streamBits, f_cellStride, f_contextStride, f_interruptionContext, f_codeLimit, f_resetCount, f_greatestOrder, (nI w), (nI h), (nI (w * h)), (nI mx), f_writerOpen, f_writerSlot, f_readerOpen, f_readerSlot, f_column, f_left, f_above, f_aboveLeft, f_aboveRight, f_context, f_sign, y_src, a_words, y_len, y_bound, a_recordBits, a_levels, a_position, a_bound, a_range, a_levelBits, a_threshold1, a_threshold2, a_threshold3, a_stream, a_bitAt, a_runIndex, a_runCount, a_inRun, a_runBroken, a_magnitude, a_biasSum, a_correction, a_occurrences) ((nI w), (nI h), (nI mx), g_wSlot, g_wNear, g_wPos, g_rSlot, g_d, y_src, y_rec, y_len, y_bound, y_written, y_dec) := jl_intro F
  obtain ⟨hw, hw2, hh, hh2, hm, hp, hr, hW, hR⟩ := F
  unfold wpX_open
  refine xv_isSlot (fun c => ?_) (fun n => br_t rfl ?_)
  · obtain ⟨s, hs, rfl⟩ := id c
    have e : vp_in (nI s) 4 := vp_in_nI hs (by omega)
    have hc : (nI s).toNatClampNeg = s := nI_clamp (by omega)
    refine br_f jl_b10 ⟨e, br_c (fun z => ?_) (fun z => ⟨e, ?_⟩)⟩
    · unfold wpY_open
      exact yv_isSlot (fun _ => br_f jl_b10 ⟨e, br_t z ⟨rfl, R⟩⟩) (fun n => absurd c n)
    · obtain ⟨n, near, N, e1, e2, e3, hn, hne, hne2, hN, ro, sm⟩ := hr s hs
      rw [hc, e2]
      refine xb_reset (b := 1) (s := s) rfl (by omega) rfl (jl_nz hne) (fun a_levels' a_position' a_bitAt' a_runIndex' a_runCount' a_inRun' a_runBroken' a_magnitude' a_biasSum' a_correction' a_occurrences' a_bound' a_range' a_levelBits' a_threshold1' a_threshold2' a_threshold3' a_stream' h1 h2 h3 h4 => ⟨e, ?_⟩)
      unfold wpY_open
      refine yv_isSlot (fun _ => br_f jl_b10 ⟨e, br_f z ⟨e, by rw [hc], jl_intro ⟨hw, hw2, hh, hh2, hm, hp, hr, ?_, ?_⟩⟩⟩) (fun n => absurd c n)
      · exact jl_Wr_map (fun c' => h3 0 c' (by decide)) (fun s' m' n' => h4 0 s' m' n' (by decide)) hW
      · exact ⟨_, s, near, h1, h2, Nat.zero_le _, rfl, fun i hi => absurd hi (Nat.not_lt_zero _), Or.inr ⟨rfl, hs, rfl, rfl, e2, hne, ⟨n, e1, Nat.zero_le _, hn⟩, rfl⟩⟩
  · unfold wpY_open
    exact yv_isSlot (fun c => absurd c n) (fun _ => br_t rfl ⟨rfl, R⟩)
theorem jl_clamp_e {x : Int32} {lo hi : Nat} (h : lo ≤ hi) (hh : hi < 2 ^ 31) : ∃ n : Nat, lo ≤ n ∧ n ≤ hi ∧ jl_clamp x (nI lo) (nI hi) = nI n := by
  unfold jl_clamp
  by_cases z : nI lo ≤ x
  · rw [if_pos z]
    by_cases y : x ≤ nI hi
    · rw [if_pos y]
      rw [jl_ile, nI_toInt (by omega)] at z y
      have g := jl_inn (x := x) (by omega)
      have g2 := g.2
      exact ⟨x.toNatClampNeg, by omega, by omega, g.1⟩
    · rw [if_neg y]
      exact ⟨hi, h, Nat.le_refl _, rfl⟩
  · rw [if_neg z]
    exact ⟨lo, Nat.le_refl _, h, rfl⟩
section
variable {g_w g_h g_max g_wSlot g_wNear g_wPos g_rSlot g_d : Int32} {y_src y_rec y_len y_bound y_written y_dec : Nat → Int32}
theorem yw_init157 {post : SY → Prop} {x3 : Int32} (hq : post (g_w, g_h, (((1 : Int32) <<< (jl_clamp x3 2 8 &&& 31)) - 1), g_wSlot, g_wNear, g_wPos, g_rSlot, g_d, y_src, y_rec, y_len, y_bound, y_written, y_dec)) : wY_init_145 post x3 g_w g_h g_max g_wSlot g_wNear g_wPos g_rSlot g_d y_src y_rec y_len y_bound y_written y_dec := by
  unfold jl_clamp at hq
  refine br_c (fun z => ?_) (fun z => ?_)
  · rw [if_pos z] at hq
    refine br_c (fun y => ?_) (fun y => ?_)
    · rw [if_pos y] at hq
      exact nm_e hq
    · rw [if_neg y] at hq
      exact nm_e hq
  · rw [if_neg z] at hq
    exact br_t (by decide) (nm_e hq)
theorem yw_init112 {post : SY → Prop} {x2 x3 : Int32} (hq : post (g_w, (jl_clamp x2 1 8), (((1 : Int32) <<< (jl_clamp x3 2 8 &&& 31)) - 1), g_wSlot, g_wNear, g_wPos, g_rSlot, g_d, y_src, y_rec, y_len, y_bound, y_written, y_dec)) : wY_init_112 post x2 x3 g_w g_h g_max g_wSlot g_wNear g_wPos g_rSlot g_d y_src y_rec y_len y_bound y_written y_dec := by
  unfold jl_clamp at hq
  refine br_c (fun z => ?_) (fun z => ?_)
  · rw [if_pos z] at hq
    refine br_c (fun y => ?_) (fun y => ?_)
    · rw [if_pos y] at hq
      exact yw_init157 hq
    · rw [if_neg y] at hq
      exact yw_init157 hq
  · rw [if_neg z] at hq
    exact br_t (by decide) (yw_init157 hq)
end
theorem yw_init {post : SY → Prop} {k0 k1 k2 : Int32} (hq : post (jl_clamp k0 1 16, jl_clamp k1 1 8, ((1 : Int32) <<< (jl_clamp k2 2 8 &&& 31)) - 1, (-1), 0, 0, (-1), 0, (fun _ => 0), (fun _ => 0), (fun _ => 0), (fun _ => 0), (fun _ => 0), (fun _ => 0))) : wpY_init post k0 k1 k2 := by
  rw [show jl_clamp k0 1 16 = if 1 ≤ k0 then (if k0 ≤ 16 then k0 else 16) else 1 from rfl] at hq
  refine br_c (fun z => ?_) (fun z => ?_)
  · rw [if_pos z] at hq
    refine br_c (fun y => ?_) (fun y => ?_)
    · rw [if_pos y] at hq
      exact yw_init112 hq
    · rw [if_neg y] at hq
      exact yw_init112 hq
  · rw [if_neg z] at hq
    exact br_t (by decide) (yw_init112 hq)
theorem i_vc0 (k0 : Int32) (k1 : Int32) (k2 : Int32) : wpX_init (fun u => wpY_init (fun v => i_Rel 3 u v) k0 k1 k2) k0 k1 k2 := by
  obtain ⟨w, hw, hw2, ew⟩ := jl_clamp_e (x := k0) (lo := 1) (hi := 16) (by omega) (by omega)
  obtain ⟨h, hh, hh2, eh⟩ := jl_clamp_e (x := k1) (lo := 1) (hi := 8) (by omega) (by omega)
  obtain ⟨d, hd, hd2, ed⟩ := jl_clamp_e (x := k2) (lo := 2) (hi := 8) (by omega) (by omega)
  have ew' : jl_clamp k0 1 16 = nI w := ew
  have eh' : jl_clamp k1 1 8 = nI h := eh
  have ed' : jl_clamp k2 2 8 = nI d := ed
  have p2 : 2 ^ 2 ≤ 2 ^ d := Nat.pow_le_pow_right (by decide) hd
  have em : ((1 : Int32) <<< (nI d &&& 31)) - 1 = nI (2 ^ d - 1) := by
    rw [jl_1sh d (by omega)]
    exact pk_sub (b := 1) (by omega)
  unfold wpX_init
  refine xv_clamp ?_
  rw [ew']
  refine xv_clamp ?_
  rw [eh']
  refine xv_clamp ?_
  rw [ed']
  refine nm_r em (nm_r (pk_mul w h) ?_)
  have nz : ¬ ((2 * (0 : Int32)) + 1 : Int32) = 0 := by decide
  refine xb_reset (b := 0) (s := 4) rfl (by omega) rfl nz (fun a_levels' a_position' a_bitAt' a_runIndex' a_runCount' a_inRun' a_runBroken' a_magnitude' a_biasSum' a_correction' a_occurrences' a_bound' a_range' a_levelBits' a_threshold1' a_threshold2' a_threshold3' a_stream' h1 h2 h3 h4 => ?_)
  refine xb_reset (b := 1) (s := 0) rfl (by omega) rfl nz (fun a_levels a_position a_bitAt a_runIndex a_runCount a_inRun a_runBroken a_magnitude a_biasSum a_correction a_occurrences a_bound a_range a_levelBits a_threshold1 a_threshold2 a_threshold3 a_stream i1 i2 i3 i4 => ?_)
  refine xb_reset (b := 2) (s := 0) rfl (by omega) rfl nz (fun a_levels' a_position' a_bitAt' a_runIndex' a_runCount' a_inRun' a_runBroken' a_magnitude' a_biasSum' a_correction' a_occurrences' a_bound' a_range' a_levelBits' a_threshold1' a_threshold2' a_threshold3' a_stream' j1 j2 j3 j4 => ?_)
  refine yw_init ?_
  rw [ew', eh', ed', em]
  refine jl_intro ⟨hw, hw2, hh, hh2, ⟨d, hd, hd2, rfl⟩, fun i => jl_in0 (by omega), fun s hs => ?_, Or.inl ⟨rfl, rfl⟩, ?_⟩
  · exact ⟨0, 0, 0, rfl, rfl, rfl, Nat.zero_le _, by omega, by omega, by omega, ⟨Nat.le_refl _, fun i hi => absurd hi (Nat.not_lt_zero _)⟩, fun i hi => absurd hi (Nat.not_lt_zero _)⟩
  · exact ⟨_, 0, 0, j3 1 _ (by decide) i1, j4 1 _ _ _ (by decide) i2, Nat.zero_le _, rfl, fun i hi => absurd hi (Nat.not_lt_zero _), Or.inl ⟨rfl, rfl⟩⟩
end
section
/-! ===== loops over decodeNext and encodeLevel ===== -/
/-- array A with f at places a .. e - 1 -/
def jl_rg (f A : Nat → Int32) (a e : Nat) : Nat → Int32 := fun j => if a ≤ j ∧ j < e then f j else A j
theorem jl_rg_s {f A : Nat → Int32} {a e n : Nat} {y : Int32} (h : a ≤ e) (hn : n = e) (hy : y = f e) : upd (jl_rg f A a e) n y = jl_rg f A a (e + 1) := by
  subst hn hy
  funext j
  unfold upd jl_rg
  by_cases z : j = n
  · rw [if_pos z, if_pos (by omega), z]
  · rw [if_neg z]
    by_cases g : a ≤ j ∧ j < n
    · rw [if_pos g, if_pos (by omega)]
    · rw [if_neg g, if_neg (by omega)]
theorem jl_rg_0 {f A : Nat → Int32} {a : Nat} : jl_rg f A a a = A := by
  funext j
  unfold jl_rg
  rw [if_neg (by omega)]
theorem jl_rg_in {f A : Nat → Int32} {a e j : Nat} (h1 : a ≤ j) (h2 : j < e) : jl_rg f A a e j = f j := if_pos ⟨h1, h2⟩
theorem jl_rg_lo {f A : Nat → Int32} {a e j : Nat} (h1 : j < a) : jl_rg f A a e j = A j := if_neg (by omega)
theorem jl_rg_c {f g A : Nat → Int32} {a e : Nat} (h : ∀ j, a ≤ j → j < e → f j = g j) : jl_rg f A a e = jl_rg g A a e := by
  funext j
  unfold jl_rg
  by_cases z : a ≤ j ∧ j < e
  · rw [if_pos z, if_pos z, h j z.1 z.2]
  · rw [if_neg z, if_neg z]
/-- bank b decodes slot s, a record of n levels -/
def jl_HD (w mx near nc b s N n : Nat) (a_words a_recordBits a_bound a_range a_levelBits a_threshold1 a_threshold2 a_threshold3 a_stream : Nat → Int32) : Prop :=
  b < 3 ∧ s < 4 ∧ N ≤ 4096 ∧ a_recordBits s = nI N ∧ 0 < w ∧ w ≤ 16 ∧ nc ≤ 128 ∧ n ≤ nc ∧ jl_ro1 w mx near (jl_bs a_words s) N n ∧ jl_PV b s (nI mx) (nI near) a_bound a_range a_levelBits a_threshold1 a_threshold2 a_threshold3 a_stream
section
variable {f_writer f_reader f_scratch f_writerStream f_streamWords f_streamBits f_cellStride f_contextStride f_interruptionContext f_codeLimit f_resetCount f_greatestOrder f_width f_height f_cells f_max f_writerOpen f_writerSlot f_readerOpen f_readerSlot f_column f_left f_above f_aboveLeft f_aboveRight f_context f_sign : Int32} {a_picture a_words a_recordLength a_recordBound a_recordBits a_levels a_position a_bound a_range a_levelBits a_threshold1 a_threshold2 a_threshold3 a_stream a_bitAt a_runIndex a_runCount a_inRun a_runBroken a_magnitude a_biasSum a_correction a_occurrences : Nat → Int32} {w mx near nc b s N n i : Nat}
theorem xd_step {post : SX → Prop} {p0 : Int32} (hp : p0 = nI b) (HD : jl_HD w mx near nc b s N n a_words a_recordBits a_bound a_range a_levelBits a_threshold1 a_threshold2 a_threshold3 a_stream) (hi : i < n) (hB : jl_BV b (jl_dn w mx near (jl_bs a_words s) i) a_levels a_position a_bitAt a_runIndex a_runCount a_inRun a_runBroken a_magnitude a_biasSum a_correction a_occurrences) (h : ∀ (f_column' f_left' f_above' f_aboveLeft' f_aboveRight' f_context' f_sign' : Int32) (a_levels' a_position' a_bitAt' a_runIndex' a_runCount' a_inRun' a_runBroken' a_magnitude' a_biasSum' a_correction' a_occurrences' : Nat → Int32), jl_BV b (jl_dn w mx near (jl_bs a_words s) (i + 1)) a_levels' a_position' a_bitAt' a_runIndex' a_runCount' a_inRun' a_runBroken' a_magnitude' a_biasSum' a_correction' a_occurrences' → (∀ (b' : Nat) (c' : jC), b' ≠ b → jl_BV b' c' a_levels a_position a_bitAt a_runIndex a_runCount a_inRun a_runBroken a_magnitude a_biasSum a_correction a_occurrences → jl_BV b' c' a_levels' a_position' a_bitAt' a_runIndex' a_runCount' a_inRun' a_runBroken' a_magnitude' a_biasSum' a_correction' a_occurrences') → post (f_writer, f_reader, f_scratch, f_writerStream, f_streamWords, f_streamBits, f_cellStride, f_contextStride, f_interruptionContext, f_codeLimit, f_resetCount, f_greatestOrder, (nI w), f_height, (nI nc), f_max, f_writerOpen, f_writerSlot, f_readerOpen, f_readerSlot, f_column', f_left', f_above', f_aboveLeft', f_aboveRight', f_context', f_sign', a_picture, a_words, a_recordLength, a_recordBound, a_recordBits, a_levels', a_position', a_bound, a_range, a_levelBits, a_threshold1, a_threshold2, a_threshold3, a_stream, a_bitAt', a_runIndex', a_runCount', a_inRun', a_runBroken', a_magnitude', a_biasSum', a_correction', a_occurrences')) : wpX_decodeNext post (f_writer, f_reader, f_scratch, f_writerStream, f_streamWords, f_streamBits, f_cellStride, f_contextStride, f_interruptionContext, f_codeLimit, f_resetCount, f_greatestOrder, (nI w), f_height, (nI nc), f_max, f_writerOpen, f_writerSlot, f_readerOpen, f_readerSlot, f_column, f_left, f_above, f_aboveLeft, f_aboveRight, f_context, f_sign, a_picture, a_words, a_recordLength, a_recordBound, a_recordBits, a_levels, a_position, a_bound, a_range, a_levelBits, a_threshold1, a_threshold2, a_threshold3, a_stream, a_bitAt, a_runIndex, a_runCount, a_inRun, a_runBroken, a_magnitude, a_biasSum, a_correction, a_occurrences) p0 := by
  obtain ⟨hb, hs, hN, eN, hw, hw2, hnc, hn, ro, hP⟩ := HD
  have hst := hP.2.2.2.2.2.2
  have hpos : (jl_dn w mx near (jl_bs a_words s) i).1 < nc := by
    have e : (jl_dn w mx near (jl_bs a_words s) i).1 = i := jl_Dit_pos i
    omega
  exact xb_decodeNext (P := jl_P w (nI mx) (nI near)) hp ⟨hb, hs, hN, hst, eN⟩ (jl_PV_HP hP) rfl hw hw2 hnc hB hpos (jl_Dit_ok (P := jl_P w (nI mx) (nI near)) hw2 i) (jl_RO_bit ro hi) (fun f_column' f_left' f_above' f_aboveLeft' f_aboveRight' f_context' f_sign' a_levels' a_position' a_bitAt' a_runIndex' a_runCount' a_inRun' a_runBroken' a_magnitude' a_biasSum' a_correction' a_occurrences' g1 g2 => h f_column' f_left' f_above' f_aboveLeft' f_aboveRight' f_context' f_sign' a_levels' a_position' a_bitAt' a_runIndex' a_runCount' a_inRun' a_runBroken' a_magnitude' a_biasSum' a_correction' a_occurrences' g1 g2)
theorem zl_decode {post : Int32 → SX → Prop} {x2 : Int32} {p st : Nat} (h2 : x2 = nI st) (hps : p + st ≤ n) (HD : jl_HD w mx near nc 1 s N n a_words a_recordBits a_bound a_range a_levelBits a_threshold1 a_threshold2 a_threshold3 a_stream) : ∀ (d i fu : Nat) (f_column f_left f_above f_aboveLeft f_aboveRight f_context f_sign : Int32) (a_levels a_position a_bitAt a_runIndex a_runCount a_inRun a_runBroken a_magnitude a_biasSum a_correction a_occurrences : Nat → Int32), i + d = st → d < fu → jl_BV 1 (jl_dn w mx near (jl_bs a_words s) (p + i)) a_levels a_position a_bitAt a_runIndex a_runCount a_inRun a_runBroken a_magnitude a_biasSum a_correction a_occurrences → (∀ (f_column' f_left' f_above' f_aboveLeft' f_aboveRight' f_context' f_sign' : Int32) (a_levels' a_position' a_bitAt' a_runIndex' a_runCount' a_inRun' a_runBroken' a_magnitude' a_biasSum' a_correction' a_occurrences' : Nat → Int32), jl_BV 1 (jl_dn w mx near (jl_bs a_words s) (p + st)) a_levels' a_position' a_bitAt' a_runIndex' a_runCount' a_inRun' a_runBroken' a_magnitude' a_biasSum' a_correction' a_occurrences' → (∀ (b' : Nat) (c' : jC), b' ≠ 1 → jl_BV b' c' a_levels a_position a_bitAt a_runIndex a_runCount a_inRun a_runBroken a_magnitude a_biasSum a_correction a_occurrences → jl_BV b' c' a_levels' a_position' a_bitAt' a_runIndex' a_runCount' a_inRun' a_runBroken' a_magnitude' a_biasSum' a_correction' a_occurrences') → post x2 (f_writer, f_reader, f_scratch, f_writerStream, f_streamWords, f_streamBits, f_cellStride, f_contextStride, f_interruptionContext, f_codeLimit, f_resetCount, f_greatestOrder, (nI w), f_height, (nI nc), f_max, f_writerOpen, f_writerSlot, f_readerOpen, f_readerSlot, f_column', f_left', f_above', f_aboveLeft', f_aboveRight', f_context', f_sign', a_picture, a_words, a_recordLength, a_recordBound, a_recordBits, a_levels', a_position', a_bound, a_range, a_levelBits, a_threshold1, a_threshold2, a_threshold3, a_stream, a_bitAt', a_runIndex', a_runCount', a_inRun', a_runBroken', a_magnitude', a_biasSum', a_correction', a_occurrences')) → wX_decode_40 post x2 fu (nI i) f_writer f_reader f_scratch f_writerStream f_streamWords f_streamBits f_cellStride f_contextStride f_interruptionContext f_codeLimit f_resetCount f_greatestOrder (nI w) f_height (nI nc) f_max f_writerOpen f_writerSlot f_readerOpen f_readerSlot f_column f_left f_above f_aboveLeft f_aboveRight f_context f_sign a_picture a_words a_recordLength a_recordBound a_recordBits a_levels a_position a_bound a_range a_levelBits a_threshold1 a_threshold2 a_threshold3 a_stream a_bitAt a_runIndex a_runCount a_inRun a_runBroken a_magnitude a_biasSum a_correction a_occurrences := by
  have hn : n ≤ 128 := by
    have a := HD.2.2.2.2.2.2.1
    have b := HD.2.2.2.2.2.2.2.1
    omega
  intro d
  induction d with
  | zero =>
    intro i fu f_column f_left f_above f_aboveLeft f_aboveRight f_context f_sign a_levels a_position a_bitAt a_runIndex a_runCount a_inRun a_runBroken a_magnitude a_biasSum a_correction a_occurrences hi hf hB h
    obtain ⟨m, rfl⟩ : ∃ m, fu = m + 1 := ⟨fu - 1, by omega⟩
    have e : i = st := by omega
    subst e
    exact br_t (by rw [h2]; exact nI_le (by omega) (by omega)) (h f_column f_left f_above f_aboveLeft f_aboveRight f_context f_sign a_levels a_position a_bitAt a_runIndex a_runCount a_inRun a_runBroken a_magnitude a_biasSum a_correction a_occurrences hB (fun _ _ _ g => g))
  | succ d ih =>
    intro i fu f_column f_left f_above f_aboveLeft f_aboveRight f_context f_sign a_levels a_position a_bitAt a_runIndex a_runCount a_inRun a_runBroken a_magnitude a_biasSum a_correction a_occurrences hi hf hB h
    obtain ⟨m, rfl⟩ : ∃ m, fu = m + 1 := ⟨fu - 1, by omega⟩
    refine br_f (by rw [h2]; exact nI_ge (by omega) (by omega)) (xd_step (b := 1) rfl HD (show p + i < n by omega) hB (fun f_column' f_left' f_above' f_aboveLeft' f_aboveRight' f_context' f_sign' a_levels' a_position' a_bitAt' a_runIndex' a_runCount' a_inRun' a_runBroken' a_magnitude' a_biasSum' a_correction' a_occurrences' hB' hF => nm_r (nI_1 i) ?_))
    exact ih (i + 1) m f_column' f_left' f_above' f_aboveLeft' f_aboveRight' f_context' f_sign' a_levels' a_position' a_bitAt' a_runIndex' a_runCount' a_inRun' a_runBroken' a_magnitude' a_biasSum' a_correction' a_occurrences' (by omega) (by omega) hB' (fun _ _ _ _ _ _ _ _ _ _ _ _ _ _ _ _ _ _ g1 g2 => h _ _ _ _ _ _ _ _ _ _ _ _ _ _ _ _ _ _ g1 (fun b' c' ne g => g2 b' c' ne (hF b' c' ne g)))
theorem zl_sampleAt {post : Int32 → SX → Prop} {x4 : Int32} {ix : Nat} (h4 : x4 = nI ix) (hix : ix < n) (HD : jl_HD w mx near nc 2 s N n a_words a_recordBits a_bound a_range a_levelBits a_threshold1 a_threshold2 a_threshold3 a_stream) : ∀ (d i fu : Nat) (f_column f_left f_above f_aboveLeft f_aboveRight f_context f_sign : Int32) (a_levels a_position a_bitAt a_runIndex a_runCount a_inRun a_runBroken a_magnitude a_biasSum a_correction a_occurrences : Nat → Int32), i + d = ix + 1 → d < fu → jl_BV 2 (jl_dn w mx near (jl_bs a_words s) i) a_levels a_position a_bitAt a_runIndex a_runCount a_inRun a_runBroken a_magnitude a_biasSum a_correction a_occurrences → (∀ (f_column' f_left' f_above' f_aboveLeft' f_aboveRight' f_context' f_sign' : Int32) (a_levels' a_position' a_bitAt' a_runIndex' a_runCount' a_inRun' a_runBroken' a_magnitude' a_biasSum' a_correction' a_occurrences' : Nat → Int32), (∀ (b' : Nat) (c' : jC), b' ≠ 2 → jl_BV b' c' a_levels a_position a_bitAt a_runIndex a_runCount a_inRun a_runBroken a_magnitude a_biasSum a_correction a_occurrences → jl_BV b' c' a_levels' a_position' a_bitAt' a_runIndex' a_runCount' a_inRun' a_runBroken' a_magnitude' a_biasSum' a_correction' a_occurrences') → post (jl_smp f_max (nI near) ((jl_dn w mx near (jl_bs a_words s) n).2.1 ix)) (f_writer, f_reader, f_scratch, f_writerStream, f_streamWords, f_streamBits, f_cellStride, f_contextStride, f_interruptionContext, f_codeLimit, f_resetCount, f_greatestOrder, (nI w), f_height, (nI nc), f_max, f_writerOpen, f_writerSlot, f_readerOpen, f_readerSlot, f_column', f_left', f_above', f_aboveLeft', f_aboveRight', f_context', f_sign', a_picture, a_words, a_recordLength, a_recordBound, a_recordBits, a_levels', a_position', a_bound, a_range, a_levelBits, a_threshold1, a_threshold2, a_threshold3, a_stream, a_bitAt', a_runIndex', a_runCount', a_inRun', a_runBroken', a_magnitude', a_biasSum', a_correction', a_occurrences')) → wX_sampleAt_63 post x4 fu (nI i) f_writer f_reader f_scratch f_writerStream f_streamWords f_streamBits f_cellStride f_contextStride f_interruptionContext f_codeLimit f_resetCount f_greatestOrder (nI w) f_height (nI nc) f_max f_writerOpen f_writerSlot f_readerOpen f_readerSlot f_column f_left f_above f_aboveLeft f_aboveRight f_context f_sign a_picture a_words a_recordLength a_recordBound a_recordBits a_levels a_position a_bound a_range a_levelBits a_threshold1 a_threshold2 a_threshold3 a_stream a_bitAt a_runIndex a_runCount a_inRun a_runBroken a_magnitude a_biasSum a_correction a_occurrences := by
  have hn : n ≤ 128 := by
    have a := HD.2.2.2.2.2.2.1
    have b := HD.2.2.2.2.2.2.2.1
    omega
  have hP := HD.2.2.2.2.2.2.2.2.2
  intro d
  induction d with
  | zero =>
    intro i fu f_column f_left f_above f_aboveLeft f_aboveRight f_context f_sign a_levels a_position a_bitAt a_runIndex a_runCount a_inRun a_runBroken a_magnitude a_biasSum a_correction a_occurrences hi hf hB h
    obtain ⟨m, rfl⟩ : ∃ m, fu = m + 1 := ⟨fu - 1, by omega⟩
    have e : i = ix + 1 := by omega
    subst e
    have el : a_levels (128 * 2 + ix) = (jl_dn w mx near (jl_bs a_words s) n).2.1 ix := by
      rw [hB.2.2.2.2.2.2.2.1 ix (by rw [show (jl_dn w mx near (jl_bs a_words s) (ix + 1)).1 = ix + 1 from jl_Dit_pos _]; omega)]
      exact jl_RO_lev (by omega) (by omega)
    exact br_t (by rw [h4]; exact nI_lt (by omega) (by omega)) (xv_sampleOf (b := 2) rfl (by omega) h4 (by omega) el hP.1 (h f_column f_left f_above f_aboveLeft f_aboveRight f_context f_sign a_levels a_position a_bitAt a_runIndex a_runCount a_inRun a_runBroken a_magnitude a_biasSum a_correction a_occurrences (fun _ _ _ g => g)))
  | succ d ih =>
    intro i fu f_column f_left f_above f_aboveLeft f_aboveRight f_context f_sign a_levels a_position a_bitAt a_runIndex a_runCount a_inRun a_runBroken a_magnitude a_biasSum a_correction a_occurrences hi hf hB h
    obtain ⟨m, rfl⟩ : ∃ m, fu = m + 1 := ⟨fu - 1, by omega⟩
    refine br_f (by rw [h4]; exact nI_nlt (by omega) (by omega)) (xd_step (b := 2) rfl HD (show i < n by omega) hB (fun f_column' f_left' f_above' f_aboveLeft' f_aboveRight' f_context' f_sign' a_levels' a_position' a_bitAt' a_runIndex' a_runCount' a_inRun' a_runBroken' a_magnitude' a_biasSum' a_correction' a_occurrences' hB' hF => nm_r (nI_1 i) ?_))
    exact ih (i + 1) m f_column' f_left' f_above' f_aboveLeft' f_aboveRight' f_context' f_sign' a_levels' a_position' a_bitAt' a_runIndex' a_runCount' a_inRun' a_runBroken' a_magnitude' a_biasSum' a_correction' a_occurrences' (by omega) (by omega) hB' (fun _ _ _ _ _ _ _ _ _ _ _ _ _ _ _ _ _ _ g2 => h _ _ _ _ _ _ _ _ _ _ _ _ _ _ _ _ _ _ (fun b' c' ne g => g2 b' c' ne (hF b' c' ne g)))
theorem zl_cut {post : SX → Prop} {x1 x2 : Int32} {ln : Nat} (h1 : x1 = nI s) (h2 : x2 = nI ln) (hln : ln ≤ n) (HD : jl_HD w mx near nc 2 s N n a_words a_recordBits a_bound a_range a_levelBits a_threshold1 a_threshold2 a_threshold3 a_stream) : ∀ (d i fu : Nat) (f_column f_left f_above f_aboveLeft f_aboveRight f_context f_sign : Int32) (a_levels a_position a_bitAt a_runIndex a_runCount a_inRun a_runBroken a_magnitude a_biasSum a_correction a_occurrences : Nat → Int32), i + d = ln → d < fu → jl_BV 2 (jl_dn w mx near (jl_bs a_words s) i) a_levels a_position a_bitAt a_runIndex a_runCount a_inRun a_runBroken a_magnitude a_biasSum a_correction a_occurrences → (∀ (f_column' f_left' f_above' f_aboveLeft' f_aboveRight' f_context' f_sign' : Int32) (a_levels' a_position' a_bitAt' a_runIndex' a_runCount' a_inRun' a_runBroken' a_magnitude' a_biasSum' a_correction' a_occurrences' : Nat → Int32), (∀ (b' : Nat) (c' : jC), b' ≠ 2 → jl_BV b' c' a_levels a_position a_bitAt a_runIndex a_runCount a_inRun a_runBroken a_magnitude a_biasSum a_correction a_occurrences → jl_BV b' c' a_levels' a_position' a_bitAt' a_runIndex' a_runCount' a_inRun' a_runBroken' a_magnitude' a_biasSum' a_correction' a_occurrences') → post (f_writer, f_reader, f_scratch, f_writerStream, f_streamWords, f_streamBits, f_cellStride, f_contextStride, f_interruptionContext, f_codeLimit, f_resetCount, f_greatestOrder, (nI w), f_height, (nI nc), f_max, f_writerOpen, f_writerSlot, f_readerOpen, f_readerSlot, f_column', f_left', f_above', f_aboveLeft', f_aboveRight', f_context', f_sign', a_picture, a_words, (upd a_recordLength s x2), a_recordBound, (upd a_recordBits s (nI (jl_dn w mx near (jl_bs a_words s) ln).2.2.1)), a_levels', a_position', a_bound, a_range, a_levelBits, a_threshold1, a_threshold2, a_threshold3, a_stream, a_bitAt', a_runIndex', a_runCount', a_inRun', a_runBroken', a_magnitude', a_biasSum', a_correction', a_occurrences')) → wX_cutRecord_7 post x1 x2 fu (nI i) f_writer f_reader f_scratch f_writerStream f_streamWords f_streamBits f_cellStride f_contextStride f_interruptionContext f_codeLimit f_resetCount f_greatestOrder (nI w) f_height (nI nc) f_max f_writerOpen f_writerSlot f_readerOpen f_readerSlot f_column f_left f_above f_aboveLeft f_aboveRight f_context f_sign a_picture a_words a_recordLength a_recordBound a_recordBits a_levels a_position a_bound a_range a_levelBits a_threshold1 a_threshold2 a_threshold3 a_stream a_bitAt a_runIndex a_runCount a_inRun a_runBroken a_magnitude a_biasSum a_correction a_occurrences := by
  have hn : n ≤ 128 := by
    have a := HD.2.2.2.2.2.2.1
    have b := HD.2.2.2.2.2.2.2.1
    omega
  have hs := HD.2.1
  intro d
  induction d with
  | zero =>
    intro i fu f_column f_left f_above f_aboveLeft f_aboveRight f_context f_sign a_levels a_position a_bitAt a_runIndex a_runCount a_inRun a_runBroken a_magnitude a_biasSum a_correction a_occurrences hi hf hB h
    obtain ⟨m, rfl⟩ : ∃ m, fu = m + 1 := ⟨fu - 1, by omega⟩
    have e : i = ln := by omega
    subst e
    have hv : vp_in x1 4 := by rw [h1]; exact vp_in_nI hs (by omega)
    have hc : x1.toNatClampNeg = s := by rw [h1]; exact nI_clamp (by omega)
    exact br_t (by rw [h2]; exact nI_le (by omega) (by omega)) ⟨hv, nm_r (e' := upd a_recordBits s (nI (jl_dn w mx near (jl_bs a_words s) i).2.2.1)) (by rw [hc, hB.2.1]) ⟨hv, nm_r (e' := upd a_recordLength s x2) (by rw [hc]) (h f_column f_left f_above f_aboveLeft f_aboveRight f_context f_sign a_levels a_position a_bitAt a_runIndex a_runCount a_inRun a_runBroken a_magnitude a_biasSum a_correction a_occurrences (fun _ _ _ g => g))⟩⟩
  | succ d ih =>
    intro i fu f_column f_left f_above f_aboveLeft f_aboveRight f_context f_sign a_levels a_position a_bitAt a_runIndex a_runCount a_inRun a_runBroken a_magnitude a_biasSum a_correction a_occurrences hi hf hB h
    obtain ⟨m, rfl⟩ : ∃ m, fu = m + 1 := ⟨fu - 1, by omega⟩
    refine br_f (by rw [h2]; exact nI_ge (by omega) (by omega)) (xd_step (b := 2) rfl HD (show i < n by omega) hB (fun f_column' f_left' f_above' f_aboveLeft' f_aboveRight' f_context' f_sign' a_levels' a_position' a_bitAt' a_runIndex' a_runCount' a_inRun' a_runBroken' a_magnitude' a_biasSum' a_correction' a_occurrences' hB' hF => nm_r (nI_1 i) ?_))
    exact ih (i + 1) m f_column' f_left' f_above' f_aboveLeft' f_aboveRight' f_context' f_sign' a_levels' a_position' a_bitAt' a_runIndex' a_runCount' a_inRun' a_runBroken' a_magnitude' a_biasSum' a_correction' a_occurrences' (by omega) (by omega) hB' (fun _ _ _ _ _ _ _ _ _ _ _ _ _ _ _ _ _ _ g2 => h _ _ _ _ _ _ _ _ _ _ _ _ _ _ _ _ _ _ (fun b' c' ne g => g2 b' c' ne (hF b' c' ne g)))
theorem zl_restore {post : Int32 → SX → Prop} {x2 : Int32} {A : Nat → Int32} (h2 : x2 = nI n) (HD : jl_HD w mx near nc 2 s N n a_words a_recordBits a_bound a_range a_levelBits a_threshold1 a_threshold2 a_threshold3 a_stream) : ∀ (d i fu : Nat) (f_column f_left f_above f_aboveLeft f_aboveRight f_context f_sign : Int32) (a_levels a_position a_bitAt a_runIndex a_runCount a_inRun a_runBroken a_magnitude a_biasSum a_correction a_occurrences : Nat → Int32), i + d = n → d < fu → jl_BV 2 (jl_dn w mx near (jl_bs a_words s) i) a_levels a_position a_bitAt a_runIndex a_runCount a_inRun a_runBroken a_magnitude a_biasSum a_correction a_occurrences → (∀ (f_column' f_left' f_above' f_aboveLeft' f_aboveRight' f_context' f_sign' : Int32) (a_levels' a_position' a_bitAt' a_runIndex' a_runCount' a_inRun' a_runBroken' a_magnitude' a_biasSum' a_correction' a_occurrences' : Nat → Int32), (∀ (b' : Nat) (c' : jC), b' ≠ 2 → jl_BV b' c' a_levels a_position a_bitAt a_runIndex a_runCount a_inRun a_runBroken a_magnitude a_biasSum a_correction a_occurrences → jl_BV b' c' a_levels' a_position' a_bitAt' a_runIndex' a_runCount' a_inRun' a_runBroken' a_magnitude' a_biasSum' a_correction' a_occurrences') → post x2 (f_writer, f_reader, f_scratch, f_writerStream, f_streamWords, f_streamBits, f_cellStride, f_contextStride, f_interruptionContext, f_codeLimit, f_resetCount, f_greatestOrder, (nI w), f_height, (nI nc), f_max, f_writerOpen, f_writerSlot, f_readerOpen, f_readerSlot, f_column', f_left', f_above', f_aboveLeft', f_aboveRight', f_context', f_sign', (jl_rg (fun j => jl_smp f_max (nI near) ((jl_dn w mx near (jl_bs a_words s) n).2.1 j)) A 0 n), a_words, a_recordLength, a_recordBound, a_recordBits, a_levels', a_position', a_bound, a_range, a_levelBits, a_threshold1, a_threshold2, a_threshold3, a_stream, a_bitAt', a_runIndex', a_runCount', a_inRun', a_runBroken', a_magnitude', a_biasSum', a_correction', a_occurrences')) → wX_restore_31 post x2 fu (nI i) f_writer f_reader f_scratch f_writerStream f_streamWords f_streamBits f_cellStride f_contextStride f_interruptionContext f_codeLimit f_resetCount f_greatestOrder (nI w) f_height (nI nc) f_max f_writerOpen f_writerSlot f_readerOpen f_readerSlot f_column f_left f_above f_aboveLeft f_aboveRight f_context f_sign (jl_rg (fun j => jl_smp f_max (nI near) ((jl_dn w mx near (jl_bs a_words s) n).2.1 j)) A 0 i) a_words a_recordLength a_recordBound a_recordBits a_levels a_position a_bound a_range a_levelBits a_threshold1 a_threshold2 a_threshold3 a_stream a_bitAt a_runIndex a_runCount a_inRun a_runBroken a_magnitude a_biasSum a_correction a_occurrences := by
  have hn : n ≤ 128 := by
    have a := HD.2.2.2.2.2.2.1
    have b := HD.2.2.2.2.2.2.2.1
    omega
  have hP := HD.2.2.2.2.2.2.2.2.2
  intro d
  induction d with
  | zero =>
    intro i fu f_column f_left f_above f_aboveLeft f_aboveRight f_context f_sign a_levels a_position a_bitAt a_runIndex a_runCount a_inRun a_runBroken a_magnitude a_biasSum a_correction a_occurrences hi hf hB h
    obtain ⟨m, rfl⟩ : ∃ m, fu = m + 1 := ⟨fu - 1, by omega⟩
    have e : i = n := by omega
    subst e
    exact br_t (by rw [h2]; exact nI_le (by omega) (by omega)) (h f_column f_left f_above f_aboveLeft f_aboveRight f_context f_sign a_levels a_position a_bitAt a_runIndex a_runCount a_inRun a_runBroken a_magnitude a_biasSum a_correction a_occurrences (fun _ _ _ g => g))
  | succ d ih =>
    intro i fu f_column f_left f_above f_aboveLeft f_aboveRight f_context f_sign a_levels a_position a_bitAt a_runIndex a_runCount a_inRun a_runBroken a_magnitude a_biasSum a_correction a_occurrences hi hf hB h
    obtain ⟨m, rfl⟩ : ∃ m, fu = m + 1 := ⟨fu - 1, by omega⟩
    refine br_f (by rw [h2]; exact nI_ge (by omega) (by omega)) (xd_step (b := 2) rfl HD (show i < n by omega) hB (fun f_column' f_left' f_above' f_aboveLeft' f_aboveRight' f_context' f_sign' a_levels' a_position' a_bitAt' a_runIndex' a_runCount' a_inRun' a_runBroken' a_magnitude' a_biasSum' a_correction' a_occurrences' hB' hF => ?_))
    have el : a_levels' (128 * 2 + i) = (jl_dn w mx near (jl_bs a_words s) n).2.1 i := by
      rw [hB'.2.2.2.2.2.2.2.1 i (by rw [show (jl_dn w mx near (jl_bs a_words s) (i + 1)).1 = i + 1 from jl_Dit_pos _]; omega)]
      exact jl_RO_lev (by omega) (by omega)
    refine xv_sampleOf (b := 2) rfl (by omega) rfl (by omega) el hP.1 ⟨vp_in_nI (by omega) (by omega), nm_r (jl_rg_s (Nat.zero_le _) (nI_clamp (by omega)) rfl) (nm_r (nI_1 i) ?_)⟩
    exact ih (i + 1) m f_column' f_left' f_above' f_aboveLeft' f_aboveRight' f_context' f_sign' a_levels' a_position' a_bitAt' a_runIndex' a_runCount' a_inRun' a_runBroken' a_magnitude' a_biasSum' a_correction' a_occurrences' (by omega) (by omega) hB' (fun _ _ _ _ _ _ _ _ _ _ _ _ _ _ _ _ _ _ g2 => h _ _ _ _ _ _ _ _ _ _ _ _ _ _ _ _ _ _ (fun b' c' ne g => g2 b' c' ne (hF b' c' ne g)))
/-- the worst error from place i on -/
def jl_wst (f g : Nat → Int32) : Nat → Nat → Int32 → Int32
  | 0, _, acc => acc
  | d + 1, i, acc => jl_wst f g d (i + 1) (if jl_abs (f i - g i) ≤ acc then acc else jl_abs (f i - g i))
theorem zl_worst {post : Int32 → SX → Prop} {x2 : Int32} (h2 : x2 = nI n) (HD : jl_HD w mx near nc 2 s N n a_words a_recordBits a_bound a_range a_levelBits a_threshold1 a_threshold2 a_threshold3 a_stream) : ∀ (d i fu : Nat) (acc : Int32) (f_column f_left f_above f_aboveLeft f_aboveRight f_context f_sign : Int32) (a_levels a_position a_bitAt a_runIndex a_runCount a_inRun a_runBroken a_magnitude a_biasSum a_correction a_occurrences : Nat → Int32), i + d = n → d < fu → jl_BV 2 (jl_dn w mx near (jl_bs a_words s) i) a_levels a_position a_bitAt a_runIndex a_runCount a_inRun a_runBroken a_magnitude a_biasSum a_correction a_occurrences → (∀ (f_column' f_left' f_above' f_aboveLeft' f_aboveRight' f_context' f_sign' : Int32) (a_levels' a_position' a_bitAt' a_runIndex' a_runCount' a_inRun' a_runBroken' a_magnitude' a_biasSum' a_correction' a_occurrences' : Nat → Int32), (∀ (b' : Nat) (c' : jC), b' ≠ 2 → jl_BV b' c' a_levels a_position a_bitAt a_runIndex a_runCount a_inRun a_runBroken a_magnitude a_biasSum a_correction a_occurrences → jl_BV b' c' a_levels' a_position' a_bitAt' a_runIndex' a_runCount' a_inRun' a_runBroken' a_magnitude' a_biasSum' a_correction' a_occurrences') → post (jl_wst (fun j => jl_smp f_max (nI near) ((jl_dn w mx near (jl_bs a_words s) n).2.1 j)) a_picture d i acc) (f_writer, f_reader, f_scratch, f_writerStream, f_streamWords, f_streamBits, f_cellStride, f_contextStride, f_interruptionContext, f_codeLimit, f_resetCount, f_greatestOrder, (nI w), f_height, (nI nc), f_max, f_writerOpen, f_writerSlot, f_readerOpen, f_readerSlot, f_column', f_left', f_above', f_aboveLeft', f_aboveRight', f_context', f_sign', a_picture, a_words, a_recordLength, a_recordBound, a_recordBits, a_levels', a_position', a_bound, a_range, a_levelBits, a_threshold1, a_threshold2, a_threshold3, a_stream, a_bitAt', a_runIndex', a_runCount', a_inRun', a_runBroken', a_magnitude', a_biasSum', a_correction', a_occurrences')) → wX_worstError_34 post x2 fu acc (nI i) f_writer f_reader f_scratch f_writerStream f_streamWords f_streamBits f_cellStride f_contextStride f_interruptionContext f_codeLimit f_resetCount f_greatestOrder (nI w) f_height (nI nc) f_max f_writerOpen f_writerSlot f_readerOpen f_readerSlot f_column f_left f_above f_aboveLeft f_aboveRight f_context f_sign a_picture a_words a_recordLength a_recordBound a_recordBits a_levels a_position a_bound a_range a_levelBits a_threshold1 a_threshold2 a_threshold3 a_stream a_bitAt a_runIndex a_runCount a_inRun a_runBroken a_magnitude a_biasSum a_correction a_occurrences := by
  have hn : n ≤ 128 := by
    have a := HD.2.2.2.2.2.2.1
    have b := HD.2.2.2.2.2.2.2.1
    omega
  have hP := HD.2.2.2.2.2.2.2.2.2
  intro d
  induction d with
  | zero =>
    intro i fu acc f_column f_left f_above f_aboveLeft f_aboveRight f_context f_sign a_levels a_position a_bitAt a_runIndex a_runCount a_inRun a_runBroken a_magnitude a_biasSum a_correction a_occurrences hi hf hB h
    obtain ⟨m, rfl⟩ : ∃ m, fu = m + 1 := ⟨fu - 1, by omega⟩
    exact br_t (by rw [h2]; exact nI_le (by omega) (by omega)) (h f_column f_left f_above f_aboveLeft f_aboveRight f_context f_sign a_levels a_position a_bitAt a_runIndex a_runCount a_inRun a_runBroken a_magnitude a_biasSum a_correction a_occurrences (fun _ _ _ g => g))
  | succ d ih =>
    intro i fu acc f_column f_left f_above f_aboveLeft f_aboveRight f_context f_sign a_levels a_position a_bitAt a_runIndex a_runCount a_inRun a_runBroken a_magnitude a_biasSum a_correction a_occurrences hi hf hB h
    obtain ⟨m, rfl⟩ : ∃ m, fu = m + 1 := ⟨fu - 1, by omega⟩
    refine br_f (by rw [h2]; exact nI_ge (by omega) (by omega)) (xd_step (b := 2) rfl HD (show i < n by omega) hB (fun f_column' f_left' f_above' f_aboveLeft' f_aboveRight' f_context' f_sign' a_levels' a_position' a_bitAt' a_runIndex' a_runCount' a_inRun' a_runBroken' a_magnitude' a_biasSum' a_correction' a_occurrences' hB' hF => ?_))
    have el : a_levels' (128 * 2 + i) = (jl_dn w mx near (jl_bs a_words s) n).2.1 i := by
      rw [hB'.2.2.2.2.2.2.2.1 i (by rw [show (jl_dn w mx near (jl_bs a_words s) (i + 1)).1 = i + 1 from jl_Dit_pos _]; omega)]
      exact jl_RO_lev (by omega) (by omega)
    refine xv_sampleOf (b := 2) rfl (by omega) rfl (by omega) el hP.1 ⟨vp_in_nI (by omega) (by omega), ?_⟩
    rw [nI_clamp (show i < 2 ^ 31 by omega)]
    rw [jl_wst] at h
    refine xv_abs (br_c (fun z => nm_r (nI_1 i) ?_) (fun z => nm_r (nI_1 i) ?_))
    · rw [if_pos z] at h
      exact ih (i + 1) m _ f_column' f_left' f_above' f_aboveLeft' f_aboveRight' f_context' f_sign' a_levels' a_position' a_bitAt' a_runIndex' a_runCount' a_inRun' a_runBroken' a_magnitude' a_biasSum' a_correction' a_occurrences' (by omega) (by omega) hB' (fun _ _ _ _ _ _ _ _ _ _ _ _ _ _ _ _ _ _ g2 => h _ _ _ _ _ _ _ _ _ _ _ _ _ _ _ _ _ _ (fun b' c' ne g => g2 b' c' ne (hF b' c' ne g)))
    · rw [if_neg z] at h
      exact ih (i + 1) m _ f_column' f_left' f_above' f_aboveLeft' f_aboveRight' f_context' f_sign' a_levels' a_position' a_bitAt' a_runIndex' a_runCount' a_inRun' a_runBroken' a_magnitude' a_biasSum' a_correction' a_occurrences' (by omega) (by omega) hB' (fun _ _ _ _ _ _ _ _ _ _ _ _ _ _ _ _ _ _ g2 => h _ _ _ _ _ _ _ _ _ _ _ _ _ _ _ _ _ _ (fun b' c' ne g => g2 b' c' ne (hF b' c' ne g)))
end
end
section
/-! ===== decode, sampleAt, truncate, restore, worstError ===== -/
theorem jl_128 {s i : Nat} : (nI s * 128) + nI i = nI (128 * s + i) := by
  show nI s * nI 128 + nI i = _
  rw [pk_mul, nI_add, Nat.mul_comm]
theorem jl_recv {s i : Nat} (hs : s < 4) (hi : i < 128) : vp_in ((nI s * 128) + nI i) 512 := by
  rw [jl_128]
  exact vp_in_nI (by omega) (by omega)
theorem jl_recc {s i : Nat} (hs : s < 4) (hi : i < 128) : ((nI s * 128) + nI i).toNatClampNeg = 128 * s + i := by
  rw [jl_128]
  exact nI_clamp (by omega)
theorem jl_wst_c {f f' g : Nat → Int32} : ∀ (d i : Nat) (acc : Int32), (∀ j, i ≤ j → j < i + d → f j = f' j) → jl_wst f g d i acc = jl_wst f' g d i acc := by
  intro d
  induction d with
  | zero => intro i acc h; rfl
  | succ d ih =>
    intro i acc h
    rw [jl_wst, jl_wst, h i (by omega) (by omega)]
    exact ih (i + 1) _ (fun j h1 h2 => h j (by omega) (by omega))
section
variable {g_w g_h g_max g_wSlot g_wNear g_wPos g_rSlot g_d : Int32} {y_src y_rec y_len y_bound y_written y_dec : Nat → Int32}
theorem yl_decode {post : Int32 → SY → Prop} {p st s : Nat} {A : Nat → Int32} (hst : p + st ≤ 128) (hs : s < 4) : ∀ (d i fu : Nat), i + d = p + st → d < fu → p ≤ i → post (nI st) (g_w, g_h, g_max, g_wSlot, g_wNear, g_wPos, (nI s), (nI (p + st)), y_src, y_rec, y_len, y_bound, y_written, (jl_rg (fun j => y_rec (128 * s + j)) A p (p + st))) → wY_decode_43 post (nI p) (nI st) g_w g_h g_max g_wSlot g_wNear g_wPos (nI s) g_d fu (nI i) y_src y_rec y_len y_bound y_written (jl_rg (fun j => y_rec (128 * s + j)) A p i) := by
  intro d
  induction d with
  | zero =>
    intro i fu hi hf hp h
    obtain ⟨m, rfl⟩ : ∃ m, fu = m + 1 := ⟨fu - 1, by omega⟩
    have e : i = p + st := by omega
    subst e
    exact br_t (by rw [nI_add]; exact nI_le (by omega) (by omega)) (nm_r (nI_add p st) h)
  | succ d ih =>
    intro i fu hi hf hp h
    obtain ⟨m, rfl⟩ : ∃ m, fu = m + 1 := ⟨fu - 1, by omega⟩
    exact br_f (by rw [nI_add]; exact nI_ge (by omega) (by omega)) ⟨jl_recv hs (by omega), vp_in_nI (by omega) (by omega), nm_r (jl_rg_s hp (nI_clamp (by omega)) (by rw [jl_recc hs (by omega)])) (nm_r (nI_1 i) (ih (i + 1) m (by omega) (by omega) (by omega) h))⟩
theorem yl_restore {post : Int32 → SY → Prop} {n s : Nat} {A : Nat → Int32} (hn : n ≤ 128) (hs : s < 4) (el : y_len s = nI n) : ∀ (d i fu : Nat), i + d = n → d < fu → post (nI n) (g_w, g_h, g_max, g_wSlot, g_wNear, g_wPos, g_rSlot, g_d, (jl_rg (fun j => y_rec (128 * s + j)) A 0 n), y_rec, y_len, y_bound, y_written, y_dec) → wY_restore_24 post (nI s) g_w g_h g_max g_wSlot g_wNear g_wPos g_rSlot g_d fu (nI i) (jl_rg (fun j => y_rec (128 * s + j)) A 0 i) y_rec y_len y_bound y_written y_dec := by
  have hc : (nI s).toNatClampNeg = s := nI_clamp (by omega)
  have hv : vp_in (nI s) 4 := vp_in_nI hs (by omega)
  intro d
  induction d with
  | zero =>
    intro i fu hi hf h
    obtain ⟨m, rfl⟩ : ∃ m, fu = m + 1 := ⟨fu - 1, by omega⟩
    have e : i = n := by omega
    subst e
    refine ⟨hv, br_t (by rw [hc, el]; exact nI_le (by omega) (by omega)) ⟨hv, ?_⟩⟩
    rw [hc, el]
    exact h
  | succ d ih =>
    intro i fu hi hf h
    obtain ⟨m, rfl⟩ : ∃ m, fu = m + 1 := ⟨fu - 1, by omega⟩
    exact ⟨hv, br_f (by rw [hc, el]; exact nI_ge (by omega) (by omega)) ⟨jl_recv hs (by omega), vp_in_nI (by omega) (by omega), nm_r (jl_rg_s (Nat.zero_le _) (nI_clamp (by omega)) (by rw [jl_recc hs (by omega)])) (nm_r (nI_1 i) (ih (i + 1) m (by omega) (by omega) h))⟩⟩
theorem yl_worst {post : Int32 → Prop} {n s : Nat} (hn : n ≤ 128) (hs : s < 4) (el : y_len s = nI n) : ∀ (d i fu : Nat) (acc : Int32), i + d = n → d < fu → post (jl_wst (fun j => y_rec (128 * s + j)) y_src d i acc) → wY_worstError_26 post (nI s) g_w g_h g_max g_wSlot g_wNear g_wPos g_rSlot g_d y_src y_rec y_len y_bound y_written y_dec fu acc (nI i) := by
  have hc : (nI s).toNatClampNeg = s := nI_clamp (by omega)
  have hv : vp_in (nI s) 4 := vp_in_nI hs (by omega)
  intro d
  induction d with
  | zero =>
    intro i fu acc hi hf h
    obtain ⟨m, rfl⟩ : ∃ m, fu = m + 1 := ⟨fu - 1, by omega⟩
    exact ⟨hv, br_t (by rw [hc, el]; exact nI_le (by omega) (by omega)) h⟩
  | succ d ih =>
    intro i fu acc hi hf h
    obtain ⟨m, rfl⟩ : ∃ m, fu = m + 1 := ⟨fu - 1, by omega⟩
    rw [jl_wst] at h
    refine ⟨hv, br_f (by rw [hc, el]; exact nI_ge (by omega) (by omega)) ⟨jl_recv hs (by omega), vp_in_nI (by omega) (by omega), nm_r (e' := y_rec (128 * s + i) - y_src i) (by rw [jl_recc hs (by omega), nI_clamp (by omega)]) ?_⟩⟩
    have key : ∀ x4 : Int32, x4 = jl_abs (y_rec (128 * s + i) - y_src i) → wY_worstError_67 post (wY_worstError_26 post (nI s) g_w g_h g_max g_wSlot g_wNear g_wPos g_rSlot g_d y_src y_rec y_len y_bound y_written y_dec m) (nI s) acc (nI i) x4 g_w g_h g_max g_wSlot g_wNear g_wPos g_rSlot g_d y_src y_rec y_len y_bound y_written y_dec := by
      intro x4 e4
      subst e4
      refine br_c (fun z => nm_r (nI_1 i) ?_) (fun z => nm_r (nI_1 i) ?_)
      · rw [if_pos z] at h
        exact ih (i + 1) m _ (by omega) (by omega) h
      · rw [if_neg z] at h
        exact ih (i + 1) m _ (by omega) (by omega) h
    exact br_c (fun z => key _ (by rw [jl_abs, if_pos z])) (fun z => nm_e (key _ (by rw [jl_abs, if_neg z])))
end
theorem i_vc_decode {k : Nat} {u : SX} {v : SY} (I : i_Rel k u v) (hk : k + 5 ≤ 2563) (v1 : Int32) : wpX_decode (fun r u' => wpY_decode (fun r' v' => r' = r ∧ i_Rel (k + 5) u' v') v v1) u v1 := by
  refine jl_el (Q := fun u v => wpX_decode (fun r u' => wpY_decode (fun r' v' => r' = r ∧ i_Rel (k + 5) u' v') v v1) u v1) I ?_
  intro f_writer f_reader f_scratch f_writerStream f_streamWords f_streamBits f_cellStride f_contextStride f_interruptionContext f_codeLimit f_resetCount f_greatestOrder f_writerOpen f_writerSlot f_readerOpen f_readerSlot f_column f_left f_above f_aboveLeft f_aboveRight f_context f_sign a_words a_recordBits a_levels a_position a_bitAt a_runIndex a_runCount a_inRun a_runBroken a_magnitude a_biasSum a_correction a_occurrences a_bound a_range a_levelBits a_threshold1 a_threshold2 a_threshold3 a_stream g_wSlot g_wNear g_wPos g_rSlot g_d y_src y_rec y_len y_bound y_written y_dec w h mx F
  have R : i_Rel (k + 5) (f_writer, f_reader, f_scratch, f_writerStream, f_streamWords, f_streamBits, f_cellStride, f_contextStride, f_interruptionContext, f_codeLimit, f_resetCount, f_greatestOrder, (nI w), (nI h), (nI (w * h)), (nI mx), f_writerOpen, f_writerSlot, f_readerOpen, f_readerSlot, f_column, f_left, f_above, f_aboveLeft, f_aboveRight, f_context, f_sign, y_src, a_words, y_len, y_bound, a_recordBits, a_levels, a_position, a_bound, a_range, a_levelBits, a_threshold1, a_threshold2, a_threshold3, a_stream, a_bitAt, a_runIndex, a_runCount, a_inRun, a_runBroken, a_magnitude, a_biasSum, a_correction, a_occurrences) ((nI w), (nI h), (nI mx), g_wSlot, g_wNear, g_wPos, g_rSlot, g_d, y_src, y_rec, y_len, y_bound, y_written, y_dec) := jl_intro F
  obtain ⟨hw, hw2, hh, hh2, hm, hp, hr, hW, hR⟩ := F
  have h128 := jl_wh2 hw2 hh2
  by_cases h0 : 0 ≤ v1
  · refine br_t h0 ?_
    obtain ⟨c, s, near, hB, hP, hc, rfl, hd, h6⟩ := hR
    rcases h6 with ⟨rfl, rfl⟩ | ⟨rfl, hs, rfl, rfl, eb, hne, ⟨n, en, hcn, hn⟩, ec⟩
    · exact br_t rfl (br_t h0 (br_f (by decide) ⟨rfl, R⟩))
    · obtain ⟨m, hmm, rfl⟩ := nI_of (x := v1) (Int32.not_lt.mpr h0)
      obtain ⟨n', near', N, e1, e2, e3, hn', hne', hne2, hN, ro, sm⟩ := hr s hs
      have ea : n' = n := (nI_eq (by omega) (by omega)).mp (e1.symm.trans en)
      have eb' : near' = near := (nI_eq (by omega) (by omega)).mp (e2.symm.trans eb)
      subst ea eb'
      have hB' : jl_BV 1 (jl_dn w mx near' (jl_bs a_words s) c.1) a_levels a_position a_bitAt a_runIndex a_runCount a_inRun a_runBroken a_magnitude a_biasSum a_correction a_occurrences := by rw [← ec]; exact hB
      have hd' : ∀ i, i < c.1 → y_dec i = jl_smp (nI mx) (nI near') ((jl_dn w mx near' (jl_bs a_words s) c.1).2.1 i) := by rw [← ec]; exact hd
      have ep := hB.1
      clear hd hB ec
      generalize c.1 = p at hB' hd' hcn hc R ep ⊢
      have hcs : (nI s).toNatClampNeg = s := nI_clamp (by omega)
      have hv : vp_in (nI s) 4 := vp_in_nI hs (by omega)
      have HD : jl_HD w mx near' (w * h) 1 s N n' a_words a_recordBits a_bound a_range a_levelBits a_threshold1 a_threshold2 a_threshold3 a_stream := ⟨by omega, hs, hN, e3, hw, hw2, h128, hn', ro, hP⟩
      have main : ∀ st : Nat, p + st ≤ n' → (∀ post : Int32 → SY → Prop, post (nI st) ((nI w), (nI h), (nI mx), g_wSlot, g_wNear, g_wPos, (nI s), (nI (p + st)), y_src, y_rec, y_len, y_bound, y_written, (jl_rg (fun j => y_rec (128 * s + j)) y_dec p (p + st))) → wpY_decode post ((nI w), (nI h), (nI mx), g_wSlot, g_wNear, g_wPos, (nI s), (nI p), y_src, y_rec, y_len, y_bound, y_written, y_dec) (nI m)) → ∃ fu : Nat, wX_decode_40 (fun r u' => wpY_decode (fun r' v' => r' = r ∧ i_Rel (k + 5) u' v') ((nI w), (nI h), (nI mx), g_wSlot, g_wNear, g_wPos, (nI s), (nI p), y_src, y_rec, y_len, y_bound, y_written, y_dec) (nI m)) (nI st) fu 0 f_writer f_reader f_scratch f_writerStream f_streamWords f_streamBits f_cellStride f_contextStride f_interruptionContext f_codeLimit f_resetCount f_greatestOrder (nI w) (nI h) (nI (w * h)) (nI mx) f_writerOpen f_writerSlot 1 (nI s) f_column f_left f_above f_aboveLeft f_aboveRight f_context f_sign y_src a_words y_len y_bound a_recordBits a_levels a_position a_bound a_range a_levelBits a_threshold1 a_threshold2 a_threshold3 a_stream a_bitAt a_runIndex a_runCount a_inRun a_runBroken a_magnitude a_biasSum a_correction a_occurrences := by
        intro st hst hY
        refine ⟨st + 1, zl_decode rfl hst HD st 0 (st + 1) _ _ _ _ _ _ _ _ _ _ _ _ _ _ _ _ _ _ (by omega) (by omega) hB' (fun _ _ _ _ _ _ _ _ _ _ _ _ _ _ _ _ _ _ g1 g2 => hY _ ⟨rfl, jl_intro ⟨hw, hw2, hh, hh2, hm, hp, hr, ?_, ?_⟩⟩)⟩
        · exact jl_Wr_map (fun c' => g2 0 c' (by decide)) (fun _ _ _ g => g) hW
        · have e9 : (jl_dn w mx near' (jl_bs a_words s) (p + st)).1 = p + st := jl_Dit_pos _
          refine ⟨_, s, near', g1, hP, by omega, by rw [e9], fun i hi => ?_, Or.inr ⟨rfl, hs, rfl, rfl, eb, hne, ⟨n', en, by omega, hn⟩, by rw [e9]⟩⟩
          rw [e9] at hi
          by_cases z : i < p
          · rw [jl_rg_lo z, hd' i z]
            exact congrArg _ (jl_RO_lev z (by omega))
          · rw [jl_rg_in (by omega) hi, sm i (by omega)]
            exact congrArg _ (jl_RO_lev hi hst).symm
      refine br_f jl_b10 ⟨hv, xv_smaller ?_⟩
      rw [hcs, en, ep, pk_sub hcn]
      unfold jl_min
      have ex : y_len (nI s).toNatClampNeg - nI p = nI (n' - p) := by rw [hcs, en, pk_sub hcn]
      by_cases z : n' - p ≤ m
      · rw [if_pos (nI_le z hmm)]
        refine main (n' - p) (by omega) (fun post hq => br_t h0 (br_t (nI_pos' (by omega)) ⟨hv, nm_r ex (br_t (nI_le z hmm) ⟨n' - p + 1, ?_⟩)⟩))
        have g := yl_decode (post := post) (g_d := nI p) (A := y_dec) (st := n' - p) (p := p) (by omega) hs (n' - p) p (n' - p + 1) (by omega) (by omega) (Nat.le_refl _) hq
        rw [jl_rg_0] at g
        exact g
      · rw [if_neg (nI_ge (by omega) (by omega))]
        refine main m (by omega) (fun post hq => br_t h0 (br_t (nI_pos' (by omega)) ⟨hv, nm_r ex (br_f (nI_ge (by omega) (by omega)) ⟨m + 1, ?_⟩)⟩))
        have g := yl_decode (post := post) (g_d := nI p) (A := y_dec) (st := m) (p := p) (by omega) hs m p (m + 1) (by omega) (by omega) (Nat.le_refl _) hq
        rw [jl_rg_0] at g
        exact g
  · exact br_f h0 (br_f h0 ⟨rfl, R⟩)
theorem i_vc_sampleAt {k : Nat} {u : SX} {v : SY} (I : i_Rel k u v) (hk : k + 5 ≤ 2563) (v1 : Int32) (v2 : Int32) (v3 : Int32) : wpX_sampleAt (fun r u' => wpY_sampleAt (fun r' => r' = r ∧ i_Rel (k + 5) u' v) v v1 v2 v3) u v1 v2 v3 := by
  refine jl_el (Q := fun u v => wpX_sampleAt (fun r u' => wpY_sampleAt (fun r' => r' = r ∧ i_Rel (k + 5) u' v) v v1 v2 v3) u v1 v2 v3) I ?_
  intro f_writer f_reader f_scratch f_writerStream f_streamWords f_streamBits f_cellStride f_contextStride f_interruptionContext f_codeLimit f_resetCount f_greatestOrder f_writerOpen f_writerSlot f_readerOpen f_readerSlot f_column f_left f_above f_aboveLeft f_aboveRight f_context f_sign a_words a_recordBits a_levels a_position a_bitAt a_runIndex a_runCount a_inRun a_runBroken a_magnitude a_biasSum a_correction a_occurrences a_bound a_range a_levelBits a_threshold1 a_threshold2 a_threshold3 a_stream g_wSlot g_wNear g_wPos g_rSlot g_d y_src y_rec y_len y_bound y_written y_dec w h mx F
  have R : i_Rel (k + 5) (f_writer, f_reader, f_scratch, f_writerStream, f_streamWords, f_streamBits, f_cellStride, f_contextStride, f_interruptionContext, f_codeLimit, f_resetCount, f_greatestOrder, (nI w), (nI h), (nI (w * h)), (nI mx), f_writerOpen, f_writerSlot, f_readerOpen, f_readerSlot, f_column, f_left, f_above, f_aboveLeft, f_aboveRight, f_context, f_sign, y_src, a_words, y_len, y_bound, a_recordBits, a_levels, a_position, a_bound, a_range, a_levelBits, a_threshold1, a_threshold2, a_threshold3, a_stream, a_bitAt, a_runIndex, a_runCount, a_inRun, a_runBroken, a_magnitude, a_biasSum, a_correction, a_occurrences) ((nI w), (nI h), (nI mx), g_wSlot, g_wNear, g_wPos, g_rSlot, g_d, y_src, y_rec, y_len, y_bound, y_written, y_dec) := jl_intro F
  obtain ⟨hw, hw2, hh, hh2, hm, hp, hr, hW, hR⟩ := F
  have h128 := jl_wh2 hw2 hh2
  unfold wpX_sampleAt
  refine xv_isSlot (fun c => br_f jl_b10 (xv_inPic hw2 hh2 (fun c2 => br_f jl_b10 ?_) (fun n2 => br_t rfl ?_))) (fun n => br_t rfl ?_)
  · obtain ⟨s, hs, rfl⟩ := id c
    obtain ⟨a, b, ha, hb, rfl, rfl⟩ := id c2
    have g := jl_wh hw2 hh2 ha hb
    have hv : vp_in (nI s) 4 := vp_in_nI hs (by omega)
    have hc : (nI s).toNatClampNeg = s := nI_clamp (by omega)
    obtain ⟨n, near, N, e1, e2, e3, hn, hne, hne2, hN, ro, sm⟩ := hr s hs
    refine ⟨hv, br_c (fun z => ?_) (fun z => nm_r (jl_ix (h := h)) ⟨hv, ?_⟩)⟩
    · unfold wpY_sampleAt
      exact yv_isSlot (fun _ => br_f jl_b10 (yv_isCell hw2 hh2 (fun _ => br_f jl_b10 ⟨hv, br_t z ⟨rfl, R⟩⟩) (fun n => absurd c2 n))) (fun n => absurd c n)
    · refine pk_lt (b * w + a) n (fun y => ?_) (fun y => ?_) rfl (by rw [hc, e1])
      · refine xb_loadScratch rfl hs e2 (jl_nz hne) (fun a_levels' a_position' a_bitAt' a_runIndex' a_runCount' a_inRun' a_runBroken' a_magnitude' a_biasSum' a_correction' a_occurrences' a_bound' a_range' a_levelBits' a_threshold1' a_threshold2' a_threshold3' a_stream' h1 h2 h3 h4 => ⟨b * w + a + 2, ?_⟩)
        have HD : jl_HD w mx near (w * h) 2 s N n a_words a_recordBits a_bound' a_range' a_levelBits' a_threshold1' a_threshold2' a_threshold3' a_stream' := ⟨by omega, hs, hN, e3, hw, hw2, h128, hn, ro, h2⟩
        refine zl_sampleAt rfl y HD (b * w + a + 1) 0 (b * w + a + 2) _ _ _ _ _ _ _ _ _ _ _ _ _ _ _ _ _ _ (by omega) (by omega) h1 (fun _ _ _ _ _ _ _ _ _ _ _ _ _ _ _ _ _ _ g2 => ?_)
        unfold wpY_sampleAt
        refine yv_isSlot (fun _ => br_f jl_b10 (yv_isCell hw2 hh2 (fun _ => br_f jl_b10 ⟨hv, br_f z ⟨hv, br_t (by rw [jl_ix (h := h), hc, e1]; exact nI_lt y (by omega)) ?_⟩⟩) (fun n => absurd c2 n))) (fun n => absurd c n)
        have ei : ((nI s * 128) + (nI b * nI w)) + nI a = nI (128 * s + (b * w + a)) := by
          show ((nI s * nI 128) + (nI b * nI w)) + nI a = _
          rw [pk_mul, pk_mul, nI_add, nI_add]
          congr 1
          omega
        refine ⟨by rw [ei]; exact vp_in_nI (by omega) (by omega), ?_, jl_intro ⟨hw, hw2, hh, hh2, hm, hp, hr, ?_, ?_⟩⟩
        · rw [ei, nI_clamp (by omega)]
          exact sm _ y
        · exact jl_Wr_map (fun c' g => g2 0 c' (by decide) (h3 0 c' (by decide) g)) (fun s' m' n' => h4 0 s' m' n' (by decide)) hW
        · exact jl_Rd_map (fun c' g => g2 1 c' (by decide) (h3 1 c' (by decide) g)) (fun s' m' n' => h4 1 s' m' n' (by decide)) (fun _ _ => rfl) hR
      · unfold wpY_sampleAt
        exact yv_isSlot (fun _ => br_f jl_b10 (yv_isCell hw2 hh2 (fun _ => br_f jl_b10 ⟨hv, br_f z ⟨hv, br_f (by rw [jl_ix (h := h), hc, e1]; exact nI_nlt y (by omega)) ⟨rfl, R⟩⟩⟩) (fun n => absurd c2 n))) (fun n => absurd c n)
  · unfold wpY_sampleAt
    exact yv_isSlot (fun _ => br_f jl_b10 (yv_isCell hw2 hh2 (fun y => absurd y n2) (fun _ => br_t rfl ⟨rfl, R⟩))) (fun n => absurd c n)
  · unfold wpY_sampleAt
    exact yv_isSlot (fun c => absurd c n) (fun _ => br_t rfl ⟨rfl, R⟩)
theorem i_vc_restore {k : Nat} {u : SX} {v : SY} (I : i_Rel k u v) (hk : k + 5 ≤ 2563) (v1 : Int32) : wpX_restore (fun r u' => wpY_restore (fun r' v' => r' = r ∧ i_Rel (k + 5) u' v') v v1) u v1 := by
  refine jl_el (Q := fun u v => wpX_restore (fun r u' => wpY_restore (fun r' v' => r' = r ∧ i_Rel (k + 5) u' v') v v1) u v1) I ?_
  intro f_writer f_reader f_scratch f_writerStream f_streamWords f_streamBits f_cellStride f_contextStride f_interruptionContext f_codeLimit f_resetCount f_greatestOrder f_writerOpen f_writerSlot f_readerOpen f_readerSlot f_column f_left f_above f_aboveLeft f_aboveRight f_context f_sign a_words a_recordBits a_levels a_position a_bitAt a_runIndex a_runCount a_inRun a_runBroken a_magnitude a_biasSum a_correction a_occurrences a_bound a_range a_levelBits a_threshold1 a_threshold2 a_threshold3 a_stream g_wSlot g_wNear g_wPos g_rSlot g_d y_src y_rec y_len y_bound y_written y_dec w h mx F
  have R : i_Rel (k + 5) (f_writer, f_reader, f_scratch, f_writerStream, f_streamWords, f_streamBits, f_cellStride, f_contextStride, f_interruptionContext, f_codeLimit, f_resetCount, f_greatestOrder, (nI w), (nI h), (nI (w * h)), (nI mx), f_writerOpen, f_writerSlot, f_readerOpen, f_readerSlot, f_column, f_left, f_above, f_aboveLeft, f_aboveRight, f_context, f_sign, y_src, a_words, y_len, y_bound, a_recordBits, a_levels, a_position, a_bound, a_range, a_levelBits, a_threshold1, a_threshold2, a_threshold3, a_stream, a_bitAt, a_runIndex, a_runCount, a_inRun, a_runBroken, a_magnitude, a_biasSum, a_correction, a_occurrences) ((nI w), (nI h), (nI mx), g_wSlot, g_wNear, g_wPos, g_rSlot, g_d, y_src, y_rec, y_len, y_bound, y_written, y_dec) := jl_intro F
  obtain ⟨hw, hw2, hh, hh2, hm, hp, hr, hW, hR⟩ := F
  have h128 := jl_wh2 hw2 hh2
  have hm2 := jl_mx_r hm
  unfold wpX_restore
  refine xv_isSlot (fun c => br_f jl_b10 ?_) (fun n => br_t rfl ?_)
  · obtain ⟨s, hs, rfl⟩ := id c
    have hv : vp_in (nI s) 4 := vp_in_nI hs (by omega)
    have hc : (nI s).toNatClampNeg = s := nI_clamp (by omega)
    obtain ⟨n, near, N, e1, e2, e3, hn, hne, hne2, hN, ro, sm⟩ := hr s hs
    refine ⟨hv, nm_r (e' := nI n) (by rw [hc, e1]) (pk_eq n 0 (fun z => ?_) (fun z => ?_))⟩
    · unfold wpY_restore
      exact yv_isSlot (fun _ => br_f jl_b10 ⟨hv, br_t (by rw [hc, e1, z]; rfl) ⟨rfl, R⟩⟩) (fun n => absurd c n)
    · refine xb_loadScratch rfl hs e2 (jl_nz hne) (fun a_levels' a_position' a_bitAt' a_runIndex' a_runCount' a_inRun' a_runBroken' a_magnitude' a_biasSum' a_correction' a_occurrences' a_bound' a_range' a_levelBits' a_threshold1' a_threshold2' a_threshold3' a_stream' h1 h2 h3 h4 => ⟨n + 1, ?_⟩)
      have HD : jl_HD w mx near (w * h) 2 s N n a_words a_recordBits a_bound' a_range' a_levelBits' a_threshold1' a_threshold2' a_threshold3' a_stream' := ⟨by omega, hs, hN, e3, hw, hw2, h128, hn, ro, h2⟩
      have G := fun post hq => zl_restore (post := post) (A := y_src) (f_max := nI mx) (f_height := nI h) (f_writer := f_writer) (f_reader := f_reader) (f_scratch := f_scratch) (f_writerStream := f_writerStream) (f_streamWords := f_streamWords) (f_streamBits := f_streamBits) (f_cellStride := f_cellStride) (f_contextStride := f_contextStride) (f_interruptionContext := f_interruptionContext) (f_codeLimit := f_codeLimit) (f_resetCount := f_resetCount) (f_greatestOrder := f_greatestOrder) (f_writerOpen := f_writerOpen) (f_writerSlot := f_writerSlot) (f_readerOpen := f_readerOpen) (f_readerSlot := f_readerSlot) (a_recordLength := y_len) (a_recordBound := y_bound) rfl HD n 0 (n + 1) f_column f_left f_above f_aboveLeft f_aboveRight f_context f_sign a_levels' a_position' a_bitAt' a_runIndex' a_runCount' a_inRun' a_runBroken' a_magnitude' a_biasSum' a_correction' a_occurrences' (by omega) (by omega) h1 hq
      rw [jl_rg_0] at G
      refine G _ (fun _ _ _ _ _ _ _ _ _ _ _ _ _ _ _ _ _ _ g2 => ?_)
      have er : jl_rg (fun j => jl_smp (nI mx) (nI near) ((jl_dn w mx near (jl_bs a_words s) n).2.1 j)) y_src 0 n = jl_rg (fun j => y_rec (128 * s + j)) y_src 0 n := jl_rg_c (fun j _ hj => (sm j hj).symm)
      have hin : ∀ i, jl_in (mx + 1) (jl_rg (fun j => jl_smp (nI mx) (nI near) ((jl_dn w mx near (jl_bs a_words s) n).2.1 j)) y_src 0 n i) := by
        intro i
        by_cases y : i < n
        · rw [jl_rg_in (Nat.zero_le _) y]
          exact jl_smp_in hm2.2 hne hne2 hm2.1 (ro.2 i y)
        · have e : jl_rg (fun j => jl_smp (nI mx) (nI near) ((jl_dn w mx near (jl_bs a_words s) n).2.1 j)) y_src 0 n i = y_src i := if_neg (by omega)
          rw [e]
          exact hp i
      rw [er] at hin ⊢
      unfold wpY_restore
      refine yv_isSlot (fun _ => br_f jl_b10 ⟨hv, br_f (by rw [hc, e1]; exact nI_ne0 (by omega) (by omega)) ⟨n + 1, ?_⟩⟩) (fun n => absurd c n)
      have g := fun post hq => yl_restore (post := post) (A := y_src) (g_w := nI w) (g_h := nI h) (g_max := nI mx) (g_wSlot := g_wSlot) (g_wNear := g_wNear) (g_wPos := g_wPos) (g_rSlot := g_rSlot) (g_d := g_d) (y_rec := y_rec) (y_bound := y_bound) (y_written := y_written) (y_dec := y_dec) (by omega) hs e1 n 0 (n + 1) (by omega) (by omega) hq
      rw [jl_rg_0] at g
      refine g _ ⟨rfl, jl_intro ⟨hw, hw2, hh, hh2, hm, hin, hr, ?_, ?_⟩⟩
      · exact jl_Wr_map (fun c' g => g2 0 c' (by decide) (h3 0 c' (by decide) g)) (fun s' m' n' => h4 0 s' m' n' (by decide)) hW
      · exact jl_Rd_map (fun c' g => g2 1 c' (by decide) (h3 1 c' (by decide) g)) (fun s' m' n' => h4 1 s' m' n' (by decide)) (fun _ _ => rfl) hR
  · unfold wpY_restore
    exact yv_isSlot (fun c => absurd c n) (fun _ => br_t rfl ⟨rfl, R⟩)
theorem i_vc_worstError {k : Nat} {u : SX} {v : SY} (I : i_Rel k u v) (hk : k + 5 ≤ 2563) (v1 : Int32) : wpX_worstError (fun r u' => wpY_worstError (fun r' => r' = r ∧ i_Rel (k + 5) u' v) v v1) u v1 := by
  refine jl_el (Q := fun u v => wpX_worstError (fun r u' => wpY_worstError (fun r' => r' = r ∧ i_Rel (k + 5) u' v) v v1) u v1) I ?_
  intro f_writer f_reader f_scratch f_writerStream f_streamWords f_streamBits f_cellStride f_contextStride f_interruptionContext f_codeLimit f_resetCount f_greatestOrder f_writerOpen f_writerSlot f_readerOpen f_readerSlot f_column f_left f_above f_aboveLeft f_aboveRight f_context f_sign a_words a_recordBits a_levels a_position a_bitAt a_runIndex a_runCount a_inRun a_runBroken a_magnitude a_biasSum a_correction a_occurrences a_bound a_range a_levelBits a_threshold1 a_threshold2 a_threshold3 a_stream g_wSlot g_wNear g_wPos g_rSlot g_d y_src y_rec y_len y_bound y_written y_dec w h mx F
  have R : i_Rel (k + 5) (f_writer, f_reader, f_scratch, f_writerStream, f_streamWords, f_streamBits, f_cellStride, f_contextStride, f_interruptionContext, f_codeLimit, f_resetCount, f_greatestOrder, (nI w), (nI h), (nI (w * h)), (nI mx), f_writerOpen, f_writerSlot, f_readerOpen, f_readerSlot, f_column, f_left, f_above, f_aboveLeft, f_aboveRight, f_context, f_sign, y_src, a_words, y_len, y_bound, a_recordBits, a_levels, a_position, a_bound, a_range, a_levelBits, a_threshold1, a_threshold2, a_threshold3, a_stream, a_bitAt, a_runIndex, a_runCount, a_inRun, a_runBroken, a_magnitude, a_biasSum, a_correction, a_occurrences) ((nI w), (nI h), (nI mx), g_wSlot, g_wNear, g_wPos, g_rSlot, g_d, y_src, y_rec, y_len, y_bound, y_written, y_dec) := jl_intro F
  obtain ⟨hw, hw2, hh, hh2, hm, hp, hr, hW, hR⟩ := F
  have h128 := jl_wh2 hw2 hh2
  unfold wpX_worstError
  refine xv_isSlot (fun c => br_f jl_b10 ?_) (fun n => br_t rfl ?_)
  · obtain ⟨s, hs, rfl⟩ := id c
    have hv : vp_in (nI s) 4 := vp_in_nI hs (by omega)
    have hc : (nI s).toNatClampNeg = s := nI_clamp (by omega)
    obtain ⟨n, near, N, e1, e2, e3, hn, hne, hne2, hN, ro, sm⟩ := hr s hs
    refine ⟨hv, nm_r (e' := nI n) (by rw [hc, e1]) (pk_eq n 0 (fun z => ?_) (fun z => ?_))⟩
    · unfold wpY_worstError
      exact yv_isSlot (fun _ => br_f jl_b10 ⟨hv, br_t (by rw [hc, e1, z]; rfl) ⟨rfl, R⟩⟩) (fun n => absurd c n)
    · refine xb_loadScratch rfl hs e2 (jl_nz hne) (fun a_levels' a_position' a_bitAt' a_runIndex' a_runCount' a_inRun' a_runBroken' a_magnitude' a_biasSum' a_correction' a_occurrences' a_bound' a_range' a_levelBits' a_threshold1' a_threshold2' a_threshold3' a_stream' h1 h2 h3 h4 => ⟨n + 1, ?_⟩)
      have HD : jl_HD w mx near (w * h) 2 s N n a_words a_recordBits a_bound' a_range' a_levelBits' a_threshold1' a_threshold2' a_threshold3' a_stream' := ⟨by omega, hs, hN, e3, hw, hw2, h128, hn, ro, h2⟩
      refine zl_worst rfl HD n 0 (n + 1) 0 _ _ _ _ _ _ _ _ _ _ _ _ _ _ _ _ _ _ (by omega) (by omega) h1 (fun _ _ _ _ _ _ _ _ _ _ _ _ _ _ _ _ _ _ g2 => ?_)
      unfold wpY_worstError
      refine yv_isSlot (fun _ => br_f jl_b10 ⟨hv, br_f (by rw [hc, e1]; exact nI_ne0 (by omega) (by omega)) ⟨n + 1, ?_⟩⟩) (fun n => absurd c n)
      refine yl_worst (by omega) hs e1 n 0 (n + 1) 0 (by omega) (by omega) ⟨?_, jl_intro ⟨hw, hw2, hh, hh2, hm, hp, hr, ?_, ?_⟩⟩
      · exact jl_wst_c n 0 0 (fun j _ hj => sm j (by omega))
      · exact jl_Wr_map (fun c' g => g2 0 c' (by decide) (h3 0 c' (by decide) g)) (fun s' m' n' => h4 0 s' m' n' (by decide)) hW
      · exact jl_Rd_map (fun c' g => g2 1 c' (by decide) (h3 1 c' (by decide) g)) (fun s' m' n' => h4 1 s' m' n' (by decide)) (fun _ _ => rfl) hR
  · unfold wpY_worstError
    exact yv_isSlot (fun c => absurd c n) (fun _ => br_t rfl ⟨rfl, R⟩)
end
section
/-! ===== encode, resume ===== -/
section
variable {g_w g_h g_max g_wSlot g_wNear g_wPos g_rSlot g_d : Int32} {y_src y_rec y_len y_bound y_written y_dec : Nat → Int32}
theorem yv_grid {post : Int32 → Prop} {mx near : Nat} {x : Int32} (hn : near ≤ 7) (h : post (jl_smp (nI mx) (nI near) ((x + nI near) / ((2 * nI near) + 1)))) : wpY_grid post (g_w, g_h, (nI mx), g_wSlot, g_wNear, g_wPos, g_rSlot, g_d, y_src, y_rec, y_len, y_bound, y_written, y_dec) x (nI near) := by
  refine nm_e ⟨jl_nz hn, nm_e (nm_e ?_)⟩
  unfold jl_smp jl_min at h
  generalize (x + nI near) / ((2 * nI near) + 1) * ((2 * nI near) + 1) = t at h ⊢
  refine br_c (fun z => ?_) (fun z => ?_)
  · by_cases y : nI mx ≤ t
    · rw [if_pos y, Int32.le_antisymm y z] at h
      exact h
    · rw [if_neg y] at h
      exact h
  · rw [if_pos (Int32.le_of_lt (Int32.not_le.mp z))] at h
    exact h
theorem yl_encode {post : Int32 → SY → Prop} {p st mx near : Nat} {A : Nat → Int32} (hst : p + st ≤ 128) (hn : near ≤ 7) : ∀ (d i fu : Nat), i + d = p + st → d < fu → p ≤ i → post (nI st) (g_w, g_h, (nI mx), g_wSlot, (nI near), (nI (p + st)), g_rSlot, g_d, y_src, y_rec, y_len, y_bound, (jl_rg (fun j => jl_smp (nI mx) (nI near) ((y_src j + nI near) / ((2 * nI near) + 1))) A p (p + st)), y_dec) → wY_encode_43 post (nI p) (nI st) g_w g_h (nI mx) g_wSlot (nI near) g_wPos g_rSlot g_d fu (nI i) y_src y_rec y_len y_bound (jl_rg (fun j => jl_smp (nI mx) (nI near) ((y_src j + nI near) / ((2 * nI near) + 1))) A p i) y_dec := by
  intro d
  induction d with
  | zero =>
    intro i fu hi hf hp h
    obtain ⟨m, rfl⟩ : ∃ m, fu = m + 1 := ⟨fu - 1, by omega⟩
    have e : i = p + st := by omega
    subst e
    exact br_t (by rw [nI_add]; exact nI_le (by omega) (by omega)) (nm_r (nI_add p st) h)
  | succ d ih =>
    intro i fu hi hf hp h
    obtain ⟨m, rfl⟩ : ∃ m, fu = m + 1 := ⟨fu - 1, by omega⟩
    have hc : (nI i).toNatClampNeg = i := nI_clamp (by omega)
    have hv : vp_in (nI i) 128 := vp_in_nI (by omega) (by omega)
    refine br_f (by rw [nI_add]; exact nI_ge (by omega) (by omega)) ⟨hv, ?_⟩
    rw [hc]
    exact yv_grid hn ⟨hv, nm_r (jl_rg_s hp rfl rfl) (nm_r (nI_1 i) (ih (i + 1) m (by omega) (by omega) (by omega) h))⟩
theorem yl_resume {post : Int32 → SY → Prop} {n s : Nat} {A : Nat → Int32} (hn : n ≤ 128) (hs : s < 4) (el : y_len s = nI n) : ∀ (d i fu : Nat), i + d = n → d < fu → post g_wPos (g_w, g_h, g_max, g_wSlot, g_wNear, g_wPos, g_rSlot, g_d, y_src, y_rec, y_len, y_bound, (jl_rg (fun j => y_rec (128 * s + j)) A 0 n), y_dec) → wY_resume_49 post (nI s) g_w g_h g_max g_wSlot g_wNear g_wPos g_rSlot g_d fu (nI i) y_src y_rec y_len y_bound (jl_rg (fun j => y_rec (128 * s + j)) A 0 i) y_dec := by
  have hc : (nI s).toNatClampNeg = s := nI_clamp (by omega)
  have hv : vp_in (nI s) 4 := vp_in_nI hs (by omega)
  intro d
  induction d with
  | zero =>
    intro i fu hi hf h
    obtain ⟨m, rfl⟩ : ∃ m, fu = m + 1 := ⟨fu - 1, by omega⟩
    have e : i = n := by omega
    subst e
    exact ⟨hv, br_t (by rw [hc, el]; exact nI_le (by omega) (by omega)) h⟩
  | succ d ih =>
    intro i fu hi hf h
    obtain ⟨m, rfl⟩ : ∃ m, fu = m + 1 := ⟨fu - 1, by omega⟩
    exact ⟨hv, br_f (by rw [hc, el]; exact nI_ge (by omega) (by omega)) ⟨jl_recv hs (by omega), vp_in_nI (by omega) (by omega), nm_r (jl_rg_s (Nat.zero_le _) (nI_clamp (by omega)) (by rw [jl_recc hs (by omega)])) (nm_r (nI_1 i) (ih (i + 1) m (by omega) (by omega) h))⟩⟩
end
section
variable {f_writer f_reader f_scratch f_writerStream f_streamWords f_streamBits f_cellStride f_contextStride f_interruptionContext f_codeLimit f_resetCount f_greatestOrder f_width f_height f_cells f_max f_writerOpen f_writerSlot f_readerOpen f_readerSlot f_column f_left f_above f_aboveLeft f_aboveRight f_context f_sign : Int32} {a_picture a_words a_recordLength a_recordBound a_recordBits a_levels a_position a_bound a_range a_levelBits a_threshold1 a_threshold2 a_threshold3 a_stream a_bitAt a_runIndex a_runCount a_inRun a_runBroken a_magnitude a_biasSum a_correction a_occurrences : Nat → Int32} {w mx near nc s N n : Nat}
theorem xe_step {post : SX → Prop} {x : Int32} {c : jC} (hw : 0 < w) (hw2 : w ≤ 16) (h3 : 3 ≤ mx) (hm : mx ≤ 255) (hn : near ≤ 7) (hn2 : 2 * near ≤ mx) (hnc : nc ≤ 128) (hP : jl_PV 0 4 (nI mx) (nI near) a_bound a_range a_levelBits a_threshold1 a_threshold2 a_threshold3 a_stream) (hx : jl_in (jl_R mx near) x) (hB : jl_BV 0 c a_levels a_position a_bitAt a_runIndex a_runCount a_inRun a_runBroken a_magnitude a_biasSum a_correction a_occurrences) (hWI : jl_wi1 w mx near c (jl_bs a_words 4)) (hc : c.1 < nc) (h : ∀ (f_column' f_left' f_above' f_aboveLeft' f_aboveRight' f_context' f_sign' : Int32) (a_levels' a_position' a_bitAt' a_runIndex' a_runCount' a_inRun' a_runBroken' a_magnitude' a_biasSum' a_correction' a_occurrences' : Nat → Int32) (a_words' : Nat → Int32) (c' : jC), jl_BV 0 c' a_levels' a_position' a_bitAt' a_runIndex' a_runCount' a_inRun' a_runBroken' a_magnitude' a_biasSum' a_correction' a_occurrences' → jl_wi1 w mx near c' (jl_bs a_words' 4) → c'.1 = c.1 + 1 → c'.2.1 = upd c.2.1 c.1 x → (∀ s, s < 4 → jl_bs a_words' s = jl_bs a_words s) → (∀ (b' : Nat) (c' : jC), b' ≠ 0 → jl_BV b' c' a_levels a_position a_bitAt a_runIndex a_runCount a_inRun a_runBroken a_magnitude a_biasSum a_correction a_occurrences → jl_BV b' c' a_levels' a_position' a_bitAt' a_runIndex' a_runCount' a_inRun' a_runBroken' a_magnitude' a_biasSum' a_correction' a_occurrences') → post (f_writer, f_reader, f_scratch, f_writerStream, f_streamWords, f_streamBits, f_cellStride, f_contextStride, f_interruptionContext, f_codeLimit, f_resetCount, f_greatestOrder, (nI w), f_height, (nI nc), f_max, f_writerOpen, f_writerSlot, f_readerOpen, f_readerSlot, f_column', f_left', f_above', f_aboveLeft', f_aboveRight', f_context', f_sign', a_picture, a_words', a_recordLength, a_recordBound, a_recordBits, a_levels', a_position', a_bound, a_range, a_levelBits, a_threshold1, a_threshold2, a_threshold3, a_stream, a_bitAt', a_runIndex', a_runCount', a_inRun', a_runBroken', a_magnitude', a_biasSum', a_correction', a_occurrences')) : wpX_encodeLevel post (f_writer, f_reader, f_scratch, f_writerStream, f_streamWords, f_streamBits, f_cellStride, f_contextStride, f_interruptionContext, f_codeLimit, f_resetCount, f_greatestOrder, (nI w), f_height, (nI nc), f_max, f_writerOpen, f_writerSlot, f_readerOpen, f_readerSlot, f_column, f_left, f_above, f_aboveLeft, f_aboveRight, f_context, f_sign, a_picture, a_words, a_recordLength, a_recordBound, a_recordBits, a_levels, a_position, a_bound, a_range, a_levelBits, a_threshold1, a_threshold2, a_threshold3, a_stream, a_bitAt, a_runIndex, a_runCount, a_inRun, a_runBroken, a_magnitude, a_biasSum, a_correction, a_occurrences) x := by
  have hPR := jl_PR_e hw hw2 h3 hm hn hn2
  have g := jl_WI_E hPR hx (show c.1 < 128 by omega) hWI
  obtain ⟨dir, hL, hD⟩ := id hWI
  obtain ⟨l1, l2, l3, l4, l5, l6, l7, l8, l9, l10, l11⟩ := hL
  have hir : c.2.2.2.2.2.1 = false → c.2.2.2.2.1 = 0 := by
    intro e
    rcases Nat.eq_zero_or_pos c.2.2.2.2.1 with y | y
    · exact y
    · have := (l5 y).1
      rw [e] at this
      exact absurd this (by decide)
  exact xb_encodeLevel (P := jl_P w (nI mx) (nI near)) (jl_PV_HP hP) hPR rfl hnc hB hc l9 l8 hir l1 hx l11 g.1 (fun f_column' f_left' f_above' f_aboveLeft' f_aboveRight' f_context' f_sign' a_levels' a_position' a_bitAt' a_runIndex' a_runCount' a_inRun' a_runBroken' a_magnitude' a_biasSum' a_correction' a_occurrences' g1 g2 => h f_column' f_left' f_above' f_aboveLeft' f_aboveRight' f_context' f_sign' a_levels' a_position' a_bitAt' a_runIndex' a_runCount' a_inRun' a_runBroken' a_magnitude' a_biasSum' a_correction' a_occurrences' _ _ g1 g.2 (jl_E_pos _ _ _) (jl_E_lev _ _ _) (fun s hs => jl_bs_pbs hs _ _ _) g2)
theorem zl_encode {post : Int32 → SX → Prop} {x2 x3 x4 x5 : Int32} {p st : Nat} (h2 : x2 = nI p) (h3 : x3 = nI st) (h4 : x4 = nI near) (h5 : x5 = (2 * nI near) + 1) (hw : 0 < w) (hw2 : w ≤ 16) (hm3 : 3 ≤ mx) (hm : mx ≤ 255) (hn : near ≤ 7) (hn2 : 2 * near ≤ mx) (hnc : nc ≤ 128) (hps : p + st ≤ nc) (hP : jl_PV 0 4 (nI mx) (nI near) a_bound a_range a_levelBits a_threshold1 a_threshold2 a_threshold3 a_stream) (hpic : ∀ i, jl_in (mx + 1) (a_picture i)) : ∀ (d i fu : Nat) (f_column f_left f_above f_aboveLeft f_aboveRight f_context f_sign : Int32) (a_levels a_position a_bitAt a_runIndex a_runCount a_inRun a_runBroken a_magnitude a_biasSum a_correction a_occurrences : Nat → Int32) (a_words : Nat → Int32) (c : jC), i + d = st → d < fu → jl_BV 0 c a_levels a_position a_bitAt a_runIndex a_runCount a_inRun a_runBroken a_magnitude a_biasSum a_correction a_occurrences → jl_wi1 w mx near c (jl_bs a_words 4) → c.1 = p + i → (∀ (f_column' f_left' f_above' f_aboveLeft' f_aboveRight' f_context' f_sign' : Int32) (a_levels' a_position' a_bitAt' a_runIndex' a_runCount' a_inRun' a_runBroken' a_magnitude' a_biasSum' a_correction' a_occurrences' : Nat → Int32) (a_words' : Nat → Int32) (c' : jC), jl_BV 0 c' a_levels' a_position' a_bitAt' a_runIndex' a_runCount' a_inRun' a_runBroken' a_magnitude' a_biasSum' a_correction' a_occurrences' → jl_wi1 w mx near c' (jl_bs a_words' 4) → c'.1 = p + st → (∀ j, j < p + i → c'.2.1 j = c.2.1 j) → (∀ j, p + i ≤ j → j < p + st → c'.2.1 j = (fun j => (a_picture j + nI near) / ((2 * nI near) + 1)) j) → (∀ s, s < 4 → jl_bs a_words' s = jl_bs a_words s) → (∀ (b' : Nat) (c' : jC), b' ≠ 0 → jl_BV b' c' a_levels a_position a_bitAt a_runIndex a_runCount a_inRun a_runBroken a_magnitude a_biasSum a_correction a_occurrences → jl_BV b' c' a_levels' a_position' a_bitAt' a_runIndex' a_runCount' a_inRun' a_runBroken' a_magnitude' a_biasSum' a_correction' a_occurrences') → post x3 (f_writer, f_reader, f_scratch, f_writerStream, f_streamWords, f_streamBits, f_cellStride, f_contextStride, f_interruptionContext, f_codeLimit, f_resetCount, f_greatestOrder, (nI w), f_height, (nI nc), f_max, f_writerOpen, f_writerSlot, f_readerOpen, f_readerSlot, f_column', f_left', f_above', f_aboveLeft', f_aboveRight', f_context', f_sign', a_picture, a_words', a_recordLength, a_recordBound, a_recordBits, a_levels', a_position', a_bound, a_range, a_levelBits, a_threshold1, a_threshold2, a_threshold3, a_stream, a_bitAt', a_runIndex', a_runCount', a_inRun', a_runBroken', a_magnitude', a_biasSum', a_correction', a_occurrences')) → wX_encode_54 post x2 x3 x4 x5 fu (nI i) f_writer f_reader f_scratch f_writerStream f_streamWords f_streamBits f_cellStride f_contextStride f_interruptionContext f_codeLimit f_resetCount f_greatestOrder (nI w) f_height (nI nc) f_max f_writerOpen f_writerSlot f_readerOpen f_readerSlot f_column f_left f_above f_aboveLeft f_aboveRight f_context f_sign a_picture a_words a_recordLength a_recordBound a_recordBits a_levels a_position a_bound a_range a_levelBits a_threshold1 a_threshold2 a_threshold3 a_stream a_bitAt a_runIndex a_runCount a_inRun a_runBroken a_magnitude a_biasSum a_correction a_occurrences := by
  subst h2 h3 h4 h5
  intro d
  induction d with
  | zero =>
    intro i fu f_column f_left f_above f_aboveLeft f_aboveRight f_context f_sign a_levels a_position a_bitAt a_runIndex a_runCount a_inRun a_runBroken a_magnitude a_biasSum a_correction a_occurrences a_words c hi hf hB hWI hc h
    obtain ⟨m, rfl⟩ : ∃ m, fu = m + 1 := ⟨fu - 1, by omega⟩
    have e : i = st := by omega
    subst e
    exact br_t (nI_le (by omega) (by omega)) (h f_column f_left f_above f_aboveLeft f_aboveRight f_context f_sign a_levels a_position a_bitAt a_runIndex a_runCount a_inRun a_runBroken a_magnitude a_biasSum a_correction a_occurrences a_words c hB hWI hc (fun _ _ => rfl) (fun j h1 h2 => absurd h2 (by omega)) (fun _ _ => rfl) (fun _ _ _ g => g))
  | succ d ih =>
    intro i fu f_column f_left f_above f_aboveLeft f_aboveRight f_context f_sign a_levels a_position a_bitAt a_runIndex a_runCount a_inRun a_runBroken a_magnitude a_biasSum a_correction a_occurrences a_words c hi hf hB hWI hc h
    obtain ⟨m, rfl⟩ : ∃ m, fu = m + 1 := ⟨fu - 1, by omega⟩
    have ea : nI p + nI i = nI (p + i) := nI_add _ _
    have hcl : (nI p + nI i).toNatClampNeg = p + i := by rw [ea]; exact nI_clamp (by omega)
    obtain ⟨q, eq, hq, hqi⟩ := jl_level hm hn (hpic (p + i))
    refine br_f (nI_ge (by omega) (by omega)) ⟨by rw [ea]; exact vp_in_nI (by omega) (by omega), jl_nz hn, nm_r (e' := (fun j => (a_picture j + nI near) / ((2 * nI near) + 1)) (p + i)) (by rw [hcl]) ?_⟩
    have hx : jl_in (jl_R mx near) ((fun j => (a_picture j + nI near) / ((2 * nI near) + 1)) (p + i)) := by
      show jl_in (jl_R mx near) ((a_picture (p + i) + nI near) / ((2 * nI near) + 1))
      rw [eq]
      exact hqi
    refine xe_step hw hw2 hm3 hm hn hn2 hnc hP hx hB hWI (by omega) (fun f_column' f_left' f_above' f_aboveLeft' f_aboveRight' f_context' f_sign' a_levels' a_position' a_bitAt' a_runIndex' a_runCount' a_inRun' a_runBroken' a_magnitude' a_biasSum' a_correction' a_occurrences' a_words' c' hB' hWI' hc' hl' hs' hF => nm_r (nI_1 i) ?_)
    refine ih (i + 1) m f_column' f_left' f_above' f_aboveLeft' f_aboveRight' f_context' f_sign' a_levels' a_position' a_bitAt' a_runIndex' a_runCount' a_inRun' a_runBroken' a_magnitude' a_biasSum' a_correction' a_occurrences' a_words' c' (by omega) (by omega) hB' hWI' (by omega) (fun _ _ _ _ _ _ _ _ _ _ _ _ _ _ _ _ _ _ _ _ g1 g2 g3 g4 g5 g6 g7 => h _ _ _ _ _ _ _ _ _ _ _ _ _ _ _ _ _ _ _ _ g1 g2 g3 (fun j hj => ?_) (fun j h1 h2 => ?_) (fun s hs => (g6 s hs).trans (hs' s hs)) (fun b' c' ne g => g7 b' c' ne (hF b' c' ne g)))
    · rw [g4 j (by omega), hl', pk_un (by omega)]
    · by_cases e : j = p + i
      · subst e
        rw [g4 _ (by omega), hl', hc, pk_us]
      · exact g5 j (by omega) h2
theorem zl_resume {post : Int32 → SX → Prop} {x2 : Int32} {W : Nat → Int32} (h2 : x2 = nI n) (hm3 : 3 ≤ mx) (hm : mx ≤ 255) (hn : near ≤ 7) (hn2 : 2 * near ≤ mx) (HD : jl_HD w mx near nc 2 s N n W a_recordBits a_bound a_range a_levelBits a_threshold1 a_threshold2 a_threshold3 a_stream) (hP : jl_PV 0 4 (nI mx) (nI near) a_bound a_range a_levelBits a_threshold1 a_threshold2 a_threshold3 a_stream) : ∀ (d i fu : Nat) (f_column f_left f_above f_aboveLeft f_aboveRight f_context f_sign : Int32) (a_levels a_position a_bitAt a_runIndex a_runCount a_inRun a_runBroken a_magnitude a_biasSum a_correction a_occurrences : Nat → Int32) (a_words : Nat → Int32) (c : jC), i + d = n → d < fu → (∀ s, s < 4 → jl_bs a_words s = jl_bs W s) → jl_BV 2 (jl_dn w mx near (jl_bs W s) i) a_levels a_position a_bitAt a_runIndex a_runCount a_inRun a_runBroken a_magnitude a_biasSum a_correction a_occurrences → jl_BV 0 c a_levels a_position a_bitAt a_runIndex a_runCount a_inRun a_runBroken a_magnitude a_biasSum a_correction a_occurrences → jl_wi1 w mx near c (jl_bs a_words 4) → c.1 = i → (∀ j, j < i → c.2.1 j = (jl_dn w mx near (jl_bs W s) n).2.1 j) → (∀ (f_column' f_left' f_above' f_aboveLeft' f_aboveRight' f_context' f_sign' : Int32) (a_levels' a_position' a_bitAt' a_runIndex' a_runCount' a_inRun' a_runBroken' a_magnitude' a_biasSum' a_correction' a_occurrences' : Nat → Int32) (a_words' : Nat → Int32) (c' : jC), jl_BV 0 c' a_levels' a_position' a_bitAt' a_runIndex' a_runCount' a_inRun' a_runBroken' a_magnitude' a_biasSum' a_correction' a_occurrences' → jl_wi1 w mx near c' (jl_bs a_words' 4) → c'.1 = n → (∀ j, j < n → c'.2.1 j = (jl_dn w mx near (jl_bs W s) n).2.1 j) → (∀ s, s < 4 → jl_bs a_words' s = jl_bs W s) → (∀ (b' : Nat) (c' : jC), b' ≠ 0 → b' ≠ 2 → jl_BV b' c' a_levels a_position a_bitAt a_runIndex a_runCount a_inRun a_runBroken a_magnitude a_biasSum a_correction a_occurrences → jl_BV b' c' a_levels' a_position' a_bitAt' a_runIndex' a_runCount' a_inRun' a_runBroken' a_magnitude' a_biasSum' a_correction' a_occurrences') → post (nI n) (f_writer, f_reader, f_scratch, f_writerStream, f_streamWords, f_streamBits, f_cellStride, f_contextStride, f_interruptionContext, f_codeLimit, f_resetCount, f_greatestOrder, (nI w), f_height, (nI nc), f_max, f_writerOpen, f_writerSlot, f_readerOpen, f_readerSlot, f_column', f_left', f_above', f_aboveLeft', f_aboveRight', f_context', f_sign', a_picture, a_words', a_recordLength, a_recordBound, a_recordBits, a_levels', a_position', a_bound, a_range, a_levelBits, a_threshold1, a_threshold2, a_threshold3, a_stream, a_bitAt', a_runIndex', a_runCount', a_inRun', a_runBroken', a_magnitude', a_biasSum', a_correction', a_occurrences')) → wX_resume_42 post x2 fu (nI i) f_writer f_reader f_scratch f_writerStream f_streamWords f_streamBits f_cellStride f_contextStride f_interruptionContext f_codeLimit f_resetCount f_greatestOrder (nI w) f_height (nI nc) f_max f_writerOpen f_writerSlot f_readerOpen f_readerSlot f_column f_left f_above f_aboveLeft f_aboveRight f_context f_sign a_picture a_words a_recordLength a_recordBound a_recordBits a_levels a_position a_bound a_range a_levelBits a_threshold1 a_threshold2 a_threshold3 a_stream a_bitAt a_runIndex a_runCount a_inRun a_runBroken a_magnitude a_biasSum a_correction a_occurrences := by
  subst h2
  have HD0 := HD
  obtain ⟨_, hs, hN, eN, hw, hw2, hnc, hnn, ro, hP2⟩ := HD0
  intro d
  induction d with
  | zero =>
    intro i fu f_column f_left f_above f_aboveLeft f_aboveRight f_context f_sign a_levels a_position a_bitAt a_runIndex a_runCount a_inRun a_runBroken a_magnitude a_biasSum a_correction a_occurrences a_words c hi hf hbs hB2 hB hWI hc hl h
    obtain ⟨m, rfl⟩ : ∃ m, fu = m + 1 := ⟨fu - 1, by omega⟩
    have e : i = n := by omega
    subst e
    refine br_t (nI_le (by omega) (by omega)) ?_
    rw [hB.1, hc]
    exact h f_column f_left f_above f_aboveLeft f_aboveRight f_context f_sign a_levels a_position a_bitAt a_runIndex a_runCount a_inRun a_runBroken a_magnitude a_biasSum a_correction a_occurrences a_words c hB hWI hc hl hbs (fun _ _ _ _ g => g)
  | succ d ih =>
    intro i fu f_column f_left f_above f_aboveLeft f_aboveRight f_context f_sign a_levels a_position a_bitAt a_runIndex a_runCount a_inRun a_runBroken a_magnitude a_biasSum a_correction a_occurrences a_words c hi hf hbs hB2 hB hWI hc hl h
    obtain ⟨m, rfl⟩ : ∃ m, fu = m + 1 := ⟨fu - 1, by omega⟩
    have HD' : jl_HD w mx near nc 2 s N n a_words a_recordBits a_bound a_range a_levelBits a_threshold1 a_threshold2 a_threshold3 a_stream := ⟨by omega, hs, hN, eN, hw, hw2, hnc, hnn, by rw [hbs s hs]; exact ro, hP2⟩
    have hB2' : jl_BV 2 (jl_dn w mx near (jl_bs a_words s) i) a_levels a_position a_bitAt a_runIndex a_runCount a_inRun a_runBroken a_magnitude a_biasSum a_correction a_occurrences := by rw [hbs s hs]; exact hB2
    refine br_f (nI_ge (by omega) (by omega)) (xd_step (b := 2) rfl HD' (show i < n by omega) hB2' (fun f_column' f_left' f_above' f_aboveLeft' f_aboveRight' f_context' f_sign' a_levels' a_position' a_bitAt' a_runIndex' a_runCount' a_inRun' a_runBroken' a_magnitude' a_biasSum' a_correction' a_occurrences' hD hF => ?_))
    rw [hbs s hs] at hD
    have el : a_levels' (128 * 2 + i) = (jl_dn w mx near (jl_bs W s) n).2.1 i := by
      rw [hD.2.2.2.2.2.2.2.1 i (by rw [show (jl_dn w mx near (jl_bs W s) (i + 1)).1 = i + 1 from jl_Dit_pos _]; omega)]
      exact jl_RO_lev (by omega) (by omega)
    have ei : (256 : Int32) + nI i = nI (128 * 2 + i) := nI_add 256 i
    have hx : jl_in (jl_R mx near) ((jl_dn w mx near (jl_bs W s) n).2.1 i) := ro.2 i (by omega)
    refine ⟨by rw [ei]; exact vp_in_nI (by omega) (by omega), ?_⟩
    rw [ei, nI_clamp (show 128 * 2 + i < 2 ^ 31 by omega), el]
    refine xe_step hw hw2 hm3 hm hn hn2 hnc hP hx (hF 0 c (by decide) hB) hWI (by omega) (fun _ _ _ _ _ _ _ _ _ _ _ _ _ _ _ _ _ _ a_words2 c2 hB3 hWI3 hc3 hl3 hs3 hF3 => nm_r (nI_1 i) ?_)
    refine ih (i + 1) m _ _ _ _ _ _ _ _ _ _ _ _ _ _ _ _ _ _ a_words2 c2 (by omega) (by omega) (fun s hs => (hs3 s hs).trans (hbs s hs)) (hF3 2 _ (by decide) hD) hB3 hWI3 (by omega) (fun j hj => ?_) (fun _ _ _ _ _ _ _ _ _ _ _ _ _ _ _ _ _ _ _ _ g1 g2 g3 g4 g5 g6 => h _ _ _ _ _ _ _ _ _ _ _ _ _ _ _ _ _ _ _ _ g1 g2 g3 g4 g5 (fun b' c' n0 n2 g => g6 b' c' n0 n2 (hF3 b' c' n0 (hF b' c' n2 g))))
    rw [hl3, hc]
    by_cases e : j = i
    · rw [e, pk_us]
    · rw [pk_un e]
      exact hl j (by omega)
end
theorem i_vc_encode {k : Nat} {u : SX} {v : SY} (I : i_Rel k u v) (hk : k + 5 ≤ 2563) (v1 : Int32) : wpX_encode (fun r u' => wpY_encode (fun r' v' => r' = r ∧ i_Rel (k + 5) u' v') v v1) u v1 := by
  refine jl_el (Q := fun u v => wpX_encode (fun r u' => wpY_encode (fun r' v' => r' = r ∧ i_Rel (k + 5) u' v') v v1) u v1) I ?_
  intro f_writer f_reader f_scratch f_writerStream f_streamWords f_streamBits f_cellStride f_contextStride f_interruptionContext f_codeLimit f_resetCount f_greatestOrder f_writerOpen f_writerSlot f_readerOpen f_readerSlot f_column f_left f_above f_aboveLeft f_aboveRight f_context f_sign a_words a_recordBits a_levels a_position a_bitAt a_runIndex a_runCount a_inRun a_runBroken a_magnitude a_biasSum a_correction a_occurrences a_bound a_range a_levelBits a_threshold1 a_threshold2 a_threshold3 a_stream g_wSlot g_wNear g_wPos g_rSlot g_d y_src y_rec y_len y_bound y_written y_dec w h mx F
  have R : i_Rel (k + 5) (f_writer, f_reader, f_scratch, f_writerStream, f_streamWords, f_streamBits, f_cellStride, f_contextStride, f_interruptionContext, f_codeLimit, f_resetCount, f_greatestOrder, (nI w), (nI h), (nI (w * h)), (nI mx), f_writerOpen, f_writerSlot, f_readerOpen, f_readerSlot, f_column, f_left, f_above, f_aboveLeft, f_aboveRight, f_context, f_sign, y_src, a_words, y_len, y_bound, a_recordBits, a_levels, a_position, a_bound, a_range, a_levelBits, a_threshold1, a_threshold2, a_threshold3, a_stream, a_bitAt, a_runIndex, a_runCount, a_inRun, a_runBroken, a_magnitude, a_biasSum, a_correction, a_occurrences) ((nI w), (nI h), (nI mx), g_wSlot, g_wNear, g_wPos, g_rSlot, g_d, y_src, y_rec, y_len, y_bound, y_written, y_dec) := jl_intro F
  obtain ⟨hw, hw2, hh, hh2, hm, hp, hr, hW, hR⟩ := F
  have h128 := jl_wh2 hw2 hh2
  have hm2 := jl_mx_r hm
  by_cases h0 : 0 ≤ v1
  · refine br_t h0 ?_
    rcases hW with ⟨rfl, rfl⟩ | ⟨rfl, s, near, c, hs, rfl, rfl, hn, hn2, rfl, hc, rfl, hB, hP, hWI, hyw⟩
    · exact br_t rfl (br_t h0 (br_f (by decide) ⟨rfl, R⟩))
    · obtain ⟨m, hmm, rfl⟩ := nI_of (x := v1) (Int32.not_lt.mpr h0)
      have main : ∀ st : Nat, c.1 + st ≤ w * h → (∀ post : Int32 → SY → Prop, post (nI st) ((nI w), (nI h), (nI mx), (nI s), (nI near), (nI (c.1 + st)), g_rSlot, g_d, y_src, y_rec, y_len, y_bound, (jl_rg (fun j => jl_smp (nI mx) (nI near) ((y_src j + nI near) / ((2 * nI near) + 1))) y_written c.1 (c.1 + st)), y_dec) → wpY_encode post ((nI w), (nI h), (nI mx), (nI s), (nI near), (nI c.1), g_rSlot, g_d, y_src, y_rec, y_len, y_bound, y_written, y_dec) (nI m)) → ∃ fu : Nat, wX_encode_54 (fun r u' => wpY_encode (fun r' v' => r' = r ∧ i_Rel (k + 5) u' v') ((nI w), (nI h), (nI mx), (nI s), (nI near), (nI c.1), g_rSlot, g_d, y_src, y_rec, y_len, y_bound, y_written, y_dec) (nI m)) (nI c.1) (nI st) (nI near) ((2 * nI near) + 1) fu 0 f_writer f_reader f_scratch f_writerStream f_streamWords f_streamBits f_cellStride f_contextStride f_interruptionContext f_codeLimit f_resetCount f_greatestOrder (nI w) (nI h) (nI (w * h)) (nI mx) 1 (nI s) f_readerOpen f_readerSlot f_column f_left f_above f_aboveLeft f_aboveRight f_context f_sign y_src a_words y_len y_bound a_recordBits a_levels a_position a_bound a_range a_levelBits a_threshold1 a_threshold2 a_threshold3 a_stream a_bitAt a_runIndex a_runCount a_inRun a_runBroken a_magnitude a_biasSum a_correction a_occurrences := by
        intro st hst hY
        refine ⟨st + 1, zl_encode rfl rfl rfl rfl hw hw2 hm2.1 hm2.2 hn hn2 h128 hst hP hp st 0 (st + 1) _ _ _ _ _ _ _ _ _ _ _ _ _ _ _ _ _ _ a_words c (by omega) (by omega) hB hWI rfl (fun _ _ _ _ _ _ _ _ _ _ _ _ _ _ _ _ _ _ a_words' c' g1 g2 g3 g4 g5 g6 g7 => hY _ ⟨rfl, jl_intro ⟨hw, hw2, hh, hh2, hm, hp, fun s' hs' => jl_Rec_w (g6 s' hs') (hr s' hs'), ?_, ?_⟩⟩)⟩
        · refine Or.inr ⟨rfl, s, near, c', hs, rfl, rfl, hn, hn2, rfl, by omega, by rw [g3], g1, hP, g2, fun i hi => ?_⟩
          rw [g3] at hi
          by_cases z : i < c.1
          · rw [jl_rg_lo z, hyw i z, g4 i z]
          · rw [jl_rg_in (by omega) hi, g5 i (by omega) hi]
        · exact jl_Rd_map (fun c' => g7 1 c' (by decide)) (fun _ _ _ g => g) g6 hR
      have ex : nI (w * h) - nI c.1 = nI (w * h - c.1) := pk_sub hc
      have ey : (nI w * nI h) - nI c.1 = nI (w * h - c.1) := by rw [pk_mul]; exact ex
      refine br_f jl_b10 (nm_r hB.1 (xv_smaller (nm_r hP.1 (nm_e ?_))))
      rw [ex]
      unfold jl_min
      by_cases z : w * h - c.1 ≤ m
      · rw [if_pos (nI_le z hmm)]
        refine main (w * h - c.1) (by omega) (fun post hq => br_t h0 (br_t (nI_pos' (by omega)) (nm_r ey (br_t (nI_le z hmm) ⟨w * h - c.1 + 1, ?_⟩))))
        have g := yl_encode (post := post) (g_wPos := nI c.1) (A := y_written) (st := w * h - c.1) (p := c.1) (by omega) hn (w * h - c.1) c.1 (w * h - c.1 + 1) (by omega) (by omega) (Nat.le_refl _) hq
        rw [jl_rg_0] at g
        exact g
      · rw [if_neg (nI_ge (by omega) (by omega))]
        refine main m (by omega) (fun post hq => br_t h0 (br_t (nI_pos' (by omega)) (nm_r ey (br_f (nI_ge (by omega) (by omega)) ⟨m + 1, ?_⟩))))
        have g := yl_encode (post := post) (g_wPos := nI c.1) (A := y_written) (st := m) (p := c.1) (by omega) hn m c.1 (m + 1) (by omega) (by omega) (Nat.le_refl _) hq
        rw [jl_rg_0] at g
        exact g
  · exact br_f h0 (br_f h0 ⟨rfl, R⟩)
theorem i_vc_resume {k : Nat} {u : SX} {v : SY} (I : i_Rel k u v) (hk : k + 5 ≤ 2563) (v1 : Int32) : wpX_resume (fun r u' => wpY_resume (fun r' v' => r' = r ∧ i_Rel (k + 5) u' v') v v1) u v1 := by
  refine jl_el (Q := fun u v => wpX_resume (fun r u' => wpY_resume (fun r' v' => r' = r ∧ i_Rel (k + 5) u' v') v v1) u v1) I ?_
  intro f_writer f_reader f_scratch f_writerStream f_streamWords f_streamBits f_cellStride f_contextStride f_interruptionContext f_codeLimit f_resetCount f_greatestOrder f_writerOpen f_writerSlot f_readerOpen f_readerSlot f_column f_left f_above f_aboveLeft f_aboveRight f_context f_sign a_words a_recordBits a_levels a_position a_bitAt a_runIndex a_runCount a_inRun a_runBroken a_magnitude a_biasSum a_correction a_occurrences a_bound a_range a_levelBits a_threshold1 a_threshold2 a_threshold3 a_stream g_wSlot g_wNear g_wPos g_rSlot g_d y_src y_rec y_len y_bound y_written y_dec w h mx F
  have R : i_Rel (k + 5) (f_writer, f_reader, f_scratch, f_writerStream, f_streamWords, f_streamBits, f_cellStride, f_contextStride, f_interruptionContext, f_codeLimit, f_resetCount, f_greatestOrder, (nI w), (nI h), (nI (w * h)), (nI mx), f_writerOpen, f_writerSlot, f_readerOpen, f_readerSlot, f_column, f_left, f_above, f_aboveLeft, f_aboveRight, f_context, f_sign, y_src, a_words, y_len, y_bound, a_recordBits, a_levels, a_position, a_bound, a_range, a_levelBits, a_threshold1, a_threshold2, a_threshold3, a_stream, a_bitAt, a_runIndex, a_runCount, a_inRun, a_runBroken, a_magnitude, a_biasSum, a_correction, a_occurrences) ((nI w), (nI h), (nI mx), g_wSlot, g_wNear, g_wPos, g_rSlot, g_d, y_src, y_rec, y_len, y_bound, y_written, y_dec) := jl_intro F
  obtain ⟨hw, hw2, hh, hh2, hm, hp, hr, hW, hR⟩ := F
  have h128 := jl_wh2 hw2 hh2
  have hm2 := jl_mx_r hm
  unfold wpX_resume
  refine xv_isSlot (fun c => br_f jl_b10 ?_) (fun n => br_t rfl ?_)
  · obtain ⟨s, hs, rfl⟩ := id c
    have hv : vp_in (nI s) 4 := vp_in_nI hs (by omega)
    have hc : (nI s).toNatClampNeg = s := nI_clamp (by omega)
    obtain ⟨n, near, N, e1, e2, e3, hn, hne, hne2, hN, ro, sm⟩ := hr s hs
    refine ⟨hv, nm_r (e' := nI n) (by rw [hc, e1]) (pk_eq n 0 (fun z => ?_) (fun z => ⟨hv, ?_⟩))⟩
    · unfold wpY_resume
      exact yv_isSlot (fun _ => br_f jl_b10 ⟨hv, br_t (by rw [hc, e1, z]; rfl) ⟨rfl, R⟩⟩) (fun n => absurd c n)
    · rw [hc, e2]
      refine xb_openWriter (jl_nz hne) (fun a_levels' a_position' a_bitAt' a_runIndex' a_runCount' a_inRun' a_runBroken' a_magnitude' a_biasSum' a_correction' a_occurrences' a_bound' a_range' a_levelBits' a_threshold1' a_threshold2' a_threshold3' a_stream' h1 h2 h3 h4 => ?_)
      refine xb_loadScratch rfl hs e2 (jl_nz hne) (fun a_levels a_position a_bitAt a_runIndex a_runCount a_inRun a_runBroken a_magnitude a_biasSum a_correction a_occurrences a_bound a_range a_levelBits a_threshold1 a_threshold2 a_threshold3 a_stream i1 i2 i3 i4 => ⟨n + 1, ?_⟩)
      have HD : jl_HD w mx near (w * h) 2 s N n a_words a_recordBits a_bound a_range a_levelBits a_threshold1 a_threshold2 a_threshold3 a_stream := ⟨by omega, hs, hN, e3, hw, hw2, h128, hn, ro, i2⟩
      refine zl_resume (W := a_words) rfl hm2.1 hm2.2 hne hne2 HD (i4 0 _ _ _ (by decide) h2) n 0 (n + 1) _ _ _ _ _ _ _ _ _ _ _ _ _ _ _ _ _ _ a_words _ (by omega) (by omega) (fun _ _ => rfl) i1 (i3 0 _ (by decide) h1) (jl_WI_0 hw) rfl (fun j hj => absurd hj (Nat.not_lt_zero _)) (fun _ _ _ _ _ _ _ _ _ _ _ _ _ _ _ _ _ _ a_words' c' g1 g2 g3 g4 g5 g6 => ?_)
      unfold wpY_resume
      refine yv_isSlot (fun _ => br_f jl_b10 ⟨hv, br_f (by rw [hc, e1]; exact nI_ne0 (by omega) (by omega)) ⟨hv, nm_r (e' := nI near) (by rw [hc, e2]) ⟨hv, nm_r (e' := nI n) (by rw [hc, e1]) ⟨n + 1, ?_⟩⟩⟩⟩) (fun n => absurd c n)
      have g := fun post hq => yl_resume (post := post) (A := y_written) (g_w := nI w) (g_h := nI h) (g_max := nI mx) (g_wSlot := nI s) (g_wNear := nI near) (g_wPos := nI n) (g_rSlot := g_rSlot) (g_d := g_d) (y_src := y_src) (y_rec := y_rec) (y_bound := y_bound) (y_dec := y_dec) (by omega) hs e1 n 0 (n + 1) (by omega) (by omega) hq
      rw [jl_rg_0] at g
      refine g _ ⟨rfl, jl_intro ⟨hw, hw2, hh, hh2, hm, hp, fun s' hs' => jl_Rec_w (g5 s' hs') (hr s' hs'), ?_, ?_⟩⟩
      · refine Or.inr ⟨rfl, s, near, c', hs, rfl, rfl, hne, hne2, rfl, by omega, by rw [g3], g1, i4 0 _ _ _ (by decide) h2, g2, fun i hi => ?_⟩
        rw [g3] at hi
        rw [jl_rg_in (Nat.zero_le _) hi, g4 i hi]
        exact sm i hi
      · exact jl_Rd_map (fun c' g => g6 1 c' (by decide) (by decide) (i3 1 c' (by decide) (h3 1 c' (by decide) g))) (fun s' m' n' g => i4 1 s' m' n' (by decide) (h4 1 s' m' n' (by decide) g)) g5 hR
  · unfold wpY_resume
    exact yv_isSlot (fun c => absurd c n) (fun _ => br_t rfl ⟨rfl, R⟩)
end
section
/-! ===== truncate, finish ===== -/
section
variable {f_writer f_reader f_scratch f_writerStream f_streamWords f_streamBits f_cellStride f_contextStride f_interruptionContext f_codeLimit f_resetCount f_greatestOrder f_width f_height f_cells f_max f_writerOpen f_writerSlot f_readerOpen f_readerSlot f_column f_left f_above f_aboveLeft f_aboveRight f_context f_sign : Int32} {a_picture a_words a_recordLength a_recordBound a_recordBits a_levels a_position a_bound a_range a_levelBits a_threshold1 a_threshold2 a_threshold3 a_stream a_bitAt a_runIndex a_runCount a_inRun a_runBroken a_magnitude a_biasSum a_correction a_occurrences : Nat → Int32}
theorem xl_store {post : SX → Prop} {x1 x2 x4 : Int32} {s us N : Nat} {A : Nat → Int32} (h1 : x1 = nI s) (hs : s < 4) (h2 : x2 = nI us) (hu : us ≤ 128) (h4 : x4 = nI (128 * s)) (eb : a_bitAt 0 = nI N) (h : post (f_writer, f_reader, f_scratch, f_writerStream, f_streamWords, f_streamBits, f_cellStride, f_contextStride, f_interruptionContext, f_codeLimit, f_resetCount, f_greatestOrder, f_width, f_height, f_cells, f_max, f_writerOpen, f_writerSlot, f_readerOpen, f_readerSlot, f_column, f_left, f_above, f_aboveLeft, f_aboveRight, f_context, f_sign, a_picture, (jl_ov A 128 s us (fun i => A (512 + i))), (upd a_recordLength s (a_position 0)), (upd a_recordBound s (a_bound 0)), (upd a_recordBits s (nI N)), a_levels, a_position, a_bound, a_range, a_levelBits, a_threshold1, a_threshold2, a_threshold3, a_stream, a_bitAt, a_runIndex, a_runCount, a_inRun, a_runBroken, a_magnitude, a_biasSum, a_correction, a_occurrences)) : ∀ (d i fu : Nat), i + d = us → d < fu → wX_storeRecord_26 post x1 x2 512 x4 f_writer f_reader f_scratch f_writerStream f_streamWords f_streamBits f_cellStride f_contextStride f_interruptionContext f_codeLimit f_resetCount f_greatestOrder f_width f_height f_cells f_max f_writerOpen f_writerSlot f_readerOpen f_readerSlot f_column f_left f_above f_aboveLeft f_aboveRight f_context f_sign fu (nI i) a_picture (jl_ov A 128 s i (fun i => A (512 + i))) a_recordLength a_recordBound a_recordBits a_levels a_position a_bound a_range a_levelBits a_threshold1 a_threshold2 a_threshold3 a_stream a_bitAt a_runIndex a_runCount a_inRun a_runBroken a_magnitude a_biasSum a_correction a_occurrences := by
  have hv : vp_in x1 4 := by rw [h1]; exact vp_in_nI hs (by omega)
  have hc : x1.toNatClampNeg = s := by rw [h1]; exact nI_clamp (by omega)
  intro d
  induction d with
  | zero =>
    intro i fu hi hf
    obtain ⟨m, rfl⟩ : ∃ m, fu = m + 1 := ⟨fu - 1, by omega⟩
    have e : i = us := by omega
    subst e
    exact br_t (by rw [h2]; exact nI_le (by omega) (by omega)) ⟨hv, nm_r (e' := upd a_recordBits s (nI N)) (by rw [hc, eb]) ⟨hv, nm_r (e' := upd a_recordBound s (a_bound 0)) (by rw [hc]) ⟨hv, nm_r (e' := upd a_recordLength s (a_position 0)) (by rw [hc]) h⟩⟩⟩
  | succ d ih =>
    intro i fu hi hf
    obtain ⟨m, rfl⟩ : ∃ m, fu = m + 1 := ⟨fu - 1, by omega⟩
    have e3 : (512 : Int32) + nI i = nI (128 * 4 + i) := nI_add 512 i
    have e4 : x4 + nI i = nI (128 * s + i) := by rw [h4, nI_add]
    have c3 : ((512 : Int32) + nI i).toNatClampNeg = 128 * 4 + i := by rw [e3]; exact nI_clamp (by omega)
    have c4 : (x4 + nI i).toNatClampNeg = 128 * s + i := by rw [e4]; exact nI_clamp (by omega)
    have er : jl_ov A 128 s i (fun i => A (512 + i)) ((512 : Int32) + nI i).toNatClampNeg = A (512 + i) := by
      rw [c3, jl_ovo (by omega) (by omega) (by omega)]
    refine br_f (by rw [h2]; exact nI_ge (by omega) (by omega)) (br_f (nI_ge (b := 128) (by omega) (by omega)) ⟨by rw [e3]; exact vp_in_nI (by omega) (by omega), by rw [e4]; exact vp_in_nI (by omega) (by omega), nm_r (e' := jl_ov A 128 s (i + 1) (fun i => A (512 + i))) ?_ (nm_r (nI_1 i) (ih (i + 1) m (by omega) (by omega)))⟩)
    rw [er, jl_ova c4, jl_uid (A := fun i => A (512 + i)) rfl]
theorem xb_store {post : SX → Prop} {p0 : Int32} {s N : Nat} (h1 : p0 = nI s) (hs : s < 4) (hN : N ≤ 4096) (eb : a_bitAt 0 = nI N) (h : post (f_writer, f_reader, f_scratch, f_writerStream, f_streamWords, f_streamBits, f_cellStride, f_contextStride, f_interruptionContext, f_codeLimit, f_resetCount, f_greatestOrder, f_width, f_height, f_cells, f_max, f_writerOpen, f_writerSlot, f_readerOpen, f_readerSlot, f_column, f_left, f_above, f_aboveLeft, f_aboveRight, f_context, f_sign, a_picture, (jl_ov a_words 128 s ((N + 31) / 32) (fun i => a_words (512 + i))), (upd a_recordLength s (a_position 0)), (upd a_recordBound s (a_bound 0)), (upd a_recordBits s (nI N)), a_levels, a_position, a_bound, a_range, a_levelBits, a_threshold1, a_threshold2, a_threshold3, a_stream, a_bitAt, a_runIndex, a_runCount, a_inRun, a_runBroken, a_magnitude, a_biasSum, a_correction, a_occurrences)) : wpX_storeRecord post (f_writer, f_reader, f_scratch, f_writerStream, f_streamWords, f_streamBits, f_cellStride, f_contextStride, f_interruptionContext, f_codeLimit, f_resetCount, f_greatestOrder, f_width, f_height, f_cells, f_max, f_writerOpen, f_writerSlot, f_readerOpen, f_readerSlot, f_column, f_left, f_above, f_aboveLeft, f_aboveRight, f_context, f_sign, a_picture, a_words, a_recordLength, a_recordBound, a_recordBits, a_levels, a_position, a_bound, a_range, a_levelBits, a_threshold1, a_threshold2, a_threshold3, a_stream, a_bitAt, a_runIndex, a_runCount, a_inRun, a_runBroken, a_magnitude, a_biasSum, a_correction, a_occurrences) p0 := by
  have e2 : (a_bitAt 0 + 31) >>> ((5 : Int32) &&& 31) = nI ((N + 31) / 32) := by
    rw [eb]
    show (nI N + nI 31) >>> ((5 : Int32) &&& 31) = _
    rw [nI_add, jl_d32 _ (by omega)]
  have e4 : p0 * 128 = nI (128 * s) := by
    rw [h1]
    show nI s * nI 128 = _
    rw [pk_mul, Nat.mul_comm]
  refine nm_r e2 (nm_r e4 ⟨(N + 31) / 32 + 1, ?_⟩)
  have g := xl_store (post := post) (A := a_words) (x2 := nI ((N + 31) / 32)) (x4 := nI (128 * s)) h1 hs rfl (by omega) rfl eb h ((N + 31) / 32) 0 ((N + 31) / 32 + 1) (by omega) (by omega)
  rw [jl_ov0] at g
  exact g
end
theorem jl_bs_st {W : Nat → Int32} {s us k : Nat} (hs : s < 4) (hk : k / 32 < us) (hu : us ≤ 128) : jl_bs (jl_ov W 128 s us (fun i => W (512 + i))) s k = jl_bs W 4 k := by
  unfold jl_bs
  rw [jl_ovr (i := k / 32) (by omega) hk]
theorem jl_bs_so {W : Nat → Int32} {s us s' : Nat} (hs : s' < 4) (hne : s' ≠ s) (hu : us ≤ 128) : jl_bs (jl_ov W 128 s us (fun i => W (512 + i))) s' = jl_bs W s' := by
  funext k
  unfold jl_bs
  by_cases hk : k < 4096
  · rw [show s' * 128 + k / 32 = 128 * s' + k / 32 by omega, jl_ovo hne (by omega) hu]
  · rw [jl_df hk]
    rfl
section
variable {g_w g_h g_max g_wSlot g_wNear g_wPos g_rSlot g_d : Int32} {y_src y_rec y_len y_bound y_written y_dec : Nat → Int32}
theorem yl_finish {post : Int32 → SY → Prop} {n s : Nat} {A : Nat → Int32} (hn : n ≤ 128) (hs : s < 4) (el : y_len s = nI n) (h1 : g_rSlot = nI s → post (nI n) (g_w, g_h, g_max, ((-1)), g_wNear, (nI n), ((-1)), g_d, y_src, (jl_ov A 128 s n y_written), y_len, y_bound, y_written, y_dec)) (h2 : ¬ g_rSlot = nI s → post (nI n) (g_w, g_h, g_max, ((-1)), g_wNear, (nI n), g_rSlot, g_d, y_src, (jl_ov A 128 s n y_written), y_len, y_bound, y_written, y_dec)) : ∀ (d i fu : Nat), i + d = n → d < fu → wY_finish_47 post (nI s) g_w g_h g_max g_wSlot g_wNear (nI n) g_rSlot g_d fu (nI i) y_src (jl_ov A 128 s i y_written) y_len y_bound y_written y_dec := by
  have hc : (nI s).toNatClampNeg = s := nI_clamp (by omega)
  have hv : vp_in (nI s) 4 := vp_in_nI hs (by omega)
  intro d
  induction d with
  | zero =>
    intro i fu hi hf
    obtain ⟨m, rfl⟩ : ∃ m, fu = m + 1 := ⟨fu - 1, by omega⟩
    have e : i = n := by omega
    subst e
    refine br_t (nI_le (by omega) (by omega)) (br_c (fun z => ⟨hv, ?_⟩) (fun z => ⟨hv, ?_⟩))
    · rw [hc, el]
      exact h1 z
    · rw [hc, el]
      exact h2 z
  | succ d ih =>
    intro i fu hi hf
    obtain ⟨m, rfl⟩ : ∃ m, fu = m + 1 := ⟨fu - 1, by omega⟩
    refine br_f (nI_ge (by omega) (by omega)) ⟨vp_in_nI (by omega) (by omega), jl_recv hs (by omega), nm_r (e' := jl_ov A 128 s (i + 1) y_written) ?_ (nm_r (nI_1 i) (ih (i + 1) m (by omega) (by omega)))⟩
    rw [jl_ova (jl_recc hs (by omega)), nI_clamp (by omega), jl_uid (A := y_written) rfl]
end
theorem i_vc_truncate {k : Nat} {u : SX} {v : SY} (I : i_Rel k u v) (hk : k + 5 ≤ 2563) (v1 : Int32) (v2 : Int32) : wpX_truncate (fun r u' => wpY_truncate (fun r' v' => r' = r ∧ i_Rel (k + 5) u' v') v v1 v2) u v1 v2 := by
  refine jl_el (Q := fun u v => wpX_truncate (fun r u' => wpY_truncate (fun r' v' => r' = r ∧ i_Rel (k + 5) u' v') v v1 v2) u v1 v2) I ?_
  intro f_writer f_reader f_scratch f_writerStream f_streamWords f_streamBits f_cellStride f_contextStride f_interruptionContext f_codeLimit f_resetCount f_greatestOrder f_writerOpen f_writerSlot f_readerOpen f_readerSlot f_column f_left f_above f_aboveLeft f_aboveRight f_context f_sign a_words a_recordBits a_levels a_position a_bitAt a_runIndex a_runCount a_inRun a_runBroken a_magnitude a_biasSum a_correction a_occurrences a_bound a_range a_levelBits a_threshold1 a_threshold2 a_threshold3 a_stream g_wSlot g_wNear g_wPos g_rSlot g_d y_src y_rec y_len y_bound y_written y_dec w h mx F
  have R : i_Rel (k + 5) (f_writer, f_reader, f_scratch, f_writerStream, f_streamWords, f_streamBits, f_cellStride, f_contextStride, f_interruptionContext, f_codeLimit, f_resetCount, f_greatestOrder, (nI w), (nI h), (nI (w * h)), (nI mx), f_writerOpen, f_writerSlot, f_readerOpen, f_readerSlot, f_column, f_left, f_above, f_aboveLeft, f_aboveRight, f_context, f_sign, y_src, a_words, y_len, y_bound, a_recordBits, a_levels, a_position, a_bound, a_range, a_levelBits, a_threshold1, a_threshold2, a_threshold3, a_stream, a_bitAt, a_runIndex, a_runCount, a_inRun, a_runBroken, a_magnitude, a_biasSum, a_correction, a_occurrences) ((nI w), (nI h), (nI mx), g_wSlot, g_wNear, g_wPos, g_rSlot, g_d, y_src, y_rec, y_len, y_bound, y_written, y_dec) := jl_intro F
  obtain ⟨hw, hw2, hh, hh2, hm, hp, hr, hW, hR⟩ := F
  have h128 := jl_wh2 hw2 hh2
  unfold wpX_truncate
  refine xv_isSlot (fun c => br_f jl_b10 ?_) (fun n => br_t rfl ?_)
  · obtain ⟨s, hs, rfl⟩ := id c
    have hv : vp_in (nI s) 4 := vp_in_nI hs (by omega)
    have hc : (nI s).toNatClampNeg = s := nI_clamp (by omega)
    obtain ⟨n, near, N, e1, e2, e3, hn, hne, hne2, hN, ro, sm⟩ := hr s hs
    refine br_c (fun z => ?_) (fun z => ?_)
    · unfold wpY_truncate
      exact yv_isSlot (fun _ => br_f jl_b10 (br_t z ⟨rfl, R⟩)) (fun n => absurd c n)
    · obtain ⟨ln, hln, rfl⟩ := nI_of z
      refine pk_le ln (w * h) (fun y => ⟨hv, ?_⟩) (fun y => ?_)
      · have ey : nI ln ≤ nI w * nI h := by rw [pk_mul]; exact nI_le y (by omega)
        refine pk_eq n 0 (fun t => ?_) (fun t => ⟨hv, ?_⟩) (by rw [hc, e1]) rfl
        · unfold wpY_truncate
          exact yv_isSlot (fun _ => br_f jl_b10 (br_f z (br_t ey ⟨hv, br_t (by rw [hc, e1, t]; rfl) ⟨rfl, R⟩⟩))) (fun n => absurd c n)
        · have et : ¬ y_len (nI s).toNatClampNeg = 0 := by rw [hc, e1]; exact nI_ne0 (by omega) (by omega)
          refine pk_le ln n (fun q => ⟨hv, ?_⟩) (fun q => ?_) rfl (by rw [hc, e1])
          · have eq : nI ln ≤ y_len (nI s).toNatClampNeg := by rw [hc, e1]; exact nI_le q (by omega)
            refine pk_le n ln (fun p => ?_) (fun p => ?_) (by rw [hc, e1]) rfl
            · unfold wpY_truncate
              exact yv_isSlot (fun _ => br_f jl_b10 (br_f z (br_t ey ⟨hv, br_f et ⟨hv, br_t eq ⟨hv, br_t (by rw [hc, e1]; exact nI_le p (by omega)) ⟨rfl, R⟩⟩⟩⟩))) (fun n => absurd c n)
            · have hY : ∀ post : Int32 → SY → Prop, ((g_rSlot = nI s → post (nI ln) ((nI w), (nI h), (nI mx), g_wSlot, g_wNear, g_wPos, ((-1)), g_d, y_src, y_rec, (upd y_len s (nI ln)), y_bound, y_written, y_dec)) ∧ (¬ g_rSlot = nI s → post (nI ln) ((nI w), (nI h), (nI mx), g_wSlot, g_wNear, g_wPos, g_rSlot, g_d, y_src, y_rec, (upd y_len s (nI ln)), y_bound, y_written, y_dec))) → wpY_truncate post ((nI w), (nI h), (nI mx), g_wSlot, g_wNear, g_wPos, g_rSlot, g_d, y_src, y_rec, y_len, y_bound, y_written, y_dec) (nI s) (nI ln) := by
                intro post hq
                unfold wpY_truncate
                exact yv_isSlot (fun _ => br_f jl_b10 (br_f z (br_t ey ⟨hv, br_f et ⟨hv, br_t eq ⟨hv, br_f (by rw [hc, e1]; exact nI_ge p (by omega)) ⟨hv, nm_r (e' := upd y_len s (nI ln)) (by rw [hc]) hq⟩⟩⟩⟩))) (fun n => absurd c n)
              unfold wpX_cutRecord
              refine xb_loadScratch rfl hs e2 (jl_nz hne) (fun a_levels' a_position' a_bitAt' a_runIndex' a_runCount' a_inRun' a_runBroken' a_magnitude' a_biasSum' a_correction' a_occurrences' a_bound' a_range' a_levelBits' a_threshold1' a_threshold2' a_threshold3' a_stream' h1 h2 h3 h4 => ⟨ln + 1, ?_⟩)
              have HD : jl_HD w mx near (w * h) 2 s N n a_words a_recordBits a_bound' a_range' a_levelBits' a_threshold1' a_threshold2' a_threshold3' a_stream' := ⟨by omega, hs, hN, e3, hw, hw2, h128, hn, ro, h2⟩
              refine zl_cut rfl rfl q HD ln 0 (ln + 1) _ _ _ _ _ _ _ _ _ _ _ _ _ _ _ _ _ _ (by omega) (by omega) h1 (fun _ _ _ _ _ _ _ _ _ _ _ _ _ _ _ _ _ _ g2 => ?_)
              have hbit : (jl_dn w mx near (jl_bs a_words s) ln).2.2.1 ≤ 4096 := by
                have g := jl_Dit_bit (P := jl_P w (nI mx) (nI near)) (β := jl_bs a_words s) (c := jl_c0 (jl_size (nI mx) (nI near))) (m := ln) (n - ln)
                rw [show ln + (n - ln) = n by omega] at g
                exact Nat.le_trans g (Nat.le_trans ro.1 hN)
              have hr' : ∀ s', s' < 4 → jl_Rec w (w * h) mx s' a_words (upd y_len s (nI ln)) y_bound (upd a_recordBits s (nI (jl_dn w mx near (jl_bs a_words s) ln).2.2.1)) y_rec := by
                intro s' hs'
                by_cases e : s' = s
                · subst e
                  refine ⟨ln, near, _, pk_us, e2, pk_us, y, hne, hne2, hbit, jl_RO_cut ro q, fun i hi => ?_⟩
                  rw [sm i (by omega)]
                  exact congrArg _ (jl_RO_lev hi q).symm
                · obtain ⟨n', near', N', d1, d2, d3, d4⟩ := hr s' hs'
                  exact ⟨n', near', N', (pk_un e).trans d1, d2, (pk_un e).trans d3, d4⟩
              have hW' := jl_Wr_map (fun c' g => g2 0 c' (by decide) (h3 0 c' (by decide) g)) (fun s' m' n' => h4 0 s' m' n' (by decide)) hW
              obtain ⟨c1, s2, near2, hB, hP, hc1, rfl, hd, h6⟩ := hR
              have hB' := g2 1 _ (by decide) (h3 1 _ (by decide) hB)
              have hP' := h4 1 _ _ _ (by decide) hP
              rcases h6 with ⟨rfl, rfl⟩ | ⟨rfl, hs2, rfl, rfl, eb, hne3, ⟨n2, en, hcn, hn2⟩, ec⟩
              · refine br_t rfl (hY _ ⟨fun x => ?_, fun _ => ⟨rfl, jl_intro ⟨hw, hw2, hh, hh2, hm, hp, hr', hW', ⟨c1, s2, near2, hB', hP', hc1, rfl, hd, Or.inl ⟨rfl, rfl⟩⟩⟩⟩⟩)
                have x' : (-1 : Int32).toInt = (nI s).toInt := by rw [x]
                rw [nI_toInt (by omega), jl_im1] at x'
                omega
              · refine br_f jl_b10 (pk_eq s2 s (fun x => ?_) (fun x => ?_))
                · subst x
                  exact hY _ ⟨fun _ => ⟨rfl, jl_intro ⟨hw, hw2, hh, hh2, hm, hp, hr', hW', ⟨c1, s2, near2, hB', hP', hc1, rfl, hd, Or.inl ⟨rfl, rfl⟩⟩⟩⟩, fun x => absurd rfl x⟩
                · refine hY _ ⟨fun x' => absurd ((nI_eq (by omega) (by omega)).mp x') x, fun _ => ⟨rfl, jl_intro ⟨hw, hw2, hh, hh2, hm, hp, hr', hW', ⟨c1, s2, near2, hB', hP', hc1, rfl, hd, Or.inr ⟨rfl, hs2, rfl, rfl, eb, hne3, ⟨n2, (pk_un x).trans en, hcn, hn2⟩, ec⟩⟩⟩⟩⟩
          · have eq : ¬ nI ln ≤ y_len (nI s).toNatClampNeg := by rw [hc, e1]; exact nI_ge q (by omega)
            unfold wpY_truncate
            exact yv_isSlot (fun _ => br_f jl_b10 (br_f z (br_t ey ⟨hv, br_f et ⟨hv, br_f eq ⟨rfl, R⟩⟩⟩))) (fun n => absurd c n)
      · have ey : ¬ nI ln ≤ nI w * nI h := by rw [pk_mul]; exact nI_ge y (by omega)
        unfold wpY_truncate
        exact yv_isSlot (fun _ => br_f jl_b10 (br_f z (br_f ey ⟨rfl, R⟩))) (fun n => absurd c n)
  · unfold wpY_truncate
    exact yv_isSlot (fun c => absurd c n) (fun _ => br_t rfl ⟨rfl, R⟩)
theorem i_vc_finish {k : Nat} {u : SX} {v : SY} (I : i_Rel k u v) (hk : k + 5 ≤ 2563) : wpX_finish (fun r u' => wpY_finish (fun r' v' => r' = r ∧ i_Rel (k + 5) u' v') v) u := by
  refine jl_el (Q := fun u v => wpX_finish (fun r u' => wpY_finish (fun r' v' => r' = r ∧ i_Rel (k + 5) u' v') v) u) I ?_
  intro f_writer f_reader f_scratch f_writerStream f_streamWords f_streamBits f_cellStride f_contextStride f_interruptionContext f_codeLimit f_resetCount f_greatestOrder f_writerOpen f_writerSlot f_readerOpen f_readerSlot f_column f_left f_above f_aboveLeft f_aboveRight f_context f_sign a_words a_recordBits a_levels a_position a_bitAt a_runIndex a_runCount a_inRun a_runBroken a_magnitude a_biasSum a_correction a_occurrences a_bound a_range a_levelBits a_threshold1 a_threshold2 a_threshold3 a_stream g_wSlot g_wNear g_wPos g_rSlot g_d y_src y_rec y_len y_bound y_written y_dec w h mx F
  have R : i_Rel (k + 5) (f_writer, f_reader, f_scratch, f_writerStream, f_streamWords, f_streamBits, f_cellStride, f_contextStride, f_interruptionContext, f_codeLimit, f_resetCount, f_greatestOrder, (nI w), (nI h), (nI (w * h)), (nI mx), f_writerOpen, f_writerSlot, f_readerOpen, f_readerSlot, f_column, f_left, f_above, f_aboveLeft, f_aboveRight, f_context, f_sign, y_src, a_words, y_len, y_bound, a_recordBits, a_levels, a_position, a_bound, a_range, a_levelBits, a_threshold1, a_threshold2, a_threshold3, a_stream, a_bitAt, a_runIndex, a_runCount, a_inRun, a_runBroken, a_magnitude, a_biasSum, a_correction, a_occurrences) ((nI w), (nI h), (nI mx), g_wSlot, g_wNear, g_wPos, g_rSlot, g_d, y_src, y_rec, y_len, y_bound, y_written, y_dec) := jl_intro F
  obtain ⟨hw, hw2, hh, hh2, hm, hp, hr, hW, hR⟩ := F
  have h128 := jl_wh2 hw2 hh2
  have hm2 := jl_mx_r hm
  rcases hW with ⟨rfl, rfl⟩ | ⟨rfl, s, near, c, hs, rfl, rfl, hn, hn2, rfl, hc, rfl, hB, hP, hWI, hyw⟩
  · exact br_t rfl (br_f (by decide) ⟨rfl, R⟩)
  · have hcs : (nI s).toNatClampNeg = s := nI_clamp (by omega)
    have hv : vp_in (nI s) 4 := vp_in_nI hs (by omega)
    refine br_f jl_b10 (nm_r hB.1 (pk_eq c.1 0 (fun z => ?_) (fun z => ?_)))
    · exact br_t (nI_pos' (by omega)) (br_t (by rw [z]; rfl) ⟨rfl, R⟩)
    · have hPR := jl_PR_e hw hw2 hm2.1 hm2.2 hn hn2
      have fl := jl_flush_law hPR (show c.1 ≤ 128 by omega) hWI
      have hrc : c.2.2.2.2.1 < 100000 := by
        obtain ⟨dir, hL, hD⟩ := hWI
        have a := hL.2.2.1
        omega
      have hY : ∀ post : Int32 → SY → Prop, (g_rSlot = nI s → post (nI c.1) ((nI w), (nI h), (nI mx), ((-1)), (nI near), (nI c.1), ((-1)), g_d, y_src, (jl_ov y_rec 128 s c.1 y_written), (upd y_len s (nI c.1)), (upd y_bound s (nI near)), y_written, y_dec)) → (¬ g_rSlot = nI s → post (nI c.1) ((nI w), (nI h), (nI mx), ((-1)), (nI near), (nI c.1), g_rSlot, g_d, y_src, (jl_ov y_rec 128 s c.1 y_written), (upd y_len s (nI c.1)), (upd y_bound s (nI near)), y_written, y_dec)) → wpY_finish post ((nI w), (nI h), (nI mx), (nI s), (nI near), (nI c.1), g_rSlot, g_d, y_src, y_rec, y_len, y_bound, y_written, y_dec) := by
        intro post q1 q2
        refine br_t (nI_pos' (by omega)) (br_f (nI_ne0 (by omega) (by omega)) ⟨hv, nm_r (e' := upd y_len s (nI c.1)) (by rw [hcs]) ⟨hv, nm_r (e' := upd y_bound s (nI near)) (by rw [hcs]) ⟨c.1 + 1, ?_⟩⟩⟩)
        have g := yl_finish (post := post) (g_wSlot := nI s) (A := y_rec) (by omega) hs pk_us q1 q2 c.1 0 (c.1 + 1) (by omega) (by omega)
        rw [jl_ov0] at g
        exact g
      refine xb_flush hB hrc fl.1 (fun a_bitAt' a_runCount' hb1 hF => ?_)
      refine xb_store rfl hs fl.1 hb1 ?_
      rw [hB.1, hP.1]
      have hus : (c.2.2.1 + (jl_fb c).length + 31) / 32 ≤ 128 := by
        have := fl.1
        omega
      have hso : ∀ s', s' < 4 → s' ≠ s → jl_bs (jl_ov (jl_pbs (jl_fb c) a_words c.2.2.1) 128 s ((c.2.2.1 + (jl_fb c).length + 31) / 32) (fun i => (jl_pbs (jl_fb c) a_words c.2.2.1) (512 + i))) s' = jl_bs a_words s' := fun s' hs' ne => (jl_bs_so hs' ne hus).trans (jl_bs_pbs hs' _ _ _)
      have hss := fl.2 (jl_bs (jl_ov (jl_pbs (jl_fb c) a_words c.2.2.1) 128 s ((c.2.2.1 + (jl_fb c).length + 31) / 32) (fun i => (jl_pbs (jl_fb c) a_words c.2.2.1) (512 + i))) s) (fun k hk => jl_bs_st hs (by omega) hus)
      have hin : ∀ i, i < c.1 → jl_in (jl_R mx near) (c.2.1 i) := by
        obtain ⟨dir, hL, hD⟩ := hWI
        exact hL.2.2.2.2.2.2.2.2.2.2
      generalize jl_ov (jl_pbs (jl_fb c) a_words c.2.2.1) 128 s ((c.2.2.1 + (jl_fb c).length + 31) / 32) (fun i => (jl_pbs (jl_fb c) a_words c.2.2.1) (512 + i)) = W at hso hss ⊢
      have hr' : ∀ s', s' < 4 → jl_Rec w (w * h) mx s' W (upd y_len s (nI c.1)) (upd y_bound s (nI near)) (upd a_recordBits s (nI (c.2.2.1 + (jl_fb c).length))) (jl_ov y_rec 128 s c.1 y_written) := by
        intro s' hs'
        by_cases e : s' = s
        · subst e
          refine ⟨c.1, near, _, pk_us, pk_us, pk_us, hc, hn, hn2, fl.1, ⟨hss.2, fun i hi => ?_⟩, fun i hi => ?_⟩
          · rw [hss.1]
            exact hin i hi
          · rw [jl_ovr rfl hi, hyw i hi]
            exact congrArg _ (congrFun hss.1 i).symm
        · obtain ⟨n', near', N', d1, d2, d3, d4, d5, d6, d7, d8, d9⟩ := hr s' hs'
          refine ⟨n', near', N', (pk_un e).trans d1, (pk_un e).trans d2, (pk_un e).trans d3, d4, d5, d6, d7, by rw [hso s' hs' e]; exact d8, fun i hi => ?_⟩
          rw [hso s' hs' e, jl_ovo e (by omega) (by omega)]
          exact d9 i hi
      obtain ⟨c1, s2, near2, hB1, hP1, hc1, rfl, hd, h6⟩ := hR
      have hB' := hF 1 _ (by decide) hB1
      rcases h6 with ⟨rfl, rfl⟩ | ⟨rfl, hs2, rfl, rfl, eb, hne3, ⟨n2, en, hcn, hn3⟩, ec⟩
      · refine br_t rfl (hY _ (fun x => ?_) (fun _ => ⟨rfl, jl_intro ⟨hw, hw2, hh, hh2, hm, hp, hr', Or.inl ⟨rfl, rfl⟩, ⟨c1, s2, near2, hB', hP1, hc1, rfl, hd, Or.inl ⟨rfl, rfl⟩⟩⟩⟩))
        have x' : (-1 : Int32).toInt = (nI s).toInt := by rw [x]
        rw [nI_toInt (by omega), jl_im1] at x'
        omega
      · refine br_f jl_b10 (pk_eq s2 s (fun x => ?_) (fun x => ?_))
        · subst x
          exact hY _ (fun _ => ⟨rfl, jl_intro ⟨hw, hw2, hh, hh2, hm, hp, hr', Or.inl ⟨rfl, rfl⟩, ⟨c1, s2, near2, hB', hP1, hc1, rfl, hd, Or.inl ⟨rfl, rfl⟩⟩⟩⟩) (fun x => absurd rfl x)
        · refine hY _ (fun x' => absurd ((nI_eq (by omega) (by omega)).mp x') x) (fun _ => ⟨rfl, jl_intro ⟨hw, hw2, hh, hh2, hm, hp, hr', Or.inl ⟨rfl, rfl⟩, ⟨c1, s2, near2, hB', hP1, hc1, rfl, hd, Or.inr ⟨rfl, hs2, rfl, rfl, (pk_un x).trans eb, hne3, ⟨n2, (pk_un x).trans en, hcn, hn3⟩, by rw [hso s2 hs2 x]; exact ec⟩⟩⟩⟩)
end
section
/-! ===== ramp, noise, box ===== -/
def jl_fill (base : Nat) (g : Nat → Int32) : Nat → Nat → (Nat → Int32) → (Nat → Int32)
  | 0, _, A => A
  | d + 1, i, A => jl_fill base g d (i + 1) (upd A (base + i) (g i))
theorem jl_upd_in {M k : Nat} {A : Nat → Int32} {x : Int32} (h : ∀ j, jl_in M (A j)) (hx : jl_in M x) : ∀ j, jl_in M (upd A k x j) := by
  intro j
  by_cases e : j = k
  · rw [e, pk_us]; exact hx
  · rw [pk_un e]; exact h j
theorem jl_fill_in {base M : Nat} {g : Nat → Int32} (hg : ∀ i, jl_in M (g i)) : ∀ (d i : Nat) (A : Nat → Int32), (∀ j, jl_in M (A j)) → ∀ j, jl_in M (jl_fill base g d i A j) := by
  intro d
  induction d with
  | zero => intro i A h j; exact h j
  | succ d ih => intro i A h j; exact ih (i + 1) _ (jl_upd_in h (hg i)) j
def jl_nz1 (mx : Nat) (s : Int32) : Int32 := ((s.toUInt32 >>> ((16 : Int32).toUInt32 &&& Int32.toUInt32 31)).toInt32) &&& nI mx
def jl_filn (base mx : Nat) : Nat → Nat → Int32 → (Nat → Int32) → (Nat → Int32)
  | 0, _, _, A => A
  | d + 1, i, s, A => jl_filn base mx d (i + 1) ((s * 1103515245) + 12345) (upd A (base + i) (jl_nz1 mx ((s * 1103515245) + 12345)))
theorem jl_filn_in {base mx : Nat} (hm : jl_mx mx) : ∀ (d i : Nat) (s : Int32) (A : Nat → Int32), (∀ j, jl_in (mx + 1) (A j)) → ∀ j, jl_in (mx + 1) (jl_filn base mx d i s A j) := by
  intro d
  induction d with
  | zero => intro i s A h j; exact h j
  | succ d ih => intro i s A h j; exact ih (i + 1) _ _ (jl_upd_in h (jl_mx_and hm _)) j
theorem jl_rowv {w h y i : Nat} (hw2 : w ≤ 16) (hh2 : h ≤ 8) (hy : y < h) (hi : i < w) : vp_in ((nI y * nI w) + nI i) 128 ∧ ((nI y * nI w) + nI i).toNatClampNeg = y * w + i := by
  have g := jl_wh hw2 hh2 hi hy
  rw [jl_ix (h := h)]
  exact ⟨vp_in_nI (by omega) (by omega), nI_clamp (by omega)⟩
section
variable {f_writer f_reader f_scratch f_writerStream f_streamWords f_streamBits f_cellStride f_contextStride f_interruptionContext f_codeLimit f_resetCount f_greatestOrder f_width f_height f_cells f_max f_writerOpen f_writerSlot f_readerOpen f_readerSlot f_column f_left f_above f_aboveLeft f_aboveRight f_context f_sign : Int32} {a_picture a_words a_recordLength a_recordBound a_recordBits a_levels a_position a_bound a_range a_levelBits a_threshold1 a_threshold2 a_threshold3 a_stream a_bitAt a_runIndex a_runCount a_inRun a_runBroken a_magnitude a_biasSum a_correction a_occurrences : Nat → Int32} {w h mx y : Nat} {x2 x3 : Int32}
theorem xl_ramp {post : Int32 → SX → Prop} (hw2 : w ≤ 16) (hh2 : h ≤ 8) (hy : y < h) : ∀ (d i fu : Nat) (A : Nat → Int32), i + d = w → d < fu → post 0 (f_writer, f_reader, f_scratch, f_writerStream, f_streamWords, f_streamBits, f_cellStride, f_contextStride, f_interruptionContext, f_codeLimit, f_resetCount, f_greatestOrder, (nI w), f_height, f_cells, (nI mx), f_writerOpen, f_writerSlot, f_readerOpen, f_readerSlot, f_column, f_left, f_above, f_aboveLeft, f_aboveRight, f_context, f_sign, (jl_fill (y * w) (fun i => (x2 + (x3 * nI i)) &&& nI mx) d i A), a_words, a_recordLength, a_recordBound, a_recordBits, a_levels, a_position, a_bound, a_range, a_levelBits, a_threshold1, a_threshold2, a_threshold3, a_stream, a_bitAt, a_runIndex, a_runCount, a_inRun, a_runBroken, a_magnitude, a_biasSum, a_correction, a_occurrences) → wX_ramp_17 post (nI y) x2 x3 f_writer f_reader f_scratch f_writerStream f_streamWords f_streamBits f_cellStride f_contextStride f_interruptionContext f_codeLimit f_resetCount f_greatestOrder (nI w) f_height f_cells (nI mx) f_writerOpen f_writerSlot f_readerOpen f_readerSlot f_column f_left f_above f_aboveLeft f_aboveRight f_context f_sign fu (nI i) A a_words a_recordLength a_recordBound a_recordBits a_levels a_position a_bound a_range a_levelBits a_threshold1 a_threshold2 a_threshold3 a_stream a_bitAt a_runIndex a_runCount a_inRun a_runBroken a_magnitude a_biasSum a_correction a_occurrences := by
  intro d
  induction d with
  | zero =>
    intro i fu A hi hf hq
    obtain ⟨m, rfl⟩ : ∃ m, fu = m + 1 := ⟨fu - 1, by omega⟩
    exact br_t (nI_le (by omega) (by omega)) hq
  | succ d ih =>
    intro i fu A hi hf hq
    obtain ⟨m, rfl⟩ : ∃ m, fu = m + 1 := ⟨fu - 1, by omega⟩
    have g := jl_rowv hw2 hh2 hy (show i < w by omega)
    exact br_f (nI_ge (by omega) (by omega)) ⟨g.1, nm_r (e' := upd A (y * w + i) ((x2 + (x3 * nI i)) &&& nI mx)) (by rw [g.2]) (nm_r (nI_1 i) (ih (i + 1) m _ (by omega) (by omega) hq))⟩
theorem xl_noise {post : Int32 → SX → Prop} (hw2 : w ≤ 16) (hh2 : h ≤ 8) (hy : y < h) : ∀ (d i fu : Nat) (s : Int32) (A : Nat → Int32), i + d = w → d < fu → post 0 (f_writer, f_reader, f_scratch, f_writerStream, f_streamWords, f_streamBits, f_cellStride, f_contextStride, f_interruptionContext, f_codeLimit, f_resetCount, f_greatestOrder, (nI w), f_height, f_cells, (nI mx), f_writerOpen, f_writerSlot, f_readerOpen, f_readerSlot, f_column, f_left, f_above, f_aboveLeft, f_aboveRight, f_context, f_sign, (jl_filn (y * w) mx d i s A), a_words, a_recordLength, a_recordBound, a_recordBits, a_levels, a_position, a_bound, a_range, a_levelBits, a_threshold1, a_threshold2, a_threshold3, a_stream, a_bitAt, a_runIndex, a_runCount, a_inRun, a_runBroken, a_magnitude, a_biasSum, a_correction, a_occurrences) → wX_noise_19 post (nI y) f_writer f_reader f_scratch f_writerStream f_streamWords f_streamBits f_cellStride f_contextStride f_interruptionContext f_codeLimit f_resetCount f_greatestOrder (nI w) f_height f_cells (nI mx) f_writerOpen f_writerSlot f_readerOpen f_readerSlot f_column f_left f_above f_aboveLeft f_aboveRight f_context f_sign fu s (nI i) A a_words a_recordLength a_recordBound a_recordBits a_levels a_position a_bound a_range a_levelBits a_threshold1 a_threshold2 a_threshold3 a_stream a_bitAt a_runIndex a_runCount a_inRun a_runBroken a_magnitude a_biasSum a_correction a_occurrences := by
  intro d
  induction d with
  | zero =>
    intro i fu s A hi hf hq
    obtain ⟨m, rfl⟩ : ∃ m, fu = m + 1 := ⟨fu - 1, by omega⟩
    exact br_t (nI_le (by omega) (by omega)) hq
  | succ d ih =>
    intro i fu s A hi hf hq
    obtain ⟨m, rfl⟩ : ∃ m, fu = m + 1 := ⟨fu - 1, by omega⟩
    have g := jl_rowv hw2 hh2 hy (show i < w by omega)
    exact br_f (nI_ge (by omega) (by omega)) (nm_e ⟨g.1, nm_r (e' := upd A (y * w + i) (jl_nz1 mx ((s * 1103515245) + 12345))) (by rw [g.2]; rfl) (nm_r (nI_1 i) (ih (i + 1) m _ _ (by omega) (by omega) hq))⟩)
end
section
variable {g_w g_h g_max g_wSlot g_wNear g_wPos g_rSlot g_d : Int32} {y_src y_rec y_len y_bound y_written y_dec : Nat → Int32} {w h mx y : Nat} {x2 x3 : Int32}
theorem yl_ramp {post : Int32 → SY → Prop} (hw2 : w ≤ 16) (hh2 : h ≤ 8) (hy : y < h) : ∀ (d i fu : Nat) (A : Nat → Int32), i + d = w → d < fu → post 0 ((nI w), g_h, (nI mx), g_wSlot, g_wNear, g_wPos, g_rSlot, g_d, (jl_fill (y * w) (fun i => (x2 + (x3 * nI i)) &&& nI mx) d i A), y_rec, y_len, y_bound, y_written, y_dec) → wY_ramp_17 post (nI y) x2 x3 (nI w) g_h (nI mx) g_wSlot g_wNear g_wPos g_rSlot g_d fu (nI i) A y_rec y_len y_bound y_written y_dec := by
  intro d
  induction d with
  | zero =>
    intro i fu A hi hf hq
    obtain ⟨m, rfl⟩ : ∃ m, fu = m + 1 := ⟨fu - 1, by omega⟩
    exact br_t (nI_le (by omega) (by omega)) hq
  | succ d ih =>
    intro i fu A hi hf hq
    obtain ⟨m, rfl⟩ : ∃ m, fu = m + 1 := ⟨fu - 1, by omega⟩
    have g := jl_rowv hw2 hh2 hy (show i < w by omega)
    exact br_f (nI_ge (by omega) (by omega)) ⟨g.1, nm_r (e' := upd A (y * w + i) ((x2 + (x3 * nI i)) &&& nI mx)) (by rw [g.2]) (nm_r (nI_1 i) (ih (i + 1) m _ (by omega) (by omega) hq))⟩
theorem yl_noise {post : Int32 → SY → Prop} (hw2 : w ≤ 16) (hh2 : h ≤ 8) (hy : y < h) : ∀ (d i fu : Nat) (s : Int32) (A : Nat → Int32), i + d = w → d < fu → post 0 ((nI w), g_h, (nI mx), g_wSlot, g_wNear, g_wPos, g_rSlot, g_d, (jl_filn (y * w) mx d i s A), y_rec, y_len, y_bound, y_written, y_dec) → wY_noise_19 post (nI y) (nI w) g_h (nI mx) g_wSlot g_wNear g_wPos g_rSlot g_d fu s (nI i) A y_rec y_len y_bound y_written y_dec := by
  intro d
  induction d with
  | zero =>
    intro i fu s A hi hf hq
    obtain ⟨m, rfl⟩ : ∃ m, fu = m + 1 := ⟨fu - 1, by omega⟩
    exact br_t (nI_le (by omega) (by omega)) hq
  | succ d ih =>
    intro i fu s A hi hf hq
    obtain ⟨m, rfl⟩ : ∃ m, fu = m + 1 := ⟨fu - 1, by omega⟩
    have g := jl_rowv hw2 hh2 hy (show i < w by omega)
    exact br_f (nI_ge (by omega) (by omega)) (nm_e ⟨g.1, nm_r (e' := upd A (y * w + i) (jl_nz1 mx ((s * 1103515245) + 12345))) (by rw [g.2]; rfl) (nm_r (nI_1 i) (ih (i + 1) m _ _ (by omega) (by omega) hq))⟩)
end
theorem i_vc_ramp {k : Nat} {u : SX} {v : SY} (I : i_Rel k u v) (hk : k + 5 ≤ 2563) (v1 : Int32) (v2 : Int32) (v3 : Int32) : wpX_ramp (fun r u' => wpY_ramp (fun r' v' => r' = r ∧ i_Rel (k + 5) u' v') v v1 v2 v3) u v1 v2 v3 := by
  refine jl_el (Q := fun u v => wpX_ramp (fun r u' => wpY_ramp (fun r' v' => r' = r ∧ i_Rel (k + 5) u' v') v v1 v2 v3) u v1 v2 v3) I ?_
  intro f_writer f_reader f_scratch f_writerStream f_streamWords f_streamBits f_cellStride f_contextStride f_interruptionContext f_codeLimit f_resetCount f_greatestOrder f_writerOpen f_writerSlot f_readerOpen f_readerSlot f_column f_left f_above f_aboveLeft f_aboveRight f_context f_sign a_words a_recordBits a_levels a_position a_bitAt a_runIndex a_runCount a_inRun a_runBroken a_magnitude a_biasSum a_correction a_occurrences a_bound a_range a_levelBits a_threshold1 a_threshold2 a_threshold3 a_stream g_wSlot g_wNear g_wPos g_rSlot g_d y_src y_rec y_len y_bound y_written y_dec w h mx F
  have R : i_Rel (k + 5) (f_writer, f_reader, f_scratch, f_writerStream, f_streamWords, f_streamBits, f_cellStride, f_contextStride, f_interruptionContext, f_codeLimit, f_resetCount, f_greatestOrder, (nI w), (nI h), (nI (w * h)), (nI mx), f_writerOpen, f_writerSlot, f_readerOpen, f_readerSlot, f_column, f_left, f_above, f_aboveLeft, f_aboveRight, f_context, f_sign, y_src, a_words, y_len, y_bound, a_recordBits, a_levels, a_position, a_bound, a_range, a_levelBits, a_threshold1, a_threshold2, a_threshold3, a_stream, a_bitAt, a_runIndex, a_runCount, a_inRun, a_runBroken, a_magnitude, a_biasSum, a_correction, a_occurrences) ((nI w), (nI h), (nI mx), g_wSlot, g_wNear, g_wPos, g_rSlot, g_d, y_src, y_rec, y_len, y_bound, y_written, y_dec) := jl_intro F
  obtain ⟨hw, hw2, hh, hh2, hm, hp, hr, hW, hR⟩ := F
  refine br_c (fun z => br_t z ⟨rfl, R⟩) (fun z => ?_)
  obtain ⟨y, hy, rfl⟩ := nI_of z
  refine pk_lt y h (fun g => ⟨w + 1, xl_ramp hw2 hh2 g w 0 (w + 1) y_src (by omega) (by omega) (br_f z (br_t (nI_lt g (by omega)) ⟨w + 1, yl_ramp hw2 hh2 g w 0 (w + 1) y_src (by omega) (by omega) ⟨rfl, jl_intro ⟨hw, hw2, hh, hh2, hm, jl_fill_in (fun i => jl_mx_and hm _) w 0 y_src hp, hr, hW, hR⟩⟩⟩))⟩) (fun g => br_f z (br_f (nI_nlt g (by omega)) ⟨rfl, R⟩))
theorem i_vc_noise {k : Nat} {u : SX} {v : SY} (I : i_Rel k u v) (hk : k + 5 ≤ 2563) (v1 : Int32) (v2 : Int32) : wpX_noise (fun r u' => wpY_noise (fun r' v' => r' = r ∧ i_Rel (k + 5) u' v') v v1 v2) u v1 v2 := by
  refine jl_el (Q := fun u v => wpX_noise (fun r u' => wpY_noise (fun r' v' => r' = r ∧ i_Rel (k + 5) u' v') v v1 v2) u v1 v2) I ?_
  intro f_writer f_reader f_scratch f_writerStream f_streamWords f_streamBits f_cellStride f_contextStride f_interruptionContext f_codeLimit f_resetCount f_greatestOrder f_writerOpen f_writerSlot f_readerOpen f_readerSlot f_column f_left f_above f_aboveLeft f_aboveRight f_context f_sign a_words a_recordBits a_levels a_position a_bitAt a_runIndex a_runCount a_inRun a_runBroken a_magnitude a_biasSum a_correction a_occurrences a_bound a_range a_levelBits a_threshold1 a_threshold2 a_threshold3 a_stream g_wSlot g_wNear g_wPos g_rSlot g_d y_src y_rec y_len y_bound y_written y_dec w h mx F
  have R : i_Rel (k + 5) (f_writer, f_reader, f_scratch, f_writerStream, f_streamWords, f_streamBits, f_cellStride, f_contextStride, f_interruptionContext, f_codeLimit, f_resetCount, f_greatestOrder, (nI w), (nI h), (nI (w * h)), (nI mx), f_writerOpen, f_writerSlot, f_readerOpen, f_readerSlot, f_column, f_left, f_above, f_aboveLeft, f_aboveRight, f_context, f_sign, y_src, a_words, y_len, y_bound, a_recordBits, a_levels, a_position, a_bound, a_range, a_levelBits, a_threshold1, a_threshold2, a_threshold3, a_stream, a_bitAt, a_runIndex, a_runCount, a_inRun, a_runBroken, a_magnitude, a_biasSum, a_correction, a_occurrences) ((nI w), (nI h), (nI mx), g_wSlot, g_wNear, g_wPos, g_rSlot, g_d, y_src, y_rec, y_len, y_bound, y_written, y_dec) := jl_intro F
  obtain ⟨hw, hw2, hh, hh2, hm, hp, hr, hW, hR⟩ := F
  refine br_c (fun z => br_t z ⟨rfl, R⟩) (fun z => ?_)
  obtain ⟨y, hy, rfl⟩ := nI_of z
  refine pk_lt y h (fun g => ⟨w + 1, xl_noise hw2 hh2 g w 0 (w + 1) v2 y_src (by omega) (by omega) (br_f z (br_t (nI_lt g (by omega)) ⟨w + 1, yl_noise hw2 hh2 g w 0 (w + 1) v2 y_src (by omega) (by omega) ⟨rfl, jl_intro ⟨hw, hw2, hh, hh2, hm, jl_filn_in hm w 0 v2 y_src hp, hr, hW, hR⟩⟩⟩))⟩) (fun g => br_f z (br_f (nI_nlt g (by omega)) ⟨rfl, R⟩))
/-! box: the cells of the square that lie ahead of place (b, i) -/
def jl_bx (w x y r t : Nat) (v : Int32) (A : Nat → Int32) (b i : Nat) : Nat → Int32 := fun j => if (y ≤ j / w ∧ j / w < t ∧ x ≤ j % w ∧ j % w < r) ∧ (j / w < b ∨ (j / w = b ∧ j % w < i)) then v else A j
theorem jl_bx_c {w x y r t b i b' i' : Nat} {v : Int32} {A : Nat → Int32} (h : ∀ p q : Nat, q < w → (((y ≤ p ∧ p < t ∧ x ≤ q ∧ q < r) ∧ (p < b ∨ (p = b ∧ q < i))) ↔ ((y ≤ p ∧ p < t ∧ x ≤ q ∧ q < r) ∧ (p < b' ∨ (p = b' ∧ q < i'))))) (hw : 0 < w) : jl_bx w x y r t v A b i = jl_bx w x y r t v A b' i' := by
  funext j
  unfold jl_bx
  have g := h (j / w) (j % w) (Nat.mod_lt _ hw)
  by_cases z : (y ≤ j / w ∧ j / w < t ∧ x ≤ j % w ∧ j % w < r) ∧ (j / w < b ∨ (j / w = b ∧ j % w < i))
  · rw [if_pos z, if_pos (g.mp z)]
  · rw [if_neg z, if_neg (fun y => z (g.mpr y))]
theorem jl_bx_0 {w x y r t b i : Nat} {v : Int32} {A : Nat → Int32} (h : ∀ p q : Nat, ¬ ((y ≤ p ∧ p < t ∧ x ≤ q ∧ q < r) ∧ (p < b ∨ (p = b ∧ q < i)))) : jl_bx w x y r t v A b i = A := by
  funext j
  exact if_neg (h _ _)
theorem jl_bx_s {w x y r t b i n : Nat} {v : Int32} {A : Nat → Int32} (hw : 0 < w) (hn : n = b * w + i) (hb : y ≤ b) (hb2 : b < t) (hi : x ≤ i) (hi2 : i < r) (hr : r ≤ w) : upd (jl_bx w x y r t v A b i) n v = jl_bx w x y r t v A b (i + 1) := by
  subst hn
  funext j
  have e := Nat.div_add_mod' j w
  have d1 : (b * w + i) / w = b := by rw [Nat.add_comm, Nat.add_mul_div_right _ _ hw, Nat.div_eq_of_lt (by omega), Nat.zero_add]
  have d2 : (b * w + i) % w = i := by rw [Nat.add_comm, Nat.add_mul_mod_self_right, Nat.mod_eq_of_lt (by omega)]
  by_cases z : j = b * w + i
  · subst z
    rw [pk_us]
    unfold jl_bx
    rw [d1, d2, if_pos ⟨⟨hb, hb2, hi, hi2⟩, Or.inr ⟨rfl, by omega⟩⟩]
  · rw [pk_un z]
    have ne : ¬ (j / w = b ∧ j % w = i) := by
      rintro ⟨h1, h2⟩
      rw [h1, h2] at e
      exact z e.symm
    unfold jl_bx
    generalize j / w = p at ne ⊢
    generalize j % w = q at ne ⊢
    by_cases g : (y ≤ p ∧ p < t ∧ x ≤ q ∧ q < r) ∧ (p < b ∨ (p = b ∧ q < i))
    · rw [if_pos g, if_pos (by omega)]
    · rw [if_neg g, if_neg (by omega)]
theorem jl_bx_in {w x y r t b i M : Nat} {v : Int32} {A : Nat → Int32} (hv : jl_in M v) (h : ∀ j, jl_in M (A j)) : ∀ j, jl_in M (jl_bx w x y r t v A b i j) := by
  intro j
  unfold jl_bx
  split
  · exact hv
  · exact h j
section
variable {f_writer f_reader f_scratch f_writerStream f_streamWords f_streamBits f_cellStride f_contextStride f_interruptionContext f_codeLimit f_resetCount f_greatestOrder f_width f_height f_cells f_max f_writerOpen f_writerSlot f_readerOpen f_readerSlot f_column f_left f_above f_aboveLeft f_aboveRight f_context f_sign : Int32} {a_picture a_words a_recordLength a_recordBound a_recordBits a_levels a_position a_bound a_range a_levelBits a_threshold1 a_threshold2 a_threshold3 a_stream a_bitAt a_runIndex a_runCount a_inRun a_runBroken a_magnitude a_biasSum a_correction a_occurrences : Nat → Int32} {w h x y r t : Nat} {v : Int32} {A : Nat → Int32}
theorem xl_box75 {post : Int32 → SX → Prop} {J : Int32 → (Nat → Int32) → (Nat → Int32) → (Nat → Int32) → (Nat → Int32) → (Nat → Int32) → (Nat → Int32) → (Nat → Int32) → (Nat → Int32) → (Nat → Int32) → (Nat → Int32) → (Nat → Int32) → (Nat → Int32) → (Nat → Int32) → (Nat → Int32) → (Nat → Int32) → (Nat → Int32) → (Nat → Int32) → (Nat → Int32) → (Nat → Int32) → (Nat → Int32) → (Nat → Int32) → (Nat → Int32) → (Nat → Int32) → Prop} {b : Nat} (hw : 0 < w) (hw2 : w ≤ 16) (hh2 : h ≤ 8) (hb : y ≤ b) (hb2 : b < t) (ht : t ≤ h) (hr : r ≤ w) (hJ : J (nI (b + 1)) (jl_bx w x y r t v A (b + 1) x) a_words a_recordLength a_recordBound a_recordBits a_levels a_position a_bound a_range a_levelBits a_threshold1 a_threshold2 a_threshold3 a_stream a_bitAt a_runIndex a_runCount a_inRun a_runBroken a_magnitude a_biasSum a_correction a_occurrences) : ∀ (d i fu : Nat), i + d = r → d < fu → x ≤ i → wX_box_75 post J (nI x) (nI y) v (nI r) (nI t) (nI b) f_writer f_reader f_scratch f_writerStream f_streamWords f_streamBits f_cellStride f_contextStride f_interruptionContext f_codeLimit f_resetCount f_greatestOrder (nI w) f_height f_cells f_max f_writerOpen f_writerSlot f_readerOpen f_readerSlot f_column f_left f_above f_aboveLeft f_aboveRight f_context f_sign fu (nI i) (jl_bx w x y r t v A b i) a_words a_recordLength a_recordBound a_recordBits a_levels a_position a_bound a_range a_levelBits a_threshold1 a_threshold2 a_threshold3 a_stream a_bitAt a_runIndex a_runCount a_inRun a_runBroken a_magnitude a_biasSum a_correction a_occurrences := by
  intro d
  induction d with
  | zero =>
    intro i fu hi hf hx
    obtain ⟨m, rfl⟩ : ∃ m, fu = m + 1 := ⟨fu - 1, by omega⟩
    refine br_t (nI_le (by omega) (by omega)) (nm_r (nI_1 b) ?_)
    rw [jl_bx_c (b' := b + 1) (i' := x) (fun p q hq => by omega) hw]
    exact hJ
  | succ d ih =>
    intro i fu hi hf hx
    obtain ⟨m, rfl⟩ : ∃ m, fu = m + 1 := ⟨fu - 1, by omega⟩
    have g := jl_rowv (i := i) hw2 hh2 (show b < h by omega) (show i < w by omega)
    exact br_f (nI_ge (by omega) (by omega)) ⟨g.1, nm_r (jl_bx_s hw g.2 hb hb2 hx (by omega) hr) (nm_r (nI_1 i) (ih (i + 1) m (by omega) (by omega) (by omega)))⟩
theorem xl_box65 {post : Int32 → SX → Prop} (hw : 0 < w) (hw2 : w ≤ 16) (hh2 : h ≤ 8) (hx : x < r) (hr : r ≤ w) (hy : y < t) (ht : t ≤ h) (hq : post (nI ((r - x) * (t - y))) (f_writer, f_reader, f_scratch, f_writerStream, f_streamWords, f_streamBits, f_cellStride, f_contextStride, f_interruptionContext, f_codeLimit, f_resetCount, f_greatestOrder, (nI w), f_height, f_cells, f_max, f_writerOpen, f_writerSlot, f_readerOpen, f_readerSlot, f_column, f_left, f_above, f_aboveLeft, f_aboveRight, f_context, f_sign, (jl_bx w x y r t v A t x), a_words, a_recordLength, a_recordBound, a_recordBits, a_levels, a_position, a_bound, a_range, a_levelBits, a_threshold1, a_threshold2, a_threshold3, a_stream, a_bitAt, a_runIndex, a_runCount, a_inRun, a_runBroken, a_magnitude, a_biasSum, a_correction, a_occurrences)) : ∀ (d b fu : Nat), b + d = t → d < fu → y ≤ b → wX_box_65 post (nI x) (nI y) v (nI r) (nI t) f_writer f_reader f_scratch f_writerStream f_streamWords f_streamBits f_cellStride f_contextStride f_interruptionContext f_codeLimit f_resetCount f_greatestOrder (nI w) f_height f_cells f_max f_writerOpen f_writerSlot f_readerOpen f_readerSlot f_column f_left f_above f_aboveLeft f_aboveRight f_context f_sign fu (nI b) (jl_bx w x y r t v A b x) a_words a_recordLength a_recordBound a_recordBits a_levels a_position a_bound a_range a_levelBits a_threshold1 a_threshold2 a_threshold3 a_stream a_bitAt a_runIndex a_runCount a_inRun a_runBroken a_magnitude a_biasSum a_correction a_occurrences := by
  intro d
  induction d with
  | zero =>
    intro b fu hb hf hyb
    obtain ⟨m, rfl⟩ : ∃ m, fu = m + 1 := ⟨fu - 1, by omega⟩
    have e : b = t := by omega
    subst e
    refine br_t (nI_le (by omega) (by omega)) ?_
    rw [pk_sub (by omega), pk_sub (by omega), pk_mul]
    exact hq
  | succ d ih =>
    intro b fu hb hf hyb
    obtain ⟨m, rfl⟩ : ∃ m, fu = m + 1 := ⟨fu - 1, by omega⟩
    exact br_f (nI_ge (by omega) (by omega)) ⟨r - x + 1, xl_box75 hw hw2 hh2 hyb (by omega) ht hr (ih (b + 1) m (by omega) (by omega) (by omega)) (r - x) x (r - x + 1) (by omega) (by omega) (Nat.le_refl _)⟩
end
/-! counting the cells -/
def jl_cr (y t b : Nat) : Nat := if b ≤ y then 0 else (if b ≤ t then b - y else t - y)
def jl_cn (x y r t b i : Nat) : Nat := jl_cr y t b * (r - x) + (if y ≤ b ∧ b < t then jl_cr x r i else 0)
theorem jl_cn_s {x y r t b i : Nat} (hb : y ≤ b) (hb2 : b < t) (hi : x ≤ i) (hi2 : i < r) : jl_cn x y r t b i + 1 = jl_cn x y r t b (i + 1) := by
  unfold jl_cn
  rw [if_pos ⟨hb, hb2⟩, if_pos ⟨hb, hb2⟩]
  have e : jl_cr x r i + 1 = jl_cr x r (i + 1) := by
    unfold jl_cr
    rw [if_neg (show ¬ i + 1 ≤ x by omega), if_pos (show i + 1 ≤ r by omega)]
    by_cases z : i ≤ x
    · rw [if_pos z]; omega
    · rw [if_neg z, if_pos (show i ≤ r by omega)]; omega
  omega
theorem jl_cn_k {x y r t b i : Nat} (h : ¬ ((y ≤ b ∧ b < t) ∧ (x ≤ i ∧ i < r))) (hxr : x ≤ r) : jl_cn x y r t b i = jl_cn x y r t b (i + 1) := by
  unfold jl_cn
  by_cases g : y ≤ b ∧ b < t
  · rw [if_pos g, if_pos g]
    have e : jl_cr x r i = jl_cr x r (i + 1) := by
      unfold jl_cr
      by_cases z : i + 1 ≤ x
      · rw [if_pos z, if_pos (show i ≤ x by omega)]
      · rw [if_neg z, if_neg (show ¬ i + 1 ≤ r by omega)]
        by_cases y : i ≤ x
        · rw [if_pos y]; omega
        · rw [if_neg y]
          by_cases q : i ≤ r
          · rw [if_pos q]; omega
          · rw [if_neg q]
    rw [e]
  · rw [if_neg g, if_neg g]
theorem jl_cn_r {x y r t b w : Nat} (hr : r ≤ w) (hx : x ≤ r) : jl_cn x y r t b w = jl_cn x y r t (b + 1) 0 := by
  unfold jl_cn
  have e0 : jl_cr x r 0 = 0 := by unfold jl_cr; rw [if_pos (Nat.zero_le _)]
  have ew : jl_cr x r w = r - x := by
    unfold jl_cr
    by_cases z : w ≤ x
    · rw [if_pos z]; omega
    · rw [if_neg z]
      by_cases q : w ≤ r
      · rw [if_pos q]; omega
      · rw [if_neg q]
  rw [e0, ew]
  have e1 : (if y ≤ b + 1 ∧ b + 1 < t then 0 else 0) = 0 := by split <;> rfl
  rw [e1, Nat.add_zero]
  by_cases g : y ≤ b ∧ b < t
  · rw [if_pos g]
    have e : jl_cr y t (b + 1) = jl_cr y t b + 1 := by
      unfold jl_cr
      rw [if_neg (show ¬ b + 1 ≤ y by omega), if_pos (show b + 1 ≤ t by omega)]
      by_cases z : b ≤ y
      · rw [if_pos z]; omega
      · rw [if_neg z, if_pos (show b ≤ t by omega)]; omega
    rw [e, Nat.succ_mul]
  · rw [if_neg g, Nat.add_zero]
    have e : jl_cr y t (b + 1) = jl_cr y t b := by
      unfold jl_cr
      by_cases z : b + 1 ≤ y
      · rw [if_pos z, if_pos (show b ≤ y by omega)]
      · rw [if_neg z, if_neg (show ¬ b + 1 ≤ t by omega)]
        by_cases q : b ≤ y
        · rw [if_pos q]; omega
        · rw [if_neg q]
          by_cases p : b ≤ t
          · rw [if_pos p]; omega
          · rw [if_neg p]
    rw [e]
theorem jl_cn_0 {x y r t : Nat} : jl_cn x y r t 0 0 = 0 := by
  unfold jl_cn jl_cr
  rw [if_pos (Nat.zero_le _), if_pos (Nat.zero_le _), Nat.zero_mul]
  split <;> rfl
theorem jl_cn_e {x y r t h : Nat} (hy : y < t) (ht : t ≤ h) : jl_cn x y r t h 0 = (r - x) * (t - y) := by
  unfold jl_cn
  have e : jl_cr y t h = t - y := by
    unfold jl_cr
    rw [if_neg (by omega)]
    by_cases z : h ≤ t
    · rw [if_pos z]; omega
    · rw [if_neg z]
  rw [e, if_neg (by omega), Nat.add_zero, Nat.mul_comm]
section
variable {g_w g_h g_max g_wSlot g_wNear g_wPos g_rSlot g_d : Int32} {y_src y_rec y_len y_bound y_written y_dec : Nat → Int32} {w h x y r t sz : Nat} {v : Int32} {A : Nat → Int32}
theorem yl_box54 {post : Int32 → SY → Prop} {J : Int32 → Int32 → (Nat → Int32) → (Nat → Int32) → (Nat → Int32) → (Nat → Int32) → (Nat → Int32) → (Nat → Int32) → Prop} {b : Nat} (hw : 0 < w) (hw2 : w ≤ 16) (hh2 : h ≤ 8) (hb : b < h) (hsz : sz ≤ 16) (hx : x < w) (hy : y < h) (hr : r ≤ w) (hxr : x ≤ r) (er : ∀ a : Nat, a < w → (a < r ↔ a < x + sz)) (et : b < t ↔ b < y + sz) (hJ : J (nI (jl_cn x y r t (b + 1) 0)) (nI (b + 1)) (jl_bx w x y r t v A (b + 1) 0) y_rec y_len y_bound y_written y_dec) : ∀ (d i fu : Nat), i + d = w → d < fu → wY_box_54 post J (nI x) (nI y) (nI sz) v (nI b) (nI w) g_h g_max g_wSlot g_wNear g_wPos g_rSlot g_d fu (nI (jl_cn x y r t b i)) (nI i) (jl_bx w x y r t v A b i) y_rec y_len y_bound y_written y_dec := by
  intro d
  induction d with
  | zero =>
    intro i fu hi hf
    obtain ⟨m, rfl⟩ : ∃ m, fu = m + 1 := ⟨fu - 1, by omega⟩
    have e : i = w := by omega
    subst e
    refine br_t (nI_le (by omega) (by omega)) (nm_r (nI_1 b) ?_)
    rw [jl_bx_c (b' := b + 1) (i' := 0) (fun p q hq => by omega) hw, jl_cn_r hr hxr]
    exact hJ
  | succ d ih =>
    intro i fu hi hf
    obtain ⟨m, rfl⟩ : ∃ m, fu = m + 1 := ⟨fu - 1, by omega⟩
    have ih' := ih (i + 1) m (by omega) (by omega)
    have eri := er i (by omega)
    have skip : ¬ ((y ≤ b ∧ b < t) ∧ (x ≤ i ∧ i < r)) → wY_box_54 post J (nI x) (nI y) (nI sz) v (nI b) (nI w) g_h g_max g_wSlot g_wNear g_wPos g_rSlot g_d m (nI (jl_cn x y r t b i)) (nI (i + 1)) (jl_bx w x y r t v A b i) y_rec y_len y_bound y_written y_dec := by
      intro hn
      rw [jl_cn_k hn hxr, jl_bx_c (b' := b) (i' := i + 1) (fun p q hq => by omega) hw]
      exact ih'
    have g := jl_rowv (i := i) hw2 hh2 hb (show i < w by omega)
    refine br_f (nI_ge (by omega) (by omega)) (pk_lt i x (fun z => nm_r (nI_1 i) (skip (by omega))) (fun z => pk_le (x + sz) i (fun z2 => nm_r (nI_1 i) (skip (by omega))) (fun z2 => pk_lt b y (fun z3 => nm_r (nI_1 i) (skip (by omega))) (fun z3 => pk_le (y + sz) b (fun z4 => nm_r (nI_1 i) (skip (by omega))) (fun z4 => ?_) (nI_add y sz) rfl)) (nI_add x sz) rfl))
    refine ⟨g.1, nm_r (jl_bx_s hw g.2 z3 (by omega) z (by omega) hr) (nm_r (e' := nI (jl_cn x y r t b (i + 1))) ?_ (nm_r (nI_1 i) ih'))⟩
    rw [nI_1, jl_cn_s z3 (by omega) z (by omega)]
theorem yl_box42 {post : Int32 → SY → Prop} (hw : 0 < w) (hw2 : w ≤ 16) (hh2 : h ≤ 8) (hsz : sz ≤ 16) (hx : x < w) (hy : y < h) (hr : r ≤ w) (hxr : x ≤ r) (er : ∀ a : Nat, a < w → (a < r ↔ a < x + sz)) (et : ∀ b : Nat, b < h → (b < t ↔ b < y + sz)) (hq : post (nI (jl_cn x y r t h 0)) ((nI w), (nI h), g_max, g_wSlot, g_wNear, g_wPos, g_rSlot, g_d, (jl_bx w x y r t v A h 0), y_rec, y_len, y_bound, y_written, y_dec)) : ∀ (d b fu : Nat), b + d = h → d < fu → wY_box_42 post (nI x) (nI y) (nI sz) v (nI w) (nI h) g_max g_wSlot g_wNear g_wPos g_rSlot g_d fu (nI (jl_cn x y r t b 0)) (nI b) (jl_bx w x y r t v A b 0) y_rec y_len y_bound y_written y_dec := by
  intro d
  induction d with
  | zero =>
    intro b fu hb hf
    obtain ⟨m, rfl⟩ : ∃ m, fu = m + 1 := ⟨fu - 1, by omega⟩
    have e : b = h := by omega
    subst e
    exact br_t (nI_le (by omega) (by omega)) hq
  | succ d ih =>
    intro b fu hb hf
    obtain ⟨m, rfl⟩ : ∃ m, fu = m + 1 := ⟨fu - 1, by omega⟩
    exact br_f (nI_ge (by omega) (by omega)) ⟨w + 1, yl_box54 hw hw2 hh2 (show b < h by omega) hsz hx hy hr hxr er (et b (by omega)) (ih (b + 1) m (by omega) (by omega)) w 0 (w + 1) (by omega) (by omega)⟩
end
theorem jl_min_e {a b : Nat} (ha : a < 2 ^ 31) (hb : b < 2 ^ 31) : jl_min (nI a) (nI b) = nI (if b ≤ a then b else a) := by
  unfold jl_min
  by_cases z : b ≤ a
  · rw [if_pos z, if_pos (nI_le z ha)]
  · rw [if_neg z, if_neg (nI_ge (by omega) hb)]
theorem i_vc_box {k : Nat} {u : SX} {v : SY} (I : i_Rel k u v) (hk : k + 5 ≤ 2563) (v1 : Int32) (v2 : Int32) (v3 : Int32) (v4 : Int32) : wpX_box (fun r u' => wpY_box (fun r' v' => r' = r ∧ i_Rel (k + 5) u' v') v v1 v2 v3 v4) u v1 v2 v3 v4 := by
  refine jl_el (Q := fun u v => wpX_box (fun r u' => wpY_box (fun r' v' => r' = r ∧ i_Rel (k + 5) u' v') v v1 v2 v3 v4) u v1 v2 v3 v4) I ?_
  intro f_writer f_reader f_scratch f_writerStream f_streamWords f_streamBits f_cellStride f_contextStride f_interruptionContext f_codeLimit f_resetCount f_greatestOrder f_writerOpen f_writerSlot f_readerOpen f_readerSlot f_column f_left f_above f_aboveLeft f_aboveRight f_context f_sign a_words a_recordBits a_levels a_position a_bitAt a_runIndex a_runCount a_inRun a_runBroken a_magnitude a_biasSum a_correction a_occurrences a_bound a_range a_levelBits a_threshold1 a_threshold2 a_threshold3 a_stream g_wSlot g_wNear g_wPos g_rSlot g_d y_src y_rec y_len y_bound y_written y_dec w h mx F
  have R : i_Rel (k + 5) (f_writer, f_reader, f_scratch, f_writerStream, f_streamWords, f_streamBits, f_cellStride, f_contextStride, f_interruptionContext, f_codeLimit, f_resetCount, f_greatestOrder, (nI w), (nI h), (nI (w * h)), (nI mx), f_writerOpen, f_writerSlot, f_readerOpen, f_readerSlot, f_column, f_left, f_above, f_aboveLeft, f_aboveRight, f_context, f_sign, y_src, a_words, y_len, y_bound, a_recordBits, a_levels, a_position, a_bound, a_range, a_levelBits, a_threshold1, a_threshold2, a_threshold3, a_stream, a_bitAt, a_runIndex, a_runCount, a_inRun, a_runBroken, a_magnitude, a_biasSum, a_correction, a_occurrences) ((nI w), (nI h), (nI mx), g_wSlot, g_wNear, g_wPos, g_rSlot, g_d, y_src, y_rec, y_len, y_bound, y_written, y_dec) := jl_intro F
  obtain ⟨hw, hw2, hh, hh2, hm, hp, hr, hW, hR⟩ := F
  have hm2 := jl_mx_r hm
  unfold wpX_box
  refine xv_inPic hw2 hh2 (fun c => br_f jl_b10 (br_c (fun z1 => ?_) (fun z1 => br_c (fun z2 => ?_) (fun z2 => br_c (fun z3 => ?_) (fun z3 => br_c (fun z4 => ?_) (fun z4 => ?_)))))) (fun n => br_t rfl ?_)
  · unfold wpY_box
    exact yv_isCell hw2 hh2 (fun _ => br_f jl_b10 (br_t z1 ⟨rfl, R⟩)) (fun n => absurd c n)
  · unfold wpY_box
    exact yv_isCell hw2 hh2 (fun _ => br_f jl_b10 (br_f z1 (br_t z2 ⟨rfl, R⟩))) (fun n => absurd c n)
  · unfold wpY_box
    exact yv_isCell hw2 hh2 (fun _ => br_f jl_b10 (br_f z1 (br_f z2 (br_t z3 ⟨rfl, R⟩)))) (fun n => absurd c n)
  · obtain ⟨x, y, hx, hy, rfl, rfl⟩ := id c
    obtain ⟨sz, hsz, rfl⟩ := nI_of (x := v3) (fun q => z1 (by rw [jl_ilt, jl_i0] at q; rw [jl_ilt, jl_i1]; omega))
    have hs1 : 1 ≤ sz := by
      rcases Nat.eq_zero_or_pos sz with e | e
      · subst e
        exact absurd (show nI 0 < 1 by decide) z1
      · exact e
    have hs2 : sz ≤ 16 := by
      rcases Nat.lt_or_ge 16 sz with e | e
      · exact absurd (nI_lt (a := 16) e hsz) z2
      · exact e
    have hv4 : jl_in (mx + 1) v4 := by
      rw [jl_ilt, jl_i0] at z3
      rw [jl_ile, nI_toInt (by omega)] at z4
      exact ⟨by omega, by omega⟩
    refine xv_smaller ?_
    rw [nI_add, jl_min_e (by omega) (by omega)]
    refine xv_smaller ?_
    rw [nI_add, jl_min_e (by omega) (by omega)]
    have er : ∀ a : Nat, a < w → (a < (if w ≤ x + sz then w else x + sz) ↔ a < x + sz) := by
      intro a ha
      split <;> omega
    have et : ∀ b : Nat, b < h → (b < (if h ≤ y + sz then h else y + sz) ↔ b < y + sz) := by
      intro b hb
      split <;> omega
    have hr1 : (if w ≤ x + sz then w else x + sz) ≤ w := by split <;> omega
    have hr2 : x < (if w ≤ x + sz then w else x + sz) := by split <;> omega
    have ht1 : (if h ≤ y + sz then h else y + sz) ≤ h := by split <;> omega
    have ht2 : y < (if h ≤ y + sz then h else y + sz) := by split <;> omega
    generalize (if w ≤ x + sz then w else x + sz) = r at er hr1 hr2 ⊢
    generalize (if h ≤ y + sz then h else y + sz) = t at et ht1 ht2 ⊢
    have b0 : jl_bx w x y r t v4 y_src y x = y_src := jl_bx_0 (fun p q => by omega)
    have b1 : jl_bx w x y r t v4 y_src 0 0 = y_src := jl_bx_0 (fun p q => by omega)
    have b2 : jl_bx w x y r t v4 y_src h 0 = jl_bx w x y r t v4 y_src t x := jl_bx_c (fun p q hq => by omega) hw
    have hY : ∀ post : Int32 → SY → Prop, post (nI ((r - x) * (t - y))) ((nI w), (nI h), (nI mx), g_wSlot, g_wNear, g_wPos, g_rSlot, g_d, (jl_bx w x y r t v4 y_src t x), y_rec, y_len, y_bound, y_written, y_dec) → wpY_box post ((nI w), (nI h), (nI mx), g_wSlot, g_wNear, g_wPos, g_rSlot, g_d, y_src, y_rec, y_len, y_bound, y_written, y_dec) (nI x) (nI y) (nI sz) v4 := by
      intro post hq
      unfold wpY_box
      refine yv_isCell hw2 hh2 (fun _ => br_f jl_b10 (br_f z1 (br_f z2 (br_f z3 (br_t z4 ⟨h + 1, ?_⟩))))) (fun n => absurd c n)
      rw [← b2, ← jl_cn_e ht2 ht1] at hq
      have g := yl_box42 (post := post) (g_max := nI mx) (A := y_src) (v := v4) hw hw2 hh2 hs2 hx hy hr1 (by omega) er et hq h 0 (h + 1) (by omega) (by omega)
      rw [b1, jl_cn_0] at g
      exact g
    have gx := fun post hq => xl_box65 (post := post) (f_height := nI h) (f_cells := nI (w * h)) (f_max := nI mx) (f_writer := f_writer) (f_reader := f_reader) (f_scratch := f_scratch) (f_writerStream := f_writerStream) (f_streamWords := f_streamWords) (f_streamBits := f_streamBits) (f_cellStride := f_cellStride) (f_contextStride := f_contextStride) (f_interruptionContext := f_interruptionContext) (f_codeLimit := f_codeLimit) (f_resetCount := f_resetCount) (f_greatestOrder := f_greatestOrder) (f_writerOpen := f_writerOpen) (f_writerSlot := f_writerSlot) (f_readerOpen := f_readerOpen) (f_readerSlot := f_readerSlot) (f_column := f_column) (f_left := f_left) (f_above := f_above) (f_aboveLeft := f_aboveLeft) (f_aboveRight := f_aboveRight) (f_context := f_context) (f_sign := f_sign) (a_words := a_words) (a_recordLength := y_len) (a_recordBound := y_bound) (a_recordBits := a_recordBits) (a_levels := a_levels) (a_position := a_position) (a_bound := a_bound) (a_range := a_range) (a_levelBits := a_levelBits) (a_threshold1 := a_threshold1) (a_threshold2 := a_threshold2) (a_threshold3 := a_threshold3) (a_stream := a_stream) (a_bitAt := a_bitAt) (a_runIndex := a_runIndex) (a_runCount := a_runCount) (a_inRun := a_inRun) (a_runBroken := a_runBroken) (a_magnitude := a_magnitude) (a_biasSum := a_biasSum) (a_correction := a_correction) (a_occurrences := a_occurrences) (v := v4) (A := y_src) hw hw2 hh2 hr2 hr1 ht2 ht1 hq (t - y) y (t - y + 1) (by omega) (by omega) (Nat.le_refl _)
    rw [b0] at gx
    refine ⟨t - y + 1, gx _ (hY _ ⟨rfl, jl_intro ⟨hw, hw2, hh, hh2, hm, jl_bx_in hv4 hp, hr, hW, hR⟩⟩)⟩
  · unfold wpY_box
    exact yv_isCell hw2 hh2 (fun _ => br_f jl_b10 (br_f z1 (br_f z2 (br_f z3 (br_f z4 ⟨rfl, R⟩))))) (fun n => absurd c n)
  · unfold wpY_box
    exact yv_isCell hw2 hh2 (fun c => absurd c n) (fun _ => br_t rfl ⟨rfl, R⟩)
end
