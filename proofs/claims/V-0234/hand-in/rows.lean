section
/-! pure rows to paste: stores, nI and lN arithmetic, masks, shifts, narrowing, branches by naturals (pk_le, pk_lt, pk_eq), loops (lp1 .. lp16: the measure of the state; rp1 ..: recursion), negatives. Take what you need -/
theorem pk_us {f : Nat → Int32} {k : Nat} {x : Int32} : upd f k x k = x := if_pos rfl
theorem pk_un {f : Nat → Int32} {k j : Nat} {x : Int32} (h : j ≠ k) : upd f k x j = f j := if_neg h
theorem pk_uLs {f : Nat → Int64} {k : Nat} {x : Int64} : vp_updL f k x k = x := if_pos rfl
theorem pk_uLn {f : Nat → Int64} {k j : Nat} {x : Int64} (h : j ≠ k) : vp_updL f k x j = f j := if_neg h
theorem pk_sub {a b : Nat} (h : b ≤ a) : nI a - nI b = nI (a - b) := by
  obtain ⟨c, rfl⟩ : ∃ c, a = c + b := ⟨a - b, by omega⟩
  rw [← nI_add, Int32.add_sub_cancel, Nat.add_sub_cancel]
theorem pk_m1 (n : Nat) : nI (n + 1) + (-1) = nI n := by
  rw [← nI_1, Int32.add_assoc, show (1 : Int32) + (-1) = 0 from rfl, Int32.add_zero]
theorem pk_mul (a b : Nat) : nI a * nI b = nI (a * b) := (Int32.ofNat_mul a b).symm
theorem pk_div {a d : Nat} (ha : a < 2 ^ 31) (h0 : 0 < d) (hd : d < 2 ^ 31) : nI a / nI d = nI (a / d) := by
  apply Int32.toInt_inj.mp
  rw [lg_idiv_nonneg (by rw [nI_toInt ha]; omega) (by rw [nI_toInt hd]; omega), nI_toInt ha, nI_toInt hd, nI_toInt (Nat.lt_of_le_of_lt (Nat.div_le_self a d) ha)]
  first | rfl | exact (Int.natCast_ediv _ _).symm
theorem pk_rem {a d : Nat} (ha : a < 2 ^ 31) (h0 : 0 < d) (hd : d < 2 ^ 31) : nI a - nI a / nI d * nI d = nI (a % d) := by
  rw [pk_div ha h0 hd, pk_mul, pk_sub (Nat.div_mul_le_self a d)]
  exact congrArg nI (by have := Nat.div_add_mod' a d; omega)
theorem pk_sub_toInt {a b : Nat} (ha : a < 2 ^ 30) (hb : b < 2 ^ 30) : (nI a - nI b).toInt = (a : Int) - b := by
  rw [Int32.toInt_sub, nI_toInt (by omega), nI_toInt (by omega)]
  exact Int.bmod_eq_of_le (by omega) (by omega)
theorem pk_sneg {a b : Nat} (hb : b < 2 ^ 30) (h : a < b) : nI a - nI b < 0 := by
  rw [Int32.lt_iff_toInt_lt, pk_sub_toInt (by omega) hb, show (0 : Int32).toInt = 0 from by decide]
  omega
theorem pk_ix (x : Int32) {n : Nat} (hn : n < 2 ^ 31) : x < 0 ∨ nI n ≤ x ∨ ∃ j : Nat, j < n ∧ x = nI j := by
  by_cases h : x < 0
  · exact Or.inl h
  · obtain ⟨j, hj, rfl⟩ := nI_of h
    by_cases h2 : j < n
    · exact Or.inr (Or.inr ⟨j, h2, rfl⟩)
    · exact Or.inr (Or.inl (nI_le (by omega) hj))
theorem pk_le {x y : Int32} {A B : Prop} (a b : Nat) (f : a ≤ b → A) (g : b < a → B) (hx : x = nI a := by rfl) (hy : y = nI b := by rfl) (ha : a < 2 ^ 31 := by omega) (hb : b < 2 ^ 31 := by omega) : (x ≤ y → A) ∧ (¬ x ≤ y → B) := by
  subst hx hy
  rw [nI_leI ha hb]
  exact ⟨f, fun z => g (by omega)⟩
theorem pk_lt {x y : Int32} {A B : Prop} (a b : Nat) (f : a < b → A) (g : b ≤ a → B) (hx : x = nI a := by rfl) (hy : y = nI b := by rfl) (ha : a < 2 ^ 31 := by omega) (hb : b < 2 ^ 31 := by omega) : (x < y → A) ∧ (¬ x < y → B) := by
  subst hx hy
  rw [nI_ltI ha hb]
  exact ⟨f, fun z => g (by omega)⟩
theorem pk_eq {x y : Int32} {A B : Prop} (a b : Nat) (f : a = b → A) (g : a ≠ b → B) (hx : x = nI a := by rfl) (hy : y = nI b := by rfl) (ha : a < 2 ^ 31 := by omega) (hb : b < 2 ^ 31 := by omega) : (x = y → A) ∧ (¬ x = y → B) := by
  subst hx hy
  rw [nI_eq ha hb]
  exact ⟨f, g⟩
theorem pk_in {x : Int32} (n N : Nat) (h : n < N) (hx : x = nI n := by rfl) (hN : N < 2 ^ 31 := by omega) : vp_in x N := by
  subst hx
  exact vp_in_nI h hN
theorem pk_cl {x : Int32} (n : Nat) (hx : x = nI n := by rfl) (h : n < 2 ^ 31 := by omega) : x.toNatClampNeg = n := by
  subst hx
  exact nI_clamp h
theorem pk_tn {n : Nat} (h : n < 2 ^ 32) : (nI n).toBitVec.toNat = n := Nat.mod_eq_of_lt h
theorem pk_and (x : Int32) {m : Int32} (k : Nat) (hm : m.toBitVec.toNat = 2 ^ k - 1) : x &&& m = nI (x.toBitVec.toNat % 2 ^ k) := by
  apply Int32.toBitVec_inj.mp
  apply BitVec.eq_of_toNat_eq
  rw [Int32.toBitVec_and, BitVec.toNat_and, hm, Nat.and_two_pow_sub_one_eq_mod]
  show _ = (BitVec.ofNat 32 _).toNat
  rw [BitVec.toNat_ofNat]
  exact (Nat.mod_eq_of_lt (Nat.lt_of_le_of_lt (Nat.mod_le _ _) x.toBitVec.isLt)).symm
theorem pk_andN {n : Nat} (h : n < 2 ^ 32) {m : Int32} (k : Nat) (hm : m.toBitVec.toNat = 2 ^ k - 1) : nI n &&& m = nI (n % 2 ^ k) := by
  rw [pk_and _ k hm, pk_tn h]
theorem pk_andE (x : Int32) {m : Int32} (k : Nat) (hm : m.toBitVec.toNat = 2 ^ k - 1) : ∃ j : Nat, j < 2 ^ k ∧ x &&& m = nI j := ⟨_, Nat.mod_lt _ (Nat.two_pow_pos k), pk_and x k hm⟩
theorem pk_andIn (x : Int32) {m : Int32} (k : Nat) (hm : m.toBitVec.toNat = 2 ^ k - 1) (hk : k ≤ 30) : vp_in (x &&& m) (2 ^ k) := by
  obtain ⟨j, hj, e⟩ := pk_andE x k hm
  rw [e]
  exact vp_in_nI hj (Nat.lt_of_le_of_lt (Nat.pow_le_pow_right (by decide) hk) (by decide))
theorem pk_shl (a s : Int32) (k : Nat) (hs : (s.toBitVec.smod 32).toNat = k) : (a <<< s).toBitVec.toNat = a.toBitVec.toNat * 2 ^ k % 2 ^ 32 := by
  show (a.toBitVec <<< (s.toBitVec.smod 32).toNat).toNat = _
  rw [hs, BitVec.toNat_shiftLeft, Nat.shiftLeft_eq]
theorem pk_shlN {n : Nat} (s : Int32) (k : Nat) (hs : (s.toBitVec.smod 32).toNat = k) (h : n * 2 ^ k < 2 ^ 32) : nI n <<< s = nI (n * 2 ^ k) := by
  apply Int32.toBitVec_inj.mp
  apply BitVec.eq_of_toNat_eq
  have hn : n < 2 ^ 32 := Nat.lt_of_le_of_lt (Nat.le_mul_of_pos_right n (Nat.two_pow_pos k)) h
  rw [pk_shl _ _ k hs, pk_tn hn, pk_tn h, Nat.mod_eq_of_lt h]
theorem pk_shr (a s : Int32) (k : Nat) (hs : (s.toBitVec.smod 32).toNat = k) : (a >>> s).toInt = a.toInt >>> k := by
  show (a.toBitVec.sshiftRight (s.toBitVec.smod 32).toNat).toInt = _
  rw [hs, BitVec.toInt_sshiftRight]
  rfl
theorem pk_shrN {n : Nat} (h : n < 2 ^ 31) (s : Int32) (k : Nat) (hs : (s.toBitVec.smod 32).toNat = k) : nI n >>> s = nI (n / 2 ^ k) := by
  apply Int32.toInt_inj.mp
  have h2 : n / 2 ^ k ≤ n := Nat.div_le_self _ _
  rw [pk_shr _ _ k hs, nI_toInt h, nI_toInt (by omega), Int.shiftRight_eq_div_pow]
  rfl
theorem pk_ushr (x s : Int32) (k : Nat) (hs : ((s.toUInt32 &&& Int32.toUInt32 31).toBitVec % 32).toNat = k) : (x.toUInt32 >>> (s.toUInt32 &&& Int32.toUInt32 31)).toInt32.toBitVec.toNat = x.toBitVec.toNat / 2 ^ k := by
  have e : (x.toUInt32 >>> (s.toUInt32 &&& Int32.toUInt32 31)).toInt32.toBitVec = x.toBitVec >>> k := by
    rw [← hs]
    exact UInt32.toBitVec_shiftRight _ _
  rw [e, BitVec.toNat_ushiftRight, Nat.shiftRight_eq_div_pow]
theorem pk_ushrN {n : Nat} (hn : n < 2 ^ 32) (s : Int32) (k : Nat) (hs : ((s.toUInt32 &&& Int32.toUInt32 31).toBitVec % 32).toNat = k) : ((nI n).toUInt32 >>> (s.toUInt32 &&& Int32.toUInt32 31)).toInt32 = nI (n / 2 ^ k) := by
  apply Int32.toBitVec_inj.mp
  apply BitVec.eq_of_toNat_eq
  rw [pk_ushr _ s k hs, pk_tn hn, pk_tn (Nat.lt_of_le_of_lt (Nat.div_le_self _ _) hn)]
theorem pk_least (P : Nat → Prop) (h : ∃ k, P k) : ∃ k, P k ∧ ∀ j, j < k → ¬ P j := by
  obtain ⟨k, hk⟩ := h
  induction k using Nat.strongRecOn with
  | ind k ih =>
    by_cases e : ∃ j, j < k ∧ P j
    · obtain ⟨j, hj, pj⟩ := e
      exact ih j hj pj
    · exact ⟨k, hk, fun j hj pj => e ⟨j, hj, pj⟩⟩
/-! ===== Int32 by its bits: bt x i ===== -/
def bt (x : Int32) (i : Nat) : Bool := x.toBitVec.getLsbD i
theorem b_ext {x y : Int32} (h : ∀ i, i < 32 → bt x i = bt y i) : x = y := Int32.toBitVec_inj.mp (BitVec.eq_of_getLsbD_eq (fun i hi => h i hi))
theorem b_or (x y : Int32) (i : Nat) : bt (x ||| y) i = (bt x i || bt y i) := by unfold bt; rw [Int32.toBitVec_or, BitVec.getLsbD_or]
theorem b_and (x y : Int32) (i : Nat) : bt (x &&& y) i = (bt x i && bt y i) := by unfold bt; rw [Int32.toBitVec_and, BitVec.getLsbD_and]
theorem b_xor (x y : Int32) (i : Nat) : bt (x ^^^ y) i = (bt x i ^^ bt y i) := by unfold bt; rw [Int32.toBitVec_xor, BitVec.getLsbD_xor]
theorem b_big {x : Int32} {i : Nat} (h : 32 ≤ i) : bt x i = false := BitVec.getLsbD_of_ge _ _ h
theorem b_255 (i : Nat) : bt 255 i = decide (i < 8) := by
  rcases Nat.lt_or_ge i 32 with h | h
  · exact (by decide +kernel : ∀ i, i < 32 → bt 255 i = decide (i < 8)) i h
  · rw [b_big h, decide_eq_false (by omega)]
theorem b_65535 (i : Nat) : bt 65535 i = decide (i < 16) := by
  rcases Nat.lt_or_ge i 32 with h | h
  · exact (by decide +kernel : ∀ i, i < 32 → bt 65535 i = decide (i < 16)) i h
  · rw [b_big h, decide_eq_false (by omega)]
theorem b_m1 : ∀ i, i < 32 → bt (-1) i = true := by decide +kernel
theorem b_0 (i : Nat) : bt 0 i = false := BitVec.getLsbD_zero
theorem s_l : ∀ n, n < 32 → ((nI n &&& 31).toBitVec.smod 32).toNat = n := by decide +kernel
theorem s_u : ∀ n, n < 32 → (((nI n).toUInt32 &&& Int32.toUInt32 31).toBitVec % 32).toNat = n := by decide +kernel
theorem b_shl (n : Nat) (hn : n < 32) (x : Int32) {i : Nat} (hi : i < 32) : bt (x <<< (nI n &&& 31)) i = (decide (n ≤ i) && bt x (i - n)) := by
  unfold bt
  rw [Int32.toBitVec_shiftLeft]
  show (x.toBitVec <<< ((nI n &&& 31).toBitVec.smod 32).toNat).getLsbD i = _
  rw [s_l n hn, BitVec.getLsbD_shiftLeft]
  rcases Nat.lt_or_ge i n with h | h
  · simp [h, Nat.not_le.mpr h]
  · simp [hi, h, Nat.not_lt.mpr h]
theorem b_ushr (n : Nat) (hn : n < 32) (x : Int32) (i : Nat) : bt ((x.toUInt32 >>> ((nI n).toUInt32 &&& Int32.toUInt32 31)).toInt32) i = bt x (n + i) := by
  show (x.toUInt32 >>> ((nI n).toUInt32 &&& Int32.toUInt32 31)).toBitVec.getLsbD i = x.toUInt32.toBitVec.getLsbD (n + i)
  rw [UInt32.toBitVec_shiftRight]
  show (x.toUInt32.toBitVec >>> (((nI n).toUInt32 &&& Int32.toUInt32 31).toBitVec % 32).toNat).getLsbD i = _
  rw [s_u n hn, BitVec.getLsbD_ushiftRight]
theorem b_sshr (n : Nat) (hn : n < 32) (x : Int32) {i : Nat} (hi : i < 32) : bt (x >>> (nI n &&& 31)) i = if n + i < 32 then bt x (n + i) else bt x 31 := by
  unfold bt
  rw [Int32.toBitVec_shiftRight]
  show (x.toBitVec.sshiftRight ((nI n &&& 31).toBitVec.smod 32).toNat).getLsbD i = _
  rw [s_l n hn, BitVec.getLsbD_sshiftRight, BitVec.msb_eq_getLsbD_last]
  simp [hi]
theorem b_shl8 (x : Int32) {i : Nat} (hi : i < 32) : bt (x <<< ((8 : Int32) &&& 31)) i = (decide (8 ≤ i) && bt x (i - 8)) := b_shl 8 (by omega) x hi
theorem b_shl16 (x : Int32) {i : Nat} (hi : i < 32) : bt (x <<< ((16 : Int32) &&& 31)) i = (decide (16 ≤ i) && bt x (i - 16)) := b_shl 16 (by omega) x hi
theorem b_shl24 (x : Int32) {i : Nat} (hi : i < 32) : bt (x <<< ((24 : Int32) &&& 31)) i = (decide (24 ≤ i) && bt x (i - 24)) := b_shl 24 (by omega) x hi
theorem b_sshr8 (x : Int32) {i : Nat} (hi : i < 32) : bt (x >>> ((8 : Int32) &&& 31)) i = if 8 + i < 32 then bt x (8 + i) else bt x 31 := b_sshr 8 (by omega) x hi
/-! ===== nI under and, xor, >>>, one bit, 65535 ===== -/
theorem nx_and (a b : Nat) : nI a &&& nI b = nI (a &&& b) := by
  apply Int32.toBitVec_inj.1
  show BitVec.ofNat 32 a &&& BitVec.ofNat 32 b = BitVec.ofNat 32 (a &&& b)
  apply BitVec.eq_of_getLsbD_eq
  intro i hi
  simp [hi]
theorem nx_xor (a b : Nat) : nI a ^^^ nI b = nI (a ^^^ b) := by
  apply Int32.toBitVec_inj.1
  show BitVec.ofNat 32 a ^^^ BitVec.ofNat 32 b = BitVec.ofNat 32 (a ^^^ b)
  apply BitVec.eq_of_getLsbD_eq
  intro i hi
  simp [hi]
end
section
/-! ===== the field of 256 elements ===== -/
abbrev gf_K : Type := BitVec 8
def gf_xt (a : gf_K) : gf_K := (a <<< 1) ^^^ (if a.getLsbD 7 then 29#8 else 0#8)
def gf_sel (c : Bool) (a : gf_K) : gf_K := if c then a else 0#8
def gf_xs : Nat → gf_K → gf_K
  | 0, a => a
  | n + 1, a => gf_xt (gf_xs n a)
def gf_pm : Nat → gf_K → gf_K → gf_K
  | 0, _, _ => 0#8
  | n + 1, a, b => gf_pm n a b ^^^ gf_sel (b.getLsbD n) (gf_xs n a)
def gf_mu (a b : gf_K) : gf_K := gf_pm 8 a b
theorem gf_x4 (a b c d : gf_K) : (a ^^^ b) ^^^ (c ^^^ d) = (a ^^^ c) ^^^ (b ^^^ d) := by ac_rfl
theorem gf_xx (a : gf_K) : a ^^^ a = 0#8 := BitVec.xor_self
theorem gf_x0 (a : gf_K) : a ^^^ 0#8 = a := BitVec.xor_zero
theorem gf_0x (a : gf_K) : 0#8 ^^^ a = a := BitVec.zero_xor
theorem gf_xc (a b : gf_K) : a ^^^ b = b ^^^ a := BitVec.xor_comm a b
theorem gf_xa (a b c : gf_K) : a ^^^ b ^^^ c = a ^^^ (b ^^^ c) := BitVec.xor_assoc a b c
theorem gf_xxl (a b : gf_K) : a ^^^ (a ^^^ b) = b := by rw [← gf_xa, gf_xx, gf_0x]
theorem gf_eq0 {a b : gf_K} (h : a ^^^ b = 0#8) : a = b := by
  have := gf_xxl b a
  rw [gf_xc b a, h, gf_x0] at this
  exact this.symm
theorem gf_xt_add (a b : gf_K) : gf_xt (a ^^^ b) = gf_xt a ^^^ gf_xt b := by
  unfold gf_xt
  rw [BitVec.getLsbD_xor, BitVec.shiftLeft_xor_distrib]
  have e : ∀ c d : Bool, (if (c ^^ d) = true then 29#8 else 0#8) = (if c = true then 29#8 else 0#8) ^^^ (if d = true then 29#8 else 0#8) := by decide
  rw [e, gf_x4]
theorem gf_xs_add (n : Nat) (a b : gf_K) : gf_xs n (a ^^^ b) = gf_xs n a ^^^ gf_xs n b := by
  induction n with
  | zero => rfl
  | succ n ih => show gf_xt (gf_xs n (a ^^^ b)) = _; rw [ih, gf_xt_add]; rfl
theorem gf_sel_x (c : Bool) (a b : gf_K) : gf_sel c (a ^^^ b) = gf_sel c a ^^^ gf_sel c b := by
  cases c
  · exact (gf_x0 _).symm
  · rfl
theorem gf_selx (c d : Bool) (a : gf_K) : gf_sel (c ^^ d) a = gf_sel c a ^^^ gf_sel d a := by
  cases c <;> cases d
  · exact (gf_x0 _).symm
  · exact (gf_0x _).symm
  · exact (gf_x0 _).symm
  · exact (gf_xx _).symm
theorem gf_sel0 (c : Bool) : gf_sel c 0#8 = 0#8 := by cases c <;> rfl
theorem gf_pm_l (n : Nat) (a b c : gf_K) : gf_pm n (a ^^^ b) c = gf_pm n a c ^^^ gf_pm n b c := by
  induction n with
  | zero => exact (gf_x0 _).symm
  | succ n ih =>
    show gf_pm n (a ^^^ b) c ^^^ gf_sel (c.getLsbD n) (gf_xs n (a ^^^ b)) = (gf_pm n a c ^^^ gf_sel (c.getLsbD n) (gf_xs n a)) ^^^ (gf_pm n b c ^^^ gf_sel (c.getLsbD n) (gf_xs n b))
    rw [ih, gf_xs_add, gf_sel_x, gf_x4]
theorem gf_pm_r (n : Nat) (a b c : gf_K) : gf_pm n a (b ^^^ c) = gf_pm n a b ^^^ gf_pm n a c := by
  induction n with
  | zero => exact (gf_x0 _).symm
  | succ n ih =>
    show gf_pm n a (b ^^^ c) ^^^ gf_sel ((b ^^^ c).getLsbD n) (gf_xs n a) = (gf_pm n a b ^^^ gf_sel (b.getLsbD n) (gf_xs n a)) ^^^ (gf_pm n a c ^^^ gf_sel (c.getLsbD n) (gf_xs n a))
    rw [ih, BitVec.getLsbD_xor, gf_selx, gf_x4]
theorem gf_al (a b c : gf_K) : gf_mu (a ^^^ b) c = gf_mu a c ^^^ gf_mu b c := gf_pm_l 8 a b c
theorem gf_ar (a b c : gf_K) : gf_mu a (b ^^^ c) = gf_mu a b ^^^ gf_mu a c := gf_pm_r 8 a b c
theorem gf_add0 {f : gf_K → gf_K} (h : ∀ a b, f (a ^^^ b) = f a ^^^ f b) : f 0#8 = 0#8 := by
  have e := h 0#8 0#8
  rw [gf_xx, gf_xx] at e
  exact e
theorem gf_m0 (a : gf_K) : gf_mu a 0#8 = 0#8 := gf_add0 (f := fun b => gf_mu a b) (fun b c => gf_ar a b c)
theorem gf_0m (a : gf_K) : gf_mu 0#8 a = 0#8 := gf_add0 (f := fun b => gf_mu b a) (fun b c => gf_al b c a)
def gf_pw (i : Nat) : gf_K := 1#8 <<< i
def gf_bs (b : gf_K) : Nat → gf_K
  | 0 => 0#8
  | n + 1 => gf_bs b n ^^^ gf_sel (b.getLsbD n) (gf_pw n)
theorem gf_bas8 : ∀ b : Fin 256, gf_bs (BitVec.ofFin b) 8 = BitVec.ofFin b := by decide +kernel
theorem gf_bas (b : gf_K) : gf_bs b 8 = b := gf_bas8 b.toFin
theorem gf_fsel {f : gf_K → gf_K} (h : ∀ a b, f (a ^^^ b) = f a ^^^ f b) (c : Bool) (a : gf_K) : f (gf_sel c a) = gf_sel c (f a) := by
  cases c
  · exact gf_add0 h
  · rfl
theorem gf_ext {f g : gf_K → gf_K} (hf : ∀ a b, f (a ^^^ b) = f a ^^^ f b) (hg : ∀ a b, g (a ^^^ b) = g a ^^^ g b) (h : ∀ i, i < 8 → f (gf_pw i) = g (gf_pw i)) (b : gf_K) : f b = g b := by
  have key : ∀ n, n ≤ 8 → f (gf_bs b n) = g (gf_bs b n) := by
    intro n
    induction n with
    | zero => intro _; show f 0#8 = g 0#8; rw [gf_add0 hf, gf_add0 hg]
    | succ n ih =>
      intro hn
      show f (gf_bs b n ^^^ gf_sel (b.getLsbD n) (gf_pw n)) = g (gf_bs b n ^^^ gf_sel (b.getLsbD n) (gf_pw n))
      rw [hf, hg, ih (by omega), gf_fsel hf, gf_fsel hg, h n (by omega)]
  have := key 8 (by omega)
  rw [gf_bas] at this
  exact this
theorem gf_comm8 : ∀ i j : Fin 8, gf_mu (gf_pw i) (gf_pw j) = gf_mu (gf_pw j) (gf_pw i) := by decide +kernel
theorem gf_comm (a b : gf_K) : gf_mu a b = gf_mu b a := by
  refine gf_ext (f := fun b => gf_mu a b) (g := fun b => gf_mu b a) (fun b c => gf_ar a b c) (fun b c => gf_al b c a) (fun j hj => ?_) b
  refine gf_ext (f := fun a => gf_mu a (gf_pw j)) (g := fun a => gf_mu (gf_pw j) a) (fun b c => gf_al b c _) (fun b c => gf_ar _ b c) (fun i hi => ?_) a
  exact gf_comm8 ⟨i, hi⟩ ⟨j, hj⟩
theorem gf_assoc8 : ∀ i j k : Fin 8, gf_mu (gf_mu (gf_pw i) (gf_pw j)) (gf_pw k) = gf_mu (gf_pw i) (gf_mu (gf_pw j) (gf_pw k)) := by decide +kernel
theorem gf_assoc (a b c : gf_K) : gf_mu (gf_mu a b) c = gf_mu a (gf_mu b c) := by
  refine gf_ext (f := fun c => gf_mu (gf_mu a b) c) (g := fun c => gf_mu a (gf_mu b c)) (fun x y => gf_ar _ x y) (fun x y => ?_) (fun k hk => ?_) c
  · show gf_mu a (gf_mu b (x ^^^ y)) = _
    rw [gf_ar, gf_ar]
  refine gf_ext (f := fun b => gf_mu (gf_mu a b) (gf_pw k)) (g := fun b => gf_mu a (gf_mu b (gf_pw k))) (fun x y => ?_) (fun x y => ?_) (fun j hj => ?_) b
  · show gf_mu (gf_mu a (x ^^^ y)) (gf_pw k) = _
    rw [gf_ar, gf_al]
  · show gf_mu a (gf_mu (x ^^^ y) (gf_pw k)) = _
    rw [gf_al, gf_ar]
  refine gf_ext (f := fun a => gf_mu (gf_mu a (gf_pw j)) (gf_pw k)) (g := fun a => gf_mu a (gf_mu (gf_pw j) (gf_pw k))) (fun x y => ?_) (fun x y => gf_al x y _) (fun i hi => ?_) a
  · show gf_mu (gf_mu (x ^^^ y) (gf_pw j)) (gf_pw k) = _
    rw [gf_al, gf_al]
  exact gf_assoc8 ⟨i, hi⟩ ⟨j, hj⟩ ⟨k, hk⟩
theorem gf_lc (a b c : gf_K) : gf_mu a (gf_mu b c) = gf_mu b (gf_mu a c) := by rw [← gf_assoc, gf_comm a b, gf_assoc]
theorem gf_m18 : ∀ i : Fin 8, gf_mu (gf_pw i) 1#8 = gf_pw i := by decide +kernel
theorem gf_m1 (a : gf_K) : gf_mu a 1#8 = a :=
  gf_ext (f := fun a => gf_mu a 1#8) (g := fun a => a) (fun x y => gf_al x y _) (fun _ _ => rfl) (fun i hi => gf_m18 ⟨i, hi⟩) a
theorem gf_1m (a : gf_K) : gf_mu 1#8 a = a := by rw [gf_comm, gf_m1]
theorem gf_mx8 : ∀ i j : Fin 8, gf_mu (gf_pw i) (gf_xt (gf_pw j)) = gf_xt (gf_mu (gf_pw i) (gf_pw j)) := by decide +kernel
theorem gf_mx (a b : gf_K) : gf_mu a (gf_xt b) = gf_xt (gf_mu a b) := by
  refine gf_ext (f := fun b => gf_mu a (gf_xt b)) (g := fun b => gf_xt (gf_mu a b)) (fun x y => ?_) (fun x y => ?_) (fun j hj => ?_) b
  · show gf_mu a (gf_xt (x ^^^ y)) = _
    rw [gf_xt_add, gf_ar]
  · show gf_xt (gf_mu a (x ^^^ y)) = _
    rw [gf_ar, gf_xt_add]
  refine gf_ext (f := fun a => gf_mu a (gf_xt (gf_pw j))) (g := fun a => gf_xt (gf_mu a (gf_pw j))) (fun x y => gf_al x y _) (fun x y => ?_) (fun i hi => ?_) a
  · show gf_xt (gf_mu (x ^^^ y) (gf_pw j)) = _
    rw [gf_al, gf_xt_add]
  exact gf_mx8 ⟨i, hi⟩ ⟨j, hj⟩
def gf_E (i : Nat) : gf_K := gf_xs i 1#8
theorem gf_mxs (n : Nat) (a b : gf_K) : gf_mu a (gf_xs n b) = gf_xs n (gf_mu a b) := by
  induction n with
  | zero => rfl
  | succ n ih => show gf_mu a (gf_xt (gf_xs n b)) = gf_xt (gf_xs n (gf_mu a b)); rw [gf_mx, ih]
theorem gf_mE (a : gf_K) (n : Nat) : gf_mu a (gf_E n) = gf_xs n a := by
  unfold gf_E; rw [gf_mxs, gf_m1]
theorem gf_xsa (m n : Nat) (a : gf_K) : gf_xs m (gf_xs n a) = gf_xs (n + m) a := by
  induction m with
  | zero => rfl
  | succ m ih => show gf_xt (gf_xs m (gf_xs n a)) = gf_xt (gf_xs (n + m) a); rw [ih]
theorem gf_EE (i j : Nat) : gf_mu (gf_E i) (gf_E j) = gf_E (i + j) := by
  rw [gf_mE]; exact gf_xsa j i _
theorem gf_E255 : gf_E 255 = 1#8 := by decide +kernel
theorem gf_Ep (i : Nat) : gf_E (i + 255) = gf_E i := by
  rw [← gf_EE, gf_E255, gf_m1]
def gf_dls : Nat → Nat → gf_K → gf_K → Nat
  | 0, i, _, _ => i
  | n + 1, i, c, x => if c = x then i else gf_dls n (i + 1) (gf_xt c) x
def gf_dl (x : gf_K) : Nat := gf_dls 255 0 1#8 x
theorem gf_dlE8 : ∀ i : Fin 255, gf_dl (gf_E i) = i := by decide +kernel
theorem gf_Edl8 : ∀ x : Fin 256, BitVec.ofFin x = (0#8 : gf_K) ∨ (gf_dl (BitVec.ofFin x) < 255 ∧ gf_E (gf_dl (BitVec.ofFin x)) = BitVec.ofFin x) := by decide +kernel
theorem gf_dlE {i : Nat} (h : i < 255) : gf_dl (gf_E i) = i := gf_dlE8 ⟨i, h⟩
theorem gf_Ex {x : gf_K} (h : x ≠ 0#8) : ∃ i, i < 255 ∧ gf_E i = x := by
  rcases gf_Edl8 x.toFin with e | ⟨e1, e2⟩
  · exact absurd e h
  · exact ⟨gf_dl x, e1, e2⟩
def gf_iv (x : gf_K) : gf_K := gf_E (255 - gf_dl x)
theorem gf_ivE {i : Nat} (h : i < 255) : gf_iv (gf_E i) = gf_E (255 - i) := by unfold gf_iv; rw [gf_dlE h]
theorem gf_miv {x : gf_K} (h : x ≠ 0#8) : gf_mu x (gf_iv x) = 1#8 := by
  obtain ⟨i, hi, rfl⟩ := gf_Ex h
  rw [gf_ivE hi, gf_EE, show i + (255 - i) = 255 by omega, gf_E255]
theorem gf_ivm {x : gf_K} (h : x ≠ 0#8) : gf_mu (gf_iv x) x = 1#8 := by rw [gf_comm]; exact gf_miv h
theorem gf_mz {a b : gf_K} (ha : a ≠ 0#8) (h : gf_mu a b = 0#8) : b = 0#8 := by
  have e : gf_mu (gf_iv a) (gf_mu a b) = b := by rw [← gf_assoc, gf_ivm ha, gf_1m]
  rw [← e, h, gf_m0]
theorem gf_ivn {x : gf_K} (h : x ≠ 0#8) : gf_iv x ≠ 0#8 := by
  intro e
  have := gf_miv h
  rw [e, gf_m0] at this
  exact absurd this (by decide)
theorem gf_En {i : Nat} (h : i < 255) : gf_E i ≠ 0#8 := by
  intro e
  have h2 : gf_mu (gf_E i) (gf_E (255 - i)) = 1#8 := by rw [gf_EE, show i + (255 - i) = 255 by omega, gf_E255]
  rw [e, gf_0m] at h2
  exact absurd h2 (by decide)
end
section
/-! ===== bytes in ints, arrays, the field product of both sides ===== -/
def gf_I (a : gf_K) : Int32 := nI a.toNat
def gf_lo (x : Int32) : gf_K := x.toBitVec.setWidth 8
def bI (b : Bool) : Int32 := if b = true then 1 else 0
abbrev tI (w : Nat → gf_K) : Nat → Int32 := fun t => gf_I (w t)
abbrev nA (f : Nat → Nat) : Nat → Int32 := fun t => nI (f t)
abbrev bA (f : Nat → Bool) : Nat → Int32 := fun t => bI (f t)
def fu {α : Type} (f : Nat → α) (j : Nat) (x : α) : Nat → α := fun i => if i = j then x else f i
theorem fu_s {α : Type} {f : Nat → α} {j : Nat} {x : α} : fu f j x j = x := if_pos rfl
theorem fu_n {α : Type} {f : Nat → α} {j i : Nat} {x : α} (h : i ≠ j) : fu f j x i = f i := if_neg h
theorem gf_and (x : Int32) : x &&& 255 = gf_I (gf_lo x) := by
  rw [pk_and x 8 (by decide)]
  unfold gf_I gf_lo
  rw [BitVec.toNat_setWidth]
theorem gf_lt (a : gf_K) : a.toNat < 256 := a.isLt
theorem gf_loI (a : gf_K) : gf_lo (gf_I a) = a := by
  apply BitVec.eq_of_toNat_eq
  unfold gf_lo gf_I
  rw [BitVec.toNat_setWidth, pk_tn (by have := gf_lt a; omega)]
  exact Nat.mod_eq_of_lt (gf_lt a)
theorem gf_Ix (a b : gf_K) : gf_I a ^^^ gf_I b = gf_I (a ^^^ b) := by
  unfold gf_I
  rw [nx_xor, BitVec.toNat_xor]
theorem gf_Ii {a b : gf_K} : gf_I a = gf_I b ↔ a = b :=
  ⟨fun h => by have e := congrArg gf_lo h; rw [gf_loI, gf_loI] at e; exact e, fun h => by rw [h]⟩
theorem gf_I0 : gf_I 0#8 = 0 := rfl
theorem gf_I1 : gf_I 1#8 = 1 := rfl
theorem gf_Iz {a : gf_K} : gf_I a = 0 ↔ a = 0#8 := by rw [← gf_I0, gf_Ii]
theorem gf_clI (a : gf_K) : (gf_I a).toNatClampNeg = a.toNat := nI_clamp (by have := gf_lt a; omega)
theorem gf_I255 (a : gf_K) : gf_I a &&& 255 = gf_I a := by rw [gf_and, gf_loI]
theorem gf_upd (w : Nat → gf_K) (j : Nat) (x : gf_K) : upd (tI w) j (gf_I x) = tI (fu w j x) := by
  funext i
  unfold upd fu
  by_cases h : i = j
  · rw [if_pos h]; show _ = gf_I (if i = j then x else w i); rw [if_pos h]
  · rw [if_neg h]; show _ = gf_I (if i = j then x else w i); rw [if_neg h]
theorem nA_upd (w : Nat → Nat) (j : Nat) (x : Nat) : upd (nA w) j (nI x) = nA (fu w j x) := by
  funext i
  unfold upd fu
  by_cases h : i = j
  · rw [if_pos h]; show _ = nI (if i = j then x else w i); rw [if_pos h]
  · rw [if_neg h]; show _ = nI (if i = j then x else w i); rw [if_neg h]
theorem bA_upd (w : Nat → Bool) (j : Nat) (x : Bool) : upd (bA w) j (bI x) = bA (fu w j x) := by
  funext i
  unfold upd fu
  by_cases h : i = j
  · rw [if_pos h]; show _ = bI (if i = j then x else w i); rw [if_pos h]
  · rw [if_neg h]; show _ = bI (if i = j then x else w i); rw [if_neg h]
theorem tI_nm {P : (Nat → Int32) → Prop} {w : Nat → gf_K} (j : Nat) (x : gf_K) {ix v : Int32} (hj : ix = nI j) (hb : j < 2 ^ 31) (hv : v = gf_I x) (h : P (tI (fu w j x))) : ∀ y, y = upd (tI w) ix.toNatClampNeg v → P y := by
  intro y ey
  rw [ey, hj, nI_clamp hb, hv, gf_upd]
  exact h
theorem nA_nm {P : (Nat → Int32) → Prop} {w : Nat → Nat} (j : Nat) (x : Nat) {ix v : Int32} (hj : ix = nI j) (hb : j < 2 ^ 31) (hv : v = nI x) (h : P (nA (fu w j x))) : ∀ y, y = upd (nA w) ix.toNatClampNeg v → P y := by
  intro y ey
  rw [ey, hj, nI_clamp hb, hv, nA_upd]
  exact h
theorem vb0 : vp_nar .boolean 0 = bI false := by decide
theorem vb1 : vp_nar .boolean 1 = bI true := by decide
theorem bI_0 {b : Bool} : bI b = 0 ↔ b = false := by cases b <;> decide
theorem bI_nar (b : Bool) : narrow .boolean (.int (bI b)) = .int (bI b) := by cases b <;> rfl
theorem bA_nm {P : (Nat → Int32) → Prop} {w : Nat → Bool} (j : Nat) (x : Bool) {ix v : Int32} (hj : ix = nI j) (hb : j < 2 ^ 31) (hv : v = bI x) (h : P (bA (fu w j x))) : ∀ y, y = upd (bA w) ix.toNatClampNeg v → P y := by
  intro y ey
  rw [ey, hj, nI_clamp hb, hv, bA_upd]
  exact h
def gf_TB (ae al : Nat → Int32) : Prop := (∀ i, i < 510 → ae i = gf_I (gf_E i)) ∧ (∀ i, i < 255 → al (gf_E i).toNat = nI i)
section
variable {k l d q fc mk : Nat} {ae al : Nat → Int32} {fi sr mr bs ab wk wt : Nat → gf_K} {mX bh ak : Nat → Bool} {ng kd sg sm mc bd : Nat → Nat} {post : Int32 → Prop}
theorem xt_times (hT : gf_TB ae al) {x y : Int32} (h : post (gf_I (gf_mu (gf_lo x) (gf_lo y)))) : wpX_times post (nI k, nI l, nI d, nI q, 10, 5, nI fc, nI mk, ae, al, tI fi, bA mX, nA ng, nA kd, nA sg, nA sm, tI sr, tI mr, nA mc, tI bs, bA bh, nA bd, tI ab, bA ak, tI wk, tI wt) x y := by
  refine nm_r (gf_and x) (nm_r (gf_and y) ?_)
  generalize gf_lo x = a at h ⊢
  generalize gf_lo y = b at h ⊢
  by_cases hx : a = 0#8
  · refine br_t (gf_Iz.mpr hx) ?_
    rw [hx, gf_0m] at h
    exact h
  · refine br_f (fun z => hx (gf_Iz.mp z)) ?_
    by_cases hy : b = 0#8
    · refine br_t (gf_Iz.mpr hy) ?_
      rw [hy, gf_m0] at h
      exact h
    · refine br_f (fun z => hy (gf_Iz.mp z)) ?_
      obtain ⟨i, hi, ei⟩ := gf_Ex hx
      obtain ⟨j, hj, ej⟩ := gf_Ex hy
      have e1 : al (gf_I a).toNatClampNeg = nI i := by rw [gf_clI, ← ei]; exact hT.2 i hi
      have e2 : al (gf_I b).toNatClampNeg = nI j := by rw [gf_clI, ← ej]; exact hT.2 j hj
      rw [e1, e2, nI_add, nI_clamp (by omega), hT.1 _ (by omega), ← gf_EE, ei, ej]
      exact ⟨vp_in_nI (gf_lt _) (by decide), vp_in_nI (gf_lt _) (by decide), vp_in_nI (by omega) (by decide), h⟩
theorem xt_I (hT : gf_TB ae al) {a b : gf_K} (h : post (gf_I (gf_mu a b))) : wpX_times post (nI k, nI l, nI d, nI q, 10, 5, nI fc, nI mk, ae, al, tI fi, bA mX, nA ng, nA kd, nA sg, nA sm, tI sr, tI mr, nA mc, tI bs, bA bh, nA bd, tI ab, bA ak, tI wk, tI wt) (gf_I a) (gf_I b) := by
  refine xt_times hT ?_
  rw [gf_loI, gf_loI]
  exact h
theorem xt_over (hT : gf_TB ae al) {x y : Int32} (h0 : gf_lo y = 0#8 → post (-1)) (h : gf_lo y ≠ 0#8 → post (gf_I (gf_mu (gf_lo x) (gf_iv (gf_lo y))))) : wpX_over post (nI k, nI l, nI d, nI q, 10, 5, nI fc, nI mk, ae, al, tI fi, bA mX, nA ng, nA kd, nA sg, nA sm, tI sr, tI mr, nA mc, tI bs, bA bh, nA bd, tI ab, bA ak, tI wk, tI wt) x y := by
  refine nm_r (gf_and x) (nm_r (gf_and y) ?_)
  generalize gf_lo x = a at h ⊢
  generalize gf_lo y = b at h h0 ⊢
  by_cases hy : b = 0#8
  · exact br_t (gf_Iz.mpr hy) (h0 hy)
  · refine br_f (fun z => hy (gf_Iz.mp z)) ?_
    have h := h hy
    by_cases hx : a = 0#8
    · refine br_t (gf_Iz.mpr hx) ?_
      rw [hx, gf_0m] at h
      exact h
    · refine br_f (fun z => hx (gf_Iz.mp z)) ?_
      obtain ⟨i, hi, ei⟩ := gf_Ex hx
      obtain ⟨j, hj, ej⟩ := gf_Ex hy
      have e1 : al (gf_I a).toNatClampNeg = nI i := by rw [gf_clI, ← ei]; exact hT.2 i hi
      have e2 : al (gf_I b).toNatClampNeg = nI j := by rw [gf_clI, ← ej]; exact hT.2 j hj
      have e3 : nI i - nI j + 255 = nI (i + (255 - j)) := by
        rw [← nI_add, ← pk_sub (by omega : j ≤ 255), Int32.sub_eq_add_neg, Int32.sub_eq_add_neg, Int32.add_assoc, Int32.add_comm (-nI j) 255]
        rfl
      rw [e1, e2, e3, nI_clamp (by omega), hT.1 _ (by omega), ← gf_EE, ← gf_ivE hj, ei, ej]
      exact ⟨vp_in_nI (gf_lt _) (by decide), vp_in_nI (gf_lt _) (by decide), vp_in_nI (by omega) (by decide), h⟩
end
/-! the reference's product -/
theorem gf_bit1 (x : Int32) (m : Nat) (hm : m < 32) : ((x.toUInt32 >>> ((nI m).toUInt32 &&& Int32.toUInt32 31)).toInt32 &&& 1) = 1 ↔ bt x m = true := by
  have h := b_ushr m hm x 0
  rw [Nat.add_zero] at h
  rw [← h]
  generalize (x.toUInt32 >>> ((nI m).toUInt32 &&& Int32.toUInt32 31)).toInt32 = y
  rw [pk_and y 1 (by decide)]
  unfold bt
  rw [BitVec.getLsbD_eq_getElem (by omega), BitVec.getElem_eq_testBit_toNat, Nat.testBit_zero]
  rcases Nat.mod_two_eq_zero_or_one y.toBitVec.toNat with e | e
  · rw [show (2 : Nat) ^ 1 = 2 from rfl, e]; decide
  · rw [show (2 : Nat) ^ 1 = 2 from rfl, e]; decide
def gf_st (m : Nat) (x : Int32) : Int32 := if bt x (m + 8) = true then x ^^^ ((285 : Int32) <<< (nI m &&& 31)) else x
def gf_RR : Nat → Int32 → Int32
  | 0, x => x
  | m + 1, x => gf_RR m (gf_st m x)
theorem gf_st_x (m : Nat) (x y : Int32) : gf_st m (x ^^^ y) = gf_st m x ^^^ gf_st m y := by
  unfold gf_st
  rw [b_xor]
  generalize (285 : Int32) <<< (nI m &&& 31) = c
  cases bt x (m + 8) <;> cases bt y (m + 8)
  · rfl
  · show (x ^^^ y) ^^^ c = x ^^^ (y ^^^ c); ac_rfl
  · show (x ^^^ y) ^^^ c = (x ^^^ c) ^^^ y; ac_rfl
  · show (x ^^^ y) = (x ^^^ c) ^^^ (y ^^^ c)
    rw [show (x ^^^ c) ^^^ (y ^^^ c) = (x ^^^ y) ^^^ (c ^^^ c) by ac_rfl, Int32.xor_self, Int32.xor_zero]
theorem gf_RR_x (m : Nat) : ∀ (x y : Int32), gf_RR m (x ^^^ y) = gf_RR m x ^^^ gf_RR m y := by
  induction m with
  | zero => intro x y; rfl
  | succ m ih => intro x y; show gf_RR m (gf_st m (x ^^^ y)) = _; rw [gf_st_x, ih]; rfl
theorem gf_RR8 : ∀ k : Fin 8, ∀ a : Fin 256, gf_RR 7 (nI a <<< (nI k &&& 31)) = nI (gf_xs k (BitVec.ofFin a)).toNat := by decide +kernel
theorem gf_RRs {k : Nat} (hk : k < 8) (a : gf_K) : gf_RR 7 (gf_I a <<< (nI k &&& 31)) = gf_I (gf_xs k a) := gf_RR8 ⟨k, hk⟩ a.toFin
section
variable {k l d q fc ff : Nat} {fi sv vs wd fo re : Nat → gf_K} {mY kn : Nat → Bool} {ng kd sg sm cn : Nat → Nat} {post : Int32 → Prop}
theorem yt_red : ∀ (m n : Nat) (x : Int32), m < n → post (gf_RR m x) → m ≤ 7 → wY_times_43 post (nI k) (nI l) (nI q) (nI (2 + d)) (nI fc) (nI ff) (tI fi) (nA kd) (nA sg) (nA sm) (tI sv) (nA ng) (nA cn) (tI vs) (bA mY) (bA kn) (tI wd) (tI fo) (tI re) n x (nI (m + 7)) := by
  intro m
  induction m with
  | zero =>
    intro n x hn hp _
    obtain ⟨n, rfl⟩ : ∃ z, n = z + 1 := ⟨n - 1, by omega⟩
    exact br_t (by decide) hp
  | succ m ih =>
    intro n x hn hp hm
    obtain ⟨n, rfl⟩ : ∃ z, n = z + 1 := ⟨n - 1, by omega⟩
    have h8 : ¬ nI (m + 1 + 7) < 8 := nI_nlt (b := 8) (by omega) (by omega)
    have e8 : nI (m + 1 + 7) - 8 = nI m := pk_sub (b := 8) (by omega)
    have e1 : nI (m + 1 + 7) + (-1) = nI (m + 7) := pk_m1 (m + 7)
    have hp : post (gf_RR m (gf_st m x)) := hp
    refine br_f h8 ?_
    by_cases hb : bt x (m + 8) = true
    · have es : gf_st m x = x ^^^ ((285 : Int32) <<< (nI m &&& 31)) := if_pos hb
      refine br_t ((gf_bit1 x (m + 1 + 7) (by omega)).mpr hb) (nm_r (by rw [e8, ← es]) (nm_r e1 ?_))
      exact ih n _ (by omega) hp (by omega)
    · have es : gf_st m x = x := if_neg hb
      rw [es] at hp
      refine br_f (fun z => hb ((gf_bit1 x (m + 1 + 7) (by omega)).mp z)) (nm_r e1 ?_)
      exact ih n _ (by omega) hp (by omega)
theorem gf_lobit (x : Int32) {i : Nat} (hi : i < 8) : (gf_lo x).getLsbD i = bt x i := by
  unfold gf_lo bt
  rw [BitVec.getLsbD_setWidth]
  simp [hi]
theorem yt_mul {p0 p1 : Int32} (hp : post (gf_I (gf_mu (gf_lo p0) (gf_lo p1)))) : ∀ (m i n : Nat) (x : Int32), i + m = 8 → m < n → gf_RR 7 x = gf_I (gf_pm i (gf_lo p0) (gf_lo p1)) → wY_times_5 post p0 p1 (nI k) (nI l) (nI q) (nI (2 + d)) (nI fc) (nI ff) (tI fi) (nA kd) (nA sg) (nA sm) (tI sv) (nA ng) (nA cn) (tI vs) (bA mY) (bA kn) (tI wd) (tI fo) (tI re) n x (nI i) := by
  intro m
  induction m with
  | zero =>
    intro i n x hi hn hx
    obtain ⟨n, rfl⟩ : ∃ z, n = z + 1 := ⟨n - 1, by omega⟩
    obtain rfl : i = 8 := by omega
    refine br_t (by decide) ⟨8, yt_red 7 8 x (by omega) ?_ (by omega)⟩
    rw [hx]
    exact hp
  | succ m ih =>
    intro i n x hi hn hx
    obtain ⟨n, rfl⟩ : ∃ z, n = z + 1 := ⟨n - 1, by omega⟩
    have h8 : ¬ (8 : Int32) ≤ nI i := nI_ge (b := 8) (by omega) (by omega)
    refine br_f h8 ?_
    have epm : gf_pm (i + 1) (gf_lo p0) (gf_lo p1) = gf_pm i (gf_lo p0) (gf_lo p1) ^^^ gf_sel ((gf_lo p1).getLsbD i) (gf_xs i (gf_lo p0)) := rfl
    rw [gf_lobit p1 (by omega)] at epm
    by_cases hb : bt p1 i = true
    · refine br_t ((gf_bit1 p1 i (by omega)).mpr hb) (nm_e (nm_r (nI_1 i) ?_))
      refine ih (i + 1) n _ (by omega) (by omega) ?_
      rw [gf_RR_x, hx, gf_and, gf_RRs (by omega), gf_Ix, epm, hb]
      rfl
    · refine br_f (fun z => hb ((gf_bit1 p1 i (by omega)).mp z)) (nm_r (nI_1 i) ?_)
      refine ih (i + 1) n _ (by omega) (by omega) ?_
      rw [epm, hx]
      have : bt p1 i = false := by revert hb; cases bt p1 i <;> simp
      rw [this]
      show gf_I _ = gf_I (_ ^^^ 0#8)
      rw [gf_x0]
theorem yt_times {x y : Int32} (h : post (gf_I (gf_mu (gf_lo x) (gf_lo y)))) : wpY_times post (nI k, nI l, nI q, nI (2 + d), nI fc, nI ff, tI fi, nA kd, nA sg, nA sm, tI sv, nA ng, nA cn, tI vs, bA mY, bA kn, tI wd, tI fo, tI re) x y :=
  Exists.intro 9 (yt_mul h 8 0 9 0 rfl (by omega) rfl)
theorem yt_I {a b : gf_K} (h : post (gf_I (gf_mu a b))) : wpY_times post (nI k, nI l, nI q, nI (2 + d), nI fc, nI ff, tI fi, nA kd, nA sg, nA sm, tI sv, nA ng, nA cn, tI vs, bA mY, bA kn, tI wd, tI fo, tI re) (gf_I a) (gf_I b) := by
  refine yt_times ?_
  rw [gf_loI, gf_loI]
  exact h
theorem yt_over_lp {x y : Int32} (hy : gf_lo y ≠ 0#8) (h : post (gf_I (gf_mu (gf_lo x) (gf_iv (gf_lo y))))) : ∀ (n i : Nat), i ≤ (gf_mu (gf_lo x) (gf_iv (gf_lo y))).toNat → (gf_mu (gf_lo x) (gf_iv (gf_lo y))).toNat < n + i → wY_over_12 post x y (nI k) (nI l) (nI q) (nI (2 + d)) (nI fc) (nI ff) (tI fi) (nA kd) (nA sg) (nA sm) (tI sv) (nA ng) (nA cn) (tI vs) (bA mY) (bA kn) (tI wd) (tI fo) (tI re) n (nI i) := by
  intro n
  induction n with
  | zero => intro i h1 h2; omega
  | succ n ih =>
    intro i h1 h2
    have hr := gf_lt (gf_mu (gf_lo x) (gf_iv (gf_lo y)))
    have h8 : ¬ (256 : Int32) ≤ nI i := nI_ge (b := 256) (by omega) (by omega)
    refine br_f h8 (yt_times ?_)
    have ei : nI i = gf_I (BitVec.ofNat 8 i) := by
      unfold gf_I
      rw [BitVec.toNat_ofNat, Nat.mod_eq_of_lt (by omega)]
    have el : gf_lo (nI i) = BitVec.ofNat 8 i := by rw [ei, gf_loI]
    rw [gf_and x, el]
    by_cases e : gf_mu (BitVec.ofNat 8 i) (gf_lo y) = gf_lo x
    · refine br_t (gf_Ii.mpr e) ?_
      rw [ei]
      have e2 : gf_mu (gf_lo x) (gf_iv (gf_lo y)) = BitVec.ofNat 8 i := by
        rw [← e, gf_assoc, gf_miv hy, gf_m1]
      rw [e2] at h
      exact h
    · refine br_f (fun z => e (gf_Ii.mp z)) (nm_r (nI_1 i) ?_)
      refine ih (i + 1) ?_ (by omega)
      rcases Nat.lt_or_ge i (gf_mu (gf_lo x) (gf_iv (gf_lo y))).toNat with g | g
      · omega
      · exfalso
        have e3 : i = (gf_mu (gf_lo x) (gf_iv (gf_lo y))).toNat := by omega
        apply e
        rw [e3, BitVec.ofNat_toNat, BitVec.setWidth_eq, gf_assoc, gf_ivm hy, gf_m1]
theorem yt_over {x y : Int32} (h0 : gf_lo y = 0#8 → post (-1)) (h : gf_lo y ≠ 0#8 → post (gf_I (gf_mu (gf_lo x) (gf_iv (gf_lo y))))) : wpY_over post (nI k, nI l, nI q, nI (2 + d), nI fc, nI ff, tI fi, nA kd, nA sg, nA sm, tI sv, nA ng, nA cn, tI vs, bA mY, bA kn, tI wd, tI fo, tI re) x y := by
  by_cases hy : gf_lo y = 0#8
  · exact br_t (by rw [gf_and, hy]; rfl) (h0 hy)
  · refine br_f (fun z => hy (gf_Iz.mp (by rw [← gf_and]; exact z))) ?_
    have hr := gf_lt (gf_mu (gf_lo x) (gf_iv (gf_lo y)))
    exact Exists.intro 257 (yt_over_lp hy (h hy) 257 0 (by omega) (by omega))
end
end
section
/-! ===== sums, dot products, linear predicates, a reduced basis ===== -/
def la_sm : Nat → (Nat → gf_K) → gf_K
  | 0, _ => 0#8
  | n + 1, f => la_sm n f ^^^ f n
theorem la_congr {n : Nat} {f g : Nat → gf_K} (h : ∀ i, i < n → f i = g i) : la_sm n f = la_sm n g := by
  induction n with
  | zero => rfl
  | succ n ih =>
    show la_sm n f ^^^ f n = la_sm n g ^^^ g n
    rw [ih (fun i hi => h i (by omega)), h n (by omega)]
theorem la_x (n : Nat) (f g : Nat → gf_K) : la_sm n (fun i => f i ^^^ g i) = la_sm n f ^^^ la_sm n g := by
  induction n with
  | zero => exact (gf_x0 _).symm
  | succ n ih =>
    show la_sm n (fun i => f i ^^^ g i) ^^^ (f n ^^^ g n) = (la_sm n f ^^^ f n) ^^^ (la_sm n g ^^^ g n)
    rw [ih, gf_x4]
theorem la_mul (n : Nat) (a : gf_K) (f : Nat → gf_K) : la_sm n (fun i => gf_mu a (f i)) = gf_mu a (la_sm n f) := by
  induction n with
  | zero => exact (gf_m0 a).symm
  | succ n ih =>
    show la_sm n (fun i => gf_mu a (f i)) ^^^ gf_mu a (f n) = gf_mu a (la_sm n f ^^^ f n)
    rw [ih, gf_ar]
theorem la_zero {n : Nat} {f : Nat → gf_K} (h : ∀ i, i < n → f i = 0#8) : la_sm n f = 0#8 := by
  induction n with
  | zero => rfl
  | succ n ih =>
    show la_sm n f ^^^ f n = 0#8
    rw [ih (fun i hi => h i (by omega)), h n (by omega), gf_x0]
theorem la_one {n j : Nat} {f : Nat → gf_K} (hj : j < n) (h : ∀ i, i < n → i ≠ j → f i = 0#8) : la_sm n f = f j := by
  induction n with
  | zero => omega
  | succ n ih =>
    show la_sm n f ^^^ f n = f j
    by_cases e : j = n
    · subst e
      rw [la_zero (fun i hi => h i (by omega) (by omega)), gf_0x]
    · rw [ih (by omega) (fun i hi => h i (by omega)), h n (by omega) (by omega), gf_x0]
theorem la_swap (n m : Nat) (f : Nat → Nat → gf_K) : la_sm n (fun i => la_sm m (fun j => f i j)) = la_sm m (fun j => la_sm n (fun i => f i j)) := by
  induction n with
  | zero => exact (la_zero (fun _ _ => rfl)).symm
  | succ n ih =>
    show la_sm n (fun i => la_sm m (fun j => f i j)) ^^^ la_sm m (fun j => f n j) = la_sm m (fun j => la_sm n (fun i => f i j) ^^^ f n j)
    rw [ih, la_x]
theorem la_cut {n m : Nat} {f : Nat → gf_K} (hm : m ≤ n) (h : ∀ i, m ≤ i → i < n → f i = 0#8) : la_sm n f = la_sm m f := by
  induction n with
  | zero =>
    obtain rfl : m = 0 := by omega
    rfl
  | succ n ih =>
    by_cases e : m = n + 1
    · rw [e]
    · show la_sm n f ^^^ f n = _
      rw [ih (by omega) (fun i h1 h2 => h i h1 (by omega)), h n (by omega) (by omega), gf_x0]
def la_dot (φ v : Nat → gf_K) : gf_K := la_sm 6 (fun i => gf_mu (φ i) (v i))
theorem la_dot_c {φ v w : Nat → gf_K} (h : ∀ i, i < 6 → v i = w i) : la_dot φ v = la_dot φ w :=
  la_congr (fun i hi => by rw [h i hi])
theorem la_dot_cl {φ ψ v : Nat → gf_K} (h : ∀ i, i < 6 → φ i = ψ i) : la_dot φ v = la_dot ψ v :=
  la_congr (fun i hi => by rw [h i hi])
theorem la_dot_m (φ w : Nat → gf_K) (a : gf_K) : la_dot φ (fun t => gf_mu a (w t)) = gf_mu a (la_dot φ w) := by
  unfold la_dot
  rw [← la_mul]
  exact la_congr (fun i _ => gf_lc _ _ _)
theorem la_dot_x (φ v w : Nat → gf_K) (a : gf_K) : la_dot φ (fun t => v t ^^^ gf_mu a (w t)) = la_dot φ v ^^^ gf_mu a (la_dot φ w) := by
  rw [← la_dot_m]
  unfold la_dot
  rw [← la_x]
  exact la_congr (fun i _ => gf_ar _ _ _)
theorem la_dot_l (φ ψ v : Nat → gf_K) (a b : gf_K) : la_dot (fun t => gf_mu a (φ t) ^^^ gf_mu b (ψ t)) v = gf_mu a (la_dot φ v) ^^^ gf_mu b (la_dot ψ v) := by
  unfold la_dot
  rw [← la_mul, ← la_mul, ← la_x]
  refine la_congr (fun i _ => ?_)
  rw [gf_al, gf_assoc, gf_assoc]
theorem la_dot_0 {φ v : Nat → gf_K} (h : ∀ i, i < 6 → v i = 0#8) : la_dot φ v = 0#8 :=
  la_zero (fun i hi => by rw [h i hi, gf_m0])
/-- linear predicates on rows -/
def la_LT (T : (Nat → gf_K) → Prop) : Prop := (∀ v w : Nat → gf_K, (∀ t, t < 10 → v t = w t) → T v → T w) ∧ T (fun _ => 0#8) ∧ ∀ (a : gf_K) (v w : Nat → gf_K), T v → T w → T (fun t => v t ^^^ gf_mu a (w t))
theorem la_LTs {T : (Nat → gf_K) → Prop} (h : la_LT T) (a : gf_K) {w : Nat → gf_K} (hw : T w) : T (fun t => gf_mu a (w t)) :=
  h.1 _ _ (fun t _ => gf_0x _) (h.2.2 a _ w h.2.1 hw)
theorem la_LTsum {T : (Nat → gf_K) → Prop} (h : la_LT T) {P : Nat → Bool} {R : Nat → Nat → gf_K} {x w : Nat → gf_K} (n : Nat) (hR : ∀ c, c < n → P c = true → T (R c)) (hw : T w) : T (fun t => w t ^^^ la_sm n (fun c => gf_sel (P c) (gf_mu (x c) (R c t)))) := by
  induction n with
  | zero => exact h.1 _ _ (fun t _ => (gf_x0 _).symm) hw
  | succ n ih =>
    have ih := ih (fun c hc => hR c (by omega))
    cases hp : P n
    · refine h.1 _ _ (fun t _ => ?_) ih
      show _ = w t ^^^ (la_sm n (fun c => gf_sel (P c) (gf_mu (x c) (R c t))) ^^^ gf_sel (P n) (gf_mu (x n) (R n t)))
      rw [hp]
      show _ = w t ^^^ (la_sm n (fun c => gf_sel (P c) (gf_mu (x c) (R c t))) ^^^ 0#8)
      rw [gf_x0]
    · refine h.1 _ _ (fun t _ => ?_) (h.2.2 (x n) _ _ ih (hR n (by omega) hp))
      show _ = w t ^^^ (la_sm n (fun c => gf_sel (P c) (gf_mu (x c) (R c t))) ^^^ gf_sel (P n) (gf_mu (x n) (R n t)))
      rw [hp, gf_xa]
      rfl
theorem la_LTdot (φ : Nat → gf_K) : la_LT (fun v => la_dot φ v = 0#8) :=
  ⟨fun v w h e => by
      have : la_dot φ v = la_dot φ w := la_dot_c (fun i hi => h i (by omega))
      show la_dot φ w = 0#8
      rw [← this]; exact e,
   la_dot_0 (fun _ _ => rfl),
   fun a v w hv hw => by
      show la_dot φ (fun t => v t ^^^ gf_mu a (w t)) = 0#8
      rw [la_dot_x, hv, hw, gf_m0, gf_x0]⟩
def la_rd (k : Nat) (P : Nat → Bool) (R : Nat → Nat → gf_K) (w : Nat → gf_K) (t : Nat) : gf_K := w t ^^^ la_sm k (fun c => gf_sel (P c) (gf_mu (w c) (R c t)))
def la_rb (k : Nat) (P : Nat → Bool) (R : Nat → Nat → gf_K) : Prop := ∀ c, c < k → P c = true → ∀ e, e < k → P e = true → R c e = if c = e then 1#8 else 0#8
def la_AN (k : Nat) (P : Nat → Bool) (R : Nat → Nat → gf_K) (φ : Nat → gf_K) : Prop := ∀ c, c < k → P c = true → la_dot φ (R c) = 0#8
def la_su (k : Nat) (v : Nat → gf_K) : Prop := ∀ i, k ≤ i → i < 6 → v i = 0#8
theorem la_sel_t {c : Bool} (h : c = true) (a : gf_K) : gf_sel c a = a := by rw [h]; rfl
theorem la_sel_f {c : Bool} (h : c = false) (a : gf_K) : gf_sel c a = 0#8 := by rw [h]; rfl
theorem la_rd_piv {k : Nat} {P : Nat → Bool} {R : Nat → Nat → gf_K} {w : Nat → gf_K} (hb : la_rb k P R) {c : Nat} (hc : c < k) (hP : P c = true) : la_rd k P R w c = 0#8 := by
  unfold la_rd
  rw [la_one (j := c) hc]
  · rw [la_sel_t hP, hb c hc hP c hc hP, if_pos rfl, gf_m1, gf_xx]
  · intro i hi ne
    cases hp : P i
    · rfl
    · rw [hb i hi hp c hc hP, if_neg ne, gf_m0]; rfl
theorem la_rd_dot {k : Nat} {P : Nat → Bool} {R : Nat → Nat → gf_K} {w φ : Nat → gf_K} (hA : la_AN k P R φ) : la_dot φ (la_rd k P R w) = la_dot φ w := by
  have key : ∀ n, n ≤ k → la_dot φ (fun t => w t ^^^ la_sm n (fun c => gf_sel (P c) (gf_mu (w c) (R c t)))) = la_dot φ w := by
    intro n
    induction n with
    | zero => intro _; exact la_dot_c (fun i _ => gf_x0 _)
    | succ n ih =>
      intro hn
      cases hp : P n
      · refine Eq.trans (la_dot_c (fun t _ => ?_)) (ih (by omega))
        show w t ^^^ (la_sm n (fun c => gf_sel (P c) (gf_mu (w c) (R c t))) ^^^ gf_sel (P n) (gf_mu (w n) (R n t))) = _
        rw [la_sel_f hp, gf_x0]
      · refine Eq.trans (la_dot_c (w := fun t => (w t ^^^ la_sm n (fun c => gf_sel (P c) (gf_mu (w c) (R c t)))) ^^^ gf_mu (w n) (R n t)) (fun t _ => ?_)) ?_
        · show w t ^^^ (la_sm n (fun c => gf_sel (P c) (gf_mu (w c) (R c t))) ^^^ gf_sel (P n) (gf_mu (w n) (R n t))) = _
          rw [la_sel_t hp, gf_xa]
        · rw [la_dot_x, ih (by omega), hA n (by omega) hp, gf_m0, gf_x0]
  exact key k (Nat.le_refl k)
def la_fm (k : Nat) (P : Nat → Bool) (R : Nat → Nat → gf_K) (i : Nat) : Nat → gf_K := fun j => (if j = i then 1#8 else 0#8) ^^^ gf_sel (decide (j < k) && P j) (R j i)
theorem la_fm_dot {k : Nat} {P : Nat → Bool} {R : Nat → Nat → gf_K} {i : Nat} (hk : k ≤ 6) (hi : i < k) (v : Nat → gf_K) : la_dot (la_fm k P R i) v = la_rd k P R v i := by
  have e1 : la_dot (la_fm k P R i) v = la_sm 6 (fun j => gf_mu (if j = i then 1#8 else 0#8) (v j)) ^^^ la_sm 6 (fun j => gf_mu (gf_sel (decide (j < k) && P j) (R j i)) (v j)) := by
    rw [← la_x]
    exact la_congr (fun j _ => gf_al _ _ _)
  rw [e1, la_one (j := i) (by omega), la_cut (m := k) hk]
  · rw [if_pos rfl, gf_1m]
    unfold la_rd
    congr 1
    refine la_congr (fun j hj => ?_)
    cases hp : P j
    · rw [Bool.and_false]; exact gf_0m _
    · rw [decide_eq_true hj]; exact gf_comm _ _
  · intro j h1 h2
    rw [decide_eq_false (by omega)]; exact gf_0m _
  · intro j _ ne
    rw [if_neg ne, gf_0m]
theorem la_fm_AN {k : Nat} {P : Nat → Bool} {R : Nat → Nat → gf_K} {i : Nat} (hb : la_rb k P R) (hk : k ≤ 6) (hi : i < k) : la_AN k P R (la_fm k P R i) := by
  intro c hc hp
  rw [la_fm_dot hk hi]
  unfold la_rd
  rw [la_one (j := c) hc]
  · rw [la_sel_t hp, hb c hc hp c hc hp, if_pos rfl, gf_1m, gf_xx]
  · intro e he ne
    cases hq : P e
    · rfl
    · rw [hb c hc hp e he hq, if_neg (fun z => ne z.symm), gf_0m]; rfl
theorem la_crit {k : Nat} {P : Nat → Bool} {R : Nat → Nat → gf_K} {w : Nat → gf_K} (hb : la_rb k P R) (hk : k ≤ 6) (hs : ∀ c, c < k → P c = true → la_su k (R c)) (hw : la_su k w) : (∀ φ, la_AN k P R φ → la_dot φ w = 0#8) ↔ ∀ i, i < k → la_rd k P R w i = 0#8 := by
  constructor
  · intro h i hi
    rw [← la_fm_dot hk hi]
    exact h _ (la_fm_AN hb hk hi)
  · intro h φ hA
    rw [← la_rd_dot hA]
    refine la_dot_0 (fun i hi => ?_)
    by_cases e : i < k
    · exact h i e
    · unfold la_rd
      rw [hw i (by omega) hi, gf_0x]
      refine la_zero (fun c hc => ?_)
      cases hp : P c
      · rfl
      · rw [hs c hc hp i (by omega) hi, gf_m0]; rfl
/-- counts -/
def la_ct : Nat → (Nat → Bool) → Nat
  | 0, _ => 0
  | n + 1, P => la_ct n P + (if P n = true then 1 else 0)
theorem la_ct_s (n : Nat) (P : Nat → Bool) : la_ct (n + 1) P = la_ct n P + (if P n = true then 1 else 0) := rfl
theorem la_ct_c {n : Nat} {P Q : Nat → Bool} (h : ∀ i, i < n → P i = Q i) : la_ct n P = la_ct n Q := by
  induction n with
  | zero => rfl
  | succ n ih => rw [la_ct_s, la_ct_s, ih (fun i hi => h i (by omega)), h n (by omega)]
theorem la_ct_le (n : Nat) (P : Nat → Bool) : la_ct n P ≤ n := by
  induction n with
  | zero => exact Nat.le_refl _
  | succ n ih => rw [la_ct_s]; split <;> omega
theorem la_ct_set {n p : Nat} {P : Nat → Bool} (hp : p < n) (h : P p = false) : la_ct n (fu P p true) = la_ct n P + 1 := by
  induction n with
  | zero => omega
  | succ n ih =>
    rw [la_ct_s, la_ct_s]
    by_cases e : p = n
    · subst e
      rw [fu_s, h, la_ct_c (Q := P) (fun i hi => fu_n (by omega))]
      rfl
    · rw [ih (by omega), fu_n (by omega)]
      omega
theorem la_ct_unset {n p : Nat} {P : Nat → Bool} (hp : p < n) (h : P p = true) : la_ct n (fu P p false) + 1 = la_ct n P := by
  induction n with
  | zero => omega
  | succ n ih =>
    rw [la_ct_s, la_ct_s]
    by_cases e : p = n
    · subst e
      rw [fu_s, h, la_ct_c (Q := P) (fun i hi => fu_n (by omega))]
      rfl
    · have := ih (by omega)
      rw [fu_n (by omega)]
      omega
theorem la_ct_pos {n : Nat} {P : Nat → Bool} (h : 0 < la_ct n P) : ∃ i, i < n ∧ P i = true := by
  induction n with
  | zero => exact absurd h (Nat.lt_irrefl 0)
  | succ n ih =>
    cases hp : P n
    · rw [la_ct_s, hp] at h
      obtain ⟨i, hi, e⟩ := ih h
      exact ⟨i, by omega, e⟩
    · exact ⟨n, by omega, hp⟩
theorem la_ct_all (n : Nat) : la_ct n (fun _ => true) = n := by
  induction n with
  | zero => rfl
  | succ n ih => rw [la_ct_s, ih]; rfl
theorem la_ct_lt {n m : Nat} {P : Nat → Bool} (hm : m ≤ n) (h : ∀ i, i < n → P i = true → i < m) : la_ct n P ≤ m := by
  induction n with
  | zero => exact Nat.zero_le _
  | succ n ih =>
    by_cases e : m = n + 1
    · rw [e]; exact la_ct_le _ _
    · have h1 := ih (by omega) (fun i hi => h i (by omega))
      cases hp : P n
      · rw [la_ct_s, hp]; exact h1
      · have := h n (by omega) hp
        omega
theorem la_ct_split {k : Nat} {P : Nat → Bool} (n : Nat) : la_ct n (fun i => decide (i < k) && !P i) + la_ct n (fun i => decide (i < k) && P i) = if n ≤ k then n else k := by
  induction n with
  | zero => rw [if_pos (Nat.zero_le _)]; rfl
  | succ n ih =>
    have e1 : (if (decide (n < k) && !P n) = true then 1 else 0) + (if (decide (n < k) && P n) = true then 1 else 0) = (if n < k then 1 else 0 : Nat) := by
      by_cases h : n < k <;> cases P n <;> simp [h]
    show (la_ct n (fun i => decide (i < k) && !P i) + (if (decide (n < k) && !P n) = true then 1 else 0)) + (la_ct n (fun i => decide (i < k) && P i) + (if (decide (n < k) && P n) = true then 1 else 0)) = if n + 1 ≤ k then n + 1 else k
    by_cases h : n < k
    · rw [if_pos h] at e1
      rw [if_pos (show n ≤ k by omega)] at ih
      have e2 : (if n + 1 ≤ k then n + 1 else k) = n + 1 := if_pos h
      omega
    · rw [if_neg h] at e1
      have e2 : (if n + 1 ≤ k then n + 1 else k) = k := if_neg (by omega)
      have e3 : (if n ≤ k then n else k) = k := by
        by_cases g : n ≤ k
        · rw [if_pos g]; omega
        · rw [if_neg g]
      omega
end
section
/-! ===== more unknowns than equations; forms; dimension; insertion ===== -/
theorem la_put {n i0 : Nat} {a x : Nat → gf_K} {y : gf_K} (hi : i0 < n) (h0 : x i0 = 0#8) : la_sm n (fun i => gf_mu (a i) (fu x i0 y i)) = la_sm n (fun i => gf_mu (a i) (x i)) ^^^ gf_mu (a i0) y := by
  have e : gf_mu (a i0) y = la_sm n (fun i => if i = i0 then gf_mu (a i0) y else 0#8) := by
    rw [la_one (j := i0) hi (fun i _ ne => if_neg ne), if_pos rfl]
  rw [e, ← la_x]
  refine la_congr (fun i _ => ?_)
  show _ = gf_mu (a i) (x i) ^^^ (if i = i0 then gf_mu (a i0) y else 0#8)
  by_cases h : i = i0
  · subst h
    rw [fu_s, h0, gf_m0, gf_0x, if_pos rfl]
  · rw [fu_n h, if_neg h, gf_x0]
theorem la_dep (n : Nat) : ∀ (m : Nat) (E Q : Nat → Bool) (A : Nat → Nat → gf_K), la_ct m E < la_ct n Q → ∃ x : Nat → gf_K, (∃ i, i < n ∧ x i ≠ 0#8) ∧ (∀ i, Q i = false → x i = 0#8) ∧ ∀ g, g < m → E g = true → la_sm n (fun i => gf_mu (A g i) (x i)) = 0#8 := by
  intro m
  induction m with
  | zero =>
    intro E Q A h
    obtain ⟨i0, hi, hq⟩ := la_ct_pos (Nat.lt_of_le_of_lt (Nat.zero_le _) h)
    refine ⟨fun i => if i = i0 then 1#8 else 0#8, ⟨i0, hi, ?_⟩, ?_, fun g hg => by omega⟩
    · show (if i0 = i0 then 1#8 else 0#8) ≠ 0#8
      rw [if_pos rfl]; decide
    · intro i hf
      refine if_neg (fun z => ?_)
      rw [z, hq] at hf
      cases hf
  | succ m ih =>
    intro E Q A h
    cases hE : E m
    · rw [la_ct_s, hE] at h
      obtain ⟨x, h1, h2, h3⟩ := ih E Q A h
      refine ⟨x, h1, h2, fun g hg he => ?_⟩
      by_cases e : g = m
      · rw [e, hE] at he; cases he
      · exact h3 g (by omega) he
    · rw [la_ct_s, hE, if_pos rfl] at h
      by_cases hz : ∀ i, i < n → Q i = true → A m i = 0#8
      · obtain ⟨x, h1, h2, h3⟩ := ih E Q A (by omega)
        refine ⟨x, h1, h2, fun g hg he => ?_⟩
        by_cases e : g = m
        · rw [e]
          refine la_zero (fun i hi => ?_)
          cases hq : Q i
          · rw [h2 i hq, gf_m0]
          · rw [hz i hi hq, gf_0m]
        · exact h3 g (by omega) he
      · have hz : ∃ i0, i0 < n ∧ Q i0 = true ∧ A m i0 ≠ 0#8 := by
          refine Classical.byContradiction (fun hc => hz (fun i hi hq => Classical.byContradiction (fun hn => hc ⟨i, hi, hq, hn⟩)))
        obtain ⟨i0, hi0, hq0, hn0⟩ := hz
        have hct := la_ct_unset hi0 hq0
        obtain ⟨x, ⟨i1, hi1, hx1⟩, h2, h3⟩ := ih E (fu Q i0 false) (fun g i => A g i ^^^ gf_mu (gf_mu (A g i0) (gf_iv (A m i0))) (A m i)) (by omega)
        have hx0 : x i0 = 0#8 := h2 i0 fu_s
        have hne : i1 ≠ i0 := fun z => hx1 (by rw [z]; exact hx0)
        refine ⟨fu x i0 (gf_mu (gf_iv (A m i0)) (la_sm n (fun i => gf_mu (A m i) (x i)))), ⟨i1, hi1, by rw [fu_n hne]; exact hx1⟩, ?_, ?_⟩
        · intro i hf
          have ne : i ≠ i0 := fun z => by rw [z, hq0] at hf; cases hf
          rw [fu_n ne]
          exact h2 i (by rw [fu_n ne]; exact hf)
        · intro g hg he
          rw [la_put hi0 hx0]
          by_cases e : g = m
          · rw [e, ← gf_assoc, gf_miv hn0, gf_1m, gf_xx]
          · have h4 := h3 g (by omega) he
            have e4 : la_sm n (fun i => gf_mu (A g i ^^^ gf_mu (gf_mu (A g i0) (gf_iv (A m i0))) (A m i)) (x i)) = la_sm n (fun i => gf_mu (A g i) (x i)) ^^^ gf_mu (gf_mu (A g i0) (gf_iv (A m i0))) (la_sm n (fun i => gf_mu (A m i) (x i))) := by
              rw [← la_mul, ← la_x]
              refine la_congr (fun i _ => ?_)
              rw [gf_al, gf_assoc (gf_mu (A g i0) (gf_iv (A m i0)))]
            rw [← gf_assoc, ← e4]
            exact h4
def la_LA (A : (Nat → gf_K) → Prop) : Prop := (∀ φ ψ : Nat → gf_K, (∀ i, i < 6 → φ i = ψ i) → A φ → A ψ) ∧ ∀ (a b : gf_K) (φ ψ : Nat → gf_K), A φ → A ψ → A (fun i => gf_mu a (φ i) ^^^ gf_mu b (ψ i))
theorem la_LA_t : la_LA (fun _ => True) := ⟨fun _ _ _ _ => trivial, fun _ _ _ _ _ _ => trivial⟩
theorem la_LA_a {A : (Nat → gf_K) → Prop} (h : la_LA A) (v : Nat → gf_K) : la_LA (fun φ => A φ ∧ la_dot φ v = 0#8) :=
  ⟨fun φ ψ e hφ => ⟨h.1 φ ψ e hφ.1, by rw [← la_dot_cl e]; exact hφ.2⟩,
   fun a b φ ψ hφ hψ => ⟨h.2 a b φ ψ hφ.1 hψ.1, by rw [la_dot_l, hφ.2, hψ.2, gf_m0, gf_m0, gf_x0]⟩⟩
def la_FI (k f : Nat) (F : Nat → Nat → gf_K) (A : (Nat → gf_K) → Prop) : Prop :=
  f ≤ k ∧ la_LA A ∧ (∀ g, g < f → A (F g)) ∧ (∀ w, la_su k w → (∀ g, g < f → la_dot (F g) w = 0#8) → ∀ φ, A φ → la_dot φ w = 0#8) ∧
  ∃ D : Nat → Nat → gf_K, (∀ h, h < f → la_su k (D h)) ∧ ∀ g, g < f → ∀ h, h < f → la_dot (F g) (D h) = if g = h then 1#8 else 0#8
theorem la_FI_c {k f : Nat} {F G : Nat → Nat → gf_K} {A : (Nat → gf_K) → Prop} (h : la_FI k f F A) (e : ∀ g, g < f → ∀ i, i < 6 → G g i = F g i) : la_FI k f G A := by
  obtain ⟨h0, h1, h2, h3, D, h4, h5⟩ := h
  refine ⟨h0, h1, fun g hg => h1.1 _ _ (fun i hi => (e g hg i hi).symm) (h2 g hg), fun w hw hz φ hφ => h3 w hw (fun g hg => ?_) φ hφ, D, h4, fun g hg h hh => ?_⟩
  · rw [← la_dot_cl (e g hg)]; exact hz g hg
  · rw [la_dot_cl (e g hg)]; exact h5 g hg h hh
theorem la_FI_A {k f : Nat} {F : Nat → Nat → gf_K} {A B : (Nat → gf_K) → Prop} (h : la_FI k f F A) (e : ∀ φ, A φ ↔ B φ) : la_FI k f F B := by
  have : A = B := funext (fun φ => propext (e φ))
  rw [← this]
  exact h
theorem la_FI_0 {k : Nat} (hk : k ≤ 6) {F : Nat → Nat → gf_K} (hF : ∀ g, g < k → ∀ i, i < 6 → F g i = if g = i then 1#8 else 0#8) : la_FI k k F (fun _ => True) := by
  have hd : ∀ g, g < k → ∀ w, la_dot (F g) w = w g := by
    intro g hg w
    rw [la_dot_cl (hF g hg)]
    show la_sm 6 (fun i => gf_mu (if g = i then 1#8 else 0#8) (w i)) = w g
    rw [la_one (j := g) (by omega) (fun i _ ne => by rw [if_neg (fun z => ne z.symm), gf_0m]), if_pos rfl, gf_1m]
  refine ⟨Nat.le_refl k, la_LA_t, fun _ _ => trivial, fun w hw hz φ _ => la_dot_0 (fun i hi => ?_), fun h i => if i = h then 1#8 else 0#8, fun h hh i h1 h2 => if_neg (by omega), fun g hg h hh => ?_⟩
  · by_cases e : i < k
    · rw [← hd i e w]; exact hz i e
    · exact hw i (by omega) hi
  · rw [hd g hg]
theorem la_FI_same {k f : Nat} {F : Nat → Nat → gf_K} {A : (Nat → gf_K) → Prop} {v : Nat → gf_K} (h : la_FI k f F A) (hz : ∀ g, g < f → la_dot (F g) v = 0#8) : la_FI k f F (fun φ => A φ ∧ la_dot φ v = 0#8) := by
  obtain ⟨h0, h1, h2, h3, h4⟩ := h
  exact ⟨h0, la_LA_a h1 v, fun g hg => ⟨h2 g hg, hz g hg⟩, fun w hw hz φ hφ => h3 w hw hz φ hφ.1, h4⟩
def la_nG (F : Nat → Nat → gf_K) (v : Nat → gf_K) (p g : Nat) : Nat → gf_K := fun i => gf_mu (la_dot (F p) v) (F g i) ^^^ gf_mu (la_dot (F g) v) (F p i)
theorem la_narrow {k f p : Nat} {F F' : Nat → Nat → gf_K} {A : (Nat → gf_K) → Prop} {v : Nat → gf_K} (H : la_FI k f F A) (hv : la_su k v) (hp : p < f) (hr : la_dot (F p) v ≠ 0#8) (hF : ∀ g, g < f - 1 → ∀ i, i < 6 → F' g i = la_nG F v p (if g = p then f - 1 else g) i) : la_FI k (f - 1) F' (fun φ => A φ ∧ la_dot φ v = 0#8) := by
  obtain ⟨h0, h1, h2, h3, D, h4, h5⟩ := H
  have hσ : ∀ g, g < f - 1 → (if g = p then f - 1 else g) < f ∧ (if g = p then f - 1 else g) ≠ p := by
    intro g hg
    by_cases e : g = p
    · rw [if_pos e]; omega
    · rw [if_neg e]; omega
  have hd : ∀ g, g < f - 1 → ∀ w, la_dot (F' g) w = gf_mu (la_dot (F p) v) (la_dot (F (if g = p then f - 1 else g)) w) ^^^ gf_mu (la_dot (F (if g = p then f - 1 else g)) v) (la_dot (F p) w) := by
    intro g hg w
    rw [la_dot_cl (hF g hg)]
    exact la_dot_l _ _ _ _ _
  refine ⟨by omega, la_LA_a h1 v, fun g hg => ⟨?_, ?_⟩, ?_, fun h t => gf_mu (gf_iv (la_dot (F p) v)) (D (if h = p then f - 1 else h) t), ?_, ?_⟩
  · refine h1.1 _ _ (fun i hi => (hF g hg i hi).symm) (h1.2 _ _ _ _ (h2 _ (hσ g hg).1) (h2 p hp))
  · rw [hd g hg, gf_comm, gf_xx]
  · intro w hw hz φ hφ
    have hw' : la_su k (fun t => w t ^^^ gf_mu (gf_mu (la_dot (F p) w) (gf_iv (la_dot (F p) v))) (v t)) := by
      intro i hi1 hi2
      show w i ^^^ _ = _
      rw [hw i hi1 hi2, hv i hi1 hi2, gf_m0, gf_x0]
    have hz' : ∀ g, g < f → la_dot (F g) (fun t => w t ^^^ gf_mu (gf_mu (la_dot (F p) w) (gf_iv (la_dot (F p) v))) (v t)) = 0#8 := by
      intro g hg
      rw [la_dot_x]
      by_cases e : g = p
      · rw [e, gf_assoc, gf_ivm hr, gf_m1, gf_xx]
      · have hx : ∃ g', g' < f - 1 ∧ (if g' = p then f - 1 else g') = g := by
          by_cases e2 : g < f - 1
          · exact ⟨g, e2, if_neg e⟩
          · exact ⟨p, by omega, by rw [if_pos rfl]; omega⟩
        obtain ⟨g', hg', eg⟩ := hx
        have hz1 := hz g' hg'
        rw [hd g' hg', eg] at hz1
        have hz2 := gf_eq0 hz1
        have e3 : la_dot (F g) w = gf_mu (gf_iv (la_dot (F p) v)) (gf_mu (la_dot (F p) v) (la_dot (F g) w)) := by
          rw [← gf_assoc, gf_ivm hr, gf_1m]
        rw [e3, hz2, gf_comm (la_dot (F p) w), gf_assoc, gf_comm (la_dot (F p) w), gf_xx]
    have hh := h3 _ hw' hz' φ hφ.1
    rw [la_dot_x, hφ.2, gf_m0, gf_x0] at hh
    exact hh
  · intro h hh i h6 h7
    show gf_mu _ _ = _
    rw [h4 _ (hσ h hh).1 i h6 h7, gf_m0]
  · intro g hg h hh
    have e7 : la_dot (F p) (D (if h = p then f - 1 else h)) = 0#8 := by
      rw [h5 p hp _ (hσ h hh).1]
      exact if_neg (fun z => (hσ h hh).2 z.symm)
    rw [hd g hg, la_dot_m, la_dot_m, e7, h5 _ (hσ g hg).1 _ (hσ h hh).1, gf_m0, gf_m0, gf_x0]
    by_cases e : g = h
    · rw [e, if_pos rfl, if_pos rfl, gf_m1, gf_miv hr]
    · have ne : ¬ (if g = p then f - 1 else g) = (if h = p then f - 1 else h) := by
        by_cases e1 : g = p
        · by_cases e2 : h = p
          · omega
          · rw [if_pos e1, if_neg e2]; omega
        · by_cases e2 : h = p
          · rw [if_neg e1, if_pos e2]; omega
          · rw [if_neg e1, if_neg e2]; exact e
      rw [if_neg ne, if_neg e, gf_m0, gf_m0]
theorem la_in {k f : Nat} {F : Nat → Nat → gf_K} {A : (Nat → gf_K) → Prop} {P : Nat → Bool} {R : Nat → Nat → gf_K} {w : Nat → gf_K} (H : la_FI k f F A) (hb : la_rb k P R) (hk : k ≤ 6) (hs : ∀ c, c < k → P c = true → la_su k (R c)) (hA : ∀ φ, A φ ↔ la_AN k P R φ) (hw : la_su k w) : (∀ g, g < f → la_dot (F g) w = 0#8) ↔ ∀ i, i < k → la_rd k P R w i = 0#8 := by
  rw [← la_crit hb hk hs hw]
  constructor
  · intro h φ hφ
    exact H.2.2.2.1 w hw h φ ((hA φ).mpr hφ)
  · intro h g hg
    exact h _ ((hA _).mp (H.2.2.1 g hg))
theorem la_dim {k f : Nat} {F : Nat → Nat → gf_K} {A : (Nat → gf_K) → Prop} {P : Nat → Bool} {R : Nat → Nat → gf_K} (H : la_FI k f F A) (hb : la_rb k P R) (hk : k ≤ 6) (hs : ∀ c, c < k → P c = true → la_su k (R c)) (hP : ∀ c, c < 6 → P c = true → c < k) (hA : ∀ φ, A φ ↔ la_AN k P R φ) : f + la_ct 6 P = k := by
  have hsp := la_ct_split (k := k) (P := P) 6
  have e6 : la_ct 6 (fun i => decide (i < k) && P i) = la_ct 6 P := by
    refine la_ct_c (fun i hi => ?_)
    cases hp : P i
    · exact Bool.and_false _
    · rw [decide_eq_true (hP i hi hp)]; rfl
  have ek : (if 6 ≤ k then 6 else k) = k := by
    by_cases e : 6 ≤ k
    · rw [if_pos e]; omega
    · rw [if_neg e]
  rw [e6, ek] at hsp
  have hge : la_ct 6 (fun i => decide (i < k) && !P i) ≤ f := by
    refine Classical.byContradiction (fun hc => ?_)
    obtain ⟨x, ⟨i, hi, hx⟩, h2, h3⟩ := la_dep 6 f (fun _ => true) (fun i => decide (i < k) && !P i) F (by rw [la_ct_all]; omega)
    have hxk : ∀ i, P i = true → x i = 0#8 := fun i hp => h2 i (by show (decide (i < k) && !P i) = false; rw [hp]; exact Bool.and_false _)
    have hsx : la_su k x := fun i h1 _ => h2 i (by show (decide (i < k) && !P i) = false; rw [decide_eq_false (by omega)]; rfl)
    have hz := (la_in H hb hk hs hA hsx).mp (fun g hg => h3 g hg rfl)
    by_cases e : i < k
    · have := hz i e
      unfold la_rd at this
      rw [la_zero, gf_x0] at this
      · exact hx this
      · intro c _
        cases hp : P c
        · rfl
        · rw [hxk c hp, gf_0m]; rfl
    · exact hx (hsx i (by omega) hi)
  have hle : f ≤ la_ct 6 (fun i => decide (i < k) && !P i) := by
    refine Classical.byContradiction (fun hc => ?_)
    obtain ⟨h0, h1, h4, h5, D, h6, h7⟩ := H
    obtain ⟨x, ⟨j, hj, hx⟩, _, h3⟩ := la_dep f 6 (fun i => decide (i < k) && !P i) (fun _ => true) (fun c g => F g c) (by rw [la_ct_all]; omega)
    have hdd : ∀ v, la_dot (fun i => la_sm f (fun g => gf_mu (F g i) (x g))) v = la_sm f (fun g => gf_mu (x g) (la_dot (F g) v)) := by
      intro v
      have e1 : ∀ g, gf_mu (x g) (la_dot (F g) v) = la_sm 6 (fun i => gf_mu (x g) (gf_mu (F g i) (v i))) := fun g => (la_mul 6 _ _).symm
      have e2 : la_sm f (fun g => gf_mu (x g) (la_dot (F g) v)) = la_sm f (fun g => la_sm 6 (fun i => gf_mu (x g) (gf_mu (F g i) (v i)))) := la_congr (fun g _ => e1 g)
      rw [e2, la_swap]
      refine la_congr (fun i _ => ?_)
      rw [gf_comm, ← la_mul]
      refine la_congr (fun g _ => ?_)
      rw [gf_lc, gf_comm (v i)]
      exact gf_lc _ _ _
    have hφn : ∀ c, c < k → P c = false → la_sm f (fun g => gf_mu (F g c) (x g)) = 0#8 := fun c hc hp => h3 c (by omega) (by show (decide (c < k) && !P c) = true; rw [hp, decide_eq_true hc]; rfl)
    have hφp : ∀ c, c < k → la_sm f (fun g => gf_mu (F g c) (x g)) = 0#8 := by
      intro c hc
      cases hp : P c
      · exact hφn c hc hp
      · have e1 : la_dot (fun i => la_sm f (fun g => gf_mu (F g i) (x g))) (R c) = 0#8 := by
          rw [hdd]
          refine la_zero (fun g hg => ?_)
          rw [(hA _).mp (h4 g hg) c hc hp, gf_m0]
        unfold la_dot at e1
        rw [la_one (j := c) (by omega), hb c hc hp c hc hp, if_pos rfl, gf_m1] at e1
        · exact e1
        · intro i hi ne
          by_cases hik : i < k
          · cases hpi : P i
            · show gf_mu (la_sm f (fun g => gf_mu (F g i) (x g))) (R c i) = 0#8
              rw [hφn i hik hpi, gf_0m]
            · rw [hb c hc hp i hik hpi, if_neg (fun z => ne z.symm), gf_m0]
          · rw [hs c hc hp i (by omega) hi, gf_m0]
    have e1 : la_dot (fun i => la_sm f (fun g => gf_mu (F g i) (x g))) (D j) = 0#8 := by
      refine la_zero (fun i hi => ?_)
      by_cases hik : i < k
      · show gf_mu (la_sm f (fun g => gf_mu (F g i) (x g))) (D j i) = 0#8
        rw [hφp i hik, gf_0m]
      · rw [h6 j hj i (by omega) hi, gf_m0]
    rw [hdd, la_one (j := j) hj, h7 j hj j hj, if_pos rfl, gf_m1] at e1
    · exact hx e1
    · intro g hg ne
      rw [h7 g hg j hj, if_neg ne, gf_m0]
  omega
/-- insertion into a reduced basis -/
def la_w2 (k : Nat) (P : Nat → Bool) (R : Nat → Nat → gf_K) (w : Nat → gf_K) (p : Nat) : Nat → gf_K := fun t => gf_mu (gf_iv (la_rd k P R w p)) (la_rd k P R w t)
def la_iR (k : Nat) (P : Nat → Bool) (R : Nat → Nat → gf_K) (w : Nat → gf_K) (p : Nat) : Nat → Nat → gf_K := fun c t => if c = p then la_w2 k P R w p t else if P c = true then R c t ^^^ gf_mu (R c p) (la_w2 k P R w p t) else R c t
section
variable {k p : Nat} {P : Nat → Bool} {R : Nat → Nat → gf_K} {w : Nat → gf_K}
theorem la_pf (hb : la_rb k P R) (hp : p < k) (hn : la_rd k P R w p ≠ 0#8) : P p = false := by
  cases h : P p
  · rfl
  · exact absurd (la_rd_piv hb hp h) hn
theorem la_w2p (hn : la_rd k P R w p ≠ 0#8) : la_w2 k P R w p p = 1#8 := gf_ivm hn
theorem la_w2c (hb : la_rb k P R) {c : Nat} (hc : c < k) (hP : P c = true) : la_w2 k P R w p c = 0#8 := by
  unfold la_w2
  rw [la_rd_piv hb hc hP, gf_m0]
theorem la_ins_rb (hb : la_rb k P R) (hp : p < k) (hn : la_rd k P R w p ≠ 0#8) : la_rb k (fu P p true) (la_iR k P R w p) := by
  have hpf := la_pf hb hp hn
  intro c hc hPc e he hPe
  unfold la_iR
  by_cases ec : c = p
  · rw [if_pos ec]
    by_cases ee : e = p
    · rw [ee, la_w2p hn, ec, if_pos rfl]
    · rw [fu_n ee] at hPe
      rw [la_w2c hb he hPe, if_neg (by omega)]
  · rw [fu_n ec] at hPc
    rw [if_neg ec, if_pos hPc]
    by_cases ee : e = p
    · rw [ee, la_w2p hn, gf_m1, gf_xx, if_neg ec]
    · rw [fu_n ee] at hPe
      rw [la_w2c hb he hPe, gf_m0, gf_x0]
      exact hb c hc hPc e he hPe
theorem la_ins_T {T : (Nat → gf_K) → Prop} (hT : la_LT T) (hb : la_rb k P R) (hp : p < k) (hn : la_rd k P R w p ≠ 0#8) : (∀ c, c < k → fu P p true c = true → T (la_iR k P R w p c)) ↔ (∀ c, c < k → P c = true → T (R c)) ∧ T w := by
  have hpf := la_pf hb hp hn
  constructor
  · intro h
    have h2 : T (la_w2 k P R w p) := by
      refine hT.1 _ _ (fun t _ => ?_) (h p hp fu_s)
      show (if p = p then la_w2 k P R w p t else _) = _
      rw [if_pos rfl]
    have h1 : ∀ c, c < k → P c = true → T (R c) := by
      intro c hc hPc
      have ne : c ≠ p := fun z => by rw [z, hpf] at hPc; cases hPc
      refine hT.1 _ _ (fun t _ => ?_) (hT.2.2 (R c p) _ _ (h c hc (by rw [fu_n ne]; exact hPc)) h2)
      show (if c = p then la_w2 k P R w p t else if P c = true then R c t ^^^ gf_mu (R c p) (la_w2 k P R w p t) else R c t) ^^^ gf_mu (R c p) (la_w2 k P R w p t) = R c t
      rw [if_neg ne, if_pos hPc, gf_xa, gf_xx, gf_x0]
    refine ⟨h1, ?_⟩
    have h3 : T (la_rd k P R w) := by
      refine hT.1 _ _ (fun t _ => ?_) (la_LTs hT (la_rd k P R w p) h2)
      show gf_mu (la_rd k P R w p) (gf_mu (gf_iv (la_rd k P R w p)) (la_rd k P R w t)) = _
      rw [← gf_assoc, gf_miv hn, gf_1m]
    refine hT.1 _ _ (fun t _ => ?_) (la_LTsum hT (x := w) k h1 h3)
    show la_rd k P R w t ^^^ _ = w t
    unfold la_rd
    rw [gf_xa, gf_xx, gf_x0]
  · intro ⟨h1, hw⟩
    have h3 : T (la_rd k P R w) := hT.1 _ _ (fun t _ => rfl) (la_LTsum hT (x := w) k h1 hw)
    have h2 : T (la_w2 k P R w p) := la_LTs hT (gf_iv (la_rd k P R w p)) h3
    intro c hc hPc
    by_cases e : c = p
    · refine hT.1 _ _ (fun t _ => ?_) h2
      show _ = (if c = p then la_w2 k P R w p t else _)
      rw [if_pos e]
    · rw [fu_n e] at hPc
      refine hT.1 _ _ (fun t _ => ?_) (hT.2.2 (R c p) _ _ (h1 c hc hPc) h2)
      show _ = (if c = p then la_w2 k P R w p t else if P c = true then R c t ^^^ gf_mu (R c p) (la_w2 k P R w p t) else R c t)
      rw [if_neg e, if_pos hPc]
end
def la_BI (k : Nat) (P : Nat → Bool) (R : Nat → Nat → gf_K) (n : Nat) (A T : (Nat → gf_K) → Prop) : Prop :=
  (∀ c, c < 6 → P c = true → c < k) ∧ la_rb k P R ∧ n = la_ct 6 P ∧ (∀ φ, A φ ↔ la_AN k P R φ) ∧ ∀ c, c < k → P c = true → T (R c)
section
variable {k p n : Nat} {P P' : Nat → Bool} {R R' : Nat → Nat → gf_K} {w : Nat → gf_K} {A A' T T' : (Nat → gf_K) → Prop}
theorem la_BI_c (hk : k ≤ 6) (hT : la_LT T) (h : la_BI k P R n A T) (hP : ∀ c, c < 6 → P' c = P c) (hR : ∀ c, c < 6 → ∀ t, t < 10 → R' c t = R c t) : la_BI k P' R' n A T := by
  obtain ⟨h1, h2, h3, h4, h5⟩ := h
  refine ⟨fun c hc hp => h1 c hc (by rw [← hP c hc]; exact hp), ?_, ?_, ?_, ?_⟩
  · intro c hc hPc e he hPe
    rw [hR c (by omega) e (by omega)]
    exact h2 c hc (by rw [← hP c (by omega)]; exact hPc) e he (by rw [← hP e (by omega)]; exact hPe)
  · rw [h3]
    exact la_ct_c (fun i hi => (hP i hi).symm)
  · intro φ
    rw [h4 φ]
    constructor
    · intro h c hc hp
      rw [la_dot_c (fun i hi => hR c (by omega) i (by omega))]
      exact h c hc (by rw [← hP c (by omega)]; exact hp)
    · intro h c hc hp
      rw [← la_dot_c (fun i hi => hR c (by omega) i (by omega))]
      exact h c hc (by rw [hP c (by omega)]; exact hp)
  · intro c hc hp
    exact hT.1 _ _ (fun t ht => (hR c (by omega) t ht).symm) (h5 c hc (by rw [← hP c (by omega)]; exact hp))
theorem la_BI_A (h : la_BI k P R n A T) (e : ∀ φ, A' φ ↔ A φ) : la_BI k P R n A' T :=
  ⟨h.1, h.2.1, h.2.2.1, fun φ => (e φ).trans (h.2.2.2.1 φ), h.2.2.2.2⟩
theorem la_BI_T (h : la_BI k P R n A T) (e : ∀ v, T v → T' v) : la_BI k P R n A T' :=
  ⟨h.1, h.2.1, h.2.2.1, h.2.2.2.1, fun c hc hp => e _ (h.2.2.2.2 c hc hp)⟩
theorem la_BI_0 (hP : ∀ c, c < 6 → P c = false) (hk : k ≤ 6) : la_BI k P R 0 (fun _ => True) T := by
  have hf : ∀ c, c < 6 → ¬ P c = true := fun c hc z => by rw [hP c hc] at z; cases z
  refine ⟨fun c hc hp => absurd hp (hf c hc), fun c hc hp => absurd hp (hf c (by omega)), ?_, fun φ => ⟨fun _ c hc hp => absurd hp (hf c (by omega)), fun _ => trivial⟩, fun c hc hp => absurd hp (hf c (by omega))⟩
  have := la_ct_lt (n := 6) (m := 0) (P := P) (by omega) (fun i hi hp => absurd hp (hf i hi))
  omega
theorem la_BI_ins (hk : k ≤ 6) (hT : la_LT T) (h : la_BI k P R n A T) (hw : T w) (hp : p < k) (hn : la_rd k P R w p ≠ 0#8) : la_BI k (fu P p true) (la_iR k P R w p) (n + 1) (fun φ => A φ ∧ la_dot φ w = 0#8) T := by
  obtain ⟨h1, h2, h3, h4, h5⟩ := h
  have hpf := la_pf h2 hp hn
  refine ⟨?_, la_ins_rb h2 hp hn, ?_, ?_, (la_ins_T hT h2 hp hn).mpr ⟨h5, hw⟩⟩
  · intro c hc hPc
    by_cases e : c = p
    · omega
    · rw [fu_n e] at hPc; exact h1 c hc hPc
  · rw [la_ct_set (by omega) hpf, h3]
  · intro φ
    exact (and_congr_left' (h4 φ)).trans (la_ins_T (la_LTdot φ) h2 hp hn).symm
theorem la_BI_same (hk : k ≤ 6) (h : la_BI k P R n A T) (hT : ∀ v, T v → la_su k v) (hw : la_su k w) (hz : ∀ i, i < k → la_rd k P R w i = 0#8) : la_BI k P R n (fun φ => A φ ∧ la_dot φ w = 0#8) T := by
  refine la_BI_A h (fun φ => ⟨fun z => z.1, fun z => ⟨z, ?_⟩⟩)
  exact (la_crit h.2.1 hk (fun c hc hp => hT _ (h.2.2.2.2 c hc hp)) hw).mpr hz φ ((h.2.2.2.1 φ).mp z)
end
end
section
/-! ===== X: the small walks ===== -/
def lv (lo hi : Int32) (i : Nat) : gf_K := if 4 ≤ i then gf_lo ((hi.toUInt32 >>> ((8 * (nI i - 4)).toUInt32 &&& Int32.toUInt32 31)).toInt32) else gf_lo ((lo.toUInt32 >>> ((8 * nI i).toUInt32 &&& Int32.toUInt32 31)).toInt32)
theorem lv_hi {lo hi : Int32} {i : Nat} (h : 4 ≤ i) : ((hi.toUInt32 >>> ((8 * (nI i - 4)).toUInt32 &&& Int32.toUInt32 31)).toInt32) &&& 255 = gf_I (lv lo hi i) := by
  rw [gf_and]; unfold lv; rw [if_pos h]
theorem lv_lo {lo hi : Int32} {i : Nat} (h : i < 4) : ((lo.toUInt32 >>> ((8 * nI i).toUInt32 &&& Int32.toUInt32 31)).toInt32) &&& 255 = gf_I (lv lo hi i) := by
  rw [gf_and]; unfold lv; rw [if_neg (by omega)]
def wgt (w : Int32) (p : Nat) : gf_K := gf_lo ((w.toUInt32 >>> ((8 * nI p).toUInt32 &&& Int32.toUInt32 31)).toInt32)
theorem fu_lt {α : Type} {w : Nat → α} {i : Nat} {v : α} {Q : Nat → α → Prop} (h : ∀ t, t < i → Q t (w t)) (hv : Q i v) : ∀ t, t < i + 1 → Q t (fu w i v t) := by
  intro t ht
  by_cases e : t = i
  · rw [e, fu_s]; exact hv
  · rw [fu_n e]; exact h t (by omega)
section
variable {k l d q fc mk : Nat} {ae al : Nat → Int32} {fi sr mr bs ab wk wt : Nat → gf_K} {mX bh ak : Nat → Bool} {ng kd sg sm mc bd : Nat → Nat}
theorem xw_clear_lp {post : SX → Prop} (H : ∀ w, (∀ t, t < 10 → w t = 0#8) → post (nI k, nI l, nI d, nI q, 10, 5, nI fc, nI mk, ae, al, tI fi, bA mX, nA ng, nA kd, nA sg, nA sm, tI sr, tI mr, nA mc, tI bs, bA bh, nA bd, tI ab, bA ak, tI wk, tI w)) : ∀ (n i : Nat) (w : Nat → gf_K), i ≤ 10 → 10 < n + i → (∀ t, t < i → w t = 0#8) → wX_clearWant_2 post (nI k) (nI l) (nI d) (nI q) 10 5 (nI fc) (nI mk) n (nI i) ae al (tI fi) (bA mX) (nA ng) (nA kd) (nA sg) (nA sm) (tI sr) (tI mr) (nA mc) (tI bs) (bA bh) (nA bd) (tI ab) (bA ak) (tI wk) (tI w) := by
  intro n
  induction n with
  | zero => intro i w h1 h2; omega
  | succ n ih =>
    intro i w h1 h2 h3
    refine pk_le 10 i (fun h => ?_) (fun h => ⟨pk_in i 10 h, tI_nm i 0#8 rfl (by omega) rfl (nm_r (nI_1 i) (ih (i + 1) _ (by omega) (by omega) ?_))⟩)
    · exact H w (fun t ht => h3 t (by omega))
    · exact fu_lt (Q := fun _ x => x = 0#8) h3 rfl
theorem xw_clear {post : SX → Prop} (H : ∀ w, (∀ t, t < 10 → w t = 0#8) → post (nI k, nI l, nI d, nI q, 10, 5, nI fc, nI mk, ae, al, tI fi, bA mX, nA ng, nA kd, nA sg, nA sm, tI sr, tI mr, nA mc, tI bs, bA bh, nA bd, tI ab, bA ak, tI wk, tI w)) : wpX_clearWant post (nI k, nI l, nI d, nI q, 10, 5, nI fc, nI mk, ae, al, tI fi, bA mX, nA ng, nA kd, nA sg, nA sm, tI sr, tI mr, nA mc, tI bs, bA bh, nA bd, tI ab, bA ak, tI wk, tI wt) :=
  Exists.intro 11 (xw_clear_lp H 11 0 wt (by omega) (by omega) (fun t ht => by omega))
theorem xw_isz_lp {post : Int32 → Prop} (hk : k ≤ 6) (h1 : (∀ i, i < k → wt i = 0#8) → post 1) (h0 : ∀ i, i < k → wt i ≠ 0#8 → post 0) : ∀ (n i : Nat), i ≤ k → k < n + i → (∀ t, t < i → wt t = 0#8) → wX_wantIsZero_2 post (nI k) (nI l) (nI d) (nI q) 10 5 (nI fc) (nI mk) ae al (tI fi) (bA mX) (nA ng) (nA kd) (nA sg) (nA sm) (tI sr) (tI mr) (nA mc) (tI bs) (bA bh) (nA bd) (tI ab) (bA ak) (tI wk) (tI wt) n (nI i) := by
  intro n
  induction n with
  | zero => intro i h1 h2; omega
  | succ n ih =>
    intro i h2 h3 h4
    refine pk_le k i (fun h => h1 (fun t ht => h4 t (by omega))) (fun h => ⟨pk_in i 10 (by omega), ?_⟩)
    rw [nI_clamp (by omega : i < 2 ^ 31)]
    by_cases z : wt i = 0#8
    · refine br_t (gf_Iz.mpr z) (nm_r (nI_1 i) (ih (i + 1) (by omega) (by omega) (fun t ht => ?_)))
      by_cases e : t = i
      · rw [e]; exact z
      · exact h4 t (by omega)
    · exact br_f (fun y => z (gf_Iz.mp y)) (h0 i h z)
theorem xw_isz {post : Int32 → Prop} (hk : k ≤ 6) (h1 : (∀ i, i < k → wt i = 0#8) → post 1) (h0 : ∀ i, i < k → wt i ≠ 0#8 → post 0) : wpX_wantIsZero post (nI k, nI l, nI d, nI q, 10, 5, nI fc, nI mk, ae, al, tI fi, bA mX, nA ng, nA kd, nA sg, nA sm, tI sr, tI mr, nA mc, tI bs, bA bh, nA bd, tI ab, bA ak, tI wk, tI wt) :=
  Exists.intro 7 (xw_isz_lp hk h1 h0 7 0 (by omega) (by omega) (fun t ht => by omega))
theorem xw_load_lp {post : Int32 → SX → Prop} {lo hi : Int32} (hk : k ≤ 6)
    (H1 : ∀ w, (∀ t, t < k → w t = lv lo hi t) → (∀ t, k ≤ t → t < 10 → w t = 0#8) → (∃ i, i < k ∧ lv lo hi i ≠ 0#8) → post 1 (nI k, nI l, nI d, nI q, 10, 5, nI fc, nI mk, ae, al, tI fi, bA mX, nA ng, nA kd, nA sg, nA sm, tI sr, tI mr, nA mc, tI bs, bA bh, nA bd, tI ab, bA ak, tI wk, tI w))
    (H0 : ∀ w, (∀ t, t < k → w t = lv lo hi t) → (∀ t, k ≤ t → t < 10 → w t = 0#8) → (∀ i, i < k → lv lo hi i = 0#8) → post 0 (nI k, nI l, nI d, nI q, 10, 5, nI fc, nI mk, ae, al, tI fi, bA mX, nA ng, nA kd, nA sg, nA sm, tI sr, tI mr, nA mc, tI bs, bA bh, nA bd, tI ab, bA ak, tI wk, tI w)) :
    ∀ (n i : Nat) (w : Nat → gf_K), i ≤ k → k < n + i → (∀ t, t < i → w t = lv lo hi t) → (∀ t, i ≤ t → t < 10 → w t = 0#8) → wX_loadVector_6 post lo hi (nI k) (nI l) (nI d) (nI q) 10 5 (nI fc) (nI mk) n (nI i) ae al (tI fi) (bA mX) (nA ng) (nA kd) (nA sg) (nA sm) (tI sr) (tI mr) (nA mc) (tI bs) (bA bh) (nA bd) (tI ab) (bA ak) (tI wk) (tI w) := by
  intro n
  induction n with
  | zero => intro i w h1 h2; omega
  | succ n ih =>
    intro i w h1 h2 h3 h4
    refine pk_le k i (fun h => ?_) (fun h => ?_)
    · obtain rfl : i = k := by omega
      refine xw_isz hk (fun hz => ?_) (fun j hj hn => ?_)
      · exact br_f (by decide) (H0 w h3 h4 (fun j hj => by rw [← h3 j hj]; exact hz j hj))
      · exact br_t rfl (H1 w h3 h4 ⟨j, hj, by rw [← h3 j hj]; exact hn⟩)
    · have hb : ∀ t, i + 1 ≤ t → t < 10 → fu w i (lv lo hi i) t = 0#8 := fun t ht1 ht2 => by rw [fu_n (by omega)]; exact h4 t (by omega) ht2
      refine pk_le 4 i (fun h => ⟨pk_in i 10 (by omega), tI_nm i (lv lo hi i) rfl (by omega) (lv_hi h) (nm_r (nI_1 i) (ih (i + 1) _ (by omega) (by omega) ?_ hb))⟩) (fun h => ⟨pk_in i 10 (by omega), tI_nm i (lv lo hi i) rfl (by omega) (lv_lo h) (nm_r (nI_1 i) (ih (i + 1) _ (by omega) (by omega) ?_ hb))⟩)
      · exact fu_lt (Q := fun t x => x = lv lo hi t) h3 rfl
      · exact fu_lt (Q := fun t x => x = lv lo hi t) h3 rfl
theorem xw_load {post : Int32 → SX → Prop} {lo hi : Int32} (hk : k ≤ 6)
    (H1 : ∀ w, (∀ t, t < k → w t = lv lo hi t) → (∀ t, k ≤ t → t < 10 → w t = 0#8) → (∃ i, i < k ∧ lv lo hi i ≠ 0#8) → post 1 (nI k, nI l, nI d, nI q, 10, 5, nI fc, nI mk, ae, al, tI fi, bA mX, nA ng, nA kd, nA sg, nA sm, tI sr, tI mr, nA mc, tI bs, bA bh, nA bd, tI ab, bA ak, tI wk, tI w))
    (H0 : ∀ w, (∀ t, t < k → w t = lv lo hi t) → (∀ t, k ≤ t → t < 10 → w t = 0#8) → (∀ i, i < k → lv lo hi i = 0#8) → post 0 (nI k, nI l, nI d, nI q, 10, 5, nI fc, nI mk, ae, al, tI fi, bA mX, nA ng, nA kd, nA sg, nA sm, tI sr, tI mr, nA mc, tI bs, bA bh, nA bd, tI ab, bA ak, tI wk, tI w)) :
    wpX_loadVector post (nI k, nI l, nI d, nI q, 10, 5, nI fc, nI mk, ae, al, tI fi, bA mX, nA ng, nA kd, nA sg, nA sm, tI sr, tI mr, nA mc, tI bs, bA bh, nA bd, tI ab, bA ak, tI wk, tI wt) lo hi := by
  unfold wpX_loadVector
  refine xw_clear (fun w hw => ?_)
  exact Exists.intro 7 (xw_load_lp hk H1 H0 7 0 w (by omega) (by omega) (fun t ht => by omega) (fun t _ ht => hw t ht))
/-! the payload from the file -/
def en_I (l st : Nat) (fi w0 : Nat → gf_K) (i j : Nat) (w : Nat → gf_K) : Prop := (∀ t, t < 6 → w t = w0 t) ∧ ∀ e, e < l → w (6 + e) = w0 (6 + e) ^^^ la_sm (if e < j then i + 1 else i) (fun c => gf_mu (w0 c) (fi (st + c * l + e)))
theorem en_pos {k l st fc i j : Nat} (hi : i < k) (hj : j < l) (h : st + k * l ≤ fc) : st + i * l + j < fc := by
  have h1 : (i + 1) * l ≤ k * l := Nat.mul_le_mul_right l hi
  rw [Nat.add_mul, Nat.one_mul] at h1
  omega
theorem xw_enc_in {post : SX → Prop} {J : Int32 → (Nat → Int32) → (Nat → Int32) → (Nat → Int32) → (Nat → Int32) → (Nat → Int32) → (Nat → Int32) → (Nat → Int32) → (Nat → Int32) → (Nat → Int32) → (Nat → Int32) → (Nat → Int32) → (Nat → Int32) → (Nat → Int32) → (Nat → Int32) → (Nat → Int32) → (Nat → Int32) → (Nat → Int32) → (Nat → Int32) → Prop} {st i : Nat} {w0 : Nat → gf_K} (hT : gf_TB ae al) (hk : k ≤ 6) (hl : l ≤ 4) (hi : i < k) (hfc : fc ≤ 72) (hst : st + k * l ≤ fc)
    (HJ : ∀ w, en_I l st fi w0 (i + 1) 0 w → J (nI (i + 1)) ae al (tI fi) (bA mX) (nA ng) (nA kd) (nA sg) (nA sm) (tI sr) (tI mr) (nA mc) (tI bs) (bA bh) (nA bd) (tI ab) (bA ak) (tI wk) (tI w)) :
    ∀ (n j : Nat) (w : Nat → gf_K), j ≤ l → l < n + j → en_I l st fi w0 i j w → wX_encodeFromFile_25 post J (nI st) (nI i) (nI k) (nI l) (nI d) (nI q) 10 5 (nI fc) (nI mk) n (nI j) ae al (tI fi) (bA mX) (nA ng) (nA kd) (nA sg) (nA sm) (tI sr) (tI mr) (nA mc) (tI bs) (bA bh) (nA bd) (tI ab) (bA ak) (tI wk) (tI w) := by
  intro n
  induction n with
  | zero => intro i w h1 h2; omega
  | succ n ih =>
    intro j w h1 h2 h3
    refine pk_le l j (fun h => nm_r (nI_1 i) (HJ w ⟨h3.1, fun e he => ?_⟩)) (fun h => ?_)
    · rw [h3.2 e he, if_pos (by omega), if_neg (by omega)]
    · have hpos := en_pos hi h hst
      refine nm_r (e' := nI (st + i * l + j)) (by rw [pk_mul, nI_add, nI_add]) ?_
      refine br_f (nI_pos (by omega)) (br_f (nI_ge hpos (by omega)) ?_)
      have e6 : (6 : Int32) + nI j = nI (6 + j) := nI_add 6 j
      rw [e6, nI_clamp (by omega : 6 + j < 2 ^ 31), nI_clamp (by omega : i < 2 ^ 31), nI_clamp (by omega : st + i * l + j < 2 ^ 31)]
      refine ⟨pk_in (6 + j) 10 (by omega), pk_in i 10 (by omega), pk_in (st + i * l + j) 72 (by omega), xt_I hT ⟨pk_in (6 + j) 10 (by omega), ?_⟩⟩
      intro y ey
      rw [gf_Ix, gf_upd] at ey
      subst ey
      refine nm_r (nI_1 j) (ih (j + 1) _ (by omega) (by omega) ⟨fun t ht => ?_, fun e he => ?_⟩)
      · rw [fu_n (by omega)]; exact h3.1 t ht
      · by_cases ee : e = j
        · subst ee
          rw [fu_s, if_pos (by omega), h3.2 e he, if_neg (by omega), h3.1 i (by omega), gf_xa]
          rfl
        · rw [fu_n (by omega), h3.2 e he]
          by_cases hlt : e < j
          · rw [if_pos hlt, if_pos (by omega)]
          · rw [if_neg hlt, if_neg (by omega)]
theorem xw_enc_lp {post : SX → Prop} {st : Nat} {w0 : Nat → gf_K} (hT : gf_TB ae al) (hk : k ≤ 6) (hl : l ≤ 4) (hfc : fc ≤ 72) (hst : st + k * l ≤ fc)
    (H : ∀ w, en_I l st fi w0 k 0 w → post (nI k, nI l, nI d, nI q, 10, 5, nI fc, nI mk, ae, al, tI fi, bA mX, nA ng, nA kd, nA sg, nA sm, tI sr, tI mr, nA mc, tI bs, bA bh, nA bd, tI ab, bA ak, tI wk, tI w)) :
    ∀ (n i : Nat) (w : Nat → gf_K), i ≤ k → k < n + i → en_I l st fi w0 i 0 w → wX_encodeFromFile_14 post (nI st) (nI k) (nI l) (nI d) (nI q) 10 5 (nI fc) (nI mk) n (nI i) ae al (tI fi) (bA mX) (nA ng) (nA kd) (nA sg) (nA sm) (tI sr) (tI mr) (nA mc) (tI bs) (bA bh) (nA bd) (tI ab) (bA ak) (tI wk) (tI w) := by
  intro n
  induction n with
  | zero => intro i w h1 h2; omega
  | succ n ih =>
    intro i w h1 h2 h3
    refine pk_le k i (fun h => ?_) (fun h => ?_)
    · obtain rfl : i = k := by omega
      exact H w h3
    · exact ⟨5, xw_enc_in hT hk hl h hfc hst (fun w' hw' => ih (i + 1) w' (by omega) (by omega) hw') 5 0 w (by omega) (by omega) h3⟩
theorem xw_enc {post : SX → Prop} {g : Nat} (hT : gf_TB ae al) (hk : k ≤ 6) (hl : l ≤ 4) (hfc : fc ≤ 72) (hg : g * k * l + k * l ≤ fc)
    (H : ∀ w, en_I l (g * k * l) fi wt k 0 w → post (nI k, nI l, nI d, nI q, 10, 5, nI fc, nI mk, ae, al, tI fi, bA mX, nA ng, nA kd, nA sg, nA sm, tI sr, tI mr, nA mc, tI bs, bA bh, nA bd, tI ab, bA ak, tI wk, tI w)) : wpX_encodeFromFile post (nI k, nI l, nI d, nI q, 10, 5, nI fc, nI mk, ae, al, tI fi, bA mX, nA ng, nA kd, nA sg, nA sm, tI sr, tI mr, nA mc, tI bs, bA bh, nA bd, tI ab, bA ak, tI wk, tI wt) (nI g) := by
  refine nm_r (e' := nI (g * k * l)) (by rw [pk_mul, pk_mul]) ?_
  exact ⟨7, xw_enc_lp hT hk hl hfc hg H 7 0 wt (by omega) (by omega) ⟨fun _ _ => rfl, fun e _ => by
    rw [if_neg (by omega)]; exact (gf_x0 _).symm⟩⟩
/-! slots -/
theorem xw_free_lp {post : Int32 → Prop} (hkd : ∀ s, s < 8 → kd s ≤ 2) (h : ∀ s, s < 8 → kd s = 0 → (∀ j, j < s → kd j ≠ 0) → post (nI s)) (hn : (∀ j, j < 8 → kd j ≠ 0) → post (-1)) : ∀ (n i : Nat), i ≤ 8 → 8 < n + i → (∀ j, j < i → kd j ≠ 0) → wX_freeSlot_2 post (nI k) (nI l) (nI d) (nI q) 10 5 (nI fc) (nI mk) ae al (tI fi) (bA mX) (nA ng) (nA kd) (nA sg) (nA sm) (tI sr) (tI mr) (nA mc) (tI bs) (bA bh) (nA bd) (tI ab) (bA ak) (tI wk) (tI wt) n (nI i) := by
  intro n
  induction n with
  | zero => intro i h1 h2; omega
  | succ n ih =>
    intro i h1 h2 h3
    refine pk_le 8 i (fun g => hn (fun j hj => h3 j (by omega))) (fun g => ⟨pk_in i 8 g, ?_⟩)
    rw [nI_clamp (by omega : i < 2 ^ 31)]
    have := hkd i g
    refine pk_eq (kd i) 0 (fun z => h i g z h3) (fun z => nm_r (nI_1 i) (ih (i + 1) (by omega) (by omega) (fun j hj => ?_)))
    by_cases e : j = i
    · rw [e]; exact z
    · exact h3 j (by omega)
theorem xw_free {post : Int32 → Prop} (hkd : ∀ s, s < 8 → kd s ≤ 2) (h : ∀ s, s < 8 → kd s = 0 → (∀ j, j < s → kd j ≠ 0) → post (nI s)) (hn : (∀ j, j < 8 → kd j ≠ 0) → post (-1)) : wpX_freeSlot post (nI k, nI l, nI d, nI q, 10, 5, nI fc, nI mk, ae, al, tI fi, bA mX, nA ng, nA kd, nA sg, nA sm, tI sr, tI mr, nA mc, tI bs, bA bh, nA bd, tI ab, bA ak, tI wk, tI wt) :=
  Exists.intro 9 (xw_free_lp hkd h hn 9 0 (by omega) (by omega) (fun j hj => by omega))
theorem xw_launch_lp {post : Int32 → SX → Prop} {s : Nat} {s0 : Nat → gf_K} (hs : s < 8) (H : ∀ r, (∀ t, t < 10 → r (s * 10 + t) = wt t) → (∀ j, j < s * 10 ∨ s * 10 + 10 ≤ j → r j = s0 j) → post (nI s) (nI k, nI l, nI d, nI q, 10, 5, nI fc, nI mk, ae, al, tI fi, bA mX, nA ng, nA kd, nA sg, nA sm, tI r, tI mr, nA mc, tI bs, bA bh, nA bd, tI ab, bA ak, tI wk, tI wt)) : ∀ (n i : Nat) (r : Nat → gf_K), i ≤ 10 → 10 < n + i → (∀ t, t < i → r (s * 10 + t) = wt t) → (∀ j, j < s * 10 ∨ s * 10 + 10 ≤ j → r j = s0 j) → wX_launch_41 post (nI s) (nI k) (nI l) (nI d) (nI q) 10 5 (nI fc) (nI mk) n (nI i) ae al (tI fi) (bA mX) (nA ng) (nA kd) (nA sg) (nA sm) (tI r) (tI mr) (nA mc) (tI bs) (bA bh) (nA bd) (tI ab) (bA ak) (tI wk) (tI wt) := by
  intro n
  induction n with
  | zero => intro i w h1 h2; omega
  | succ n ih =>
    intro i r h1 h2 h3 h4
    refine pk_le 10 i (fun h => H r (fun t ht => h3 t (by omega)) h4) (fun h => ?_)
    have e1 : nI s * 10 + nI i = nI (s * 10 + i) := by rw [show nI s * 10 = nI (s * 10) from pk_mul s 10, nI_add]
    refine ⟨pk_in i 10 h, pk_in (s * 10 + i) 80 (by omega) e1, ?_⟩
    refine tI_nm (s * 10 + i) (wt i) e1 (by omega) (by rw [nI_clamp (by omega : i < 2 ^ 31)]) (nm_r (nI_1 i) (ih (i + 1) _ (by omega) (by omega) (fun t ht => ?_) (fun j hj => ?_)))
    · by_cases e : t = i
      · rw [e, fu_s]
      · rw [fu_n (by omega)]; exact h3 t (by omega)
    · rw [fu_n (by omega)]; exact h4 j hj
theorem xw_launch {post : Int32 → SX → Prop} {kk gg mm : Nat} (hkd : ∀ s, s < 8 → kd s ≤ 2)
    (H : ∀ s, s < 8 → kd s = 0 → (∀ j, j < s → kd j ≠ 0) → ∀ r, (∀ t, t < 10 → r (s * 10 + t) = wt t) → (∀ j, j < s * 10 ∨ s * 10 + 10 ≤ j → r j = sr j) → post (nI s) (nI k, nI l, nI d, nI q, 10, 5, nI fc, nI mk, ae, al, tI fi, bA mX, nA ng, nA (fu kd s kk), nA (fu sg s gg), nA (fu sm s mm), tI r, tI mr, nA mc, tI bs, bA bh, nA bd, tI ab, bA ak, tI wk, tI wt))
    (Hn : (∀ j, j < 8 → kd j ≠ 0) → post (-3) (nI k, nI l, nI d, nI q, 10, 5, nI fc, nI mk, ae, al, tI fi, bA mX, nA ng, nA kd, nA sg, nA sm, tI sr, tI mr, nA mc, tI bs, bA bh, nA bd, tI ab, bA ak, tI wk, tI wt)) : wpX_launch post (nI k, nI l, nI d, nI q, 10, 5, nI fc, nI mk, ae, al, tI fi, bA mX, nA ng, nA kd, nA sg, nA sm, tI sr, tI mr, nA mc, tI bs, bA bh, nA bd, tI ab, bA ak, tI wk, tI wt) (nI kk) (nI gg) (nI mm) := by
  unfold wpX_launch
  refine xw_free hkd (fun s hs hz hf => ?_) (fun hf => ?_)
  · refine br_t (nI_pos' (by omega)) ⟨pk_in s 8 hs, nA_nm s kk rfl (by omega) rfl ⟨pk_in s 8 hs, nA_nm s gg rfl (by omega) rfl ⟨pk_in s 8 hs, nA_nm s mm rfl (by omega) rfl ?_⟩⟩⟩
    exact Exists.intro 11 (xw_launch_lp (s0 := sr) hs (fun r h1 h2 => H s hs hz hf r h1 h2) 11 0 sr (by omega) (by omega) (fun t ht => by omega) (fun j _ => rfl))
  · exact br_f (by decide) (Hn hf)
end
end
section
/-! ===== X: reduce, pivot, solve, eliminate, insert ===== -/
def bP (bh : Nat → Bool) (b : Nat) : Nat → Bool := fun c => bh (b * 6 + c)
def bR (bs : Nat → gf_K) (b : Nat) : Nat → Nat → gf_K := fun c t => bs ((b * 6 + c) * 10 + t)
theorem ix_row {b c : Nat} : (nI b * 6 + nI c) * 10 = nI ((b * 6 + c) * 10) := by
  rw [show nI b * 6 = nI (b * 6) from pk_mul b 6, nI_add]
  exact pk_mul _ 10
theorem ix_has {b c : Nat} : nI b * 6 + nI c = nI (b * 6 + c) := by
  rw [show nI b * 6 = nI (b * 6) from pk_mul b 6, nI_add]
section
variable {k l d q fc mk : Nat} {ae al : Nat → Int32} {fi sr mr bs ab wk wt : Nat → gf_K} {mX bh ak : Nat → Bool} {ng kd sg sm mc bd : Nat → Nat}
theorem xw_has {post : Int32 → Prop} {b c : Nat} (hb : b < 6) (hc : c < 6) (h : post (bI (bh (b * 6 + c)))) : wpX_hasRow post (nI k, nI l, nI d, nI q, 10, 5, nI fc, nI mk, ae, al, tI fi, bA mX, nA ng, nA kd, nA sg, nA sm, tI sr, tI mr, nA mc, tI bs, bA bh, nA bd, tI ab, bA ak, tI wk, tI wt) (nI b) (nI c) := by
  unfold wpX_hasRow
  dsimp only
  rw [ix_has, nI_clamp (by omega : b * 6 + c < 2 ^ 31)]
  exact ⟨pk_in (b * 6 + c) 36 (by omega), bI_nar _, h⟩
theorem xw_row {post : Int32 → Prop} {b c : Nat} (h : post (nI ((b * 6 + c) * 10))) : wpX_rowStart post (nI k, nI l, nI d, nI q, 10, 5, nI fc, nI mk, ae, al, tI fi, bA mX, nA ng, nA kd, nA sg, nA sm, tI sr, tI mr, nA mc, tI bs, bA bh, nA bd, tI ab, bA ak, tI wk, tI wt) (nI b) (nI c) := by
  unfold wpX_rowStart
  dsimp only
  rw [ix_row]
  exact h
theorem xw_red_in {post : SX → Prop} {J : Int32 → (Nat → Int32) → (Nat → Int32) → (Nat → Int32) → (Nat → Int32) → (Nat → Int32) → (Nat → Int32) → (Nat → Int32) → (Nat → Int32) → (Nat → Int32) → (Nat → Int32) → (Nat → Int32) → (Nat → Int32) → (Nat → Int32) → (Nat → Int32) → (Nat → Int32) → (Nat → Int32) → (Nat → Int32) → (Nat → Int32) → Prop} {b c row : Nat} {f : gf_K} {w0 : Nat → gf_K} (hT : gf_TB ae al) (hr : row + 10 ≤ 360)
    (HJ : ∀ w, (∀ t, t < 10 → w t = w0 t ^^^ gf_mu f (bs (row + t))) → J (nI (c + 1)) ae al (tI fi) (bA mX) (nA ng) (nA kd) (nA sg) (nA sm) (tI sr) (tI mr) (nA mc) (tI bs) (bA bh) (nA bd) (tI ab) (bA ak) (tI w) (tI wt)) :
    ∀ (n i : Nat) (w : Nat → gf_K), i ≤ 10 → 10 < n + i → (∀ t, t < i → w t = w0 t ^^^ gf_mu f (bs (row + t))) → (∀ t, i ≤ t → t < 10 → w t = w0 t) → wX_reduce_41 post J (nI b) (nI c) (gf_I f) (nI row) (nI k) (nI l) (nI d) (nI q) 10 5 (nI fc) (nI mk) n (nI i) ae al (tI fi) (bA mX) (nA ng) (nA kd) (nA sg) (nA sm) (tI sr) (tI mr) (nA mc) (tI bs) (bA bh) (nA bd) (tI ab) (bA ak) (tI w) (tI wt) := by
  intro n
  induction n with
  | zero => intro i w h1 h2; omega
  | succ n ih =>
    intro i w h1 h2 h3 h4
    refine pk_le 10 i (fun h => nm_r (nI_1 c) (HJ w (fun t ht => h3 t (by omega)))) (fun h => ?_)
    rw [nI_add, nI_clamp (by omega : i < 2 ^ 31), nI_clamp (by omega : row + i < 2 ^ 31)]
    refine ⟨pk_in i 10 h, pk_in (row + i) 360 (by omega), xt_I hT ⟨pk_in i 10 h, ?_⟩⟩
    intro y ey
    rw [gf_Ix, gf_upd] at ey
    subst ey
    refine nm_r (nI_1 i) (ih (i + 1) _ (by omega) (by omega) (fu_lt (Q := fun t x => x = w0 t ^^^ gf_mu f (bs (row + t))) h3 ?_) (fun t ht1 ht2 => ?_))
    · rw [h4 i (by omega) h]
    · rw [fu_n (by omega)]; exact h4 t (by omega) ht2
def rd_I (c : Nat) (P : Nat → Bool) (R : Nat → Nat → gf_K) (w0 w : Nat → gf_K) : Prop := ∀ t, t < 10 → w t = w0 t ^^^ la_sm c (fun e => gf_sel (P e) (gf_mu (w0 e) (R e t)))
theorem rd_wc {k c : Nat} {P : Nat → Bool} {R : Nat → Nat → gf_K} {w0 w : Nat → gf_K} (hb : la_rb k P R) (hk : k ≤ 6) (hc : c < k) (hp : P c = true) (h : rd_I c P R w0 w) : w c = w0 c := by
  rw [h c (by omega), la_zero, gf_x0]
  intro e he
  cases hq : P e
  · rfl
  · rw [hb e (by omega) hq c hc hp, if_neg (by omega), gf_m0]; rfl
theorem rd_skip {c : Nat} {P : Nat → Bool} {R : Nat → Nat → gf_K} {w0 w : Nat → gf_K} (h : rd_I c P R w0 w) (hz : P c = true → w0 c = 0#8) : rd_I (c + 1) P R w0 w := by
  intro t ht
  rw [h t ht]
  show _ = w0 t ^^^ (la_sm c (fun e => gf_sel (P e) (gf_mu (w0 e) (R e t))) ^^^ gf_sel (P c) (gf_mu (w0 c) (R c t)))
  cases hp : P c
  · rw [la_sel_f rfl, gf_x0]
  · rw [hz hp, gf_0m, gf_sel0, gf_x0]
theorem xw_red_lp {post : SX → Prop} {b : Nat} {w0 : Nat → gf_K} (hT : gf_TB ae al) (hk : k ≤ 6) (hb : b < 6) (hrb : la_rb k (bP bh b) (bR bs b))
    (H : ∀ w, rd_I k (bP bh b) (bR bs b) w0 w → post (nI k, nI l, nI d, nI q, 10, 5, nI fc, nI mk, ae, al, tI fi, bA mX, nA ng, nA kd, nA sg, nA sm, tI sr, tI mr, nA mc, tI bs, bA bh, nA bd, tI ab, bA ak, tI w, tI wt)) :
    ∀ (n c : Nat) (w : Nat → gf_K), c ≤ k → k < n + c → rd_I c (bP bh b) (bR bs b) w0 w → wX_reduce_2 post (nI b) (nI k) (nI l) (nI d) (nI q) 10 5 (nI fc) (nI mk) n (nI c) ae al (tI fi) (bA mX) (nA ng) (nA kd) (nA sg) (nA sm) (tI sr) (tI mr) (nA mc) (tI bs) (bA bh) (nA bd) (tI ab) (bA ak) (tI w) (tI wt) := by
  intro n
  induction n with
  | zero => intro i w h1 h2; omega
  | succ n ih =>
    intro c w h1 h2 h3
    refine pk_le k c (fun h => ?_) (fun h => ?_)
    · obtain rfl : c = k := by omega
      exact H w h3
    · rw [nI_clamp (by omega : c < 2 ^ 31)]
      refine ⟨pk_in c 10 (by omega), nm_e ?_⟩
      by_cases z : w c = 0#8
      · refine br_t (gf_Iz.mpr z) (nm_r (nI_1 c) (ih (c + 1) w (by omega) (by omega) (rd_skip h3 (fun hp => ?_))))
        rw [← rd_wc hrb hk h hp h3]; exact z
      · refine br_f (fun y => z (gf_Iz.mp y)) (xw_has hb (by omega) ?_)
        cases hq : bh (b * 6 + c)
        · refine br_t rfl (nm_r (nI_1 c) (ih (c + 1) w (by omega) (by omega) (rd_skip h3 (fun hp => ?_))))
          exact absurd (show bh (b * 6 + c) = true from hp) (by rw [hq]; decide)
        · refine br_f (by decide) (xw_row ?_)
          refine ⟨11, xw_red_in (w0 := w) hT (by omega) (fun w' hw' => ih (c + 1) w' (by omega) (by omega) (fun t ht => ?_)) 11 0 w (by omega) (by omega) (fun t ht => by omega) (fun _ _ _ => rfl)⟩
          rw [hw' t ht, h3 t ht, gf_xa]
          show _ = w0 t ^^^ (la_sm c (fun e => gf_sel (bP bh b e) (gf_mu (w0 e) (bR bs b e t))) ^^^ gf_sel (bP bh b c) (gf_mu (w0 c) (bR bs b c t)))
          rw [la_sel_t (show bP bh b c = true from hq), rd_wc hrb hk h hq h3]
          rfl
theorem xw_red {post : SX → Prop} {b : Nat} (hT : gf_TB ae al) (hk : k ≤ 6) (hb : b < 6) (hrb : la_rb k (bP bh b) (bR bs b))
    (H : ∀ w, (∀ t, t < 10 → w t = la_rd k (bP bh b) (bR bs b) wk t) → post (nI k, nI l, nI d, nI q, 10, 5, nI fc, nI mk, ae, al, tI fi, bA mX, nA ng, nA kd, nA sg, nA sm, tI sr, tI mr, nA mc, tI bs, bA bh, nA bd, tI ab, bA ak, tI w, tI wt)) : wpX_reduce post (nI k, nI l, nI d, nI q, 10, 5, nI fc, nI mk, ae, al, tI fi, bA mX, nA ng, nA kd, nA sg, nA sm, tI sr, tI mr, nA mc, tI bs, bA bh, nA bd, tI ab, bA ak, tI wk, tI wt) (nI b) :=
  Exists.intro 7 (xw_red_lp (w0 := wk) hT hk hb hrb (fun w hw => H w hw) 7 0 wk (by omega) (by omega) (fun t _ => (gf_x0 _).symm))
theorem xw_piv_lp {post : Int32 → Prop} (hk : k ≤ 6) (h : ∀ c, c < k → wk c ≠ 0#8 → post (nI c)) (hn : (∀ c, c < k → wk c = 0#8) → post (-1)) : ∀ (n i : Nat), i ≤ k → k < n + i → (∀ j, j < i → wk j = 0#8) → wX_workPivot_2 post (nI k) (nI l) (nI d) (nI q) 10 5 (nI fc) (nI mk) ae al (tI fi) (bA mX) (nA ng) (nA kd) (nA sg) (nA sm) (tI sr) (tI mr) (nA mc) (tI bs) (bA bh) (nA bd) (tI ab) (bA ak) (tI wk) (tI wt) n (nI i) := by
  intro n
  induction n with
  | zero => intro i h1 h2; omega
  | succ n ih =>
    intro i h2 h3 h4
    refine pk_le k i (fun h => hn (fun t ht => h4 t (by omega))) (fun g => ⟨pk_in i 10 (by omega), ?_⟩)
    rw [nI_clamp (by omega : i < 2 ^ 31)]
    by_cases z : wk i = 0#8
    · refine br_t (gf_Iz.mpr z) (nm_r (nI_1 i) (ih (i + 1) (by omega) (by omega) (fun t ht => ?_)))
      by_cases e : t = i
      · rw [e]; exact z
      · exact h4 t (by omega)
    · exact br_f (fun y => z (gf_Iz.mp y)) (h i g z)
theorem xw_piv {post : Int32 → Prop} (hk : k ≤ 6) (h : ∀ c, c < k → wk c ≠ 0#8 → post (nI c)) (hn : (∀ c, c < k → wk c = 0#8) → post (-1)) : wpX_workPivot post (nI k, nI l, nI d, nI q, 10, 5, nI fc, nI mk, ae, al, tI fi, bA mX, nA ng, nA kd, nA sg, nA sm, tI sr, tI mr, nA mc, tI bs, bA bh, nA bd, tI ab, bA ak, tI wk, tI wt) :=
  Exists.intro 7 (xw_piv_lp hk h hn 7 0 (by omega) (by omega) (fun j hj => by omega))
/-! solve -/
theorem xw_solve_b {post : Int32 → SX → Prop} {w0 : Nat → gf_K} (H : ∀ w, (∀ t, t < 6 → w t = w0 t) → (∀ t, 6 ≤ t → t < 10 → w t = wk t) → post 1 (nI k, nI l, nI d, nI q, 10, 5, nI fc, nI mk, ae, al, tI fi, bA mX, nA ng, nA kd, nA sg, nA sm, tI sr, tI mr, nA mc, tI bs, bA bh, nA bd, tI ab, bA ak, tI wk, tI w)) : ∀ (n i : Nat) (w : Nat → gf_K), 6 ≤ i → i ≤ 10 → 10 < n + i → (∀ t, t < 6 → w t = w0 t) → (∀ t, 6 ≤ t → t < i → w t = wk t) → wX_solve_55 post (nI k) (nI l) (nI d) (nI q) 10 5 (nI fc) (nI mk) n (nI i) ae al (tI fi) (bA mX) (nA ng) (nA kd) (nA sg) (nA sm) (tI sr) (tI mr) (nA mc) (tI bs) (bA bh) (nA bd) (tI ab) (bA ak) (tI wk) (tI w) := by
  intro n
  induction n with
  | zero => intro i w h0 h1 h2; omega
  | succ n ih =>
    intro i w h0 h1 h2 h3 h4
    refine pk_le 10 i (fun h => H w h3 (fun t ht1 ht2 => h4 t ht1 (by omega))) (fun h => ⟨pk_in i 10 h, pk_in i 10 h, tI_nm i (wk i) rfl (by omega) (by rw [nI_clamp (by omega : i < 2 ^ 31)]) (nm_r (nI_1 i) (ih (i + 1) _ (by omega) (by omega) (by omega) (fun t ht => ?_) (fun t ht1 ht2 => ?_)))⟩)
    · rw [fu_n (by omega)]; exact h3 t ht
    · by_cases e : t = i
      · rw [e, fu_s]
      · rw [fu_n e]; exact h4 t ht1 (by omega)
def sv_w (wt : Nat → gf_K) : Nat → gf_K := fun t => if t < 6 then wt t else 0#8
theorem la_rd_c {k : Nat} {P : Nat → Bool} {R : Nat → Nat → gf_K} {v w : Nat → gf_K} (hk : k ≤ 10) (h : ∀ t, t < 10 → v t = w t) {t : Nat} (ht : t < 10) : la_rd k P R v t = la_rd k P R w t := by
  unfold la_rd
  rw [h t ht]
  congr 1
  exact la_congr (fun c hc => by rw [h c (by omega)])
theorem xw_solve_lp {post : Int32 → SX → Prop} {b : Nat} (hT : gf_TB ae al) (hk : k ≤ 6) (hb : b < 6) (hrb : la_rb k (bP bh b) (bR bs b))
    (H1 : (∀ i, i < k → la_rd k (bP bh b) (bR bs b) (sv_w wt) i = 0#8) → ∀ w w', (∀ t, t < 6 → w' t = wt t) → (∀ t, 6 ≤ t → t < 10 → w' t = la_rd k (bP bh b) (bR bs b) (sv_w wt) t) → post 1 (nI k, nI l, nI d, nI q, 10, 5, nI fc, nI mk, ae, al, tI fi, bA mX, nA ng, nA kd, nA sg, nA sm, tI sr, tI mr, nA mc, tI bs, bA bh, nA bd, tI ab, bA ak, tI w, tI w'))
    (H0 : ∀ i, i < k → la_rd k (bP bh b) (bR bs b) (sv_w wt) i ≠ 0#8 → ∀ w, post 0 (nI k, nI l, nI d, nI q, 10, 5, nI fc, nI mk, ae, al, tI fi, bA mX, nA ng, nA kd, nA sg, nA sm, tI sr, tI mr, nA mc, tI bs, bA bh, nA bd, tI ab, bA ak, tI w, tI wt)) :
    ∀ (n i : Nat) (w : Nat → gf_K), i ≤ 10 → 10 < n + i → (∀ t, t < i → w t = sv_w wt t) → wX_solve_2 post (nI b) (nI k) (nI l) (nI d) (nI q) 10 5 (nI fc) (nI mk) n (nI i) ae al (tI fi) (bA mX) (nA ng) (nA kd) (nA sg) (nA sm) (tI sr) (tI mr) (nA mc) (tI bs) (bA bh) (nA bd) (tI ab) (bA ak) (tI w) (tI wt) := by
  intro n
  induction n with
  | zero => intro i w h1 h2; omega
  | succ n ih =>
    intro i w h1 h2 h3
    refine pk_le 10 i (fun h => ?_) (fun h => ?_)
    · have hw : ∀ t, t < 10 → w t = sv_w wt t := fun t ht => h3 t (by omega)
      refine xw_red hT hk hb hrb (fun w' hw' => ?_)
      have hw2 : ∀ t, t < 10 → w' t = la_rd k (bP bh b) (bR bs b) (sv_w wt) t := fun t ht => by rw [hw' t ht]; exact la_rd_c (by omega) hw ht
      refine xw_piv hk (fun c hc hn => ?_) (fun hz => ?_)
      · exact br_f (nI_pos (by omega)) (H0 c hc (by rw [← hw2 c (by omega)]; exact hn) w')
      · refine br_t (by decide) ?_
        exact ⟨5, xw_solve_b (w0 := wt) (fun w'' h5 h6 => H1 (fun i hi => by rw [← hw2 i (by omega)]; exact hz i hi) w' w'' h5 (fun t ht1 ht2 => by rw [h6 t ht1 ht2]; exact hw2 t ht2)) 5 6 wt (by omega) (by omega) (by omega) (fun _ _ => rfl) (fun t ht1 ht2 => by omega)⟩
    · refine pk_le 6 i (fun g => ⟨pk_in i 10 h, tI_nm i 0#8 rfl (by omega) rfl (nm_r (nI_1 i) (ih (i + 1) _ (by omega) (by omega) (fu_lt (Q := fun t x => x = sv_w wt t) h3 ?_)))⟩) (fun g => ⟨pk_in i 10 h, pk_in i 10 h, tI_nm i (wt i) rfl (by omega) (by rw [nI_clamp (by omega : i < 2 ^ 31)]) (nm_r (nI_1 i) (ih (i + 1) _ (by omega) (by omega) (fu_lt (Q := fun t x => x = sv_w wt t) h3 ?_)))⟩)
      · unfold sv_w; rw [if_neg (by omega)]
      · unfold sv_w; rw [if_pos g]
theorem xw_solve {post : Int32 → SX → Prop} {b : Nat} (hT : gf_TB ae al) (hk : k ≤ 6) (hb : b < 6) (hrb : la_rb k (bP bh b) (bR bs b))
    (H1 : (∀ i, i < k → la_rd k (bP bh b) (bR bs b) (sv_w wt) i = 0#8) → ∀ w w', (∀ t, t < 6 → w' t = wt t) → (∀ t, 6 ≤ t → t < 10 → w' t = la_rd k (bP bh b) (bR bs b) (sv_w wt) t) → post 1 (nI k, nI l, nI d, nI q, 10, 5, nI fc, nI mk, ae, al, tI fi, bA mX, nA ng, nA kd, nA sg, nA sm, tI sr, tI mr, nA mc, tI bs, bA bh, nA bd, tI ab, bA ak, tI w, tI w'))
    (H0 : ∀ i, i < k → la_rd k (bP bh b) (bR bs b) (sv_w wt) i ≠ 0#8 → ∀ w, post 0 (nI k, nI l, nI d, nI q, 10, 5, nI fc, nI mk, ae, al, tI fi, bA mX, nA ng, nA kd, nA sg, nA sm, tI sr, tI mr, nA mc, tI bs, bA bh, nA bd, tI ab, bA ak, tI w, tI wt)) : wpX_solve post (nI k, nI l, nI d, nI q, 10, 5, nI fc, nI mk, ae, al, tI fi, bA mX, nA ng, nA kd, nA sg, nA sm, tI sr, tI mr, nA mc, tI bs, bA bh, nA bd, tI ab, bA ak, tI wk, tI wt) (nI b) :=
  Exists.intro 11 (xw_solve_lp hT hk hb hrb H1 H0 11 0 wk (by omega) (by omega) (fun t ht => by omega))
/-! eliminate a column -/
theorem xw_el_in {post : SX → Prop} {J : Int32 → (Nat → Int32) → (Nat → Int32) → (Nat → Int32) → (Nat → Int32) → (Nat → Int32) → (Nat → Int32) → (Nat → Int32) → (Nat → Int32) → (Nat → Int32) → (Nat → Int32) → (Nat → Int32) → (Nat → Int32) → (Nat → Int32) → (Nat → Int32) → (Nat → Int32) → (Nat → Int32) → (Nat → Int32) → (Nat → Int32) → Prop} {b p c row : Nat} {f : gf_K} {s0 : Nat → gf_K} (hT : gf_TB ae al) (hr : row + 10 ≤ 360)
    (HJ : ∀ s, (∀ t, t < 10 → s (row + t) = s0 (row + t) ^^^ gf_mu f (wk t)) → (∀ j, j < row ∨ row + 10 ≤ j → s j = s0 j) → J (nI (c + 1)) ae al (tI fi) (bA mX) (nA ng) (nA kd) (nA sg) (nA sm) (tI sr) (tI mr) (nA mc) (tI s) (bA bh) (nA bd) (tI ab) (bA ak) (tI wk) (tI wt)) :
    ∀ (n i : Nat) (s : Nat → gf_K), i ≤ 10 → 10 < n + i → (∀ t, t < i → s (row + t) = s0 (row + t) ^^^ gf_mu f (wk t)) → (∀ t, i ≤ t → t < 10 → s (row + t) = s0 (row + t)) → (∀ j, j < row ∨ row + 10 ≤ j → s j = s0 j) → wX_eliminateColumn_46 post J (nI b) (nI p) (nI c) (nI row) (gf_I f) (nI k) (nI l) (nI d) (nI q) 10 5 (nI fc) (nI mk) n (nI i) ae al (tI fi) (bA mX) (nA ng) (nA kd) (nA sg) (nA sm) (tI sr) (tI mr) (nA mc) (tI s) (bA bh) (nA bd) (tI ab) (bA ak) (tI wk) (tI wt) := by
  intro n
  induction n with
  | zero => intro i w h1 h2; omega
  | succ n ih =>
    intro i s h1 h2 h3 h4 h5
    refine pk_le 10 i (fun h => nm_r (nI_1 c) (HJ s (fun t ht => h3 t (by omega)) h5)) (fun h => ?_)
    rw [nI_add, nI_clamp (by omega : i < 2 ^ 31), nI_clamp (by omega : row + i < 2 ^ 31)]
    refine ⟨pk_in (row + i) 360 (by omega), pk_in i 10 h, xt_I hT ⟨pk_in (row + i) 360 (by omega), ?_⟩⟩
    intro y ey
    rw [gf_Ix, gf_upd] at ey
    subst ey
    refine nm_r (nI_1 i) (ih (i + 1) _ (by omega) (by omega) (fun t ht => ?_) (fun t ht1 ht2 => ?_) (fun j hj => ?_))
    · by_cases e : t = i
      · rw [e, fu_s, h4 i (by omega) h]
      · rw [fu_n (by omega)]; exact h3 t (by omega)
    · rw [fu_n (by omega)]; exact h4 t (by omega) ht2
    · rw [fu_n (by omega)]; exact h5 j hj
def el_I (bh : Nat → Bool) (s0 w : Nat → gf_K) (b p c : Nat) (s : Nat → gf_K) : Prop := ∀ a, a < 6 → ∀ e, e < 6 → ∀ t, t < 10 → s ((a * 6 + e) * 10 + t) = if a = b ∧ e < c ∧ bh (b * 6 + e) = true then s0 ((a * 6 + e) * 10 + t) ^^^ gf_mu (s0 ((a * 6 + e) * 10 + p)) (w t) else s0 ((a * 6 + e) * 10 + t)
theorem el_skip {s0 w s : Nat → gf_K} {b p c : Nat} {bh : Nat → Bool} (h : el_I bh s0 w b p c s) (hz : bh (b * 6 + c) = true → s0 ((b * 6 + c) * 10 + p) = 0#8) : el_I bh s0 w b p (c + 1) s := by
  intro a ha e he t ht
  rw [h a ha e he t ht]
  by_cases g : a = b ∧ e < c ∧ bh (b * 6 + e) = true
  · rw [if_pos g, if_pos ⟨g.1, by omega, g.2.2⟩]
  · rw [if_neg g]
    by_cases g2 : a = b ∧ e < c + 1 ∧ bh (b * 6 + e) = true
    · rw [if_pos g2]
      have ec : e = c := by
        rcases Nat.lt_or_ge e c with z | z
        · exact absurd ⟨g2.1, z, g2.2.2⟩ g
        · omega
      rw [g2.1, ec, hz (by rw [← ec]; exact g2.2.2), gf_0m, gf_x0]
    · rw [if_neg g2]
theorem xw_el_lp {post : SX → Prop} {b p : Nat} {s0 : Nat → gf_K} (hT : gf_TB ae al) (hk : k ≤ 6) (hb : b < 6) (hp : p < 10)
    (H : ∀ s, el_I bh s0 wk b p k s → post (nI k, nI l, nI d, nI q, 10, 5, nI fc, nI mk, ae, al, tI fi, bA mX, nA ng, nA kd, nA sg, nA sm, tI sr, tI mr, nA mc, tI s, bA bh, nA bd, tI ab, bA ak, tI wk, tI wt)) :
    ∀ (n c : Nat) (s : Nat → gf_K), c ≤ k → k < n + c → el_I bh s0 wk b p c s → wX_eliminateColumn_2 post (nI b) (nI p) (nI k) (nI l) (nI d) (nI q) 10 5 (nI fc) (nI mk) n (nI c) ae al (tI fi) (bA mX) (nA ng) (nA kd) (nA sg) (nA sm) (tI sr) (tI mr) (nA mc) (tI s) (bA bh) (nA bd) (tI ab) (bA ak) (tI wk) (tI wt) := by
  intro n
  induction n with
  | zero => intro i w h1 h2; omega
  | succ n ih =>
    intro c s h1 h2 h3
    refine pk_le k c (fun h => ?_) (fun h => ?_)
    · obtain rfl : c = k := by omega
      exact H s h3
    · refine xw_has hb (by omega) ?_
      cases hq : bh (b * 6 + c)
      · refine br_t rfl (nm_r (nI_1 c) (ih (c + 1) s (by omega) (by omega) (el_skip h3 (fun z => ?_))))
        rw [hq] at z; cases z
      · refine br_f (by decide) (xw_row ?_)
        rw [nI_add, nI_clamp (by omega : (b * 6 + c) * 10 + p < 2 ^ 31)]
        have ep : s ((b * 6 + c) * 10 + p) = s0 ((b * 6 + c) * 10 + p) := by
          rw [h3 b hb c (by omega) p hp, if_neg (by omega)]
        refine ⟨pk_in ((b * 6 + c) * 10 + p) 360 (by omega), nm_e ?_⟩
        by_cases z : s ((b * 6 + c) * 10 + p) = 0#8
        · exact br_t (gf_Iz.mpr z) (nm_r (nI_1 c) (ih (c + 1) s (by omega) (by omega) (el_skip h3 (fun _ => by rw [← ep]; exact z))))
        · refine br_f (fun y => z (gf_Iz.mp y)) ?_
          refine ⟨11, xw_el_in (s0 := s) hT (by omega) (fun s' h4 h5 => ih (c + 1) s' (by omega) (by omega) (fun a ha e he t ht => ?_)) 11 0 s (by omega) (by omega) (fun t ht => by omega) (fun _ _ _ => rfl) (fun _ _ => rfl)⟩
          by_cases g : a = b ∧ e = c
          · obtain ⟨rfl, rfl⟩ := g
            rw [h4 t ht, if_pos ⟨rfl, by omega, hq⟩, ep, h3 a ha e he t ht, if_neg (by omega)]
          · rw [h5 _ (by omega), h3 a ha e he t ht]
            by_cases g2 : a = b ∧ e < c ∧ bh (b * 6 + e) = true
            · rw [if_pos g2, if_pos ⟨g2.1, by omega, g2.2.2⟩]
            · rw [if_neg g2, if_neg (fun z => g2 ⟨z.1, by omega, z.2.2⟩)]
theorem xw_el {post : SX → Prop} {b p : Nat} (hT : gf_TB ae al) (hk : k ≤ 6) (hb : b < 6) (hp : p < 10)
    (H : ∀ s, el_I bh bs wk b p k s → post (nI k, nI l, nI d, nI q, 10, 5, nI fc, nI mk, ae, al, tI fi, bA mX, nA ng, nA kd, nA sg, nA sm, tI sr, tI mr, nA mc, tI s, bA bh, nA bd, tI ab, bA ak, tI wk, tI wt)) : wpX_eliminateColumn post (nI k, nI l, nI d, nI q, 10, 5, nI fc, nI mk, ae, al, tI fi, bA mX, nA ng, nA kd, nA sg, nA sm, tI sr, tI mr, nA mc, tI bs, bA bh, nA bd, tI ab, bA ak, tI wk, tI wt) (nI b) (nI p) :=
  Exists.intro 7 (xw_el_lp (s0 := bs) hT hk hb hp H 7 0 bs (by omega) (by omega) (fun a _ e _ t _ => by rw [if_neg (by omega)]))
/-! insert -/
theorem xw_ins_c {post : Int32 → SX → Prop} {b p row : Nat} {s0 : Nat → gf_K} (hb : b < 6) (hp : p < 6) (hr : row + 10 ≤ 360)
    (H : ∀ s, (∀ t, t < 10 → s (row + t) = wk t) → (∀ j, j < row ∨ row + 10 ≤ j → s j = s0 j) → post 1 (nI k, nI l, nI d, nI q, 10, 5, nI fc, nI mk, ae, al, tI fi, bA mX, nA ng, nA kd, nA sg, nA sm, tI sr, tI mr, nA mc, tI s, bA (fu bh (b * 6 + p) true), nA (fu bd b (bd b + 1)), tI ab, bA ak, tI wk, tI wt)) :
    ∀ (n i : Nat) (s : Nat → gf_K), i ≤ 10 → 10 < n + i → (∀ t, t < i → s (row + t) = wk t) → (∀ j, j < row ∨ row + 10 ≤ j → s j = s0 j) → wX_insert_80 post (nI b) (nI p) (nI row) (nI k) (nI l) (nI d) (nI q) 10 5 (nI fc) (nI mk) n (nI i) ae al (tI fi) (bA mX) (nA ng) (nA kd) (nA sg) (nA sm) (tI sr) (tI mr) (nA mc) (tI s) (bA bh) (nA bd) (tI ab) (bA ak) (tI wk) (tI wt) := by
  intro n
  induction n with
  | zero => intro i w h1 h2; omega
  | succ n ih =>
    intro i s h1 h2 h3 h4
    refine pk_le 10 i (fun h => ?_) (fun h => ?_)
    · refine ⟨pk_in (b * 6 + p) 36 (by omega) ix_has, bA_nm (b * 6 + p) true ix_has (by omega) vb1 ⟨pk_in b 6 hb, pk_in b 6 hb, nA_nm b (bd b + 1) rfl (by omega) (by rw [nI_clamp (by omega : b < 2 ^ 31)]; exact nI_1 _) ?_⟩⟩
      exact H s (fun t ht => h3 t (by omega)) h4
    · refine ⟨pk_in i 10 h, pk_in (row + i) 360 (by omega) (nI_add row i), tI_nm (row + i) (wk i) (nI_add row i) (by omega) (by rw [nI_clamp (by omega : i < 2 ^ 31)]) (nm_r (nI_1 i) (ih (i + 1) _ (by omega) (by omega) (fun t ht => ?_) (fun j hj => ?_)))⟩
      · by_cases e : t = i
        · rw [e, fu_s]
        · rw [fu_n (by omega)]; exact h3 t (by omega)
      · rw [fu_n (by omega)]; exact h4 j hj
theorem xw_ins_b {post : Int32 → SX → Prop} {b p : Nat} {f : gf_K} {w0 : Nat → gf_K} (hT : gf_TB ae al) (hk : k ≤ 6) (hb : b < 6) (hp : p < 6)
    (H : ∀ w s, (∀ t, t < 10 → w t = gf_mu f (w0 t)) → (∀ a, a < 6 → ∀ e, e < 6 → ∀ t, t < 10 → s ((a * 6 + e) * 10 + t) = if a = b ∧ e = p then w t else if a = b ∧ e < k ∧ bh (b * 6 + e) = true then bs ((a * 6 + e) * 10 + t) ^^^ gf_mu (bs ((a * 6 + e) * 10 + p)) (w t) else bs ((a * 6 + e) * 10 + t)) → post 1 (nI k, nI l, nI d, nI q, 10, 5, nI fc, nI mk, ae, al, tI fi, bA mX, nA ng, nA kd, nA sg, nA sm, tI sr, tI mr, nA mc, tI s, bA (fu bh (b * 6 + p) true), nA (fu bd b (bd b + 1)), tI ab, bA ak, tI w, tI wt)) :
    ∀ (n i : Nat) (w : Nat → gf_K), i ≤ 10 → 10 < n + i → (∀ t, t < i → w t = gf_mu f (w0 t)) → (∀ t, i ≤ t → t < 10 → w t = w0 t) → wX_insert_31 post (nI b) (nI p) (gf_I f) (nI k) (nI l) (nI d) (nI q) 10 5 (nI fc) (nI mk) n (nI i) ae al (tI fi) (bA mX) (nA ng) (nA kd) (nA sg) (nA sm) (tI sr) (tI mr) (nA mc) (tI bs) (bA bh) (nA bd) (tI ab) (bA ak) (tI w) (tI wt) := by
  intro n
  induction n with
  | zero => intro i w h1 h2; omega
  | succ n ih =>
    intro i w h1 h2 h3 h4
    refine pk_le 10 i (fun h => ?_) (fun h => ?_)
    · refine xw_el hT hk hb (by omega) (fun s hs => xw_row ?_)
      refine ⟨11, xw_ins_c (s0 := s) hb hp (by omega) (fun s' h5 h6 => H w s' (fun t ht => h3 t (by omega)) (fun a ha e he t ht => ?_)) 11 0 s (by omega) (by omega) (fun t ht => by omega) (fun _ _ => rfl)⟩
      by_cases g : a = b ∧ e = p
      · rw [if_pos g, g.1, g.2]; exact h5 t ht
      · rw [if_neg g, h6 _ (by omega)]
        exact hs a ha e he t ht
    · rw [nI_clamp (by omega : i < 2 ^ 31)]
      refine ⟨pk_in i 10 h, xt_I hT ⟨pk_in i 10 h, ?_⟩⟩
      intro y ey
      rw [gf_upd] at ey
      subst ey
      refine nm_r (nI_1 i) (ih (i + 1) _ (by omega) (by omega) (fu_lt (Q := fun t x => x = gf_mu f (w0 t)) h3 ?_) (fun t ht1 ht2 => ?_))
      · rw [h4 i (by omega) h]
      · rw [fu_n (by omega)]; exact h4 t (by omega) ht2
theorem xw_insert {post : Int32 → SX → Prop} {b : Nat} (hT : gf_TB ae al) (hk : k ≤ 6) (hb : b < 6) (hrb : la_rb k (bP bh b) (bR bs b)) (hP : ∀ c, c < 6 → bh (b * 6 + c) = true → c < k)
    (H0 : (∀ i, i < k → la_rd k (bP bh b) (bR bs b) wk i = 0#8) → ∀ w, post 0 (nI k, nI l, nI d, nI q, 10, 5, nI fc, nI mk, ae, al, tI fi, bA mX, nA ng, nA kd, nA sg, nA sm, tI sr, tI mr, nA mc, tI bs, bA bh, nA bd, tI ab, bA ak, tI w, tI wt))
    (H1 : ∀ p, p < k → la_rd k (bP bh b) (bR bs b) wk p ≠ 0#8 → ∀ w s, (∀ a, a < 6 → ∀ c, c < 6 → ∀ t, t < 10 → s ((a * 6 + c) * 10 + t) = if a = b then la_iR k (bP bh b) (bR bs b) wk p c t else bs ((a * 6 + c) * 10 + t)) → post 1 (nI k, nI l, nI d, nI q, 10, 5, nI fc, nI mk, ae, al, tI fi, bA mX, nA ng, nA kd, nA sg, nA sm, tI sr, tI mr, nA mc, tI s, bA (fu bh (b * 6 + p) true), nA (fu bd b (bd b + 1)), tI ab, bA ak, tI w, tI wt)) :
    wpX_insert post (nI k, nI l, nI d, nI q, 10, 5, nI fc, nI mk, ae, al, tI fi, bA mX, nA ng, nA kd, nA sg, nA sm, tI sr, tI mr, nA mc, tI bs, bA bh, nA bd, tI ab, bA ak, tI wk, tI wt) (nI b) := by
  unfold wpX_insert
  refine xw_red hT hk hb hrb (fun w hw => ?_)
  refine xw_piv hk (fun p hp hn => ?_) (fun hz => ?_)
  · refine br_t (nI_pos' (by omega)) ?_
    rw [nI_clamp (by omega : p < 2 ^ 31)]
    refine ⟨pk_in p 10 (by omega), xt_over hT (fun z => ?_) (fun _ => ?_)⟩
    · rw [gf_loI] at z; exact absurd z hn
    · rw [gf_loI, show gf_lo 1 = 1#8 from gf_loI 1#8, gf_1m]
      refine ⟨11, xw_ins_b (w0 := w) hT hk hb (by omega) (fun w' s' h5 h6 => H1 p hp (by rw [← hw p (by omega)]; exact hn) w' s' (fun a ha c hc t ht => ?_)) 11 0 w (by omega) (by omega) (fun t ht => by omega) (fun _ _ _ => rfl)⟩
      have e2 : w' t = la_w2 k (bP bh b) (bR bs b) wk p t := by
        rw [h5 t ht]
        unfold la_w2
        rw [hw p (by omega), hw t ht]
      rw [h6 a ha c hc t ht, e2]
      by_cases ea : a = b
      · subst ea
        rw [if_pos rfl]
        unfold la_iR
        by_cases ec : c = p
        · rw [if_pos ⟨rfl, ec⟩, if_pos ec]
        · rw [if_neg (fun z => ec z.2), if_neg ec]
          by_cases eb : bh (a * 6 + c) = true
          · rw [if_pos ⟨rfl, hP c hc eb, eb⟩, if_pos (show bP bh a c = true from eb)]
            rfl
          · rw [if_neg (fun z => eb z.2.2), if_neg (show ¬ bP bh a c = true from eb)]
            rfl
      · rw [if_neg (fun z => ea z.1), if_neg (fun z => ea z.1), if_neg ea]
  · exact br_f (by decide) (H0 (fun i hi => by rw [← hw i (by omega)]; exact hz i hi) w)
end
end
section
/-! ===== X: bases kept by the invariant la_BI ===== -/
noncomputable def tb (p : Prop) : Bool := @decide p (Classical.propDecidable p)
theorem tb_t {p : Prop} : tb p = true ↔ p := by unfold tb; exact @decide_eq_true_iff p (Classical.propDecidable p)
theorem tb_f {p : Prop} : tb p = false ↔ ¬ p := by
  constructor
  · intro h hp
    rw [tb_t.mpr hp] at h; cases h
  · intro h
    cases e : tb p
    · rfl
    · exact absurd (tb_t.mp e) h
theorem tb_c {p q : Prop} (h : p ↔ q) : tb p = tb q := by rw [propext h]
def xB (k : Nat) (bs : Nat → gf_K) (bh : Nat → Bool) (bd : Nat → Nat) (b : Nat) (A T : (Nat → gf_K) → Prop) : Prop := la_BI k (bP bh b) (bR bs b) (bd b) A T
def xFr (b : Nat) (bs : Nat → gf_K) (bh : Nat → Bool) (bd : Nat → Nat) (s : Nat → gf_K) (h : Nat → Bool) (d : Nat → Nat) : Prop := ∀ a, a < 6 → a ≠ b → d a = bd a ∧ ∀ c, c < 6 → h (a * 6 + c) = bh (a * 6 + c) ∧ ∀ t, t < 10 → s ((a * 6 + c) * 10 + t) = bs ((a * 6 + c) * 10 + t)
theorem xFr_r {b : Nat} {bs : Nat → gf_K} {bh : Nat → Bool} {bd : Nat → Nat} : xFr b bs bh bd bs bh bd := fun _ _ _ => ⟨rfl, fun _ _ => ⟨rfl, fun _ _ => rfl⟩⟩
theorem xFr_t {b : Nat} {bs s1 s2 : Nat → gf_K} {bh h1 h2 : Nat → Bool} {bd d1 d2 : Nat → Nat} (f : xFr b bs bh bd s1 h1 d1) (g : xFr b s1 h1 d1 s2 h2 d2) : xFr b bs bh bd s2 h2 d2 := fun a ha ne => ⟨(g a ha ne).1.trans (f a ha ne).1, fun c hc => ⟨((g a ha ne).2 c hc).1.trans ((f a ha ne).2 c hc).1, fun t ht => (((g a ha ne).2 c hc).2 t ht).trans (((f a ha ne).2 c hc).2 t ht)⟩⟩
theorem xFr_B {k a b : Nat} {bs s : Nat → gf_K} {bh h : Nat → Bool} {bd d : Nat → Nat} {A T : (Nat → gf_K) → Prop} (hk : k ≤ 6) (hT : la_LT T) (f : xFr b bs bh bd s h d) (ha : a < 6) (ne : a ≠ b) (hB : xB k bs bh bd a A T) : xB k s h d a A T := by
  unfold xB at hB ⊢
  rw [(f a ha ne).1]
  exact la_BI_c hk hT hB (fun c hc => ((f a ha ne).2 c hc).1) (fun c hc t ht => ((f a ha ne).2 c hc).2 t ht)
theorem la_LTsu {k : Nat} : la_LT (la_su k) :=
  ⟨fun v w h hv i h1 h2 => by rw [← h i (by omega)]; exact hv i h1 h2, fun _ _ _ => rfl, fun a v w hv hw i h1 h2 => by
    show v i ^^^ gf_mu a (w i) = 0#8
    rw [hv i h1 h2, hw i h1 h2, gf_m0, gf_x0]⟩
section
variable {k l d q fc mk : Nat} {ae al : Nat → Int32} {fi sr mr bs ab wk wt : Nat → gf_K} {mX bh ak : Nat → Bool} {ng kd sg sm mc bd : Nat → Nat}
theorem xb_insert {post : Int32 → SX → Prop} {b : Nat} {A T : (Nat → gf_K) → Prop} (hT : gf_TB ae al) (hk : k ≤ 6) (hb : b < 6) (hLT : la_LT T) (hTs : ∀ v, T v → la_su k v) (hw : T wk) (h : xB k bs bh bd b A T)
    (H0 : (∀ i, i < k → la_rd k (bP bh b) (bR bs b) wk i = 0#8) → xB k bs bh bd b (fun φ => A φ ∧ la_dot φ wk = 0#8) T → ∀ w, post 0 (nI k, nI l, nI d, nI q, 10, 5, nI fc, nI mk, ae, al, tI fi, bA mX, nA ng, nA kd, nA sg, nA sm, tI sr, tI mr, nA mc, tI bs, bA bh, nA bd, tI ab, bA ak, tI w, tI wt))
    (H1 : (¬ ∀ i, i < k → la_rd k (bP bh b) (bR bs b) wk i = 0#8) → ∀ w s h' d', xB k s h' d' b (fun φ => A φ ∧ la_dot φ wk = 0#8) T → d' b = bd b + 1 → xFr b bs bh bd s h' d' → post 1 (nI k, nI l, nI d, nI q, 10, 5, nI fc, nI mk, ae, al, tI fi, bA mX, nA ng, nA kd, nA sg, nA sm, tI sr, tI mr, nA mc, tI s, bA h', nA d', tI ab, bA ak, tI w, tI wt)) :
    wpX_insert post (nI k, nI l, nI d, nI q, 10, 5, nI fc, nI mk, ae, al, tI fi, bA mX, nA ng, nA kd, nA sg, nA sm, tI sr, tI mr, nA mc, tI bs, bA bh, nA bd, tI ab, bA ak, tI wk, tI wt) (nI b) := by
  refine xw_insert hT hk hb h.2.1 h.1 (fun hz w => H0 hz (la_BI_same hk h hTs (hTs _ hw) hz) w) (fun p hp hn w s hs => ?_)
  refine H1 (fun hz => hn (hz p hp)) w s _ _ ?_ fu_s ?_
  · have h2 := la_BI_ins hk hLT h hw hp hn
    unfold xB
    rw [show fu bd b (bd b + 1) b = bd b + 1 from fu_s]
    refine la_BI_c hk hLT h2 (fun c hc => ?_) (fun c hc t ht => ?_)
    · show fu bh (b * 6 + p) true (b * 6 + c) = fu (bP bh b) p true c
      by_cases e : c = p
      · rw [e, fu_s, fu_s]
      · rw [fu_n e, fu_n (by omega)]; rfl
    · show s ((b * 6 + c) * 10 + t) = _
      rw [hs b hb c hc t ht, if_pos rfl]
  · intro a ha ne
    refine ⟨fu_n ne, fun c hc => ⟨fu_n (by omega), fun t ht => ?_⟩⟩
    rw [hs a ha c hc t ht, if_neg ne]
theorem xb_ins2 {post : Int32 → SX → Prop} {b : Nat} {A T : (Nat → gf_K) → Prop} (hT : gf_TB ae al) (hk : k ≤ 6) (hb : b < 6) (hLT : la_LT T) (hTs : ∀ v, T v → la_su k v) (hw : T wk) (h : xB k bs bh bd b A T)
    (H : ∀ r w s h' d', xB k s h' d' b (fun φ => A φ ∧ la_dot φ wk = 0#8) T → xFr b bs bh bd s h' d' → post r (nI k, nI l, nI d, nI q, 10, 5, nI fc, nI mk, ae, al, tI fi, bA mX, nA ng, nA kd, nA sg, nA sm, tI sr, tI mr, nA mc, tI s, bA h', nA d', tI ab, bA ak, tI w, tI wt)) :
    wpX_insert post (nI k, nI l, nI d, nI q, 10, 5, nI fc, nI mk, ae, al, tI fi, bA mX, nA ng, nA kd, nA sg, nA sm, tI sr, tI mr, nA mc, tI bs, bA bh, nA bd, tI ab, bA ak, tI wk, tI wt) (nI b) :=
  xb_insert hT hk hb hLT hTs hw h (fun _ h2 w => H 0 w bs bh bd h2 xFr_r) (fun _ w s h' d' h2 _ hf => H 1 w s h' d' h2 hf)
/-! clear -/
theorem xw_clrb_lp {post : SX → Prop} {b : Nat} {h0 : Nat → Bool} (hb : b < 6) (H : ∀ h, (∀ c, c < 6 → h (b * 6 + c) = false) → (∀ j, j < b * 6 ∨ b * 6 + 6 ≤ j → h j = h0 j) → post (nI k, nI l, nI d, nI q, 10, 5, nI fc, nI mk, ae, al, tI fi, bA mX, nA ng, nA kd, nA sg, nA sm, tI sr, tI mr, nA mc, tI bs, bA h, nA (fu bd b 0), tI ab, bA ak, tI wk, tI wt)) : ∀ (n i : Nat) (h : Nat → Bool), i ≤ 6 → 6 < n + i → (∀ c, c < i → h (b * 6 + c) = false) → (∀ j, j < b * 6 ∨ b * 6 + 6 ≤ j → h j = h0 j) → wX_clearBasis_2 post (nI b) (nI k) (nI l) (nI d) (nI q) 10 5 (nI fc) (nI mk) n (nI i) ae al (tI fi) (bA mX) (nA ng) (nA kd) (nA sg) (nA sm) (tI sr) (tI mr) (nA mc) (tI bs) (bA h) (nA bd) (tI ab) (bA ak) (tI wk) (tI wt) := by
  intro n
  induction n with
  | zero => intro i w h1 h2; omega
  | succ n ih =>
    intro i h h1 h2 h3 h4
    refine pk_le 6 i (fun g => ⟨pk_in b 6 hb, nA_nm b 0 rfl (by omega) rfl (H h (fun c hc => h3 c (by omega)) h4)⟩) (fun g => ⟨pk_in (b * 6 + i) 36 (by omega) ix_has, bA_nm (b * 6 + i) false ix_has (by omega) vb0 (nm_r (nI_1 i) (ih (i + 1) _ (by omega) (by omega) (fun c hc => ?_) (fun j hj => ?_)))⟩)
    · by_cases e : c = i
      · rw [e, fu_s]
      · rw [fu_n (by omega)]; exact h3 c (by omega)
    · rw [fu_n (by omega)]; exact h4 j hj
theorem xb_clear {post : SX → Prop} {b : Nat} (T : (Nat → gf_K) → Prop) (hk : k ≤ 6) (hb : b < 6) (H : ∀ h, xB k bs h (fu bd b 0) b (fun _ => True) T → xFr b bs bh bd bs h (fu bd b 0) → post (nI k, nI l, nI d, nI q, 10, 5, nI fc, nI mk, ae, al, tI fi, bA mX, nA ng, nA kd, nA sg, nA sm, tI sr, tI mr, nA mc, tI bs, bA h, nA (fu bd b 0), tI ab, bA ak, tI wk, tI wt)) : wpX_clearBasis post (nI k, nI l, nI d, nI q, 10, 5, nI fc, nI mk, ae, al, tI fi, bA mX, nA ng, nA kd, nA sg, nA sm, tI sr, tI mr, nA mc, tI bs, bA bh, nA bd, tI ab, bA ak, tI wk, tI wt) (nI b) := by
  refine Exists.intro 7 (xw_clrb_lp (h0 := bh) hb (fun h h1 h2 => H h ?_ ?_) 7 0 bh (by omega) (by omega) (fun c hc => by omega) (fun _ _ => rfl))
  · unfold xB
    rw [fu_s]
    exact la_BI_0 h1 hk
  · intro a ha ne
    exact ⟨fu_n ne, fun c hc => ⟨h2 _ (by omega), fun _ _ => rfl⟩⟩
/-! a basis into another -/
theorem xw_insb_in {post : SX → Prop} {J : Int32 → Int32 → Int32 → Int32 → Int32 → Int32 → Int32 → Int32 → Int32 → (Nat → Int32) → (Nat → Int32) → (Nat → Int32) → (Nat → Int32) → (Nat → Int32) → (Nat → Int32) → (Nat → Int32) → (Nat → Int32) → (Nat → Int32) → (Nat → Int32) → (Nat → Int32) → (Nat → Int32) → (Nat → Int32) → (Nat → Int32) → (Nat → Int32) → (Nat → Int32) → (Nat → Int32) → (Nat → Int32) → Prop} {a b c row : Nat} {A T : (Nat → gf_K) → Prop} (hT : gf_TB ae al) (hk : k ≤ 6) (hb : b < 6) (hLT : la_LT T) (hTs : ∀ v, T v → la_su k v) (hrow : row + 10 ≤ 360) (hw : T (fun t => bs (row + t))) (h : xB k bs bh bd b A T)
    (HJ : ∀ w s h' d', xB k s h' d' b (fun φ => A φ ∧ la_dot φ (fun t => bs (row + t)) = 0#8) T → xFr b bs bh bd s h' d' → J (nI (c + 1)) (nI k) (nI l) (nI d) (nI q) 10 5 (nI fc) (nI mk) ae al (tI fi) (bA mX) (nA ng) (nA kd) (nA sg) (nA sm) (tI sr) (tI mr) (nA mc) (tI s) (bA h') (nA d') (tI ab) (bA ak) (tI w) (tI wt)) :
    ∀ (n i : Nat) (w : Nat → gf_K), i ≤ 10 → 10 < n + i → (∀ t, t < i → w t = bs (row + t)) → wX_insertBasis_30 post J (nI b) (nI a) (nI c) (nI row) (nI k) (nI l) (nI d) (nI q) 10 5 (nI fc) (nI mk) n (nI i) ae al (tI fi) (bA mX) (nA ng) (nA kd) (nA sg) (nA sm) (tI sr) (tI mr) (nA mc) (tI bs) (bA bh) (nA bd) (tI ab) (bA ak) (tI w) (tI wt) := by
  intro n
  induction n with
  | zero => intro i w h1 h2; omega
  | succ n ih =>
    intro i w h1 h2 h3
    refine pk_le 10 i (fun g => ?_) (fun g => ⟨pk_in (row + i) 360 (by omega) (nI_add row i), pk_in i 10 g, tI_nm i (bs (row + i)) rfl (by omega) (by rw [nI_add, nI_clamp (by omega : row + i < 2 ^ 31)]) (nm_r (nI_1 i) (ih (i + 1) _ (by omega) (by omega) ?_))⟩)
    · have hw2 : T w := hLT.1 _ _ (fun t ht => (h3 t (by omega)).symm) hw
      refine xb_ins2 hT hk hb hLT hTs hw2 h (fun r w' s h' d' hB hF => nm_r (nI_1 c) (HJ w' s h' d' (la_BI_A hB (fun φ => ?_)) hF))
      rw [la_dot_c (v := w) (w := fun t => bs (row + t)) (fun i hi => h3 i (by omega))]
    · exact fu_lt (Q := fun t x => x = bs (row + t)) h3 rfl
theorem xb_insb_lp {post : SX → Prop} {a b : Nat} {A : (Nat → gf_K) → Prop} {s0 : Nat → gf_K} {h0 : Nat → Bool} {d0 : Nat → Nat} (hT : gf_TB ae al) (hk : k ≤ 6) (hb : b < 6) (ha : a < 6) (hab : a ≠ b) (hR : ∀ c, c < k → h0 (a * 6 + c) = true → la_su k (bR s0 a c))
    (H : ∀ w s h' d', xB k s h' d' b (fun φ => A φ ∧ la_AN k (bP h0 a) (bR s0 a) φ) (la_su k) → xFr b s0 h0 d0 s h' d' → post (nI k, nI l, nI d, nI q, 10, 5, nI fc, nI mk, ae, al, tI fi, bA mX, nA ng, nA kd, nA sg, nA sm, tI sr, tI mr, nA mc, tI s, bA h', nA d', tI ab, bA ak, tI w, tI wt)) :
    ∀ (n i : Nat) (w s : Nat → gf_K) (h' : Nat → Bool) (d' : Nat → Nat), i ≤ k → k < n + i → xB k s h' d' b (fun φ => A φ ∧ ∀ c, c < i → h0 (a * 6 + c) = true → la_dot φ (bR s0 a c) = 0#8) (la_su k) → xFr b s0 h0 d0 s h' d' → wX_insertBasis_2 post (nI b) (nI a) n (nI i) (nI k) (nI l) (nI d) (nI q) 10 5 (nI fc) (nI mk) ae al (tI fi) (bA mX) (nA ng) (nA kd) (nA sg) (nA sm) (tI sr) (tI mr) (nA mc) (tI s) (bA h') (nA d') (tI ab) (bA ak) (tI w) (tI wt) := by
  intro n
  induction n with
  | zero => intro i w s h' d' h1 h2; omega
  | succ n ih =>
    intro i w s h' d' h1 h2 hB hF
    refine pk_le k i (fun g => ?_) (fun g => ?_)
    · obtain rfl : i = k := by omega
      exact H w s h' d' hB hF
    · have hfa := (hF a ha hab).2 i (by omega)
      refine xw_has ha (by omega) ?_
      rw [hfa.1]
      cases hq : h0 (a * 6 + i)
      · refine br_t rfl (nm_r (nI_1 i) (ih (i + 1) w s h' d' (by omega) (by omega) (la_BI_A hB (fun φ => ?_)) hF))
        refine and_congr_right' ⟨fun z c hc hp => z c (by omega) hp, fun z c hc hp => ?_⟩
        by_cases e : c = i
        · rw [e, hq] at hp; cases hp
        · exact z c (by omega) hp
      · refine br_f (by decide) (xw_row ?_)
        have hsu : la_su k (fun t => s ((a * 6 + i) * 10 + t)) := la_LTsu.1 _ _ (fun t ht => (hfa.2 t ht).symm) (hR i g hq)
        refine ⟨11, xw_insb_in hT hk hb la_LTsu (fun _ z => z) (by omega) hsu hB (fun w2 s2 h2' d2 hB2 hF2 => ih (i + 1) w2 s2 h2' d2 (by omega) (by omega) (la_BI_A hB2 (fun φ => ?_)) (xFr_t hF hF2)) 11 0 w (by omega) (by omega) (fun t ht => by omega)⟩
        have ed : la_dot φ (fun t => s ((a * 6 + i) * 10 + t)) = la_dot φ (bR s0 a i) := la_dot_c (fun t ht => hfa.2 t (by omega))
        rw [ed]
        constructor
        · exact fun z => ⟨⟨z.1, fun c hc hp => z.2 c (by omega) hp⟩, z.2 i (by omega) hq⟩
        · intro z
          refine ⟨z.1.1, fun c hc hp => ?_⟩
          by_cases e : c = i
          · rw [e]; exact z.2
          · exact z.1.2 c (by omega) hp
theorem xb_insb {post : SX → Prop} {a b : Nat} {A : (Nat → gf_K) → Prop} (hT : gf_TB ae al) (hk : k ≤ 6) (hb : b < 6) (ha : a < 6) (hab : a ≠ b) (hR : ∀ c, c < k → bh (a * 6 + c) = true → la_su k (bR bs a c)) (hB : xB k bs bh bd b A (la_su k))
    (H : ∀ w s h' d', xB k s h' d' b (fun φ => A φ ∧ la_AN k (bP bh a) (bR bs a) φ) (la_su k) → xFr b bs bh bd s h' d' → post (nI k, nI l, nI d, nI q, 10, 5, nI fc, nI mk, ae, al, tI fi, bA mX, nA ng, nA kd, nA sg, nA sm, tI sr, tI mr, nA mc, tI s, bA h', nA d', tI ab, bA ak, tI w, tI wt)) :
    wpX_insertBasis post (nI k, nI l, nI d, nI q, 10, 5, nI fc, nI mk, ae, al, tI fi, bA mX, nA ng, nA kd, nA sg, nA sm, tI sr, tI mr, nA mc, tI bs, bA bh, nA bd, tI ab, bA ak, tI wk, tI wt) (nI b) (nI a) :=
  Exists.intro 7 (xb_insb_lp (s0 := bs) (h0 := bh) (d0 := bd) hT hk hb ha hab hR H 7 0 wk bs bh bd (by omega) (by omega) (la_BI_A hB (fun φ => ⟨fun z => z.1, fun z => ⟨z, fun c hc => by omega⟩⟩)) xFr_r)
/-! decoded blocks -/
def xDec (k : Nat) (bs : Nat → gf_K) (bh : Nat → Bool) (b i : Nat) : Prop := bh (b * 6 + i) = true ∧ ∀ c, c < k → c ≠ i → bs ((b * 6 + i) * 10 + c) = 0#8
theorem xw_isd_lp {post : Int32 → Prop} {b i : Nat} (hk : k ≤ 6) (hb : b < 6) (hi : i < 6) (h1 : (∀ c, c < k → c ≠ i → bs ((b * 6 + i) * 10 + c) = 0#8) → post 1) (h0 : ∀ c, c < k → c ≠ i → bs ((b * 6 + i) * 10 + c) ≠ 0#8 → post 0) : ∀ (n c : Nat), c ≤ k → k < n + c → (∀ e, e < c → e ≠ i → bs ((b * 6 + i) * 10 + e) = 0#8) → wX_isDecoded_21 post (nI i) (nI ((b * 6 + i) * 10)) (nI k) (nI l) (nI d) (nI q) 10 5 (nI fc) (nI mk) ae al (tI fi) (bA mX) (nA ng) (nA kd) (nA sg) (nA sm) (tI sr) (tI mr) (nA mc) (tI bs) (bA bh) (nA bd) (tI ab) (bA ak) (tI wk) (tI wt) n (nI c) := by
  intro n
  induction n with
  | zero => intro c h1 h2; omega
  | succ n ih =>
    intro c h2 h3 h4
    refine pk_le k c (fun g => h1 (fun e he => h4 e (by omega))) (fun g => ?_)
    refine pk_eq c i (fun e => nm_r (nI_1 c) (ih (c + 1) (by omega) (by omega) (fun x hx ne => h4 x (by omega) ne))) (fun e => ?_)
    rw [nI_add, nI_clamp (by omega : (b * 6 + i) * 10 + c < 2 ^ 31)]
    refine ⟨pk_in ((b * 6 + i) * 10 + c) 360 (by omega), ?_⟩
    by_cases z : bs ((b * 6 + i) * 10 + c) = 0#8
    · refine br_t (gf_Iz.mpr z) (nm_r (nI_1 c) (ih (c + 1) (by omega) (by omega) (fun x hx ne => ?_)))
      by_cases ex : x = c
      · rw [ex]; exact z
      · exact h4 x (by omega) ne
    · exact br_f (fun y => z (gf_Iz.mp y)) (h0 c g e z)
theorem xw_isd {post : Int32 → Prop} {b i : Nat} (hk : k ≤ 6) (hb : b < 6) (hi : i < 6) (h1 : xDec k bs bh b i → post 1) (h0 : ¬ xDec k bs bh b i → post 0) : wpX_isDecoded post (nI k, nI l, nI d, nI q, 10, 5, nI fc, nI mk, ae, al, tI fi, bA mX, nA ng, nA kd, nA sg, nA sm, tI sr, tI mr, nA mc, tI bs, bA bh, nA bd, tI ab, bA ak, tI wk, tI wt) (nI b) (nI i) := by
  unfold wpX_isDecoded
  refine xw_has hb hi ?_
  cases hq : bh (b * 6 + i)
  · exact br_t rfl (h0 (fun z => by rw [z.1] at hq; cases hq))
  · refine br_f (by decide) (xw_row ?_)
    exact ⟨7, xw_isd_lp hk hb hi (fun z => h1 ⟨hq, z⟩) (fun c hc ne hn => h0 (fun z => hn (z.2 c hc ne))) 7 0 (by omega) (by omega) (fun e he => by omega)⟩
def dbits (D : Nat → Bool) : Nat → Int32
  | 0 => 0
  | i + 1 => if D i = true then dbits D i ||| ((1 : Int32) <<< (nI i &&& 31)) else dbits D i
theorem dbits_c {D E : Nat → Bool} {n : Nat} (h : ∀ i, i < n → D i = E i) : dbits D n = dbits E n := by
  induction n with
  | zero => rfl
  | succ n ih =>
    show (if D n = true then dbits D n ||| _ else dbits D n) = (if E n = true then dbits E n ||| _ else dbits E n)
    rw [ih (fun i hi => h i (by omega)), h n (by omega)]
theorem dbits_t {D : Nat → Bool} {n : Nat} (h : D n = true) : dbits D n ||| ((1 : Int32) <<< (nI n &&& 31)) = dbits D (n + 1) := (if_pos h).symm
theorem dbits_f {D : Nat → Bool} {n : Nat} (h : D n = false) : dbits D n = dbits D (n + 1) := (if_neg (by rw [h]; decide)).symm
theorem b_1 : ∀ i, i < 32 → bt 1 i = decide (i = 0) := by decide +kernel
theorem dbits_bit {D : Nat → Bool} : ∀ (n i : Nat), n ≤ 32 → i < 32 → bt (dbits D n) i = (decide (i < n) && D i) := by
  intro n
  induction n with
  | zero => intro i _ _; rw [show dbits D 0 = 0 from rfl, b_0, decide_eq_false (by omega)]; rfl
  | succ n ih =>
    intro i hn hi
    cases hd : D n
    · rw [← dbits_f hd, ih i (by omega) hi]
      by_cases e : i = n
      · rw [e, hd, Bool.and_false, Bool.and_false]
      · by_cases h : i < n
        · rw [decide_eq_true h, decide_eq_true (by omega : i < n + 1)]
        · rw [decide_eq_false h, decide_eq_false (by omega : ¬ i < n + 1)]
    · rw [← dbits_t hd, b_or, ih i (by omega) hi, b_shl n (by omega) 1 hi]
      by_cases e : i = n
      · rw [e, hd, decide_eq_true (Nat.le_refl n), b_1 _ (by omega), decide_eq_true (by omega : n - n = 0), decide_eq_true (by omega : n < n + 1)]
        simp
      · by_cases h : i < n
        · rw [decide_eq_true h, decide_eq_true (by omega : i < n + 1), decide_eq_false (by omega : ¬ n ≤ i)]
          simp
        · rw [decide_eq_false h, decide_eq_false (by omega : ¬ i < n + 1), b_1 _ (by omega), decide_eq_false (by omega : ¬ i - n = 0)]
          simp
theorem xw_dec_lp {post : Int32 → Prop} {b : Nat} (hk : k ≤ 6) (hb : b < 5) (H : post (dbits (fun i => tb (xDec k bs bh b i)) k)) : ∀ (n i : Nat), i ≤ k → k < n + i → wX_decodedBlocks_14 post (nI (b + 1)) (nI k) (nI l) (nI d) (nI q) 10 5 (nI fc) (nI mk) ae al (tI fi) (bA mX) (nA ng) (nA kd) (nA sg) (nA sm) (tI sr) (tI mr) (nA mc) (tI bs) (bA bh) (nA bd) (tI ab) (bA ak) (tI wk) (tI wt) n (dbits (fun i => tb (xDec k bs bh b i)) i) (nI i) := by
  intro n
  induction n with
  | zero => intro c h1 h2; omega
  | succ n ih =>
    intro i h2 h3
    refine pk_le k i (fun g => ?_) (fun g => ?_)
    · obtain rfl : i = k := by omega
      exact H
    · rw [nI_pred]
      refine xw_isd hk (by omega) (by omega) (fun z => ?_) (fun z => ?_)
      · exact br_f (by decide) (nm_r (dbits_t (tb_t.mpr z)) (nm_r (nI_1 i) (ih (i + 1) (by omega) (by omega))))
      · refine br_t rfl (nm_r (nI_1 i) ?_)
        rw [dbits_f (D := fun i => tb (xDec k bs bh b i)) (tb_f.mpr z)]
        exact ih (i + 1) (by omega) (by omega)
end
end
section
/-! ===== X: relay memories ===== -/
def mR (mr : Nat → gf_K) (r p : Nat) : Nat → gf_K := fun t => mr ((r * 4 + p) * 10 + t)
def cm_I (mr : Nat → gf_K) (r : Nat) (ws : Int32) (p s : Nat) (w : Nat → gf_K) : Prop := ∀ t, t < 10 → w t = la_sm (if t < s then p + 1 else p) (fun c => gf_mu (wgt ws c) (mR mr r c t))
theorem ix_mem {r p : Nat} : ((nI (r + 1) - 1) * 4 + nI p) * 10 = nI ((r * 4 + p) * 10) := by
  rw [nI_pred, show nI r * 4 = nI (r * 4) from pk_mul r 4, nI_add]
  exact pk_mul _ 10
section
variable {k l d q fc mk : Nat} {ae al : Nat → Int32} {fi sr mr bs ab wk wt : Nat → gf_K} {mX bh ak : Nat → Bool} {ng kd sg sm mc bd : Nat → Nat}
theorem xw_ms {post : Int32 → Prop} {r p : Nat} (h : post (nI ((r * 4 + p) * 10))) : wpX_memStart post (nI k, nI l, nI d, nI q, 10, 5, nI fc, nI mk, ae, al, tI fi, bA mX, nA ng, nA kd, nA sg, nA sm, tI sr, tI mr, nA mc, tI bs, bA bh, nA bd, tI ab, bA ak, tI wk, tI wt) (nI (r + 1)) (nI p) := by
  unfold wpX_memStart
  dsimp only
  rw [ix_mem]
  exact h
theorem xw_cm_in {post : SX → Prop} {J : Int32 → (Nat → Int32) → (Nat → Int32) → (Nat → Int32) → (Nat → Int32) → (Nat → Int32) → (Nat → Int32) → (Nat → Int32) → (Nat → Int32) → (Nat → Int32) → (Nat → Int32) → (Nat → Int32) → (Nat → Int32) → (Nat → Int32) → (Nat → Int32) → (Nat → Int32) → (Nat → Int32) → (Nat → Int32) → (Nat → Int32) → Prop} {r p m : Nat} {ws : Int32} (hT : gf_TB ae al) (hr : r < 2) (hp : p < 4)
    (HJ : ∀ w, cm_I mr r ws (p + 1) 0 w → J (nI (p + 1)) ae al (tI fi) (bA mX) (nA ng) (nA kd) (nA sg) (nA sm) (tI sr) (tI mr) (nA mc) (tI bs) (bA bh) (nA bd) (tI ab) (bA ak) (tI wk) (tI w)) :
    ∀ (n i : Nat) (w : Nat → gf_K), i ≤ 10 → 10 < n + i → cm_I mr r ws p i w → wX_combineMemory_47 post J (nI (r + 1)) ws (nI m) (nI p) (gf_I (wgt ws p)) (nI ((r * 4 + p) * 10)) (nI k) (nI l) (nI d) (nI q) 10 5 (nI fc) (nI mk) n (nI i) ae al (tI fi) (bA mX) (nA ng) (nA kd) (nA sg) (nA sm) (tI sr) (tI mr) (nA mc) (tI bs) (bA bh) (nA bd) (tI ab) (bA ak) (tI wk) (tI w) := by
  intro n
  induction n with
  | zero => intro i w h1 h2; omega
  | succ n ih =>
    intro i w h1 h2 h3
    refine pk_le 10 i (fun h => nm_r (nI_1 p) (HJ w (fun t ht => ?_))) (fun h => ?_)
    · rw [h3 t ht, if_pos (by omega), if_neg (by omega)]
    · rw [nI_add, nI_clamp (by omega : i < 2 ^ 31), nI_clamp (by omega : (r * 4 + p) * 10 + i < 2 ^ 31)]
      refine ⟨pk_in i 10 h, pk_in ((r * 4 + p) * 10 + i) 80 (by omega), xt_I hT ⟨pk_in i 10 h, ?_⟩⟩
      intro y ey
      rw [gf_Ix, gf_upd] at ey
      subst ey
      refine nm_r (nI_1 i) (ih (i + 1) _ (by omega) (by omega) (fun t ht => ?_))
      by_cases e : t = i
      · rw [e, fu_s, if_pos (by omega), h3 i h, if_neg (by omega)]
        rfl
      · rw [fu_n e, h3 t ht]
        by_cases g : t < i
        · rw [if_pos g, if_pos (by omega)]
        · rw [if_neg g, if_neg (by omega)]
theorem xw_cm_lp {post : SX → Prop} {r m : Nat} {ws : Int32} (hT : gf_TB ae al) (hr : r < 2) (hm : m ≤ 4)
    (H : ∀ w, cm_I mr r ws m 0 w → post (nI k, nI l, nI d, nI q, 10, 5, nI fc, nI mk, ae, al, tI fi, bA mX, nA ng, nA kd, nA sg, nA sm, tI sr, tI mr, nA mc, tI bs, bA bh, nA bd, tI ab, bA ak, tI wk, tI w)) :
    ∀ (n p : Nat) (w : Nat → gf_K), p ≤ m → m < n + p → cm_I mr r ws p 0 w → wX_combineMemory_16 post (nI (r + 1)) ws (nI m) (nI k) (nI l) (nI d) (nI q) 10 5 (nI fc) (nI mk) n (nI p) ae al (tI fi) (bA mX) (nA ng) (nA kd) (nA sg) (nA sm) (tI sr) (tI mr) (nA mc) (tI bs) (bA bh) (nA bd) (tI ab) (bA ak) (tI wk) (tI w) := by
  intro n
  induction n with
  | zero => intro i w h1 h2; omega
  | succ n ih =>
    intro p w h1 h2 h3
    refine pk_le m p (fun h => ?_) (fun h => nm_r (e' := gf_I (wgt ws p)) (gf_and _) (xw_ms ?_))
    · obtain rfl : p = m := by omega
      exact H w h3
    · exact ⟨11, xw_cm_in hT hr (by omega) (fun w' hw' => ih (p + 1) w' (by omega) (by omega) hw') 11 0 w (by omega) (by omega) h3⟩
theorem xw_cm {post : SX → Prop} {r : Nat} {ws : Int32} (hT : gf_TB ae al) (hr : r < 2) (hm : mc r ≤ 4)
    (H : ∀ w, (∀ t, t < 10 → w t = la_sm (mc r) (fun c => gf_mu (wgt ws c) (mR mr r c t))) → post (nI k, nI l, nI d, nI q, 10, 5, nI fc, nI mk, ae, al, tI fi, bA mX, nA ng, nA kd, nA sg, nA sm, tI sr, tI mr, nA mc, tI bs, bA bh, nA bd, tI ab, bA ak, tI wk, tI w)) : wpX_combineMemory post (nI k, nI l, nI d, nI q, 10, 5, nI fc, nI mk, ae, al, tI fi, bA mX, nA ng, nA kd, nA sg, nA sm, tI sr, tI mr, nA mc, tI bs, bA bh, nA bd, tI ab, bA ak, tI wk, tI wt) (nI (r + 1)) ws := by
  unfold wpX_combineMemory
  refine xw_clear (fun w hw => ?_)
  rw [nI_pred, nI_clamp (by omega : r < 2 ^ 31)]
  refine ⟨pk_in r 2 hr, nm_e ?_⟩
  refine Exists.intro 5 (xw_cm_lp hT hr hm (fun w' hw' => H w' (fun t ht => ?_)) 5 0 w (by omega) (by omega) (fun t ht => ?_))
  · rw [hw' t ht, if_neg (by omega)]
  · rw [hw t ht, if_neg (by omega)]; rfl
/-! the oldest forgotten -/
theorem xw_fo_lp {post : SX → Prop} {r : Nat} {m0 : Nat → gf_K} (hr : r < 2)
    (H : ∀ m, (∀ t, t < 30 → m (r * 40 + t) = m0 (r * 40 + t + 10)) → (∀ j, j < r * 40 ∨ r * 40 + 30 ≤ j → m j = m0 j) → post (nI k, nI l, nI d, nI q, 10, 5, nI fc, nI mk, ae, al, tI fi, bA mX, nA ng, nA kd, nA sg, nA sm, tI sr, tI m, nA (fu mc r 3), tI bs, bA bh, nA bd, tI ab, bA ak, tI wk, tI wt)) :
    ∀ (n i : Nat) (m : Nat → gf_K), i ≤ 30 → 30 < n + i → (∀ t, t < i → m (r * 40 + t) = m0 (r * 40 + t + 10)) → (∀ j, j < r * 40 ∨ r * 40 + i ≤ j → m j = m0 j) → wX_forgetOldest_13 post (nI (r + 1)) (nI (r * 40)) 30 (nI k) (nI l) (nI d) (nI q) 10 5 (nI fc) (nI mk) n (nI i) ae al (tI fi) (bA mX) (nA ng) (nA kd) (nA sg) (nA sm) (tI sr) (tI m) (nA mc) (tI bs) (bA bh) (nA bd) (tI ab) (bA ak) (tI wk) (tI wt) := by
  intro n
  induction n with
  | zero => intro i w h1 h2; omega
  | succ n ih =>
    intro i m h1 h2 h3 h4
    refine pk_le 30 i (fun g => ⟨pk_in r 2 hr (nI_pred r), nA_nm r 3 (nI_pred r) (by omega) rfl (H m (fun t ht => h3 t (by omega)) (fun j hj => h4 j (by omega)))⟩) (fun g => ?_)
    have e1 : nI (r * 40) + nI i + 10 = nI (r * 40 + i + 10) := by rw [nI_add]; exact nI_add _ 10
    refine ⟨pk_in (r * 40 + i + 10) 80 (by omega) e1, pk_in (r * 40 + i) 80 (by omega) (nI_add _ _), tI_nm (r * 40 + i) (m0 (r * 40 + i + 10)) (nI_add _ _) (by omega) ?_ (nm_r (nI_1 i) (ih (i + 1) _ (by omega) (by omega) (fun t ht => ?_) (fun j hj => ?_)))⟩
    · rw [e1, nI_clamp (by omega : r * 40 + i + 10 < 2 ^ 31)]
      show gf_I (m _) = _
      rw [h4 _ (by omega)]
    · by_cases e : t = i
      · rw [e, fu_s]
      · rw [fu_n (by omega)]; exact h3 t (by omega)
    · rw [fu_n (by omega)]; exact h4 j (by omega)
theorem xw_fo {post : SX → Prop} {r : Nat} (hr : r < 2)
    (H : ∀ m, (∀ t, t < 30 → m (r * 40 + t) = mr (r * 40 + t + 10)) → (∀ j, j < r * 40 ∨ r * 40 + 30 ≤ j → m j = mr j) → post (nI k, nI l, nI d, nI q, 10, 5, nI fc, nI mk, ae, al, tI fi, bA mX, nA ng, nA kd, nA sg, nA sm, tI sr, tI m, nA (fu mc r 3), tI bs, bA bh, nA bd, tI ab, bA ak, tI wk, tI wt)) : wpX_forgetOldest post (nI k, nI l, nI d, nI q, 10, 5, nI fc, nI mk, ae, al, tI fi, bA mX, nA ng, nA kd, nA sg, nA sm, tI sr, tI mr, nA mc, tI bs, bA bh, nA bd, tI ab, bA ak, tI wk, tI wt) (nI (r + 1)) := by
  unfold wpX_forgetOldest
  refine xw_ms (p := 0) ?_
  rw [show (r * 4 + 0) * 10 = r * 40 by omega]
  exact Exists.intro 31 (xw_fo_lp (m0 := mr) hr H 31 0 mr (by omega) (by omega) (fun t ht => by omega) (fun _ _ => rfl))
/-! load a slot -/
theorem xw_lw_lp {post : SX → Prop} {s : Nat} (hs : s < 8) (H : ∀ w, (∀ t, t < 10 → w t = sr (s * 10 + t)) → post (nI k, nI l, nI d, nI q, 10, 5, nI fc, nI mk, ae, al, tI fi, bA mX, nA ng, nA kd, nA sg, nA sm, tI sr, tI mr, nA mc, tI bs, bA bh, nA bd, tI ab, bA ak, tI w, tI wt)) : ∀ (n i : Nat) (w : Nat → gf_K), i ≤ 10 → 10 < n + i → (∀ t, t < i → w t = sr (s * 10 + t)) → wX_loadWorkFromSlot_2 post (nI s) (nI k) (nI l) (nI d) (nI q) 10 5 (nI fc) (nI mk) n (nI i) ae al (tI fi) (bA mX) (nA ng) (nA kd) (nA sg) (nA sm) (tI sr) (tI mr) (nA mc) (tI bs) (bA bh) (nA bd) (tI ab) (bA ak) (tI w) (tI wt) := by
  intro n
  induction n with
  | zero => intro i w h1 h2; omega
  | succ n ih =>
    intro i w h1 h2 h3
    have e1 : nI s * 10 + nI i = nI (s * 10 + i) := by rw [show nI s * 10 = nI (s * 10) from pk_mul s 10, nI_add]
    refine pk_le 10 i (fun g => H w (fun t ht => h3 t (by omega))) (fun g => ⟨pk_in (s * 10 + i) 80 (by omega) e1, pk_in i 10 g, tI_nm i (sr (s * 10 + i)) rfl (by omega) (by rw [e1, nI_clamp (by omega : s * 10 + i < 2 ^ 31)]) (nm_r (nI_1 i) (ih (i + 1) _ (by omega) (by omega) (fu_lt (Q := fun t x => x = sr (s * 10 + t)) h3 rfl)))⟩)
theorem xw_lw {post : SX → Prop} {s : Nat} (hs : s < 8) (H : ∀ w, (∀ t, t < 10 → w t = sr (s * 10 + t)) → post (nI k, nI l, nI d, nI q, 10, 5, nI fc, nI mk, ae, al, tI fi, bA mX, nA ng, nA kd, nA sg, nA sm, tI sr, tI mr, nA mc, tI bs, bA bh, nA bd, tI ab, bA ak, tI w, tI wt)) : wpX_loadWorkFromSlot post (nI k, nI l, nI d, nI q, 10, 5, nI fc, nI mk, ae, al, tI fi, bA mX, nA ng, nA kd, nA sg, nA sm, tI sr, tI mr, nA mc, tI bs, bA bh, nA bd, tI ab, bA ak, tI wk, tI wt) (nI s) :=
  Exists.intro 11 (xw_lw_lp hs H 11 0 wk (by omega) (by omega) (fun t ht => by omega))
/-! the basis made anew -/
theorem xw_rb_in {post : SX → Prop} {J : Int32 → Int32 → Int32 → Int32 → Int32 → Int32 → Int32 → Int32 → Int32 → (Nat → Int32) → (Nat → Int32) → (Nat → Int32) → (Nat → Int32) → (Nat → Int32) → (Nat → Int32) → (Nat → Int32) → (Nat → Int32) → (Nat → Int32) → (Nat → Int32) → (Nat → Int32) → (Nat → Int32) → (Nat → Int32) → (Nat → Int32) → (Nat → Int32) → (Nat → Int32) → (Nat → Int32) → (Nat → Int32) → Prop} {r p m : Nat} {A T : (Nat → gf_K) → Prop} (hT : gf_TB ae al) (hk : k ≤ 6) (hr : r < 2) (hp : p < 4) (hLT : la_LT T) (hTs : ∀ v, T v → la_su k v) (hw : T (mR mr r p)) (h : xB k bs bh bd r A T)
    (HJ : ∀ w s h' d', xB k s h' d' r (fun φ => A φ ∧ la_dot φ (mR mr r p) = 0#8) T → xFr r bs bh bd s h' d' → J (nI (p + 1)) (nI k) (nI l) (nI d) (nI q) 10 5 (nI fc) (nI mk) ae al (tI fi) (bA mX) (nA ng) (nA kd) (nA sg) (nA sm) (tI sr) (tI mr) (nA mc) (tI s) (bA h') (nA d') (tI ab) (bA ak) (tI w) (tI wt)) :
    ∀ (n i : Nat) (w : Nat → gf_K), i ≤ 10 → 10 < n + i → (∀ t, t < i → w t = mR mr r p t) → wX_rebuildRelayBasis_34 post J (nI (r + 1)) (nI m) (nI p) (nI ((r * 4 + p) * 10)) (nI k) (nI l) (nI d) (nI q) 10 5 (nI fc) (nI mk) n (nI i) ae al (tI fi) (bA mX) (nA ng) (nA kd) (nA sg) (nA sm) (tI sr) (tI mr) (nA mc) (tI bs) (bA bh) (nA bd) (tI ab) (bA ak) (tI w) (tI wt) := by
  intro n
  induction n with
  | zero => intro i w h1 h2; omega
  | succ n ih =>
    intro i w h1 h2 h3
    refine pk_le 10 i (fun g => ?_) (fun g => ⟨pk_in ((r * 4 + p) * 10 + i) 80 (by omega) (nI_add _ _), pk_in i 10 g, tI_nm i (mR mr r p i) rfl (by omega) (by rw [nI_add, nI_clamp (by omega : (r * 4 + p) * 10 + i < 2 ^ 31)]; rfl) (nm_r (nI_1 i) (ih (i + 1) _ (by omega) (by omega) (fu_lt (Q := fun t x => x = mR mr r p t) h3 rfl)))⟩)
    have hw2 : T w := hLT.1 _ _ (fun t ht => (h3 t (by omega)).symm) hw
    rw [nI_pred]
    refine xb_ins2 hT hk (by omega) hLT hTs hw2 h (fun _ w' s h' d' hB hF => nm_r (nI_1 p) (HJ w' s h' d' (la_BI_A hB (fun φ => ?_)) hF))
    rw [la_dot_c (v := w) (w := mR mr r p) (fun i hi => h3 i (by omega))]
theorem xw_rb_lp {post : SX → Prop} {r m : Nat} {T : (Nat → gf_K) → Prop} {s0 : Nat → gf_K} {h0 : Nat → Bool} {d0 : Nat → Nat} (hT : gf_TB ae al) (hk : k ≤ 6) (hr : r < 2) (hm : m ≤ 4) (hLT : la_LT T) (hTs : ∀ v, T v → la_su k v) (hw : ∀ p, p < m → T (mR mr r p))
    (H : ∀ w s h' d', xB k s h' d' r (fun φ => ∀ p, p < m → la_dot φ (mR mr r p) = 0#8) T → xFr r s0 h0 d0 s h' d' → post (nI k, nI l, nI d, nI q, 10, 5, nI fc, nI mk, ae, al, tI fi, bA mX, nA ng, nA kd, nA sg, nA sm, tI sr, tI mr, nA mc, tI s, bA h', nA d', tI ab, bA ak, tI w, tI wt)) :
    ∀ (n i : Nat) (w s : Nat → gf_K) (h' : Nat → Bool) (d' : Nat → Nat), i ≤ m → m < n + i → xB k s h' d' r (fun φ => ∀ p, p < i → la_dot φ (mR mr r p) = 0#8) T → xFr r s0 h0 d0 s h' d' → wX_rebuildRelayBasis_18 post (nI (r + 1)) (nI m) n (nI i) (nI k) (nI l) (nI d) (nI q) 10 5 (nI fc) (nI mk) ae al (tI fi) (bA mX) (nA ng) (nA kd) (nA sg) (nA sm) (tI sr) (tI mr) (nA mc) (tI s) (bA h') (nA d') (tI ab) (bA ak) (tI w) (tI wt) := by
  intro n
  induction n with
  | zero => intro i w s h' d' h1 h2; omega
  | succ n ih =>
    intro i w s h' d' h1 h2 hB hF
    refine pk_le m i (fun g => ?_) (fun g => xw_ms ?_)
    · obtain rfl : i = m := by omega
      exact H w s h' d' hB hF
    · refine ⟨11, xw_rb_in hT hk hr (by omega) hLT hTs (hw i g) hB (fun w2 s2 h2' d2 hB2 hF2 => ih (i + 1) w2 s2 h2' d2 (by omega) (by omega) (la_BI_A hB2 (fun φ => ?_)) (xFr_t hF hF2)) 11 0 w (by omega) (by omega) (fun t ht => by omega)⟩
      constructor
      · exact fun z => ⟨fun p hp => z p (by omega), z i (by omega)⟩
      · intro z p hp
        by_cases e : p = i
        · rw [e]; exact z.2
        · exact z.1 p (by omega)
theorem xw_rb {post : SX → Prop} {r : Nat} {T : (Nat → gf_K) → Prop} (hT : gf_TB ae al) (hk : k ≤ 6) (hr : r < 2) (hm : mc r ≤ 4) (hLT : la_LT T) (hTs : ∀ v, T v → la_su k v) (hw : ∀ p, p < mc r → T (mR mr r p))
    (H : ∀ w s h' d', xB k s h' d' r (fun φ => ∀ p, p < mc r → la_dot φ (mR mr r p) = 0#8) T → xFr r bs bh bd s h' d' → post (nI k, nI l, nI d, nI q, 10, 5, nI fc, nI mk, ae, al, tI fi, bA mX, nA ng, nA kd, nA sg, nA sm, tI sr, tI mr, nA mc, tI s, bA h', nA d', tI ab, bA ak, tI w, tI wt)) : wpX_rebuildRelayBasis post (nI k, nI l, nI d, nI q, 10, 5, nI fc, nI mk, ae, al, tI fi, bA mX, nA ng, nA kd, nA sg, nA sm, tI sr, tI mr, nA mc, tI bs, bA bh, nA bd, tI ab, bA ak, tI wk, tI wt) (nI (r + 1)) := by
  unfold wpX_rebuildRelayBasis
  dsimp only
  rw [nI_pred]
  refine xb_clear T hk (by omega) (fun h hB hF => ?_)
  rw [nI_clamp (by omega : r < 2 ^ 31)]
  refine ⟨pk_in r 2 hr, nm_e ?_⟩
  exact Exists.intro 5 (xw_rb_lp (s0 := bs) (h0 := bh) (d0 := bd) hT hk hr hm hLT hTs hw H 5 0 wk bs h (fu bd r 0) (by omega) (by omega) (la_BI_A hB (fun φ => ⟨fun _ => trivial, fun _ p hp => by omega⟩)) hF)
/-! to a relay -/
def rl_M (mr : Nat → gf_K) (mc : Nat → Nat) (v : Nat → gf_K) (r : Nat) (m' : Nat → gf_K) (c' : Nat → Nat) : Prop :=
  (mc r < 4 → c' = fu mc r (mc r + 1) ∧ (∀ p, p < mc r → ∀ t, t < 10 → mR m' r p t = mR mr r p t) ∧ ∀ t, t < 10 → mR m' r (mc r) t = v t) ∧
  (¬ mc r < 4 → c' = fu mc r 4 ∧ (∀ p, p < 3 → ∀ t, t < 10 → mR m' r p t = mR mr r (p + 1) t) ∧ ∀ t, t < 10 → mR m' r 3 t = v t) ∧
  ∀ j, j < r * 40 ∨ r * 40 + 40 ≤ j → m' j = mr j
theorem xw_tr_80a {post : Int32 → SX → Prop} {s r m : Nat} {m0 : Nat → gf_K} {T : (Nat → gf_K) → Prop} (hT : gf_TB ae al) (hk : k ≤ 6) (hs : s < 8) (hr : r < 2) (hm : m < 4) (hmc : mc r = m) (hLT : la_LT T) (hTs : ∀ v, T v → la_su k v)
    {A : (Nat → gf_K) → Prop} (hv : T (fun t => sr (s * 10 + t))) (hB : xB k bs bh bd r A T)
    (H : ∀ m', (∀ t, t < 10 → mR m' r m t = sr (s * 10 + t)) → (∀ j, j < (r * 4 + m) * 10 ∨ (r * 4 + m) * 10 + 10 ≤ j → m' j = m0 j) → ∀ w b' h' d', xB k b' h' d' r (fun φ => A φ ∧ la_dot φ (fun t => sr (s * 10 + t)) = 0#8) T → xFr r bs bh bd b' h' d' → post 2 (nI k, nI l, nI d, nI q, 10, 5, nI fc, nI mk, ae, al, tI fi, bA mX, nA ng, nA kd, nA sg, nA sm, tI sr, tI m', nA (fu mc r (m + 1)), tI b', bA h', nA d', tI ab, bA ak, tI w, tI wt)) :
    ∀ (n i : Nat) (m' : Nat → gf_K), i ≤ 10 → 10 < n + i → (∀ t, t < i → mR m' r m t = sr (s * 10 + t)) → (∀ j, j < (r * 4 + m) * 10 ∨ (r * 4 + m) * 10 + 10 ≤ j → m' j = m0 j) → wX_deliverToRelay_80 post (nI s) (nI (r + 1)) (nI r) 0 (nI ((r * 4 + m) * 10)) (nI k) (nI l) (nI d) (nI q) 10 5 (nI fc) (nI mk) n (nI i) ae al (tI fi) (bA mX) (nA ng) (nA kd) (nA sg) (nA sm) (tI sr) (tI m') (nA mc) (tI bs) (bA bh) (nA bd) (tI ab) (bA ak) (tI wk) (tI wt) := by
  intro n
  induction n with
  | zero => intro i w h1 h2; omega
  | succ n ih =>
    intro i m' h1 h2 h3 h4
    have e1 : nI s * 10 + nI i = nI (s * 10 + i) := by rw [show nI s * 10 = nI (s * 10) from pk_mul s 10, nI_add]
    refine pk_le 10 i (fun g => ⟨pk_in r 2 hr, pk_in r 2 hr, nA_nm r (m + 1) rfl (by omega) (by rw [nI_clamp (by omega : r < 2 ^ 31)]; show nI (mc r) + 1 = _; rw [hmc]; exact nI_1 m) ?_⟩) (fun g => ⟨pk_in (s * 10 + i) 80 (by omega) e1, pk_in ((r * 4 + m) * 10 + i) 80 (by omega) (nI_add _ _), tI_nm ((r * 4 + m) * 10 + i) (sr (s * 10 + i)) (nI_add _ _) (by omega) (by rw [e1, nI_clamp (by omega : s * 10 + i < 2 ^ 31)]) (nm_r (nI_1 i) (ih (i + 1) _ (by omega) (by omega) (fun t ht => ?_) (fun j hj => ?_)))⟩)
    · have h5 : ∀ t, t < 10 → mR m' r m t = sr (s * 10 + t) := fun t ht => h3 t (by omega)
      refine br_t rfl (xw_lw hs (fun w hw2 => ?_))
      have hTw : T w := hLT.1 _ _ (fun t ht => (hw2 t ht).symm) hv
      refine xb_ins2 hT hk (by omega) hLT hTs hTw hB (fun _ w' b' h' d' hB2 hF2 => H m' h5 h4 w' b' h' d' (la_BI_A hB2 (fun φ => ?_)) hF2)
      rw [la_dot_c (v := w) (w := fun t => sr (s * 10 + t)) (fun i hi => hw2 i (by omega))]
    · show fu m' _ _ _ = _
      by_cases e : t = i
      · rw [e, fu_s]
      · rw [fu_n (by omega)]; exact h3 t (by omega)
    · rw [fu_n (by omega)]; exact h4 j hj
theorem xw_tr_80b {post : Int32 → SX → Prop} {s r m : Nat} {m0 : Nat → gf_K} {T : (Nat → gf_K) → Prop} (hT : gf_TB ae al) (hk : k ≤ 6) (hs : s < 8) (hr : r < 2) (hm : m < 4) (hmc : mc r = m) (hLT : la_LT T) (hTs : ∀ v, T v → la_su k v)
    (hTm : ∀ m', (∀ t, t < 10 → mR m' r m t = sr (s * 10 + t)) → (∀ j, j < (r * 4 + m) * 10 ∨ (r * 4 + m) * 10 + 10 ≤ j → m' j = m0 j) → ∀ p, p < m + 1 → T (mR m' r p))
    (H : ∀ m', (∀ t, t < 10 → mR m' r m t = sr (s * 10 + t)) → (∀ j, j < (r * 4 + m) * 10 ∨ (r * 4 + m) * 10 + 10 ≤ j → m' j = m0 j) → ∀ w b' h' d', xB k b' h' d' r (fun φ => ∀ p, p < m + 1 → la_dot φ (mR m' r p) = 0#8) T → xFr r bs bh bd b' h' d' → post 2 (nI k, nI l, nI d, nI q, 10, 5, nI fc, nI mk, ae, al, tI fi, bA mX, nA ng, nA kd, nA sg, nA sm, tI sr, tI m', nA (fu mc r (m + 1)), tI b', bA h', nA d', tI ab, bA ak, tI w, tI wt)) :
    ∀ (n i : Nat) (m' : Nat → gf_K), i ≤ 10 → 10 < n + i → (∀ t, t < i → mR m' r m t = sr (s * 10 + t)) → (∀ j, j < (r * 4 + m) * 10 ∨ (r * 4 + m) * 10 + 10 ≤ j → m' j = m0 j) → wX_deliverToRelay_80 post (nI s) (nI (r + 1)) (nI r) 1 (nI ((r * 4 + m) * 10)) (nI k) (nI l) (nI d) (nI q) 10 5 (nI fc) (nI mk) n (nI i) ae al (tI fi) (bA mX) (nA ng) (nA kd) (nA sg) (nA sm) (tI sr) (tI m') (nA mc) (tI bs) (bA bh) (nA bd) (tI ab) (bA ak) (tI wk) (tI wt) := by
  intro n
  induction n with
  | zero => intro i w h1 h2; omega
  | succ n ih =>
    intro i m' h1 h2 h3 h4
    have e1 : nI s * 10 + nI i = nI (s * 10 + i) := by rw [show nI s * 10 = nI (s * 10) from pk_mul s 10, nI_add]
    refine pk_le 10 i (fun g => ⟨pk_in r 2 hr, pk_in r 2 hr, nA_nm r (m + 1) rfl (by omega) (by rw [nI_clamp (by omega : r < 2 ^ 31)]; show nI (mc r) + 1 = _; rw [hmc]; exact nI_1 m) ?_⟩) (fun g => ⟨pk_in (s * 10 + i) 80 (by omega) e1, pk_in ((r * 4 + m) * 10 + i) 80 (by omega) (nI_add _ _), tI_nm ((r * 4 + m) * 10 + i) (sr (s * 10 + i)) (nI_add _ _) (by omega) (by rw [e1, nI_clamp (by omega : s * 10 + i < 2 ^ 31)]) (nm_r (nI_1 i) (ih (i + 1) _ (by omega) (by omega) (fun t ht => ?_) (fun j hj => ?_)))⟩)
    · have h5 : ∀ t, t < 10 → mR m' r m t = sr (s * 10 + t) := fun t ht => h3 t (by omega)
      refine br_f (by decide) (xw_rb hT hk hr (by rw [fu_s]; omega) hLT hTs (by rw [fu_s]; exact hTm m' h5 h4) (fun w' b' h' d' hB2 hF2 => ?_))
      rw [fu_s] at hB2
      exact H m' h5 h4 w' b' h' d' hB2 hF2
    · show fu m' _ _ _ = _
      by_cases e : t = i
      · rw [e, fu_s]
      · rw [fu_n (by omega)]; exact h3 t (by omega)
    · rw [fu_n (by omega)]; exact h4 j hj
theorem xw_tr_43 {post : Int32 → SX → Prop} {s r : Nat} {T : (Nat → gf_K) → Prop} (hT : gf_TB ae al) (hk : k ≤ 6) (hs : s < 8) (hr : r < 2) (hm : mc r ≤ 4) (hLT : la_LT T) (hTs : ∀ v, T v → la_su k v) (hw : ∀ p, p < mc r → T (mR mr r p)) (hv : T (fun t => sr (s * 10 + t))) (hB : xB k bs bh bd r (fun φ => ∀ p, p < mc r → la_dot φ (mR mr r p) = 0#8) T)
    (H : ∀ w m' c' b' h' d', rl_M mr mc (fun t => sr (s * 10 + t)) r m' c' → xB k b' h' d' r (fun φ => ∀ p, p < c' r → la_dot φ (mR m' r p) = 0#8) T → xFr r bs bh bd b' h' d' → (∀ p, p < c' r → T (mR m' r p)) → post 2 (nI k, nI l, nI d, nI q, 10, 5, nI fc, nI mk, ae, al, tI fi, bA mX, nA ng, nA kd, nA sg, nA sm, tI sr, tI m', nA c', tI b', bA h', nA d', tI ab, bA ak, tI w, tI wt)) :
    wX_deliverToRelay_43 post (nI s) (nI (r + 1)) (nI r) (nI k) (nI l) (nI d) (nI q) 10 5 (nI fc) (nI mk) ae al (tI fi) (bA mX) (nA ng) (nA kd) (nA sg) (nA sm) (tI sr) (tI mr) (nA mc) (tI bs) (bA bh) (nA bd) (tI ab) (bA ak) (tI wk) (tI wt) := by
  unfold wX_deliverToRelay_43
  rw [nI_clamp (by omega : r < 2 ^ 31)]
  refine ⟨pk_in r 2 hr, pk_lt (mc r) 4 (fun g => ?_) (fun g => ?_)⟩
  · unfold wX_deliverToRelay_64
    rw [nI_clamp (by omega : r < 2 ^ 31)]
    refine ⟨pk_in r 2 hr, xw_ms ?_⟩
    refine ⟨11, xw_tr_80a (m := mc r) (m0 := mr) hT hk hs hr g rfl hLT hTs hv hB (fun m' h3 h4 w' b' h' d' hB2 hF2 => ?_) 11 0 mr (by omega) (by omega) (fun t ht => by omega) (fun _ _ => rfl)⟩
    have hrow : ∀ p, p < mc r → ∀ t, t < 10 → mR m' r p t = mR mr r p t := fun p hp t ht => h4 _ (by omega)
    refine H w' m' _ b' h' d' ⟨fun _ => ⟨rfl, hrow, h3⟩, fun z => absurd g z, fun j hj => h4 j (by omega)⟩ (la_BI_A hB2 (fun φ => ?_)) hF2 ?_
    · rw [fu_s]
      have hdw : la_dot φ (fun t => sr (s * 10 + t)) = la_dot φ (mR m' r (mc r)) := la_dot_c (fun t ht => (h3 t (by omega)).symm)
      have hdp : ∀ p, p < mc r → la_dot φ (mR m' r p) = la_dot φ (mR mr r p) := fun p hp => la_dot_c (fun t ht => hrow p hp t (by omega))
      rw [hdw]
      constructor
      · exact fun z => ⟨fun p hp => by rw [← hdp p hp]; exact z p (by omega), z _ (by omega)⟩
      · intro z p hp
        by_cases e : p = mc r
        · rw [e]; exact z.2
        · rw [hdp p (by omega)]; exact z.1 p (by omega)
    · intro p hp
      rw [fu_s] at hp
      by_cases e : p = mc r
      · rw [e]; exact hLT.1 _ _ (fun t ht => (h3 t ht).symm) hv
      · exact hLT.1 _ _ (fun t ht => (hrow p (by omega) t ht).symm) (hw p (by omega))
  · refine xw_fo hr (fun m1 h1 h2 => ?_)
    show wX_deliverToRelay_64 post (nI s) (nI (r + 1)) (nI r) 1 (nI k) (nI l) (nI d) (nI q) 10 5 (nI fc) (nI mk) ae al (tI fi) (bA mX) (nA ng) (nA kd) (nA sg) (nA sm) (tI sr) (tI m1) (nA (fu mc r 3)) (tI bs) (bA bh) (nA bd) (tI ab) (bA ak) (tI wk) (tI wt)
    unfold wX_deliverToRelay_64
    rw [nI_clamp (by omega : r < 2 ^ 31), show nA (fu mc r 3) r = nI 3 from congrArg nI fu_s]
    refine ⟨pk_in r 2 hr, xw_ms ?_⟩
    have hrow : ∀ m', (∀ j, j < (r * 4 + 3) * 10 ∨ (r * 4 + 3) * 10 + 10 ≤ j → m' j = m1 j) → ∀ p, p < 3 → ∀ t, t < 10 → mR m' r p t = mR mr r (p + 1) t := by
      intro m' h4 p hp t ht
      show m' ((r * 4 + p) * 10 + t) = mr ((r * 4 + (p + 1)) * 10 + t)
      rw [h4 _ (by omega), show (r * 4 + p) * 10 + t = r * 40 + (p * 10 + t) by omega, h1 _ (by omega)]
      congr 1
      omega
    have hTw : ∀ m', (∀ t, t < 10 → mR m' r 3 t = sr (s * 10 + t)) → (∀ j, j < (r * 4 + 3) * 10 ∨ (r * 4 + 3) * 10 + 10 ≤ j → m' j = m1 j) → ∀ p, p < 3 + 1 → T (mR m' r p) := by
      intro m' h3 h4 p hp
      by_cases e : p = 3
      · rw [e]; exact hLT.1 _ _ (fun t ht => (h3 t ht).symm) hv
      · exact hLT.1 _ _ (fun t ht => (hrow m' h4 p (by omega) t ht).symm) (hw (p + 1) (by omega))
    refine ⟨11, xw_tr_80b (m := 3) (m0 := m1) hT hk hs hr (by omega) fu_s hLT hTs hTw (fun m' h3 h4 w b' h' d' hB2 hF2 => ?_) 11 0 m1 (by omega) (by omega) (fun t ht => by omega) (fun _ _ => rfl)⟩
    have ec : fu (fu mc r 3) r (3 + 1) = fu mc r 4 := by
      funext j
      by_cases e : j = r
      · rw [e, fu_s, fu_s]
      · rw [fu_n e, fu_n e, fu_n e]
    rw [ec]
    refine H w m' _ b' h' d' ⟨fun z => absurd z (by omega), fun _ => ⟨rfl, hrow m' h4, h3⟩, fun j hj => by rw [h4 j (by omega), h2 j (by omega)]⟩ ?_ hF2 ?_
    · rw [fu_s]; exact hB2
    · rw [fu_s]; exact hTw m' h3 h4
end
end
section
/-! ===== X: deliveries ===== -/
def rwT (k l : Nat) (fi : Nat → gf_K) (g : Nat) (c : Nat → gf_K) : Prop := la_su k c ∧ ∀ j, j < l → c (6 + j) = la_sm k (fun i => gf_mu (c i) (fi (g * k * l + i * l + j)))
theorem rw_LT {k l g : Nat} {fi : Nat → gf_K} (hk : k ≤ 6) (hl : l ≤ 4) : la_LT (rwT k l fi g) := by
  refine ⟨fun v w h hv => ⟨la_LTsu.1 v w h hv.1, fun j hj => ?_⟩, ⟨la_LTsu.2.1, fun j hj => ?_⟩, fun a v w hv hw => ⟨la_LTsu.2.2 a v w hv.1 hw.1, fun j hj => ?_⟩⟩
  · rw [← h (6 + j) (by omega), hv.2 j hj]
    exact la_congr (fun i hi => by rw [h i (by omega)])
  · exact (la_zero (fun i hi => gf_0m _)).symm
  · show v (6 + j) ^^^ gf_mu a (w (6 + j)) = la_sm k (fun i => gf_mu (v i ^^^ gf_mu a (w i)) _)
    rw [hv.2 j hj, hw.2 j hj, ← la_mul, ← la_x]
    exact la_congr (fun i _ => by rw [gf_al, gf_assoc])
theorem rw_su {k l g : Nat} {fi : Nat → gf_K} : ∀ v, rwT k l fi g v → la_su k v := fun _ h => h.1
theorem rw_unit {k l g i e : Nat} {fi c : Nat → gf_K} (h : rwT k l fi g c) (hi : i < k) (h1 : c i = 1#8) (hz : ∀ a, a < k → a ≠ i → c a = 0#8) (he : e < l) : c (6 + e) = fi (g * k * l + i * l + e) := by
  rw [h.2 e he, la_one (j := i) hi (fun a ha ne => by rw [hz a ha ne, gf_0m]), h1, gf_1m]
theorem tI_nw {P : (Nat → Int32) → Prop} {w : Nat → gf_K} {j : Nat} (x : gf_K) {v : Int32} (hv : v = gf_I x) (h : P (tI (fu w j x))) : ∀ y, y = upd (tI w) j v → P y := by
  intro y ey
  rw [ey, hv, gf_upd]
  exact h
theorem nA_nw {P : (Nat → Int32) → Prop} {w : Nat → Nat} {j : Nat} (x : Nat) {v : Int32} (hv : v = nI x) (h : P (nA (fu w j x))) : ∀ y, y = upd (nA w) j v → P y := by
  intro y ey
  rw [ey, hv, nA_upd]
  exact h
theorem bA_nw {P : (Nat → Int32) → Prop} {w : Nat → Bool} {j : Nat} (x : Bool) {v : Int32} (hv : v = bI x) (h : P (bA (fu w j x))) : ∀ y, y = upd (bA w) j v → P y := by
  intro y ey
  rw [ey, hv, bA_upd]
  exact h
theorem fu_same {α : Type} {f : Nat → α} {j : Nat} {x : α} (h : f j = x) : fu f j x = f := by
  funext i
  by_cases e : i = j
  · rw [e, fu_s, h]
  · rw [fu_n e]
section
variable {k l d q fc mk : Nat} {ae al : Nat → Int32} {fi sr mr bs ab wk wt : Nat → gf_K} {mX bh ak : Nat → Bool} {ng kd sg sm mc bd : Nat → Nat}
theorem xw_toRelay {post : Int32 → SX → Prop} {s r : Nat} (hT : gf_TB ae al) (hk : k ≤ 6) (hl : l ≤ 4) (hs : s < 8) (hr : r < 2) (hm : mc r ≤ 4) (hb1 : sg s < 2 ^ 31) (hb2 : ng (r + 1) < 2 ^ 31) (hle : ng (r + 1) ≤ sg s)
    (hw : ∀ p, p < mc r → rwT k l fi (ng (r + 1)) (mR mr r p)) (hv : rwT k l fi (sg s) (fun t => sr (s * 10 + t))) (hB : xB k bs bh bd r (fun φ => ∀ p, p < mc r → la_dot φ (mR mr r p) = 0#8) (rwT k l fi (ng (r + 1))))
    (H : ∀ w c0 m' c' b' h' d', (c0 = if sg s ≤ ng (r + 1) then mc else fu mc r 0) → rl_M mr c0 (fun t => sr (s * 10 + t)) r m' c' → xB k b' h' d' r (fun φ => ∀ p, p < c' r → la_dot φ (mR m' r p) = 0#8) (rwT k l fi (sg s)) → xFr r bs bh bd b' h' d' → (∀ p, p < c' r → rwT k l fi (sg s) (mR m' r p)) → post 2 (nI k, nI l, nI d, nI q, 10, 5, nI fc, nI mk, ae, al, tI fi, bA mX, nA (fu ng (r + 1) (sg s)), nA kd, nA sg, nA sm, tI sr, tI m', nA c', tI b', bA h', nA d', tI ab, bA ak, tI w, tI wt)) :
    wpX_deliverToRelay post (nI k, nI l, nI d, nI q, 10, 5, nI fc, nI mk, ae, al, tI fi, bA mX, nA ng, nA kd, nA sg, nA sm, tI sr, tI mr, nA mc, tI bs, bA bh, nA bd, tI ab, bA ak, tI wk, tI wt) (nI s) (nI (r + 1)) := by
  refine nm_r (nI_pred r) ?_
  rw [nI_clamp (by omega : s < 2 ^ 31), nI_clamp (by omega : r + 1 < 2 ^ 31)]
  refine ⟨pk_in s 8 hs, pk_in (r + 1) 6 (by omega), pk_le (sg s) (ng (r + 1)) (fun g => ?_) (fun g => ?_)⟩
  · have e : ng (r + 1) = sg s := by omega
    rw [e] at hw hB
    refine xw_tr_43 hT hk hs hr hm (rw_LT hk hl) rw_su hw hv hB (fun w m' c' b' h' d' h1 h2 h3 h4 => ?_)
    have := H w mc m' c' b' h' d' (if_pos g).symm h1 h2 h3 h4
    rw [fu_same e] at this
    exact this
  · refine ⟨pk_in r 2 hr, nA_nm r 0 rfl (by omega) rfl ?_⟩
    refine xb_clear (rwT k l fi (sg s)) hk (by omega) (fun h1 hB1 hF1 => ?_)
    refine ⟨pk_in s 8 hs, pk_in (r + 1) 6 (by omega), nA_nw (sg s) rfl ?_⟩
    have z0 : fu mc r 0 r = 0 := fu_s
    refine xw_tr_43 hT hk hs hr (by omega) (rw_LT hk hl) rw_su (fun p hp => by omega) hv (la_BI_A hB1 (fun φ => ⟨fun _ => trivial, fun _ p hp => by omega⟩)) (fun w m' c' b' h' d' h1 h2 h3 h4 => ?_)
    exact H w _ m' c' b' h' d' (if_neg (by omega)).symm h1 h2 (xFr_t hF1 h3) h4
/-! the archive -/
def arI (fi : Nat → gf_K) (fc : Nat) (ab : Nat → gf_K) (ak : Nat → Bool) : Prop := ∀ v, v < 3 → ∀ p, p < 72 → ak (v * 72 + p) = true → ab (v * 72 + p) = fi p ∧ p < fc
def mkS (l : Nat) (D : Nat → Prop) (base i e j : Nat) : Prop := ∃ a c, (a < i ∨ (a = i ∧ c < e)) ∧ c < l ∧ D a ∧ j = base + a * l + c
theorem mkS_s {l base i e j : Nat} {D : Nat → Prop} (he : e < l) (hD : D i) : mkS l D base i (e + 1) j ↔ mkS l D base i e j ∨ j = base + i * l + e := by
  constructor
  · rintro ⟨a, c, h1, h2, h3, h4⟩
    by_cases g : a < i ∨ (a = i ∧ c < e)
    · exact Or.inl ⟨a, c, g, h2, h3, h4⟩
    · have ea : a = i := by omega
      have ec : c = e := by omega
      rw [ea, ec] at h4
      exact Or.inr h4
  · rintro (⟨a, c, h1, h2, h3, h4⟩ | h)
    · exact ⟨a, c, by omega, h2, h3, h4⟩
    · exact ⟨i, e, by omega, he, hD, h⟩
theorem mkS_e {l base i j : Nat} {D : Nat → Prop} : mkS l D base i l j ↔ mkS l D base (i + 1) 0 j := by
  constructor
  · rintro ⟨a, c, h1, h2, h3, h4⟩
    exact ⟨a, c, by omega, h2, h3, h4⟩
  · rintro ⟨a, c, h1, h2, h3, h4⟩
    exact ⟨a, c, by omega, h2, h3, h4⟩
theorem mkS_n {l base i j : Nat} {D : Nat → Prop} (hD : ¬ D i) : mkS l D base i 0 j ↔ mkS l D base (i + 1) 0 j := by
  constructor
  · rintro ⟨a, c, h1, h2, h3, h4⟩
    exact ⟨a, c, by omega, h2, h3, h4⟩
  · rintro ⟨a, c, h1, h2, h3, h4⟩
    have : a ≠ i := fun z => hD (by rw [← z]; exact h3)
    exact ⟨a, c, by omega, h2, h3, h4⟩
theorem mkS_0 {l base j : Nat} {D : Nat → Prop} : ¬ mkS l D base 0 0 j := by
  rintro ⟨a, c, h1, h2, h3, h4⟩
  omega
theorem xw_st {post : SX → Prop} {v p : Nat} {x : gf_K} (hv : v < 3) (hp : p < 72) (hfc : p < fc) (hx : x = fi p) (hA : arI fi fc ab ak)
    (H : ∀ ab' ak', arI fi fc ab' ak' → (∀ j, ak' j = true ↔ ak j = true ∨ j = v * 72 + p) → post (nI k, nI l, nI d, nI q, 10, 5, nI fc, nI mk, ae, al, tI fi, bA mX, nA ng, nA kd, nA sg, nA sm, tI sr, tI mr, nA mc, tI bs, bA bh, nA bd, tI ab', bA ak', tI wk, tI wt)) : wpX_storeArchive post (nI k, nI l, nI d, nI q, 10, 5, nI fc, nI mk, ae, al, tI fi, bA mX, nA ng, nA kd, nA sg, nA sm, tI sr, tI mr, nA mc, tI bs, bA bh, nA bd, tI ab, bA ak, tI wk, tI wt) (nI (v + 3)) (nI p) (gf_I x) := by
  refine br_f (nI_pos (by omega)) (br_t (nI_lt (b := 72) hp (by omega)) (nm_r (e' := nI (v * 72 + p)) ?_ ?_))
  · rw [show nI (v + 3) - 3 = nI v from pk_sub (b := 3) (by omega), show nI v * 72 = nI (v * 72) from pk_mul v 72, nI_add]
  · rw [nI_clamp (by omega : v * 72 + p < 2 ^ 31)]
    refine ⟨pk_in (v * 72 + p) 216 (by omega), ?_⟩
    cases hq : ak (v * 72 + p)
    · refine br_t (by show bI (ak (v * 72 + p)) = 0; rw [hq]; rfl) ⟨pk_in (v * 72 + p) 216 (by omega), bA_nw true vb1 ⟨pk_in (v * 72 + p) 216 (by omega), tI_nw x rfl (H _ _ ?_ ?_)⟩⟩
      · intro v' hv' p' hp' hk'
        by_cases e : v' * 72 + p' = v * 72 + p
        · have ep : p' = p := by omega
          rw [e, fu_s, hx, ep]
          exact ⟨rfl, hfc⟩
        · rw [fu_n e] at hk' ⊢
          exact hA v' hv' p' hp' hk'
      · intro j
        by_cases e : j = v * 72 + p
        · rw [e, fu_s]; exact ⟨fun _ => Or.inr rfl, fun _ => rfl⟩
        · rw [fu_n e]; exact ⟨Or.inl, fun z => z.resolve_right e⟩
    · refine br_f (by show ¬ bI (ak (v * 72 + p)) = 0; rw [hq]; decide) (H ab ak hA (fun j => ⟨Or.inl, fun z => ?_⟩))
      rcases z with z | z
      · exact z
      · rw [z]; exact hq
theorem xw_ar_in {post : SX → Prop} {J : Int32 → Int32 → Int32 → Int32 → Int32 → Int32 → Int32 → Int32 → Int32 → (Nat → Int32) → (Nat → Int32) → (Nat → Int32) → (Nat → Int32) → (Nat → Int32) → (Nat → Int32) → (Nat → Int32) → (Nat → Int32) → (Nat → Int32) → (Nat → Int32) → (Nat → Int32) → (Nat → Int32) → (Nat → Int32) → (Nat → Int32) → (Nat → Int32) → (Nat → Int32) → (Nat → Int32) → (Nat → Int32) → Prop} {v g i b : Nat} {a0 : Nat → Bool} {D : Nat → Prop} (hk : k ≤ 6) (hl : l ≤ 4) (hv : v < 3) (hb : b < 6) (hi : i < k) (hfc : fc ≤ 72) (hg : g * k * l + k * l ≤ fc) (hD : D i) (hC : ∀ e, e < l → bs ((b * 6 + i) * 10 + (6 + e)) = fi (g * k * l + i * l + e))
    (HJ : ∀ ab' ak', arI fi fc ab' ak' → (∀ j, ak' j = true ↔ a0 j = true ∨ mkS l D (v * 72 + g * k * l) (i + 1) 0 j) → J (nI (i + 1)) (nI k) (nI l) (nI d) (nI q) 10 5 (nI fc) (nI mk) ae al (tI fi) (bA mX) (nA ng) (nA kd) (nA sg) (nA sm) (tI sr) (tI mr) (nA mc) (tI bs) (bA bh) (nA bd) (tI ab') (bA ak') (tI wk) (tI wt)) :
    ∀ (n e : Nat) (ab' : Nat → gf_K) (ak' : Nat → Bool), e ≤ l → l < n + e → arI fi fc ab' ak' → (∀ j, ak' j = true ↔ a0 j = true ∨ mkS l D (v * 72 + g * k * l) i e j) → wX_archiveDecoded_59 post J (nI (v + 3)) (nI b) (nI i) (nI ((b * 6 + i) * 10)) (nI (g * k * l + i * l)) n (nI e) (nI k) (nI l) (nI d) (nI q) 10 5 (nI fc) (nI mk) ae al (tI fi) (bA mX) (nA ng) (nA kd) (nA sg) (nA sm) (tI sr) (tI mr) (nA mc) (tI bs) (bA bh) (nA bd) (tI ab') (bA ak') (tI wk) (tI wt) := by
  intro n
  induction n with
  | zero => intro e ab' ak' h1 h2; omega
  | succ n ih =>
    intro e ab' ak' h1 h2 h3 h4
    refine pk_le l e (fun z => nm_r (nI_1 i) (HJ ab' ak' h3 (fun j => ?_))) (fun z => ?_)
    · obtain rfl : e = l := by omega
      rw [h4 j, mkS_e]
    · have e1 : nI ((b * 6 + i) * 10) + 6 + nI e = nI ((b * 6 + i) * 10 + (6 + e)) := by rw [show nI ((b * 6 + i) * 10) + 6 = nI ((b * 6 + i) * 10 + 6) from nI_add _ 6, nI_add, Nat.add_assoc]
      have hpos := en_pos hi z hg
      refine ⟨pk_in ((b * 6 + i) * 10 + (6 + e)) 360 (by omega) e1, ?_⟩
      rw [e1, nI_clamp (by omega : (b * 6 + i) * 10 + (6 + e) < 2 ^ 31), nI_add]
      refine xw_st hv (by omega) hpos (hC e z) h3 (fun ab2 ak2 h5 h6 => nm_r (nI_1 e) (ih (e + 1) ab2 ak2 (by omega) (by omega) h5 (fun j => ?_)))
      rw [h6 j, h4 j, mkS_s z hD, or_assoc, show v * 72 + (g * k * l + i * l + e) = v * 72 + g * k * l + i * l + e by omega]
theorem xw_ar_lp {post : SX → Prop} {v : Nat} {a0 : Nat → Bool} (hk : k ≤ 6) (hl : l ≤ 4) (hv : v < 3) (hfc : fc ≤ 72) (hg : ng (v + 3) * k * l + k * l ≤ fc) (hC : ∀ i, i < k → xDec k bs bh (v + 2) i → ∀ e, e < l → bs (((v + 2) * 6 + i) * 10 + (6 + e)) = fi (ng (v + 3) * k * l + i * l + e))
    (H : ∀ ab' ak', arI fi fc ab' ak' → (∀ j, ak' j = true ↔ a0 j = true ∨ mkS l (xDec k bs bh (v + 2)) (v * 72 + ng (v + 3) * k * l) k 0 j) → post (nI k, nI l, nI d, nI q, 10, 5, nI fc, nI mk, ae, al, tI fi, bA mX, nA ng, nA kd, nA sg, nA sm, tI sr, tI mr, nA mc, tI bs, bA bh, nA bd, tI ab', bA ak', tI wk, tI wt)) :
    ∀ (n i : Nat) (ab' : Nat → gf_K) (ak' : Nat → Bool), i ≤ k → k < n + i → arI fi fc ab' ak' → (∀ j, ak' j = true ↔ a0 j = true ∨ mkS l (xDec k bs bh (v + 2)) (v * 72 + ng (v + 3) * k * l) i 0 j) → wX_archiveDecoded_6 post (nI (v + 3)) (nI (v + 2)) n (nI i) (nI k) (nI l) (nI d) (nI q) 10 5 (nI fc) (nI mk) ae al (tI fi) (bA mX) (nA ng) (nA kd) (nA sg) (nA sm) (tI sr) (tI mr) (nA mc) (tI bs) (bA bh) (nA bd) (tI ab') (bA ak') (tI wk) (tI wt) := by
  intro n
  induction n with
  | zero => intro i ab' ak' h1 h2; omega
  | succ n ih =>
    intro i ab' ak' h1 h2 h3 h4
    refine pk_le k i (fun z => ?_) (fun z => ?_)
    · obtain rfl : i = k := by omega
      exact H ab' ak' h3 h4
    · refine xw_isd hk (by omega) (by omega) (fun hd => ?_) (fun hd => ?_)
      · refine br_f (by decide) (xw_row ?_)
        rw [nI_clamp (by omega : v + 3 < 2 ^ 31)]
        refine ⟨pk_in (v + 3) 6 (by omega), nm_r (e' := nI (ng (v + 3) * k * l + i * l)) (by rw [pk_mul, pk_mul, pk_mul, nI_add]) ?_⟩
        exact ⟨5, xw_ar_in hk hl hv (by omega) z hfc hg hd (hC i z hd) (fun ab2 ak2 h5 h6 => ih (i + 1) ab2 ak2 (by omega) (by omega) h5 h6) 5 0 ab' ak' (by omega) (by omega) h3 h4⟩
      · refine br_t rfl (nm_r (nI_1 i) (ih (i + 1) ab' ak' (by omega) (by omega) h3 (fun j => ?_)))
        rw [h4 j, mkS_n hd]
theorem xw_ar {post : SX → Prop} {v : Nat} (hk : k ≤ 6) (hl : l ≤ 4) (hv : v < 3) (hfc : fc ≤ 72) (hg : ng (v + 3) * k * l + k * l ≤ fc) (hC : ∀ i, i < k → xDec k bs bh (v + 2) i → ∀ e, e < l → bs (((v + 2) * 6 + i) * 10 + (6 + e)) = fi (ng (v + 3) * k * l + i * l + e)) (hA : arI fi fc ab ak)
    (H : ∀ ab' ak', arI fi fc ab' ak' → (∀ j, ak' j = true ↔ ak j = true ∨ mkS l (xDec k bs bh (v + 2)) (v * 72 + ng (v + 3) * k * l) k 0 j) → post (nI k, nI l, nI d, nI q, 10, 5, nI fc, nI mk, ae, al, tI fi, bA mX, nA ng, nA kd, nA sg, nA sm, tI sr, tI mr, nA mc, tI bs, bA bh, nA bd, tI ab', bA ak', tI wk, tI wt)) : wpX_archiveDecoded post (nI k, nI l, nI d, nI q, 10, 5, nI fc, nI mk, ae, al, tI fi, bA mX, nA ng, nA kd, nA sg, nA sm, tI sr, tI mr, nA mc, tI bs, bA bh, nA bd, tI ab, bA ak, tI wk, tI wt) (nI (v + 3)) := by
  refine nm_r (e' := nI (v + 2)) (nI_pred (v + 2)) ?_
  exact Exists.intro 7 (xw_ar_lp (a0 := ak) hk hl hv hfc hg hC H 7 0 ab ak (by omega) (by omega) hA (fun j => ⟨Or.inl, fun z => z.resolve_right mkS_0⟩))
/-! to a receiver -/
theorem xw_tv_36 {post : Int32 → SX → Prop} {s v : Nat} {A : (Nat → gf_K) → Prop} (hT : gf_TB ae al) (hk : k ≤ 6) (hl : l ≤ 4) (hs : s < 8) (hv3 : v < 3) (hfc : fc ≤ 72) (hg : ng (v + 3) * k * l + k * l ≤ fc) (hA : arI fi fc ab ak)
    (hv : rwT k l fi (ng (v + 3)) (fun t => sr (s * 10 + t))) (hB : xB k bs bh bd (v + 2) A (rwT k l fi (ng (v + 3))))
    (Hr : (∀ i, i < k → la_rd k (bP bh (v + 2)) (bR bs (v + 2)) (fun t => sr (s * 10 + t)) i = 0#8) → ∀ w, post 1 (nI k, nI l, nI d, nI q, 10, 5, nI fc, nI mk, ae, al, tI fi, bA mX, nA ng, nA kd, nA sg, nA sm, tI sr, tI mr, nA mc, tI bs, bA bh, nA bd, tI ab, bA ak, tI w, tI wt))
    (Hg : (¬ ∀ i, i < k → la_rd k (bP bh (v + 2)) (bR bs (v + 2)) (fun t => sr (s * 10 + t)) i = 0#8) → ∀ w b' h' d' ab' ak', xB k b' h' d' (v + 2) (fun φ => A φ ∧ la_dot φ (fun t => sr (s * 10 + t)) = 0#8) (rwT k l fi (ng (v + 3))) → d' (v + 2) = bd (v + 2) + 1 → xFr (v + 2) bs bh bd b' h' d' → arI fi fc ab' ak' → (∀ j, ak' j = true ↔ ak j = true ∨ mkS l (xDec k b' h' (v + 2)) (v * 72 + ng (v + 3) * k * l) k 0 j) → post (if d' (v + 2) < k then 3 else 4) (nI k, nI l, nI d, nI q, 10, 5, nI fc, nI mk, ae, al, tI fi, bA mX, nA ng, nA kd, nA sg, nA sm, tI sr, tI mr, nA mc, tI b', bA h', nA d', tI ab', bA ak', tI w, tI wt)) :
    wX_deliverToReceiver_36 post (nI s) (nI (v + 3)) (nI (v + 2)) (nI k) (nI l) (nI d) (nI q) 10 5 (nI fc) (nI mk) ae al (tI fi) (bA mX) (nA ng) (nA kd) (nA sg) (nA sm) (tI sr) (tI mr) (nA mc) (tI bs) (bA bh) (nA bd) (tI ab) (bA ak) (tI wk) (tI wt) := by
  unfold wX_deliverToReceiver_36
  refine xw_lw hs (fun w hw => ?_)
  have hLT : la_LT (rwT k l fi (ng (v + 3))) := rw_LT hk hl
  have hTw : rwT k l fi (ng (v + 3)) w := hLT.1 _ _ (fun t ht => (hw t ht).symm) hv
  refine xb_insert hT hk (by omega) hLT rw_su hTw hB (fun hz _ w' => ?_) (fun hz w' b' h' d' hB2 hd hF => ?_)
  · refine br_t rfl (Hr (fun i hi => ?_) w')
    rw [← hz i hi]
    exact (la_rd_c (by omega) hw (by omega)).symm
  · refine br_f (by decide) (xw_ar hk hl hv3 hfc hg (fun i hi hdc e he => ?_) hA (fun ab' ak' h5 h6 => ?_))
    · refine rw_unit (c := bR b' (v + 2) i) (hB2.2.2.2.2 i hi hdc.1) hi ?_ (fun a ha ne => hdc.2 a ha ne) he
      rw [hB2.2.1 i hi hdc.1 i hi hdc.1, if_pos rfl]
    · rw [nI_clamp (by omega : v + 2 < 2 ^ 31)]
      have hd6 : d' (v + 2) ≤ 6 := by rw [hB2.2.2.1]; exact la_ct_le 6 _
      have hfin := Hg (fun z => hz (fun i hi => by rw [← z i hi]; exact la_rd_c (by omega) hw (by omega))) w' b' h' d' ab' ak' (la_BI_A hB2 (fun φ => by rw [la_dot_c (v := w) (w := fun t => sr (s * 10 + t)) (fun i hi => hw i (by omega))])) hd hF h5 h6
      refine ⟨pk_in (v + 2) 6 (by omega), pk_lt (d' (v + 2)) k (fun z => ?_) (fun z => ?_)⟩
      · rw [if_pos z] at hfin; exact hfin
      · rw [if_neg (by omega)] at hfin; exact hfin
theorem xw_toRecv {post : Int32 → SX → Prop} {s v : Nat} {A : (Nat → gf_K) → Prop} (hT : gf_TB ae al) (hk : k ≤ 6) (hl : l ≤ 4) (hs : s < 8) (hv3 : v < 3) (hfc : fc ≤ 72) (hg : sg s * k * l + k * l ≤ fc) (hA : arI fi fc ab ak) (hb1 : sg s < 2 ^ 31) (hb2 : ng (v + 3) < 2 ^ 31) (hle : ng (v + 3) ≤ sg s)
    (hv : rwT k l fi (sg s) (fun t => sr (s * 10 + t))) (hB : xB k bs bh bd (v + 2) A (rwT k l fi (ng (v + 3))))
    (Hr : ∀ h1 d1, xFr (v + 2) bs bh bd bs h1 d1 → xB k bs h1 d1 (v + 2) (fun φ => sg s ≤ ng (v + 3) → A φ) (rwT k l fi (sg s)) → (d1 (v + 2) = if sg s ≤ ng (v + 3) then bd (v + 2) else 0) → (∀ i, i < k → la_rd k (bP h1 (v + 2)) (bR bs (v + 2)) (fun t => sr (s * 10 + t)) i = 0#8) → ∀ w, post 1 (nI k, nI l, nI d, nI q, 10, 5, nI fc, nI mk, ae, al, tI fi, bA mX, nA (fu ng (v + 3) (sg s)), nA kd, nA sg, nA sm, tI sr, tI mr, nA mc, tI bs, bA h1, nA d1, tI ab, bA ak, tI w, tI wt))
    (Hg : ∀ h1 d1, xFr (v + 2) bs bh bd bs h1 d1 → xB k bs h1 d1 (v + 2) (fun φ => sg s ≤ ng (v + 3) → A φ) (rwT k l fi (sg s)) → (d1 (v + 2) = if sg s ≤ ng (v + 3) then bd (v + 2) else 0) → (¬ ∀ i, i < k → la_rd k (bP h1 (v + 2)) (bR bs (v + 2)) (fun t => sr (s * 10 + t)) i = 0#8) → ∀ w b' h' d' ab' ak', xB k b' h' d' (v + 2) (fun φ => (sg s ≤ ng (v + 3) → A φ) ∧ la_dot φ (fun t => sr (s * 10 + t)) = 0#8) (rwT k l fi (sg s)) → d' (v + 2) = d1 (v + 2) + 1 → xFr (v + 2) bs bh bd b' h' d' → arI fi fc ab' ak' → (∀ j, ak' j = true ↔ ak j = true ∨ mkS l (xDec k b' h' (v + 2)) (v * 72 + sg s * k * l) k 0 j) → post (if d' (v + 2) < k then 3 else 4) (nI k, nI l, nI d, nI q, 10, 5, nI fc, nI mk, ae, al, tI fi, bA mX, nA (fu ng (v + 3) (sg s)), nA kd, nA sg, nA sm, tI sr, tI mr, nA mc, tI b', bA h', nA d', tI ab', bA ak', tI w, tI wt)) :
    wpX_deliverToReceiver post (nI k, nI l, nI d, nI q, 10, 5, nI fc, nI mk, ae, al, tI fi, bA mX, nA ng, nA kd, nA sg, nA sm, tI sr, tI mr, nA mc, tI bs, bA bh, nA bd, tI ab, bA ak, tI wk, tI wt) (nI s) (nI (v + 3)) := by
  refine nm_r (e' := nI (v + 2)) (nI_pred (v + 2)) ?_
  rw [nI_clamp (by omega : s < 2 ^ 31), nI_clamp (by omega : v + 3 < 2 ^ 31)]
  refine ⟨pk_in s 8 hs, pk_in (v + 3) 6 (by omega), pk_le (sg s) (ng (v + 3)) (fun g => ?_) (fun g => ?_)⟩
  · have e : ng (v + 3) = sg s := by omega
    have hB1 : xB k bs bh bd (v + 2) (fun φ => sg s ≤ ng (v + 3) → A φ) (rwT k l fi (sg s)) := by
      rw [← e]; exact la_BI_A hB (fun φ => ⟨fun z => z (by omega), fun z _ => z⟩)
    rw [fu_same e] at Hr Hg
    refine xw_tv_36 hT hk hl hs hv3 hfc (by rw [e]; exact hg) hA (by rw [e]; exact hv) (by rw [e]; rw [e] at hB1; exact hB1) (fun hz w => Hr bh bd xFr_r hB1 (if_pos g).symm hz w) (fun hz w b' h' d' ab' ak' h1 h2 h3 h4 h5 => Hg bh bd xFr_r hB1 (if_pos g).symm hz w b' h' d' ab' ak' ?_ h2 h3 h4 ?_)
    · rw [e] at h1; rw [e]; exact h1
    · rw [e] at h5; exact h5
  · refine xb_clear (rwT k l fi (sg s)) hk (by omega) (fun h1 hB1 hF1 => ?_)
    refine ⟨pk_in s 8 hs, pk_in (v + 3) 6 (by omega), nA_nw (sg s) rfl ?_⟩
    have hB2 : xB k bs h1 (fu bd (v + 2) 0) (v + 2) (fun φ => sg s ≤ ng (v + 3) → A φ) (rwT k l fi (sg s)) := la_BI_A hB1 (fun φ => ⟨fun _ => trivial, fun _ z => by omega⟩)
    have e : fu ng (v + 3) (sg s) (v + 3) = sg s := fu_s
    refine xw_tv_36 hT hk hl hs hv3 hfc (by rw [e]; exact hg) hA (by rw [e]; exact hv) (by rw [e]; exact hB2) (fun hz w => Hr h1 _ hF1 hB2 (by rw [if_neg (by omega)]; exact fu_s) hz w) (fun hz w b' h' d' ab' ak' g1 g2 g3 g4 g5 => Hg h1 _ hF1 hB2 (by rw [if_neg (by omega)]; exact fu_s) hz w b' h' d' ab' ak' ?_ g2 (xFr_t hF1 g3) g4 ?_)
    · rw [e] at g1; exact g1
    · rw [e] at g5; exact g5
/-! to the source -/
theorem xw_src_lp {post : Int32 → SX → Prop} (H : ∀ m, (∀ r, r < 3 → m r = false) → post 6 (nI k, nI l, nI d, nI q, 10, 5, nI fc, nI mk, ae, al, tI fi, bA m, nA ng, nA kd, nA sg, nA sm, tI sr, tI mr, nA mc, tI bs, bA bh, nA bd, tI ab, bA ak, tI wk, tI wt)) : ∀ (n i : Nat) (m : Nat → Bool), i ≤ 3 → 3 < n + i → (∀ r, r < i → m r = false) → wX_deliverToSource_84 post (nI k) (nI l) (nI d) (nI q) 10 5 (nI fc) (nI mk) n (nI i) ae al (tI fi) (bA m) (nA ng) (nA kd) (nA sg) (nA sm) (tI sr) (tI mr) (nA mc) (tI bs) (bA bh) (nA bd) (tI ab) (bA ak) (tI wk) (tI wt) := by
  intro n
  induction n with
  | zero => intro i m h1 h2; omega
  | succ n ih =>
    intro i m h1 h2 h3
    refine pk_le 3 i (fun g => H m (fun r hr => h3 r (by omega))) (fun g => ⟨pk_in i 3 g, bA_nm i false rfl (by omega) vb0 (nm_r (nI_1 i) (ih (i + 1) _ (by omega) (by omega) (fu_lt (Q := fun _ x => x = false) h3 rfl)))⟩)
theorem xw_src {post : Int32 → SX → Prop} {s v : Nat} (hs : s < 8) (hv : v < 3) (hm : sm s = v + 3) (hb1 : sg s < 2 ^ 31) (hb2 : ng 0 < 2 ^ 31) (hb3 : mk < 2 ^ 30) (hb4 : q < 2 ^ 31)
    (H0 : sg s ≠ ng 0 → post 0 (nI k, nI l, nI d, nI q, 10, 5, nI fc, nI mk, ae, al, tI fi, bA mX, nA ng, nA kd, nA sg, nA sm, tI sr, tI mr, nA mc, tI bs, bA bh, nA bd, tI ab, bA ak, tI wk, tI wt)) (H1 : sg s = ng 0 → mX v = true → post 1 (nI k, nI l, nI d, nI q, 10, 5, nI fc, nI mk, ae, al, tI fi, bA mX, nA ng, nA kd, nA sg, nA sm, tI sr, tI mr, nA mc, tI bs, bA bh, nA bd, tI ab, bA ak, tI wk, tI wt))
    (H5 : sg s = ng 0 → mX v = false → mk + 1 < q → post 5 (nI k, nI l, nI d, nI q, 10, 5, nI fc, nI (mk + 1), ae, al, tI fi, bA (fu mX v true), nA ng, nA kd, nA sg, nA sm, tI sr, tI mr, nA mc, tI bs, bA bh, nA bd, tI ab, bA ak, tI wk, tI wt))
    (H6 : sg s = ng 0 → mX v = false → q ≤ mk + 1 → ∀ m, (∀ r, r < 3 → m r = false) → post 6 (nI k, nI l, nI d, nI q, 10, 5, nI fc, nI 0, ae, al, tI fi, bA m, nA (fu ng 0 (ng 0 + 1)), nA kd, nA sg, nA sm, tI sr, tI mr, nA mc, tI bs, bA bh, nA bd, tI ab, bA ak, tI wk, tI wt)) :
    wpX_deliverToSource post (nI k, nI l, nI d, nI q, 10, 5, nI fc, nI mk, ae, al, tI fi, bA mX, nA ng, nA kd, nA sg, nA sm, tI sr, tI mr, nA mc, tI bs, bA bh, nA bd, tI ab, bA ak, tI wk, tI wt) (nI s) := by
  unfold wpX_deliverToSource
  dsimp only
  rw [nI_clamp (by omega : s < 2 ^ 31)]
  refine ⟨pk_in s 8 hs, pk_eq (sg s) (ng 0) (fun g => ⟨pk_in s 8 hs, nm_r (e' := nI v) (by show nI (sm s) - 3 = _; rw [hm]; exact pk_sub (b := 3) (by omega)) ?_⟩) (fun g => H0 g)⟩
  rw [nI_clamp (by omega : v < 2 ^ 31)]
  refine ⟨pk_in v 3 hv, ?_⟩
  cases hq : mX v
  · refine br_t (by show bI (mX v) = 0; rw [hq]; rfl) ⟨pk_in v 3 hv, bA_nw true vb1 (nm_r (nI_1 mk) (pk_le q (mk + 1) (fun z => ?_) (fun z => H5 g hq z)))⟩
    refine nm_r (e' := nA (fu ng 0 (ng 0 + 1))) (by rw [show nA ng 0 + 1 = nI (ng 0 + 1) from nI_1 _, nA_upd]) ?_
    exact ⟨4, xw_src_lp (fun m hm => H6 g hq z m hm) 4 0 _ (by omega) (by omega) (fun r hr => by omega)⟩
  · exact br_f (by show ¬ bI (mX v) = 0; rw [hq]; decide) (H1 g hq)
end
end
section
/-! ===== Y: the small walks ===== -/
def vR (vs : Nat → gf_K) (nd p : Nat) : Nat → gf_K := fun i => vs (nd * 36 + p * 6 + i)
def fF (fo : Nat → gf_K) : Nat → Nat → gf_K := fun g i => fo (g * 6 + i)
theorem ix_6 {a i : Nat} : nI a * 6 + nI i = nI (a * 6 + i) := by
  rw [show nI a * 6 = nI (a * 6) from pk_mul a 6, nI_add]
theorem ix_v {a p : Nat} : nI a * 36 + nI p * 6 = nI (a * 36 + p * 6) := by
  rw [show nI a * 36 = nI (a * 36) from pk_mul a 36, show nI p * 6 = nI (p * 6) from pk_mul p 6, nI_add]
section
variable {k l d q fc ff : Nat} {fi sv vs wd fo re : Nat → gf_K} {mY kn : Nat → Bool} {ng kd sg sm cn : Nat → Nat}
theorem yw_rv38 {post : SY → Prop} {J : Int32 → (Nat → Int32) → (Nat → Int32) → (Nat → Int32) → (Nat → Int32) → (Nat → Int32) → (Nat → Int32) → (Nat → Int32) → (Nat → Int32) → (Nat → Int32) → (Nat → Int32) → (Nat → Int32) → (Nat → Int32) → (Nat → Int32) → Prop} {lo hi z0 : Int32} {i : Nat} {z : gf_K} (hk : k ≤ 6) (hi6 : i < 6) (hz : z0 = gf_I z) (HJ : J (nI (i + 1)) (tI fi) (nA kd) (nA sg) (nA sm) (tI sv) (nA ng) (nA cn) (tI vs) (bA mY) (bA kn) (tI (fu wd i (if i < k then z else 0#8))) (tI fo) (tI re)) : wY_readVector_38 post J lo hi (nI i) z0 (nI k) (nI l) (nI q) (nI (2 + d)) (nI fc) (nI ff) (tI fi) (nA kd) (nA sg) (nA sm) (tI sv) (nA ng) (nA cn) (tI vs) (bA mY) (bA kn) (tI wd) (tI fo) (tI re) := by
  unfold wY_readVector_38
  refine pk_le k i (fun h => ⟨pk_in i 6 hi6, tI_nm i 0#8 rfl (by omega) rfl (nm_r (nI_1 i) ?_)⟩) (fun h => ⟨pk_in i 6 hi6, tI_nm i z rfl (by omega) hz (nm_r (nI_1 i) ?_)⟩)
  · rw [if_neg (by omega)] at HJ; exact HJ
  · rw [if_pos h] at HJ; exact HJ
theorem yw_read_lp {post : SY → Prop} {lo hi : Int32} (hk : k ≤ 6) (H : ∀ w, (∀ t, t < 6 → w t = if t < k then lv lo hi t else 0#8) → post (nI k, nI l, nI q, nI (2 + d), nI fc, nI ff, tI fi, nA kd, nA sg, nA sm, tI sv, nA ng, nA cn, tI vs, bA mY, bA kn, tI w, tI fo, tI re)) : ∀ (n i : Nat) (w : Nat → gf_K), i ≤ 6 → 6 < n + i → (∀ t, t < i → w t = if t < k then lv lo hi t else 0#8) → wY_readVector_2 post lo hi (nI k) (nI l) (nI q) (nI (2 + d)) (nI fc) (nI ff) n (nI i) (tI fi) (nA kd) (nA sg) (nA sm) (tI sv) (nA ng) (nA cn) (tI vs) (bA mY) (bA kn) (tI w) (tI fo) (tI re) := by
  intro n
  induction n with
  | zero => intro i w h1 h2; omega
  | succ n ih =>
    intro i w h1 h2 h3
    refine pk_le 6 i (fun h => H w (fun t ht => h3 t (by omega))) (fun h => ?_)
    have hs := fu_lt (Q := fun t x => x = if t < k then lv lo hi t else 0#8) h3 rfl
    refine pk_le 4 i (fun g => ?_) (fun g => ?_)
    · exact yw_rv38 (z := lv lo hi i) hk h (lv_hi g) (ih (i + 1) _ (by omega) (by omega) hs)
    · exact yw_rv38 (z := lv lo hi i) hk h (lv_lo g) (ih (i + 1) _ (by omega) (by omega) hs)
theorem yw_read {post : SY → Prop} {lo hi : Int32} (hk : k ≤ 6) (H : ∀ w, (∀ t, t < 6 → w t = if t < k then lv lo hi t else 0#8) → post (nI k, nI l, nI q, nI (2 + d), nI fc, nI ff, tI fi, nA kd, nA sg, nA sm, tI sv, nA ng, nA cn, tI vs, bA mY, bA kn, tI w, tI fo, tI re)) : wpY_readVector post (nI k, nI l, nI q, nI (2 + d), nI fc, nI ff, tI fi, nA kd, nA sg, nA sm, tI sv, nA ng, nA cn, tI vs, bA mY, bA kn, tI wd, tI fo, tI re) lo hi :=
  Exists.intro 7 (yw_read_lp hk H 7 0 wd (by omega) (by omega) (fun t ht => by omega))
theorem yw_isz_lp {post : Int32 → Prop} (h1 : (∀ i, i < 6 → wd i = 0#8) → post 1) (h0 : ∀ i, i < 6 → wd i ≠ 0#8 → post 0) : ∀ (n i : Nat), i ≤ 6 → 6 < n + i → (∀ t, t < i → wd t = 0#8) → wY_isZero_2 post (nI k) (nI l) (nI q) (nI (2 + d)) (nI fc) (nI ff) (tI fi) (nA kd) (nA sg) (nA sm) (tI sv) (nA ng) (nA cn) (tI vs) (bA mY) (bA kn) (tI wd) (tI fo) (tI re) n (nI i) := by
  intro n
  induction n with
  | zero => intro i h1 h2; omega
  | succ n ih =>
    intro i h2 h3 h4
    refine pk_le 6 i (fun h => h1 (fun t ht => h4 t (by omega))) (fun h => ⟨pk_in i 6 (by omega), ?_⟩)
    rw [nI_clamp (by omega : i < 2 ^ 31)]
    by_cases z : wd i = 0#8
    · refine br_t (gf_Iz.mpr z) (nm_r (nI_1 i) (ih (i + 1) (by omega) (by omega) (fun t ht => ?_)))
      by_cases e : t = i
      · rw [e]; exact z
      · exact h4 t (by omega)
    · exact br_f (fun y => z (gf_Iz.mp y)) (h0 i h z)
theorem yw_isz {post : Int32 → Prop} (h1 : (∀ i, i < 6 → wd i = 0#8) → post 1) (h0 : ∀ i, i < 6 → wd i ≠ 0#8 → post 0) : wpY_isZero post (nI k, nI l, nI q, nI (2 + d), nI fc, nI ff, tI fi, nA kd, nA sg, nA sm, tI sv, nA ng, nA cn, tI vs, bA mY, bA kn, tI wd, tI fo, tI re) :=
  Exists.intro 7 (yw_isz_lp h1 h0 7 0 (by omega) (by omega) (fun t ht => by omega))
theorem yw_la_lp {post : Int32 → SY → Prop} {s : Nat} {s0 : Nat → gf_K} (hs : s < 8) (H : ∀ r, (∀ t, t < 6 → r (s * 6 + t) = wd t) → (∀ j, j < s * 6 ∨ s * 6 + 6 ≤ j → r j = s0 j) → post (nI s) (nI k, nI l, nI q, nI (2 + d), nI fc, nI ff, tI fi, nA kd, nA sg, nA sm, tI r, nA ng, nA cn, tI vs, bA mY, bA kn, tI wd, tI fo, tI re)) : ∀ (n i : Nat) (r : Nat → gf_K), i ≤ 6 → 6 < n + i → (∀ t, t < i → r (s * 6 + t) = wd t) → (∀ j, j < s * 6 ∨ s * 6 + 6 ≤ j → r j = s0 j) → wY_launch_46 post (nI s) (nI k) (nI l) (nI q) (nI (2 + d)) (nI fc) (nI ff) n (nI i) (tI fi) (nA kd) (nA sg) (nA sm) (tI r) (nA ng) (nA cn) (tI vs) (bA mY) (bA kn) (tI wd) (tI fo) (tI re) := by
  intro n
  induction n with
  | zero => intro i w h1 h2; omega
  | succ n ih =>
    intro i r h1 h2 h3 h4
    refine pk_le 6 i (fun h => H r (fun t ht => h3 t (by omega)) h4) (fun h => ?_)
    refine ⟨pk_in i 6 h, pk_in (s * 6 + i) 48 (by omega) ix_6, ?_⟩
    refine tI_nm (s * 6 + i) (wd i) ix_6 (by omega) (by rw [nI_clamp (by omega : i < 2 ^ 31)]) (nm_r (nI_1 i) (ih (i + 1) _ (by omega) (by omega) (fun t ht => ?_) (fun j hj => ?_)))
    · by_cases e : t = i
      · rw [e, fu_s]
      · rw [fu_n (by omega)]; exact h3 t (by omega)
    · rw [fu_n (by omega)]; exact h4 j hj
theorem yw_launch_lp {post : Int32 → SY → Prop} {kk nd : Nat} (hnd : nd < 6) (hkd : ∀ s, s < 8 → kd s ≤ 2)
    (H : ∀ s, s < 8 → kd s = 0 → (∀ j, j < s → kd j ≠ 0) → ∀ r, (∀ t, t < 6 → r (s * 6 + t) = wd t) → (∀ j, j < s * 6 ∨ s * 6 + 6 ≤ j → r j = sv j) → post (nI s) (nI k, nI l, nI q, nI (2 + d), nI fc, nI ff, tI fi, nA (fu kd s kk), nA (fu sg s (ng nd)), nA (fu sm s nd), tI r, nA ng, nA cn, tI vs, bA mY, bA kn, tI wd, tI fo, tI re))
    (Hn : (∀ j, j < 8 → kd j ≠ 0) → post (-3) (nI k, nI l, nI q, nI (2 + d), nI fc, nI ff, tI fi, nA kd, nA sg, nA sm, tI sv, nA ng, nA cn, tI vs, bA mY, bA kn, tI wd, tI fo, tI re)) : ∀ (n i : Nat), i ≤ 8 → 8 < n + i → (∀ j, j < i → kd j ≠ 0) → wY_launch_2 post (nI kk) (nI nd) (nI k) (nI l) (nI q) (nI (2 + d)) (nI fc) (nI ff) (tI fi) (nA kd) (nA sg) (nA sm) (tI sv) (nA ng) (nA cn) (tI vs) (bA mY) (bA kn) (tI wd) (tI fo) (tI re) n (nI i) := by
  intro n
  induction n with
  | zero => intro i h1 h2; omega
  | succ n ih =>
    intro i h1 h2 h3
    refine pk_le 8 i (fun g => Hn (fun j hj => h3 j (by omega))) (fun g => ⟨pk_in i 8 g, ?_⟩)
    rw [nI_clamp (by omega : i < 2 ^ 31), nI_clamp (by omega : nd < 2 ^ 31)]
    have := hkd i g
    refine pk_eq (kd i) 0 (fun z => ?_) (fun z => nm_r (nI_1 i) (ih (i + 1) (by omega) (by omega) (fun j hj => ?_)))
    · refine ⟨pk_in i 8 g, nA_nw kk rfl ⟨pk_in nd 6 hnd, pk_in i 8 g, nA_nw (ng nd) rfl ⟨pk_in i 8 g, nA_nw nd rfl ?_⟩⟩⟩
      exact Exists.intro 7 (yw_la_lp (s0 := sv) g (fun r h5 h6 => H i g z h3 r h5 h6) 7 0 sv (by omega) (by omega) (fun t ht => by omega) (fun j _ => rfl))
    · by_cases e : j = i
      · rw [e]; exact z
      · exact h3 j (by omega)
theorem yw_launch {post : Int32 → SY → Prop} {kk nd : Nat} (hnd : nd < 6) (hkd : ∀ s, s < 8 → kd s ≤ 2)
    (H : ∀ s, s < 8 → kd s = 0 → (∀ j, j < s → kd j ≠ 0) → ∀ r, (∀ t, t < 6 → r (s * 6 + t) = wd t) → (∀ j, j < s * 6 ∨ s * 6 + 6 ≤ j → r j = sv j) → post (nI s) (nI k, nI l, nI q, nI (2 + d), nI fc, nI ff, tI fi, nA (fu kd s kk), nA (fu sg s (ng nd)), nA (fu sm s nd), tI r, nA ng, nA cn, tI vs, bA mY, bA kn, tI wd, tI fo, tI re))
    (Hn : (∀ j, j < 8 → kd j ≠ 0) → post (-3) (nI k, nI l, nI q, nI (2 + d), nI fc, nI ff, tI fi, nA kd, nA sg, nA sm, tI sv, nA ng, nA cn, tI vs, bA mY, bA kn, tI wd, tI fo, tI re)) : wpY_launch post (nI k, nI l, nI q, nI (2 + d), nI fc, nI ff, tI fi, nA kd, nA sg, nA sm, tI sv, nA ng, nA cn, tI vs, bA mY, bA kn, tI wd, tI fo, tI re) (nI kk) (nI nd) :=
  Exists.intro 9 (yw_launch_lp hnd hkd H Hn 9 0 (by omega) (by omega) (fun j hj => by omega))
/-! recode -/
def mn (p c : Nat) : Nat := if p ≤ c then p else c
theorem yw_rc_in {post : Int32 → SY → Prop} {J : Int32 → (Nat → Int32) → (Nat → Int32) → (Nat → Int32) → (Nat → Int32) → (Nat → Int32) → (Nat → Int32) → (Nat → Int32) → (Nat → Int32) → (Nat → Int32) → (Nat → Int32) → (Nat → Int32) → (Nat → Int32) → (Nat → Int32) → Prop} {nd i : Nat} {ws : Int32} (hnd : nd < 6) (hi : i < 6) (hc : cn nd ≤ 4)
    (HJ : J (nI (i + 1)) (tI fi) (nA kd) (nA sg) (nA sm) (tI sv) (nA ng) (nA cn) (tI vs) (bA mY) (bA kn) (tI (fu wd i (la_sm (cn nd) (fun p => gf_mu (wgt ws p) (vR vs nd p i))))) (tI fo) (tI re)) :
    ∀ (n p : Nat), p ≤ 4 → 4 < n + p → wY_recode_38 post J (nI nd) ws (nI i) (nI k) (nI l) (nI q) (nI (2 + d)) (nI fc) (nI ff) (tI fi) (nA kd) (nA sg) (nA sm) (tI sv) (nA ng) (nA cn) (tI vs) (bA mY) (bA kn) (tI wd) (tI fo) (tI re) n (gf_I (la_sm (mn p (cn nd)) (fun p => gf_mu (wgt ws p) (vR vs nd p i)))) (nI p) := by
  intro n
  induction n with
  | zero => intro p h1 h2; omega
  | succ n ih =>
    intro p h1 h2
    refine pk_le 4 p (fun g => ⟨pk_in i 6 hi, tI_nm i _ rfl (by omega) rfl (nm_r (nI_1 i) ?_)⟩) (fun g => ⟨pk_in nd 6 hnd, ?_⟩)
    · have e : mn p (cn nd) = cn nd := by unfold mn; split <;> omega
      rw [e]
      exact HJ
    · rw [nI_clamp (by omega : nd < 2 ^ 31)]
      refine pk_le (cn nd) p (fun z => nm_r (nI_1 p) ?_) (fun z => ?_)
      · have e : mn p (cn nd) = mn (p + 1) (cn nd) := by unfold mn; rw [if_neg (by omega : ¬ p + 1 ≤ cn nd)]; split <;> omega
        rw [e]
        exact ih (p + 1) (by omega) (by omega)
      · rw [ix_v, nI_add, nI_clamp (by omega : nd * 36 + p * 6 + i < 2 ^ 31)]
        refine ⟨pk_in (nd * 36 + p * 6 + i) 216 (by omega), yt_times ?_⟩
        rw [gf_loI]
        have e1 : mn p (cn nd) = p := if_pos (by omega)
        have e2 : mn (p + 1) (cn nd) = p + 1 := if_pos (by omega)
        have h := ih (p + 1) (by omega) (by omega)
        rw [e2] at h
        rw [e1]
        exact nm_r (gf_Ix _ _) (nm_r (nI_1 p) h)
theorem yw_rc_lp {post : Int32 → SY → Prop} {nd : Nat} {ws : Int32} (hnd : nd < 6) (hc : cn nd ≤ 4) (hkd : ∀ s, s < 8 → kd s ≤ 2)
    (Hz : ∀ w, (∀ i, i < 6 → w i = la_sm (cn nd) (fun p => gf_mu (wgt ws p) (vR vs nd p i))) → (∀ i, i < 6 → w i = 0#8) → post (-4) (nI k, nI l, nI q, nI (2 + d), nI fc, nI ff, tI fi, nA kd, nA sg, nA sm, tI sv, nA ng, nA cn, tI vs, bA mY, bA kn, tI w, tI fo, tI re))
    (HL : ∀ w, (∀ i, i < 6 → w i = la_sm (cn nd) (fun p => gf_mu (wgt ws p) (vR vs nd p i))) → ∀ i, i < 6 → w i ≠ 0#8 → ∀ s, s < 8 → kd s = 0 → (∀ j, j < s → kd j ≠ 0) → ∀ r, (∀ t, t < 6 → r (s * 6 + t) = w t) → (∀ j, j < s * 6 ∨ s * 6 + 6 ≤ j → r j = sv j) → post (nI s) (nI k, nI l, nI q, nI (2 + d), nI fc, nI ff, tI fi, nA (fu kd s 1), nA (fu sg s (ng nd)), nA (fu sm s nd), tI r, nA ng, nA cn, tI vs, bA mY, bA kn, tI w, tI fo, tI re))
    (HF : ∀ w, (∀ i, i < 6 → w i = la_sm (cn nd) (fun p => gf_mu (wgt ws p) (vR vs nd p i))) → ∀ i, i < 6 → w i ≠ 0#8 → (∀ j, j < 8 → kd j ≠ 0) → post (-3) (nI k, nI l, nI q, nI (2 + d), nI fc, nI ff, tI fi, nA kd, nA sg, nA sm, tI sv, nA ng, nA cn, tI vs, bA mY, bA kn, tI w, tI fo, tI re)) :
    ∀ (n i : Nat) (w : Nat → gf_K), i ≤ 6 → 6 < n + i → (∀ t, t < i → w t = la_sm (cn nd) (fun p => gf_mu (wgt ws p) (vR vs nd p t))) → wY_recode_26 post (nI nd) ws (nI k) (nI l) (nI q) (nI (2 + d)) (nI fc) (nI ff) n (nI i) (tI fi) (nA kd) (nA sg) (nA sm) (tI sv) (nA ng) (nA cn) (tI vs) (bA mY) (bA kn) (tI w) (tI fo) (tI re) := by
  intro n
  induction n with
  | zero => intro p h1 h2; omega
  | succ n ih =>
    intro i w h1 h2 h3
    refine pk_le 6 i (fun g => ?_) (fun g => ?_)
    · have hs : ∀ i, i < 6 → w i = la_sm (cn nd) (fun p => gf_mu (wgt ws p) (vR vs nd p i)) := fun t ht => h3 t (by omega)
      refine yw_isz (fun hz => br_f (by decide) (Hz w hs hz)) (fun j hj hn => br_t rfl ?_)
      exact yw_launch (kk := 1) hnd hkd (fun s a1 a2 a3 r a4 a5 => HL w hs j hj hn s a1 a2 a3 r a4 a5) (fun a1 => HF w hs j hj hn a1)
    · refine ⟨5, yw_rc_in hnd g hc (ih (i + 1) _ (by omega) (by omega) (fu_lt (Q := fun t x => x = la_sm (cn nd) (fun p => gf_mu (wgt ws p) (vR vs nd p t))) h3 rfl)) 5 0 (by omega) (by omega)⟩
/-! the file's bytes combined -/
theorem yw_cb_lp {post : Int32 → Prop} {g j : Nat} (hk : k ≤ 6) (hl : l ≤ 4) (hj : j < l) (hg : g * k * l + k * l ≤ 72) (H : post (gf_I (la_sm k (fun i => gf_mu (wd i) (fi (g * k * l + i * l + j)))))) : ∀ (n i : Nat), i ≤ k → k < n + i → wY_combine_5 post (nI g) (nI j) (nI k) (nI l) (nI q) (nI (2 + d)) (nI fc) (nI ff) (tI fi) (nA kd) (nA sg) (nA sm) (tI sv) (nA ng) (nA cn) (tI vs) (bA mY) (bA kn) (tI wd) (tI fo) (tI re) n (gf_I (la_sm i (fun i => gf_mu (wd i) (fi (g * k * l + i * l + j))))) (nI i) := by
  intro n
  induction n with
  | zero => intro p h1 h2; omega
  | succ n ih =>
    intro i h1 h2
    refine pk_le k i (fun z => ?_) (fun z => ?_)
    · obtain rfl : i = k := by omega
      exact H
    · have hpos := en_pos z hj hg
      refine nm_r (e' := nI (g * k * l + i * l + j)) (by rw [pk_mul, pk_mul, pk_mul, nI_add, nI_add]) (br_f (nI_pos (by omega)) (br_f (nI_ge (b := 72) hpos (by omega)) ?_))
      rw [nI_clamp (by omega : i < 2 ^ 31), nI_clamp (by omega : g * k * l + i * l + j < 2 ^ 31)]
      exact ⟨pk_in i 6 (by omega), pk_in (g * k * l + i * l + j) 72 hpos, yt_I (nm_r (gf_Ix _ _) (nm_r (nI_1 i) (ih (i + 1) (by omega) (by omega))))⟩
theorem yw_cb {post : Int32 → Prop} {g j : Nat} (hk : k ≤ 6) (hl : l ≤ 4) (hj : j < l) (hg : g * k * l + k * l ≤ 72) (H : post (gf_I (la_sm k (fun i => gf_mu (wd i) (fi (g * k * l + i * l + j)))))) : wpY_combine post (nI k, nI l, nI q, nI (2 + d), nI fc, nI ff, tI fi, nA kd, nA sg, nA sm, tI sv, nA ng, nA cn, tI vs, bA mY, bA kn, tI wd, tI fo, tI re) (nI g) (nI j) :=
  Exists.intro 7 (yw_cb_lp hk hl hj hg H 7 0 (by omega) (by omega))
/-! store -/
theorem yw_sto_lp {post : SY → Prop} {nd : Nat} {v0 : Nat → gf_K} (hnd : nd < 6) (hc : cn nd < 6)
    (H : ∀ v, (∀ t, t < 6 → vR v nd (cn nd) t = wd t) → (∀ j, j < nd * 36 + cn nd * 6 ∨ nd * 36 + cn nd * 6 + 6 ≤ j → v j = v0 j) → post (nI k, nI l, nI q, nI (2 + d), nI fc, nI ff, tI fi, nA kd, nA sg, nA sm, tI sv, nA ng, nA (fu cn nd (cn nd + 1)), tI v, bA mY, bA kn, tI wd, tI fo, tI re)) :
    ∀ (n i : Nat) (v : Nat → gf_K), i ≤ 6 → 6 < n + i → (∀ t, t < i → vR v nd (cn nd) t = wd t) → (∀ j, j < nd * 36 + cn nd * 6 ∨ nd * 36 + cn nd * 6 + 6 ≤ j → v j = v0 j) → wY_store_14 post (nI nd) (nI k) (nI l) (nI q) (nI (2 + d)) (nI fc) (nI ff) n (nI i) (tI fi) (nA kd) (nA sg) (nA sm) (tI sv) (nA ng) (nA cn) (tI v) (bA mY) (bA kn) (tI wd) (tI fo) (tI re) := by
  intro n
  induction n with
  | zero => intro i w h1 h2; omega
  | succ n ih =>
    intro i v h1 h2 h3 h4
    refine pk_le 6 i (fun g => ⟨pk_in nd 6 hnd, pk_in nd 6 hnd, nA_nm nd (cn nd + 1) rfl (by omega) (by rw [nI_clamp (by omega : nd < 2 ^ 31)]; exact nI_1 _) (H v (fun t ht => h3 t (by omega)) h4)⟩) (fun g => ?_)
    rw [nI_clamp (by omega : nd < 2 ^ 31)]
    have e1 : nI nd * 36 + nI (cn nd) * 6 + nI i = nI (nd * 36 + cn nd * 6 + i) := by rw [ix_v, nI_add]
    refine ⟨pk_in nd 6 hnd, pk_in i 6 g, pk_in (nd * 36 + cn nd * 6 + i) 216 (by omega) e1, tI_nm (nd * 36 + cn nd * 6 + i) (wd i) e1 (by omega) (by rw [nI_clamp (by omega : i < 2 ^ 31)]) (nm_r (nI_1 i) (ih (i + 1) _ (by omega) (by omega) (fun t ht => ?_) (fun j hj => ?_)))⟩
    · show fu v _ _ _ = _
      by_cases e : t = i
      · rw [e, fu_s]
      · rw [fu_n (by omega)]; exact h3 t (by omega)
    · rw [fu_n (by omega)]; exact h4 j hj
theorem yw_sto {post : SY → Prop} {nd : Nat} (hnd : nd < 6) (hc : cn nd < 6)
    (H : ∀ v, (∀ t, t < 6 → vR v nd (cn nd) t = wd t) → (∀ j, j < nd * 36 + cn nd * 6 ∨ nd * 36 + cn nd * 6 + 6 ≤ j → v j = vs j) → post (nI k, nI l, nI q, nI (2 + d), nI fc, nI ff, tI fi, nA kd, nA sg, nA sm, tI sv, nA ng, nA (fu cn nd (cn nd + 1)), tI v, bA mY, bA kn, tI wd, tI fo, tI re)) : wpY_store post (nI k, nI l, nI q, nI (2 + d), nI fc, nI ff, tI fi, nA kd, nA sg, nA sm, tI sv, nA ng, nA cn, tI vs, bA mY, bA kn, tI wd, tI fo, tI re) (nI nd) := by
  unfold wpY_store
  dsimp only
  rw [nI_clamp (by omega : nd < 2 ^ 31)]
  exact ⟨pk_in nd 6 hnd, br_t (nI_lt (b := 6) hc (by omega)) ⟨7, yw_sto_lp (v0 := vs) hnd hc H 7 0 vs (by omega) (by omega) (fun t ht => by omega) (fun _ _ => rfl)⟩⟩
end
end
section
/-! ===== Y: forms ===== -/
def aV (cn : Nat → Nat) (vs : Nat → gf_K) (nd : Nat) (φ : Nat → gf_K) : Prop := ∀ p, p < cn nd → la_dot φ (vR vs nd p) = 0#8
def nwI (f0 re : Nat → gf_K) (p g i : Nat) (fo : Nat → gf_K) : Prop := ∀ e, e < 6 → ∀ c, c < 6 → fo (e * 6 + c) = if e ≠ p ∧ (e < g ∨ (e = g ∧ c < i)) then gf_mu (re p) (f0 (e * 6 + c)) ^^^ gf_mu (re e) (f0 (p * 6 + c)) else f0 (e * 6 + c)
section
variable {k l d q fc ff : Nat} {fi sv vs wd fo re : Nat → gf_K} {mY kn : Nat → Bool} {ng kd sg sm cn : Nat → Nat}
theorem ya_in {post : SY → Prop} {J : Int32 → (Nat → Int32) → (Nat → Int32) → (Nat → Int32) → (Nat → Int32) → (Nat → Int32) → (Nat → Int32) → (Nat → Int32) → (Nat → Int32) → (Nat → Int32) → (Nat → Int32) → (Nat → Int32) → (Nat → Int32) → (Nat → Int32) → Prop} {g : Nat} (hg : g < 6)
    (HJ : ∀ f, (∀ e, e < g + 1 → ∀ i, i < 6 → f (e * 6 + i) = if e = i then 1#8 else 0#8) → J (nI (g + 1)) (tI fi) (nA kd) (nA sg) (nA sm) (tI sv) (nA ng) (nA cn) (tI vs) (bA mY) (bA kn) (tI wd) (tI f) (tI re)) :
    ∀ (n i : Nat) (f : Nat → gf_K), i ≤ 6 → 6 < n + i → (∀ e, e < g → ∀ i, i < 6 → f (e * 6 + i) = if e = i then 1#8 else 0#8) → (∀ c, c < i → f (g * 6 + c) = if g = c then 1#8 else 0#8) → wY_allForms_18 post J (nI g) (nI k) (nI l) (nI q) (nI (2 + d)) (nI fc) (nI ff) n (nI i) (tI fi) (nA kd) (nA sg) (nA sm) (tI sv) (nA ng) (nA cn) (tI vs) (bA mY) (bA kn) (tI wd) (tI f) (tI re) := by
  intro n
  induction n with
  | zero => intro i f h1 h2; omega
  | succ n ih =>
    intro i f h1 h2 h3 h4
    have hA : ∀ x : gf_K, ∀ e, e < g → ∀ c, c < 6 → fu f (g * 6 + i) x (e * 6 + c) = if e = c then 1#8 else 0#8 := fun x e he c hc => by rw [fu_n (by omega)]; exact h3 e he c hc
    have hB : ∀ x : gf_K, (x = if g = i then 1#8 else 0#8) → ∀ c, c < i + 1 → fu f (g * 6 + i) x (g * 6 + c) = if g = c then 1#8 else 0#8 := fun x hx c hc => by
      by_cases e : c = i
      · rw [e, fu_s]; exact hx
      · rw [fu_n (by omega)]; exact h4 c (by omega)
    refine pk_le 6 i (fun z => nm_r (nI_1 g) (HJ f (fun e he c hc => ?_))) (fun z => pk_eq g i (fun w => ⟨pk_in (g * 6 + i) 36 (by omega) ix_6, tI_nm (g * 6 + i) 1#8 ix_6 (by omega) rfl (nm_r (nI_1 i) (ih (i + 1) _ (by omega) (by omega) (hA _) (hB _ (if_pos w).symm)))⟩) (fun w => ⟨pk_in (g * 6 + i) 36 (by omega) ix_6, tI_nm (g * 6 + i) 0#8 ix_6 (by omega) rfl (nm_r (nI_1 i) (ih (i + 1) _ (by omega) (by omega) (hA _) (hB _ (if_neg w).symm)))⟩))
    by_cases ee : e = g
    · rw [ee]; exact h4 c (by omega)
    · exact h3 e (by omega) c hc
theorem ya_lp {post : SY → Prop} (H : ∀ f, (∀ e, e < 6 → ∀ i, i < 6 → f (e * 6 + i) = if e = i then 1#8 else 0#8) → post (nI k, nI l, nI q, nI (2 + d), nI fc, nI ff, tI fi, nA kd, nA sg, nA sm, tI sv, nA ng, nA cn, tI vs, bA mY, bA kn, tI wd, tI f, tI re)) :
    ∀ (n g : Nat) (f : Nat → gf_K), g ≤ 6 → 6 < n + g → (∀ e, e < g → ∀ i, i < 6 → f (e * 6 + i) = if e = i then 1#8 else 0#8) → wY_allForms_10 post (nI k) (nI l) (nI q) (nI (2 + d)) (nI fc) (nI ff) n (nI g) (tI fi) (nA kd) (nA sg) (nA sm) (tI sv) (nA ng) (nA cn) (tI vs) (bA mY) (bA kn) (tI wd) (tI f) (tI re) := by
  intro n
  induction n with
  | zero => intro i f h1 h2; omega
  | succ n ih =>
    intro g f h1 h2 h3
    refine pk_le 6 g (fun z => H f (fun e he => h3 e (by omega))) (fun z => ?_)
    exact ⟨7, ya_in z (fun f' hf' => ih (g + 1) f' (by omega) (by omega) hf') 7 0 f (by omega) (by omega) h3 (fun c hc => by omega)⟩
theorem ya_all {post : SY → Prop} (H : ∀ f, (∀ e, e < 6 → ∀ i, i < 6 → f (e * 6 + i) = if e = i then 1#8 else 0#8) → post (nI k, nI l, nI q, nI (2 + d), nI fc, nI k, tI fi, nA kd, nA sg, nA sm, tI sv, nA ng, nA cn, tI vs, bA mY, bA kn, tI wd, tI f, tI re)) : wpY_allForms post (nI k, nI l, nI q, nI (2 + d), nI fc, nI ff, tI fi, nA kd, nA sg, nA sm, tI sv, nA ng, nA cn, tI vs, bA mY, bA kn, tI wd, tI fo, tI re) :=
  Exists.intro 7 (ya_lp H 7 0 fo (by omega) (by omega) (fun e he => by omega))
/-! narrow -/
theorem yn_22 {post : SY → Prop} {J : Int32 → Int32 → (Nat → Int32) → (Nat → Int32) → (Nat → Int32) → (Nat → Int32) → (Nat → Int32) → (Nat → Int32) → (Nat → Int32) → (Nat → Int32) → (Nat → Int32) → (Nat → Int32) → (Nat → Int32) → (Nat → Int32) → (Nat → Int32) → Prop} {st g : Nat} {pv : Int32} {r0 : Nat → gf_K} (hg : g < 6) (hst : st + 6 ≤ 216)
    (HJ : ∀ r, r g = la_dot (fF fo g) (fun c => vs (st + c)) → (∀ e, e ≠ g → r e = r0 e) → (r g = 0#8 → J pv (nI (g + 1)) (tI fi) (nA kd) (nA sg) (nA sm) (tI sv) (nA ng) (nA cn) (tI vs) (bA mY) (bA kn) (tI wd) (tI fo) (tI r)) ∧ (r g ≠ 0#8 → J (nI g) (nI (g + 1)) (tI fi) (nA kd) (nA sg) (nA sm) (tI sv) (nA ng) (nA cn) (tI vs) (bA mY) (bA kn) (tI wd) (tI fo) (tI r))) :
    ∀ (n i : Nat) (r : Nat → gf_K), i ≤ 6 → 6 < n + i → r g = la_sm i (fun c => gf_mu (fF fo g c) (vs (st + c))) → (∀ e, e ≠ g → r e = r0 e) → wY_narrow_22 post J (nI st) pv (nI g) (nI k) (nI l) (nI q) (nI (2 + d)) (nI fc) (nI ff) n (nI i) (tI fi) (nA kd) (nA sg) (nA sm) (tI sv) (nA ng) (nA cn) (tI vs) (bA mY) (bA kn) (tI wd) (tI fo) (tI r) := by
  intro n
  induction n with
  | zero => intro i f h1 h2; omega
  | succ n ih =>
    intro i r h1 h2 h3 h4
    refine pk_le 6 i (fun z => ⟨pk_in g 6 hg, ?_⟩) (fun z => ?_)
    · obtain rfl : i = 6 := by omega
      have hh := HJ r h3 h4
      rw [nI_clamp (by omega : g < 2 ^ 31)]
      by_cases w : r g = 0#8
      · exact br_t (gf_Iz.mpr w) (nm_r (nI_1 g) (hh.1 w))
      · exact br_f (fun y => w (gf_Iz.mp y)) (nm_r (nI_1 g) (hh.2 w))
    · rw [ix_6, nI_add, nI_clamp (by omega : g * 6 + i < 2 ^ 31), nI_clamp (by omega : st + i < 2 ^ 31), nI_clamp (by omega : g < 2 ^ 31)]
      refine ⟨pk_in g 6 hg, pk_in (g * 6 + i) 36 (by omega), pk_in (st + i) 216 (by omega), yt_I ⟨pk_in g 6 hg, tI_nw (r g ^^^ gf_mu (fo (g * 6 + i)) (vs (st + i))) (gf_Ix _ _) (nm_r (nI_1 i) (ih (i + 1) _ (by omega) (by omega) ?_ (fun e he => ?_)))⟩⟩
      · rw [fu_s, h3]; rfl
      · rw [fu_n he]; exact h4 e he
theorem yn_4 {post : SY → Prop} {st : Nat} (hff : ff ≤ 6) (hst : st + 6 ≤ 216)
    (HN : (∀ e, e < ff → la_dot (fF fo e) (fun c => vs (st + c)) = 0#8) → ∀ r, post (nI k, nI l, nI q, nI (2 + d), nI fc, nI ff, tI fi, nA kd, nA sg, nA sm, tI sv, nA ng, nA cn, tI vs, bA mY, bA kn, tI wd, tI fo, tI r))
    (HP : ∀ p, p < ff → la_dot (fF fo p) (fun c => vs (st + c)) ≠ 0#8 → ∀ r, (∀ e, e < ff → r e = la_dot (fF fo e) (fun c => vs (st + c))) → ∃ n, wY_narrow_93 post (nI p) (nI k) (nI l) (nI q) (nI (2 + d)) (nI fc) (nI ff) n 0 (tI fi) (nA kd) (nA sg) (nA sm) (tI sv) (nA ng) (nA cn) (tI vs) (bA mY) (bA kn) (tI wd) (tI fo) (tI r)) :
    ∀ (n g : Nat) (pv : Int32) (r : Nat → gf_K), g ≤ ff → ff < n + g → (∀ e, e < g → r e = la_dot (fF fo e) (fun c => vs (st + c))) → ((pv = -1 ∧ ∀ e, e < g → r e = 0#8) ∨ ∃ p, p < g ∧ pv = nI p ∧ r p ≠ 0#8) → wY_narrow_4 post (nI st) (nI k) (nI l) (nI q) (nI (2 + d)) (nI fc) (nI ff) n pv (nI g) (tI fi) (nA kd) (nA sg) (nA sm) (tI sv) (nA ng) (nA cn) (tI vs) (bA mY) (bA kn) (tI wd) (tI fo) (tI r) := by
  intro n
  induction n with
  | zero => intro g pv r h1 h2; omega
  | succ n ih =>
    intro g pv r h1 h2 h3 h4
    refine pk_le ff g (fun z => ?_) (fun z => ?_)
    · obtain rfl : g = ff := by omega
      rcases h4 with ⟨rfl, h4⟩ | ⟨p, hp, rfl, hn⟩
      · exact br_f (by decide) (HN (fun e he => by rw [← h3 e he]; exact h4 e he) r)
      · exact br_t (nI_pos' (by omega)) (HP p hp (by rw [← h3 p hp]; exact hn) r h3)
    · refine ⟨pk_in g 6 (by omega), tI_nm g 0#8 rfl (by omega) rfl ?_⟩
      refine ⟨7, yn_22 (r0 := r) (by omega) hst (fun r' h5 h6 => ⟨fun w => ?_, fun w => ?_⟩) 7 0 _ (by omega) (by omega) fu_s (fun e he => fu_n he)⟩
      · refine ih (g + 1) pv r' (by omega) (by omega) (fun e he => ?_) ?_
        · by_cases ee : e = g
          · rw [ee]; exact h5
          · rw [h6 e ee]; exact h3 e (by omega)
        · rcases h4 with ⟨e1, h4⟩ | ⟨p, hp, e1, hn⟩
          · refine Or.inl ⟨e1, fun e he => ?_⟩
            by_cases ee : e = g
            · rw [ee]; exact w
            · rw [h6 e ee]; exact h4 e (by omega)
          · exact Or.inr ⟨p, by omega, e1, by rw [h6 p (by omega)]; exact hn⟩
      · refine ih (g + 1) (nI g) r' (by omega) (by omega) (fun e he => ?_) (Or.inr ⟨g, by omega, rfl, w⟩)
        by_cases ee : e = g
        · rw [ee]; exact h5
        · rw [h6 e ee]; exact h3 e (by omega)
theorem yn_104 {post : SY → Prop} {J : Int32 → (Nat → Int32) → (Nat → Int32) → (Nat → Int32) → (Nat → Int32) → (Nat → Int32) → (Nat → Int32) → (Nat → Int32) → (Nat → Int32) → (Nat → Int32) → (Nat → Int32) → (Nat → Int32) → (Nat → Int32) → (Nat → Int32) → Prop} {p g : Nat} {f0 : Nat → gf_K} (hp : p < 6) (hg : g < 6)
    (HJ : ∀ f, nwI f0 re p (g + 1) 0 f → J (nI (g + 1)) (tI fi) (nA kd) (nA sg) (nA sm) (tI sv) (nA ng) (nA cn) (tI vs) (bA mY) (bA kn) (tI wd) (tI f) (tI re)) :
    ∀ (n i : Nat) (f : Nat → gf_K), i ≤ 6 → 6 < n + i → nwI f0 re p g i f → wY_narrow_104 post J (nI p) (nI g) (nI k) (nI l) (nI q) (nI (2 + d)) (nI fc) (nI ff) n (nI i) (tI fi) (nA kd) (nA sg) (nA sm) (tI sv) (nA ng) (nA cn) (tI vs) (bA mY) (bA kn) (tI wd) (tI f) (tI re) := by
  intro n
  induction n with
  | zero => intro i f h1 h2; omega
  | succ n ih =>
    intro i f h1 h2 h3
    refine pk_le 6 i (fun z => nm_r (nI_1 g) (HJ f (fun e he c hc => ?_))) (fun z => ?_)
    · rw [h3 e he c hc]
      by_cases w : e ≠ p ∧ (e < g ∨ (e = g ∧ c < i))
      · rw [if_pos w, if_pos ⟨w.1, by omega⟩]
      · rw [if_neg w, if_neg (fun y => w ⟨y.1, by omega⟩)]
    · rw [ix_6, ix_6, nI_clamp (by omega : g * 6 + i < 2 ^ 31), nI_clamp (by omega : p * 6 + i < 2 ^ 31), nI_clamp (by omega : g < 2 ^ 31), nI_clamp (by omega : p < 2 ^ 31)]
      refine ⟨pk_in p 6 hp, pk_in (g * 6 + i) 36 (by omega), yt_I ⟨pk_in g 6 hg, pk_in (p * 6 + i) 36 (by omega), yt_I (pk_eq g p (fun w => nm_r (nI_1 i) (ih (i + 1) f (by omega) (by omega) (fun e he c hc => ?_))) (fun w => ⟨pk_in (g * 6 + i) 36 (by omega), tI_nw _ (gf_Ix _ _) (nm_r (nI_1 i) (ih (i + 1) _ (by omega) (by omega) (fun e he c hc => ?_)))⟩))⟩⟩
      · rw [h3 e he c hc]
        by_cases y : e ≠ p ∧ (e < g ∨ (e = g ∧ c < i))
        · rw [if_pos y, if_pos ⟨y.1, by omega⟩]
        · rw [if_neg y, if_neg (fun x => y ⟨x.1, by omega⟩)]
      · by_cases y : e = g ∧ c = i
        · rw [y.1, y.2, fu_s, if_pos ⟨w, by omega⟩, h3 g hg i z, if_neg (by omega), h3 p hp i z, if_neg (by omega)]
        · rw [fu_n (by omega), h3 e he c hc]
          by_cases x : e ≠ p ∧ (e < g ∨ (e = g ∧ c < i))
          · rw [if_pos x, if_pos ⟨x.1, by omega⟩]
          · rw [if_neg x, if_neg (fun x' => x ⟨x'.1, by omega⟩)]
theorem yn_93 {post : SY → Prop} {p : Nat} {f0 : Nat → gf_K} (hp : p < 6) (h1f : 1 ≤ ff) (hff : ff ≤ 6)
    (H : ∀ f, nwI f0 re p ff 0 f → ∃ n, wY_narrow_205 post (nI p) (nI k) (nI l) (nI q) (nI (2 + d)) (nI fc) (nI (ff - 1)) n 0 (tI fi) (nA kd) (nA sg) (nA sm) (tI sv) (nA ng) (nA cn) (tI vs) (bA mY) (bA kn) (tI wd) (tI f) (tI re)) :
    ∀ (n g : Nat) (f : Nat → gf_K), g ≤ ff → ff < n + g → nwI f0 re p g 0 f → wY_narrow_93 post (nI p) (nI k) (nI l) (nI q) (nI (2 + d)) (nI fc) (nI ff) n (nI g) (tI fi) (nA kd) (nA sg) (nA sm) (tI sv) (nA ng) (nA cn) (tI vs) (bA mY) (bA kn) (tI wd) (tI f) (tI re) := by
  intro n
  induction n with
  | zero => intro i f h1 h2; omega
  | succ n ih =>
    intro g f h1 h2 h3
    refine pk_le ff g (fun z => nm_r (e' := nI (ff - 1)) (pk_sub (b := 1) h1f) ?_) (fun z => ?_)
    · obtain rfl : g = ff := by omega
      exact H f h3
    · exact ⟨7, yn_104 hp (by omega) (fun f' hf' => ih (g + 1) f' (by omega) (by omega) hf') 7 0 f (by omega) (by omega) h3⟩
theorem yn_205 {post : SY → Prop} {p : Nat} {f1 : Nat → gf_K} (hp : p < 6) (hff : ff < 6)
    (H : ∀ f, (∀ c, c < 6 → f (p * 6 + c) = f1 (ff * 6 + c)) → (∀ j, j < p * 6 ∨ p * 6 + 6 ≤ j → f j = f1 j) → post (nI k, nI l, nI q, nI (2 + d), nI fc, nI ff, tI fi, nA kd, nA sg, nA sm, tI sv, nA ng, nA cn, tI vs, bA mY, bA kn, tI wd, tI f, tI re)) :
    ∀ (n i : Nat) (f : Nat → gf_K), i ≤ 6 → 6 < n + i → (∀ c, c < i → f (p * 6 + c) = f1 (ff * 6 + c)) → (∀ j, j < p * 6 ∨ p * 6 + i ≤ j → f j = f1 j) → wY_narrow_205 post (nI p) (nI k) (nI l) (nI q) (nI (2 + d)) (nI fc) (nI ff) n (nI i) (tI fi) (nA kd) (nA sg) (nA sm) (tI sv) (nA ng) (nA cn) (tI vs) (bA mY) (bA kn) (tI wd) (tI f) (tI re) := by
  intro n
  induction n with
  | zero => intro i f h1 h2; omega
  | succ n ih =>
    intro i f h1 h2 h3 h4
    refine pk_le 6 i (fun z => H f (fun c hc => h3 c (by omega)) (fun j hj => h4 j (by omega))) (fun z => ?_)
    refine ⟨pk_in (ff * 6 + i) 36 (by omega) ix_6, pk_in (p * 6 + i) 36 (by omega) ix_6, tI_nm (p * 6 + i) (f1 (ff * 6 + i)) ix_6 (by omega) ?_ (nm_r (nI_1 i) (ih (i + 1) _ (by omega) (by omega) (fun c hc => ?_) (fun j hj => ?_)))⟩
    · rw [ix_6, nI_clamp (by omega : ff * 6 + i < 2 ^ 31)]
      show gf_I (f _) = _
      rw [h4 _ (by omega)]
    · by_cases e : c = i
      · rw [e, fu_s]
      · rw [fu_n (by omega)]; exact h3 c (by omega)
    · rw [fu_n (by omega)]; exact h4 j (by omega)
theorem yb_narrow {post : SY → Prop} {st : Nat} {A : (Nat → gf_K) → Prop} (hk : k ≤ 6) (hst : st + 6 ≤ 216) (hF : la_FI k ff (fF fo) A) (hv : la_su k (fun c => vs (st + c)))
    (H : ∀ ff' fo' re', la_FI k ff' (fF fo') (fun φ => A φ ∧ la_dot φ (fun c => vs (st + c)) = 0#8) → post (nI k, nI l, nI q, nI (2 + d), nI fc, nI ff', tI fi, nA kd, nA sg, nA sm, tI sv, nA ng, nA cn, tI vs, bA mY, bA kn, tI wd, tI fo', tI re')) : wpY_narrow post (nI k, nI l, nI q, nI (2 + d), nI fc, nI ff, tI fi, nA kd, nA sg, nA sm, tI sv, nA ng, nA cn, tI vs, bA mY, bA kn, tI wd, tI fo, tI re) (nI st) := by
  have hfk : ff ≤ k := hF.1
  refine Exists.intro 7 (yn_4 (by omega) hst (fun hz r => H ff fo r (la_FI_same hF hz)) (fun p hp hn r hr => ?_) 7 0 (-1) re (by omega) (by omega) (fun e he => by omega) (Or.inl ⟨rfl, fun e he => by omega⟩))
  refine Exists.intro 7 (yn_93 (f0 := fo) (by omega) (by omega) (by omega) (fun f1 hf1 => ?_) 7 0 fo (by omega) (by omega) (fun e he c hc => by rw [if_neg (by omega)]))
  refine Exists.intro 7 (yn_205 (f1 := f1) (by omega) (by omega) (fun f2 h1 h2 => H (ff - 1) f2 r (la_narrow hF hv hp hn (fun g hg i hi => ?_))) 7 0 f1 (by omega) (by omega) (fun c hc => by omega) (fun _ _ => rfl))
  show f2 (g * 6 + i) = _
  by_cases e : g = p
  · rw [if_pos e, e, h1 i hi, hf1 _ (by omega) i hi, if_pos (by omega), hr p hp, hr _ (by omega)]
    rfl
  · rw [if_neg e, h2 _ (by omega), hf1 _ (by omega) i hi, if_pos (by omega), hr p hp, hr _ (by omega)]
    rfl
theorem yb_rs_lp {post : SY → Prop} {nd : Nat} {A : (Nat → gf_K) → Prop} (hk : k ≤ 6) (hnd : nd < 6) (hc : cn nd ≤ 6) (hV : ∀ p, p < cn nd → la_su k (vR vs nd p))
    (H : ∀ ff' fo' re', la_FI k ff' (fF fo') (fun φ => A φ ∧ aV cn vs nd φ) → post (nI k, nI l, nI q, nI (2 + d), nI fc, nI ff', tI fi, nA kd, nA sg, nA sm, tI sv, nA ng, nA cn, tI vs, bA mY, bA kn, tI wd, tI fo', tI re')) :
    ∀ (n p : Nat) (ff' : Nat) (fo' re' : Nat → gf_K), p ≤ cn nd → cn nd < n + p → la_FI k ff' (fF fo') (fun φ => A φ ∧ ∀ e, e < p → la_dot φ (vR vs nd e) = 0#8) → wY_restrict_2 post (nI nd) n (nI p) (nI k) (nI l) (nI q) (nI (2 + d)) (nI fc) (nI ff') (tI fi) (nA kd) (nA sg) (nA sm) (tI sv) (nA ng) (nA cn) (tI vs) (bA mY) (bA kn) (tI wd) (tI fo') (tI re') := by
  intro n
  induction n with
  | zero => intro p ff' fo' re' h1 h2; omega
  | succ n ih =>
    intro p ff' fo' re' h1 h2 h3
    refine ⟨pk_in nd 6 hnd, ?_⟩
    rw [nI_clamp (by omega : nd < 2 ^ 31), ix_v]
    refine pk_le (cn nd) p (fun z => ?_) (fun z => ?_)
    · obtain rfl : p = cn nd := by omega
      exact H ff' fo' re' h3
    · refine yb_narrow hk (by omega) h3 (hV p z) (fun ff2 fo2 re2 h4 => nm_r (nI_1 p) (ih (p + 1) ff2 fo2 re2 (by omega) (by omega) (la_FI_A h4 (fun φ => ?_))))
      constructor
      · rintro ⟨⟨a, b⟩, c⟩
        refine ⟨a, fun e he => ?_⟩
        by_cases ee : e = p
        · rw [ee]; exact c
        · exact b e (by omega)
      · exact fun a => ⟨⟨a.1, fun e he => a.2 e (by omega)⟩, a.2 p (by omega)⟩
theorem yb_rs {post : SY → Prop} {nd : Nat} {A : (Nat → gf_K) → Prop} (hk : k ≤ 6) (hnd : nd < 6) (hc : cn nd ≤ 6) (hV : ∀ p, p < cn nd → la_su k (vR vs nd p)) (hF : la_FI k ff (fF fo) A)
    (H : ∀ ff' fo' re', la_FI k ff' (fF fo') (fun φ => A φ ∧ aV cn vs nd φ) → post (nI k, nI l, nI q, nI (2 + d), nI fc, nI ff', tI fi, nA kd, nA sg, nA sm, tI sv, nA ng, nA cn, tI vs, bA mY, bA kn, tI wd, tI fo', tI re')) : wpY_restrict post (nI k, nI l, nI q, nI (2 + d), nI fc, nI ff, tI fi, nA kd, nA sg, nA sm, tI sv, nA ng, nA cn, tI vs, bA mY, bA kn, tI wd, tI fo, tI re) (nI nd) :=
  Exists.intro 7 (yb_rs_lp hk hnd hc hV H 7 0 ff fo re (by omega) (by omega) (la_FI_A hF (fun φ => ⟨fun z => ⟨z, fun e he => by omega⟩, fun z => z.1⟩)))
theorem yi_24 {post : Int32 → SY → Prop} {J : Int32 → Prop} {g : Nat} (hg : g < 6) (Hz : la_dot (fF fo g) wd = 0#8 → J (nI (g + 1))) (Hn : la_dot (fF fo g) wd ≠ 0#8 → post 0 (nI k, nI l, nI q, nI (2 + d), nI fc, nI ff, tI fi, nA kd, nA sg, nA sm, tI sv, nA ng, nA cn, tI vs, bA mY, bA kn, tI wd, tI fo, tI re)) :
    ∀ (n i : Nat), i ≤ 6 → 6 < n + i → wY_inSpan_24 post J (nI g) (nI k) (nI l) (nI q) (nI (2 + d)) (nI fc) (nI ff) (tI fi) (nA kd) (nA sg) (nA sm) (tI sv) (nA ng) (nA cn) (tI vs) (bA mY) (bA kn) (tI wd) (tI fo) (tI re) n (gf_I (la_sm i (fun c => gf_mu (fF fo g c) (wd c)))) (nI i) := by
  intro n
  induction n with
  | zero => intro i h1 h2; omega
  | succ n ih =>
    intro i h1 h2
    refine pk_le 6 i (fun z => ?_) (fun z => ?_)
    · obtain rfl : i = 6 := by omega
      by_cases w : la_dot (fF fo g) wd = 0#8
      · exact br_t (gf_Iz.mpr w) (nm_r (nI_1 g) (Hz w))
      · exact br_f (fun y => w (gf_Iz.mp y)) (Hn w)
    · rw [ix_6, nI_clamp (by omega : g * 6 + i < 2 ^ 31), nI_clamp (by omega : i < 2 ^ 31)]
      exact ⟨pk_in (g * 6 + i) 36 (by omega), pk_in i 6 z, yt_I (nm_r (gf_Ix _ _) (nm_r (nI_1 i) (ih (i + 1) (by omega) (by omega))))⟩
theorem yi_11 {post : Int32 → SY → Prop} (hff : ff ≤ 6) (H1 : (∀ g, g < ff → la_dot (fF fo g) wd = 0#8) → post 1 (nI k, nI l, nI q, nI (2 + d), nI fc, nI ff, tI fi, nA kd, nA sg, nA sm, tI sv, nA ng, nA cn, tI vs, bA mY, bA kn, tI wd, tI fo, tI re)) (H0 : ∀ g, g < ff → la_dot (fF fo g) wd ≠ 0#8 → post 0 (nI k, nI l, nI q, nI (2 + d), nI fc, nI ff, tI fi, nA kd, nA sg, nA sm, tI sv, nA ng, nA cn, tI vs, bA mY, bA kn, tI wd, tI fo, tI re)) :
    ∀ (n g : Nat), g ≤ ff → ff < n + g → (∀ e, e < g → la_dot (fF fo e) wd = 0#8) → wY_inSpan_11 post (nI k) (nI l) (nI q) (nI (2 + d)) (nI fc) (nI ff) (tI fi) (nA kd) (nA sg) (nA sm) (tI sv) (nA ng) (nA cn) (tI vs) (bA mY) (bA kn) (tI wd) (tI fo) (tI re) n (nI g) := by
  intro n
  induction n with
  | zero => intro i h1 h2; omega
  | succ n ih =>
    intro g h1 h2 h3
    refine pk_le ff g (fun z => H1 (fun e he => h3 e (by omega))) (fun z => ?_)
    refine ⟨7, yi_24 (by omega) (fun w => ih (g + 1) (by omega) (by omega) (fun e he => ?_)) (fun w => H0 g z w) 7 0 (by omega) (by omega)⟩
    by_cases ee : e = g
    · rw [ee]; exact w
    · exact h3 e (by omega)
theorem yb_in {post : Int32 → SY → Prop} {nd : Nat} (hk : k ≤ 6) (hnd : nd < 6) (hc : cn nd ≤ 6) (hV : ∀ p, p < cn nd → la_su k (vR vs nd p)) (hw : la_su k wd)
    (H1 : (∀ φ, aV cn vs nd φ → la_dot φ wd = 0#8) → ∀ ff' fo' re', post 1 (nI k, nI l, nI q, nI (2 + d), nI fc, nI ff', tI fi, nA kd, nA sg, nA sm, tI sv, nA ng, nA cn, tI vs, bA mY, bA kn, tI wd, tI fo', tI re'))
    (H0 : (¬ ∀ φ, aV cn vs nd φ → la_dot φ wd = 0#8) → ∀ ff' fo' re', post 0 (nI k, nI l, nI q, nI (2 + d), nI fc, nI ff', tI fi, nA kd, nA sg, nA sm, tI sv, nA ng, nA cn, tI vs, bA mY, bA kn, tI wd, tI fo', tI re')) : wpY_inSpan post (nI k, nI l, nI q, nI (2 + d), nI fc, nI ff, tI fi, nA kd, nA sg, nA sm, tI sv, nA ng, nA cn, tI vs, bA mY, bA kn, tI wd, tI fo, tI re) (nI nd) := by
  unfold wpY_inSpan
  refine ya_all (fun f hf => ?_)
  refine yb_rs (A := fun _ => True) hk hnd hc hV (la_FI_0 hk (fun g hg i hi => hf g (by omega) i hi)) (fun ff2 fo2 re2 hF => ?_)
  have hf2 : ff2 ≤ k := hF.1
  refine Exists.intro 7 (yi_11 (by omega) (fun hz => H1 (fun φ hφ => hF.2.2.2.1 wd hw hz φ ⟨trivial, hφ⟩) ff2 fo2 re2) (fun g hg hn => H0 (fun hz => hn (hz _ (hF.2.2.1 g hg).2)) ff2 fo2 re2) 7 0 (by omega) (by omega) (fun e he => by omega))
/-! decoded blocks -/
def yE (i : Nat) : Nat → gf_K := fun c => if c = i then 1#8 else 0#8
def yDec (cn : Nat → Nat) (vs : Nat → gf_K) (nd i : Nat) : Prop := ∀ φ, aV cn vs nd φ → la_dot φ (yE i) = 0#8
theorem yd_30 {post : Int32 → SY → Prop} {J : Int32 → Int32 → Int32 → Int32 → Int32 → Int32 → Int32 → Int32 → (Nat → Int32) → (Nat → Int32) → (Nat → Int32) → (Nat → Int32) → (Nat → Int32) → (Nat → Int32) → (Nat → Int32) → (Nat → Int32) → (Nat → Int32) → (Nat → Int32) → (Nat → Int32) → (Nat → Int32) → (Nat → Int32) → Prop} {nd i : Nat} (hk : k ≤ 6) (hnd : nd < 6) (hc : cn nd ≤ 6) (hV : ∀ p, p < cn nd → la_su k (vR vs nd p)) (hi : i < k)
    (HJ : ∀ ff' fo' re' wd', J (dbits (fun i => tb (yDec cn vs nd i)) (i + 1)) (nI (i + 1)) (nI k) (nI l) (nI q) (nI (2 + d)) (nI fc) (nI ff') (tI fi) (nA kd) (nA sg) (nA sm) (tI sv) (nA ng) (nA cn) (tI vs) (bA mY) (bA kn) (tI wd') (tI fo') (tI re')) :
    ∀ (n c : Nat) (w : Nat → gf_K), c ≤ 6 → 6 < n + c → (∀ t, t < c → w t = yE i t) → wY_decodedBlocks_30 post J (nI nd) (dbits (fun i => tb (yDec cn vs nd i)) i) (nI i) (nI k) (nI l) (nI q) (nI (2 + d)) (nI fc) (nI ff) n (nI c) (tI fi) (nA kd) (nA sg) (nA sm) (tI sv) (nA ng) (nA cn) (tI vs) (bA mY) (bA kn) (tI w) (tI fo) (tI re) := by
  intro n
  induction n with
  | zero => intro i w h1 h2; omega
  | succ n ih =>
    intro c w h1 h2 h3
    refine pk_le 6 c (fun z => ?_) (fun z => pk_eq c i (fun e => ⟨pk_in c 6 z, tI_nm c 1#8 rfl (by omega) rfl (nm_r (nI_1 c) (ih (c + 1) _ (by omega) (by omega) (fu_lt (Q := fun t x => x = yE i t) h3 (if_pos e).symm)))⟩) (fun e => ⟨pk_in c 6 z, tI_nm c 0#8 rfl (by omega) rfl (nm_r (nI_1 c) (ih (c + 1) _ (by omega) (by omega) (fu_lt (Q := fun t x => x = yE i t) h3 (if_neg e).symm)))⟩))
    have hw : ∀ t, t < 6 → w t = yE i t := fun t ht => h3 t (by omega)
    have hsu : la_su k w := fun t h4 h5 => by rw [hw t h5]; exact if_neg (by omega)
    have hd : (∀ φ, aV cn vs nd φ → la_dot φ w = 0#8) ↔ yDec cn vs nd i := by
      unfold yDec
      constructor
      · intro h φ hφ; rw [← la_dot_c hw]; exact h φ hφ
      · intro h φ hφ; rw [la_dot_c hw]; exact h φ hφ
    refine yb_in hk hnd hc hV hsu (fun hz f1 f2 f3 => ?_) (fun hz f1 f2 f3 => ?_)
    · exact br_f (by decide) (nm_r (dbits_t (D := fun i => tb (yDec cn vs nd i)) (tb_t.mpr (hd.mp hz))) (nm_r (nI_1 i) (HJ f1 f2 f3 w)))
    · have h := HJ f1 f2 f3 w
      rw [← dbits_f (D := fun i => tb (yDec cn vs nd i)) (tb_f.mpr (fun y => hz (hd.mpr y)))] at h
      exact br_t rfl (nm_r (nI_1 i) h)
theorem yd_lp {post : Int32 → SY → Prop} {nd : Nat} (hk : k ≤ 6) (hnd : nd < 6) (hc : cn nd ≤ 6) (hV : ∀ p, p < cn nd → la_su k (vR vs nd p))
    (H : ∀ ff' fo' re' wd', post (dbits (fun i => tb (yDec cn vs nd i)) k) (nI k, nI l, nI q, nI (2 + d), nI fc, nI ff', tI fi, nA kd, nA sg, nA sm, tI sv, nA ng, nA cn, tI vs, bA mY, bA kn, tI wd', tI fo', tI re')) :
    ∀ (n i : Nat) (ff' : Nat) (fo' re' wd' : Nat → gf_K), i ≤ k → k < n + i → wY_decodedBlocks_19 post (nI nd) n (dbits (fun i => tb (yDec cn vs nd i)) i) (nI i) (nI k) (nI l) (nI q) (nI (2 + d)) (nI fc) (nI ff') (tI fi) (nA kd) (nA sg) (nA sm) (tI sv) (nA ng) (nA cn) (tI vs) (bA mY) (bA kn) (tI wd') (tI fo') (tI re') := by
  intro n
  induction n with
  | zero => intro i _ _ _ _ h1 h2; omega
  | succ n ih =>
    intro i ff' fo' re' wd' h1 h2
    refine pk_le k i (fun z => ?_) (fun z => ?_)
    · obtain rfl : i = k := by omega
      exact H ff' fo' re' wd'
    · exact ⟨7, yd_30 hk hnd hc hV z (fun f1 f2 f3 f4 => ih (i + 1) f1 f2 f3 f4 (by omega) (by omega)) 7 0 wd' (by omega) (by omega) (fun t ht => by omega)⟩
theorem yw_dec {post : Int32 → SY → Prop} {nd : Nat} (hk : k ≤ 6) (h1 : 1 ≤ nd) (h2 : nd ≤ 2 + d) (hd : d ≤ 3) (hc : cn nd ≤ 6) (hV : ∀ p, p < cn nd → la_su k (vR vs nd p))
    (H : ∀ ff' fo' re' wd', post (dbits (fun i => tb (yDec cn vs nd i)) k) (nI k, nI l, nI q, nI (2 + d), nI fc, nI ff', tI fi, nA kd, nA sg, nA sm, tI sv, nA ng, nA cn, tI vs, bA mY, bA kn, tI wd', tI fo', tI re')) : wpY_decodedBlocks post (nI k, nI l, nI q, nI (2 + d), nI fc, nI ff, tI fi, nA kd, nA sg, nA sm, tI sv, nA ng, nA cn, tI vs, bA mY, bA kn, tI wd, tI fo, tI re) (nI nd) := by
  refine br_f (nI_nlt (b := 1) h1 (by omega)) (br_t (nI_le h2 (by omega)) ?_)
  exact Exists.intro 7 (yd_lp hk (by omega) hc hV H 7 0 ff fo re wd (by omega) (by omega))
theorem yw_rank {post : Int32 → SY → Prop} {a b : Nat} (hk : k ≤ 6) (hd : d ≤ 3) (a1 : 1 ≤ a) (a2 : a ≤ 2 + d) (b1 : 1 ≤ b) (b2 : b ≤ 2 + d) (hng : ∀ i, i < 6 → ng i < 2 ^ 31) (hca : cn a ≤ 6) (hcb : cn b ≤ 6) (hVa : ∀ p, p < cn a → la_su k (vR vs a p)) (hVb : ∀ p, p < cn b → la_su k (vR vs b p))
    (Hm : ng a ≠ ng b → post (-9) (nI k, nI l, nI q, nI (2 + d), nI fc, nI ff, tI fi, nA kd, nA sg, nA sm, tI sv, nA ng, nA cn, tI vs, bA mY, bA kn, tI wd, tI fo, tI re))
    (H : ng a = ng b → ∀ ff' fo' re', la_FI k ff' (fF fo') (fun φ => aV cn vs a φ ∧ aV cn vs b φ) → post (nI (k - ff')) (nI k, nI l, nI q, nI (2 + d), nI fc, nI ff', tI fi, nA kd, nA sg, nA sm, tI sv, nA ng, nA cn, tI vs, bA mY, bA kn, tI wd, tI fo', tI re')) : wpY_rank post (nI k, nI l, nI q, nI (2 + d), nI fc, nI ff, tI fi, nA kd, nA sg, nA sm, tI sv, nA ng, nA cn, tI vs, bA mY, bA kn, tI wd, tI fo, tI re) (nI a) (nI b) := by
  refine br_f (nI_nlt (b := 1) a1 (by omega)) (br_f (nI_nlt (a := 2 + d) a2 (by omega)) (br_f (nI_nlt (b := 1) b1 (by omega)) (br_t (nI_le b2 (by omega)) ?_)))
  rw [nI_clamp (by omega : a < 2 ^ 31), nI_clamp (by omega : b < 2 ^ 31)]
  have ha := hng a (by omega)
  have hb := hng b (by omega)
  refine ⟨pk_in a 6 (by omega), pk_in b 6 (by omega), pk_eq (ng a) (ng b) (fun z => ?_) (fun z => Hm z)⟩
  refine ya_all (fun f hf => ?_)
  refine yb_rs (A := fun _ => True) hk (by omega) hca hVa (la_FI_0 hk (fun g hg i hi => hf g (by omega) i hi)) (fun ff2 fo2 re2 hF => ?_)
  refine yb_rs hk (by omega) hcb hVb hF (fun ff3 fo3 re3 hF3 => ?_)
  have h := H z ff3 fo3 re3 (la_FI_A hF3 (fun φ => ⟨fun y => ⟨y.1.2, y.2⟩, fun y => ⟨⟨trivial, y.1⟩, y.2⟩⟩))
  rw [← pk_sub hF3.1] at h
  exact h
end
end
section
/-! ===== the relation ===== -/
def nSz (k l d q fc : Nat) : Prop := 1 ≤ k ∧ k ≤ 6 ∧ 1 ≤ l ∧ l ≤ 4 ∧ 1 ≤ d ∧ d ≤ 3 ∧ 1 ≤ q ∧ q ≤ d ∧ fc ≤ 72
def nGn (k l fc : Nat) (ng : Nat → Nat) : Prop := ∀ i, i < 6 → ng i * k * l ≤ fc
def nSl (k l fc : Nat) (fi : Nat → gf_K) (kd sg sm : Nat → Nat) (sr sv : Nat → gf_K) : Prop := ∀ s, s < 8 → kd s ≤ 2 ∧ (kd s ≠ 0 → sg s * k * l + k * l ≤ fc) ∧ (kd s = 1 → (∀ i, i < 6 → sr (s * 10 + i) = sv (s * 6 + i)) ∧ rwT k l fi (sg s) (fun t => sr (s * 10 + t))) ∧ (kd s = 2 → ∃ v, v < 3 ∧ sm s = v + 3)
def nNd (k l fc : Nat) (fi : Nat → gf_K) (ng : Nat → Nat) (bs : Nat → gf_K) (bh : Nat → Bool) (bd cn : Nat → Nat) (vs : Nat → gf_K) : Prop := ∀ m, m < 5 → xB k bs bh bd m (aV cn vs (m + 1)) (rwT k l fi (ng (m + 1))) ∧ (∀ p, p < cn (m + 1) → la_su k (vR vs (m + 1) p)) ∧ cn (m + 1) ≤ 6 ∧ (0 < cn (m + 1) → ng (m + 1) * k * l + k * l ≤ fc)
def nRl (k l : Nat) (fi : Nat → gf_K) (ng : Nat → Nat) (mr : Nat → gf_K) (mc cn : Nat → Nat) (vs : Nat → gf_K) : Prop := ∀ r, r < 2 → mc r = cn (r + 1) ∧ cn (r + 1) ≤ 4 ∧ ∀ p, p < cn (r + 1) → (∀ i, i < 6 → mR mr r p i = vR vs (r + 1) p i) ∧ rwT k l fi (ng (r + 1)) (mR mr r p)
def nRv (bd cn : Nat → Nat) : Prop := ∀ v, v < 3 → cn (v + 3) = bd (v + 2)
def nMk (mk : Nat) (mX mY : Nat → Bool) : Prop := (∀ v, v < 3 → mX v = mY (v + 3)) ∧ mk = la_ct 3 mX
def nAr (fc : Nat) (fi ab : Nat → gf_K) (ak kn : Nat → Bool) : Prop := arI fi fc ab ak ∧ ∀ v, v < 3 → ∀ p, p < 72 → ak (v * 72 + p) = kn ((v + 3) * 72 + p)
def nInv (k l d q fc mk : Nat) (ae al : Nat → Int32) (fi : Nat → gf_K) (mX : Nat → Bool) (ng kd sg sm : Nat → Nat) (sr mr : Nat → gf_K) (mc : Nat → Nat) (bs : Nat → gf_K) (bh : Nat → Bool) (bd : Nat → Nat) (ab : Nat → gf_K) (ak : Nat → Bool) (sv : Nat → gf_K) (cn : Nat → Nat) (vs : Nat → gf_K) (mY kn : Nat → Bool) : Prop :=
  gf_TB ae al ∧ nSz k l d q fc ∧ nGn k l fc ng ∧ nSl k l fc fi kd sg sm sr sv ∧ nNd k l fc fi ng bs bh bd cn vs ∧ nRl k l fi ng mr mc cn vs ∧ nRv bd cn ∧ nMk mk mX mY ∧ nAr fc fi ab ak kn
/-- the relation: one list of contents for both states, and the invariant -/
def i_Rel (_ : Nat) (u : SX) (v : SY) : Prop := ∃ (k l d q fc mk ff : Nat) (ae al : Nat → Int32) (fi sr mr bs ab wk wt sv vs wd fo re : Nat → gf_K) (mX bh ak mY kn : Nat → Bool) (ng kd sg sm mc bd cn : Nat → Nat), u = (nI k, nI l, nI d, nI q, 10, 5, nI fc, nI mk, ae, al, tI fi, bA mX, nA ng, nA kd, nA sg, nA sm, tI sr, tI mr, nA mc, tI bs, bA bh, nA bd, tI ab, bA ak, tI wk, tI wt) ∧ v = (nI k, nI l, nI q, nI (2 + d), nI fc, nI ff, tI fi, nA kd, nA sg, nA sm, tI sv, nA ng, nA cn, tI vs, bA mY, bA kn, tI wd, tI fo, tI re) ∧ nInv k l d q fc mk ae al fi mX ng kd sg sm sr mr mc bs bh bd ab ak sv cn vs mY kn
theorem i_up {k : Nat} {u : SX} {v : SY} (h : i_Rel k u v) : i_Rel (k + 5) u v := h
theorem zz_el {P : SX → SY → Prop} (h : ∀ (k l d q fc mk ff : Nat) (ae al : Nat → Int32) (fi sr mr bs ab wk wt sv vs wd fo re : Nat → gf_K) (mX bh ak mY kn : Nat → Bool) (ng kd sg sm mc bd cn : Nat → Nat), nInv k l d q fc mk ae al fi mX ng kd sg sm sr mr mc bs bh bd ab ak sv cn vs mY kn → P (nI k, nI l, nI d, nI q, 10, 5, nI fc, nI mk, ae, al, tI fi, bA mX, nA ng, nA kd, nA sg, nA sm, tI sr, tI mr, nA mc, tI bs, bA bh, nA bd, tI ab, bA ak, tI wk, tI wt) (nI k, nI l, nI q, nI (2 + d), nI fc, nI ff, tI fi, nA kd, nA sg, nA sm, tI sv, nA ng, nA cn, tI vs, bA mY, bA kn, tI wd, tI fo, tI re)) {kk : Nat} {u : SX} {v : SY} (I : i_Rel kk u v) : P u v :=
  Exists.elim I (fun k I => Exists.elim I (fun l I => Exists.elim I (fun d I => Exists.elim I (fun q I => Exists.elim I (fun fc I => Exists.elim I (fun mk I => Exists.elim I (fun ff I => Exists.elim I (fun ae I => Exists.elim I (fun al I => Exists.elim I (fun fi I => Exists.elim I (fun sr I => Exists.elim I (fun mr I => Exists.elim I (fun bs I => Exists.elim I (fun ab I => Exists.elim I (fun wk I => Exists.elim I (fun wt I => Exists.elim I (fun sv I => Exists.elim I (fun vs I => Exists.elim I (fun wd I => Exists.elim I (fun fo I => Exists.elim I (fun re I => Exists.elim I (fun mX I => Exists.elim I (fun bh I => Exists.elim I (fun ak I => Exists.elim I (fun mY I => Exists.elim I (fun kn I => Exists.elim I (fun ng I => Exists.elim I (fun kd I => Exists.elim I (fun sg I => Exists.elim I (fun sm I => Exists.elim I (fun mc I => Exists.elim I (fun bd I => Exists.elim I (fun cn I => (by rw [I.1, I.2.1]; exact h k l d q fc mk ff ae al fi sr mr bs ab wk wt sv vs wd fo re mX bh ak mY kn ng kd sg sm mc bd cn I.2.2))))))))))))))))))))))))))))))))))
theorem zz_in {kk : Nat} {k l d q fc mk ff : Nat} {ae al : Nat → Int32} {fi sr mr bs ab wk wt sv vs wd fo re : Nat → gf_K} {mX bh ak mY kn : Nat → Bool} {ng kd sg sm mc bd cn : Nat → Nat} (h : nInv k l d q fc mk ae al fi mX ng kd sg sm sr mr mc bs bh bd ab ak sv cn vs mY kn) : i_Rel kk (nI k, nI l, nI d, nI q, 10, 5, nI fc, nI mk, ae, al, tI fi, bA mX, nA ng, nA kd, nA sg, nA sm, tI sr, tI mr, nA mc, tI bs, bA bh, nA bd, tI ab, bA ak, tI wk, tI wt) (nI k, nI l, nI q, nI (2 + d), nI fc, nI ff, tI fi, nA kd, nA sg, nA sm, tI sv, nA ng, nA cn, tI vs, bA mY, bA kn, tI wd, tI fo, tI re) :=
  ⟨k, l, d, q, fc, mk, ff, ae, al, fi, sr, mr, bs, ab, wk, wt, sv, vs, wd, fo, re, mX, bh, ak, mY, kn, ng, kd, sg, sm, mc, bd, cn, rfl, rfl, h⟩
/-! arguments -/
theorem ic_r (x : Int32) (a b : Nat) (hab : a ≤ b) (hb : b < 2 ^ 31) : x < nI a ∨ (¬ x < nI a ∧ nI b < x) ∨ ∃ n, a ≤ n ∧ n ≤ b ∧ x = nI n := by
  by_cases h : x < nI a
  · exact Or.inl h
  · by_cases h2 : nI b < x
    · exact Or.inr (Or.inl ⟨h, h2⟩)
    · by_cases hn : x < 0
      · exact absurd (Int32.lt_of_lt_of_le hn (nI_pos' (by omega))) h
      · obtain ⟨j, hj, rfl⟩ := nI_of hn
        rw [nI_ltI hj (by omega)] at h
        rw [nI_ltI (by omega) hj] at h2
        exact Or.inr (Or.inr ⟨j, by omega, by omega, rfl⟩)
theorem ic_nle {x : Int32} {b : Nat} (h : nI b < x) : ¬ x ≤ nI b := fun z => Int32.lt_irrefl (Int32.lt_of_lt_of_le h z)
theorem ic_n0 {x : Int32} {n : Nat} (hn : n < 2 ^ 31) (h : nI n ≤ x) : ¬ x < 0 := fun z => Int32.lt_irrefl (Int32.lt_of_lt_of_le (Int32.lt_of_lt_of_le z (nI_pos' hn)) h)
section
variable {k l d q fc mk : Nat} {ae al : Nat → Int32} {fi sr mr bs ab wk wt : Nat → gf_K} {mX bh ak : Nat → Bool} {ng kd sg sm mc bd : Nat → Nat} {post : Int32 → Prop} {x : Int32}
theorem xq_slot1 {s : Nat} (hs : s < 8) (h : post 1) : wpX_isSlot post (nI k, nI l, nI d, nI q, 10, 5, nI fc, nI mk, ae, al, tI fi, bA mX, nA ng, nA kd, nA sg, nA sm, tI sr, tI mr, nA mc, tI bs, bA bh, nA bd, tI ab, bA ak, tI wk, tI wt) (nI s) := br_f (nI_pos (by omega)) (br_f (nI_ge (b := 8) hs (by omega)) h)
theorem xq_slot0 (hx : x < 0 ∨ nI 8 ≤ x) (h : post 0) : wpX_isSlot post (nI k, nI l, nI d, nI q, 10, 5, nI fc, nI mk, ae, al, tI fi, bA mX, nA ng, nA kd, nA sg, nA sm, tI sr, tI mr, nA mc, tI bs, bA bh, nA bd, tI ab, bA ak, tI wk, tI wt) x := by
  rcases hx with z | z
  · exact br_t z h
  · exact br_f (ic_n0 (by omega) z) (br_t z h)
theorem xq_node1 {n : Nat} (hd : d ≤ 3) (hn : n ≤ 2 + d) (h : post 1) : wpX_isNode post (nI k, nI l, nI d, nI q, 10, 5, nI fc, nI mk, ae, al, tI fi, bA mX, nA ng, nA kd, nA sg, nA sm, tI sr, tI mr, nA mc, tI bs, bA bh, nA bd, tI ab, bA ak, tI wk, tI wt) (nI n) :=
  br_f (nI_pos (by omega)) (br_f (by rw [show (2 : Int32) + nI d = nI (2 + d) from nI_add 2 d]; exact nI_nlt hn (by omega)) h)
theorem xq_node0 (hx : x < 0 ∨ (¬ x < 0 ∧ nI (2 + d) < x)) (h : post 0) : wpX_isNode post (nI k, nI l, nI d, nI q, 10, 5, nI fc, nI mk, ae, al, tI fi, bA mX, nA ng, nA kd, nA sg, nA sm, tI sr, tI mr, nA mc, tI bs, bA bh, nA bd, tI ab, bA ak, tI wk, tI wt) x := by
  rcases hx with z | z
  · exact br_t z h
  · exact br_f z.1 (br_t (by rw [show (2 : Int32) + nI d = nI (2 + d) from nI_add 2 d]; exact z.2) h)
theorem xq_hold1 {n : Nat} (hd : d ≤ 3) (h1 : 1 ≤ n) (hn : n ≤ 2 + d) (h : post 1) : wpX_isHolder post (nI k, nI l, nI d, nI q, 10, 5, nI fc, nI mk, ae, al, tI fi, bA mX, nA ng, nA kd, nA sg, nA sm, tI sr, tI mr, nA mc, tI bs, bA bh, nA bd, tI ab, bA ak, tI wk, tI wt) (nI n) :=
  br_f (nI_nlt (b := 1) h1 (by omega)) (br_f (by rw [show (2 : Int32) + nI d = nI (2 + d) from nI_add 2 d]; exact nI_nlt hn (by omega)) h)
theorem xq_hold0 (hx : x < 1 ∨ (¬ x < 1 ∧ nI (2 + d) < x)) (h : post 0) : wpX_isHolder post (nI k, nI l, nI d, nI q, 10, 5, nI fc, nI mk, ae, al, tI fi, bA mX, nA ng, nA kd, nA sg, nA sm, tI sr, tI mr, nA mc, tI bs, bA bh, nA bd, tI ab, bA ak, tI wk, tI wt) x := by
  rcases hx with z | z
  · exact br_t z h
  · exact br_f z.1 (br_t (by rw [show (2 : Int32) + nI d = nI (2 + d) from nI_add 2 d]; exact z.2) h)
theorem xq_recv1 {n : Nat} (hd : d ≤ 3) (h1 : 3 ≤ n) (hn : n ≤ 2 + d) (h : post 1) : wpX_isReceiver post (nI k, nI l, nI d, nI q, 10, 5, nI fc, nI mk, ae, al, tI fi, bA mX, nA ng, nA kd, nA sg, nA sm, tI sr, tI mr, nA mc, tI bs, bA bh, nA bd, tI ab, bA ak, tI wk, tI wt) (nI n) :=
  br_f (nI_nlt (b := 3) h1 (by omega)) (br_f (by rw [show (2 : Int32) + nI d = nI (2 + d) from nI_add 2 d]; exact nI_nlt hn (by omega)) h)
theorem xq_recv0 (hx : x < 3 ∨ (¬ x < 3 ∧ nI (2 + d) < x)) (h : post 0) : wpX_isReceiver post (nI k, nI l, nI d, nI q, 10, 5, nI fc, nI mk, ae, al, tI fi, bA mX, nA ng, nA kd, nA sg, nA sm, tI sr, tI mr, nA mc, tI bs, bA bh, nA bd, tI ab, bA ak, tI wk, tI wt) x := by
  rcases hx with z | z
  · exact br_t z h
  · exact br_f z.1 (br_t (by rw [show (2 : Int32) + nI d = nI (2 + d) from nI_add 2 d]; exact z.2) h)
theorem xq_rel1 {r : Nat} (hr : r < 2) (h : post 1) : wpX_isRelay post (nI k, nI l, nI d, nI q, 10, 5, nI fc, nI mk, ae, al, tI fi, bA mX, nA ng, nA kd, nA sg, nA sm, tI sr, tI mr, nA mc, tI bs, bA bh, nA bd, tI ab, bA ak, tI wk, tI wt) (nI (r + 1)) := by
  rcases (show r = 0 ∨ r = 1 by omega) with e | e
  · subst e; exact br_t rfl h
  · subst e; exact br_f (by decide) (br_t rfl h)
theorem xq_rel0 (h1 : ¬ x = 1) (h2 : ¬ x = 2) (h : post 0) : wpX_isRelay post (nI k, nI l, nI d, nI q, 10, 5, nI fc, nI mk, ae, al, tI fi, bA mX, nA ng, nA kd, nA sg, nA sm, tI sr, tI mr, nA mc, tI bs, bA bh, nA bd, tI ab, bA ak, tI wk, tI wt) x := br_f h1 (br_f h2 h)
theorem ic_rel (x : Int32) : (¬ x = 1 ∧ ¬ x = 2) ∨ ∃ r, r < 2 ∧ x = nI (r + 1) := by
  by_cases h1 : x = 1
  · exact Or.inr ⟨0, by omega, h1⟩
  · by_cases h2 : x = 2
    · exact Or.inr ⟨1, by omega, h2⟩
    · exact Or.inl ⟨h1, h2⟩
end
/-! the invariant's bounds -/
theorem n_le {k l g : Nat} (hk : 1 ≤ k) (hl : 1 ≤ l) : g ≤ g * k * l :=
  Nat.le_trans (Nat.le_mul_of_pos_right g hk) (Nat.le_mul_of_pos_right (g * k) hl)
theorem n_bd {k l g fc : Nat} (hk : 1 ≤ k) (hl : 1 ≤ l) (h : g * k * l ≤ fc) : g ≤ fc := Nat.le_trans (n_le hk hl) h
theorem xB_none {k b : Nat} {bs : Nat → gf_K} {bh : Nat → Bool} {bd : Nat → Nat} {A T : (Nat → gf_K) → Prop} (hk : k ≤ 6) (h : xB k bs bh bd b A T) (hA : ∀ φ, A φ) : ∀ c, c < 6 → bh (b * 6 + c) = false := by
  intro c hc
  cases hq : bh (b * 6 + c)
  · rfl
  · have hck : c < k := h.1 c hc hq
    have h1 := (h.2.2.2.1 (yE c)).mp (hA _) c hck hq
    unfold la_dot at h1
    rw [la_one (j := c) hc (fun i _ ne => by rw [show yE c i = 0#8 from if_neg ne, gf_0m]), show yE c c = 1#8 from if_pos rfl, h.2.1 c hck hq c hck hq, if_pos rfl, gf_1m] at h1
    exact absurd h1 (by decide)
theorem rw_put {k l g fc : Nat} {fi c : Nat → gf_K} {x : gf_K} (h : rwT k l fi g c) (hg : g * k * l + k * l ≤ fc) : rwT k l (fu fi fc x) g c := by
  refine ⟨h.1, fun j hj => ?_⟩
  rw [h.2 j hj]
  refine la_congr (fun i hi => ?_)
  have := en_pos hi hj hg
  rw [fu_n (by omega)]
end
section
/-! ===== the easy calls ===== -/
section
variable {k l d q fc mk ff : Nat} {ae al : Nat → Int32} {fi sr mr bs ab wk wt sv vs wd fo re : Nat → gf_K} {mX bh ak mY kn : Nat → Bool} {ng kd sg sm mc bd cn : Nat → Nat}
theorem inv_put (h : nInv k l d q fc mk ae al fi mX ng kd sg sm sr mr mc bs bh bd ab ak sv cn vs mY kn) (hf : fc < 72) (x : gf_K) : nInv k l d q (fc + 1) mk ae al (fu fi fc x) mX ng kd sg sm sr mr mc bs bh bd ab ak sv cn vs mY kn := by
  obtain ⟨hT, ⟨k1, k6, l1, l4, d1, d3, q1, qd, fc7⟩, hG, hSl, hN, hRl, hRv, hMk, hAr⟩ := h
  refine ⟨hT, ⟨k1, k6, l1, l4, d1, d3, q1, qd, hf⟩, fun i hi => Nat.le_succ_of_le (hG i hi), fun s hs => ?_, fun m hm => ?_, fun r hr => ?_, hRv, hMk, ?_, hAr.2⟩
  · obtain ⟨a1, a2, a3, a4⟩ := hSl s hs
    exact ⟨a1, fun z => Nat.le_succ_of_le (a2 z), fun z => ⟨(a3 z).1, rw_put (a3 z).2 (a2 (by omega))⟩, a4⟩
  · obtain ⟨a1, a2, a3, a4⟩ := hN m hm
    refine ⟨⟨a1.1, a1.2.1, a1.2.2.1, a1.2.2.2.1, fun c hc hp => rw_put (a1.2.2.2.2 c hc hp) (a4 ?_)⟩, a2, a3, fun z => Nat.le_succ_of_le (a4 z)⟩
    rcases Nat.eq_zero_or_pos (cn (m + 1)) with z | z
    · have := xB_none k6 a1 (fun φ p hp => by omega) c (by omega)
      have hp2 : bh (m * 6 + c) = true := hp
      rw [this] at hp2
      cases hp2
    · exact z
  · obtain ⟨a1, a2, a3⟩ := hRl r hr
    obtain ⟨_, _, _, b4⟩ := hN r (by omega)
    exact ⟨a1, a2, fun p hp => ⟨(a3 p hp).1, rw_put (a3 p hp).2 (b4 (by omega))⟩⟩
  · intro v hv p hp hk
    obtain ⟨a1, a2⟩ := hAr.1 v hv p hp hk
    rw [fu_n (by omega)]
    exact ⟨a1, by omega⟩
theorem inv_lose (h : nInv k l d q fc mk ae al fi mX ng kd sg sm sr mr mc bs bh bd ab ak sv cn vs mY kn) {s : Nat} (hs : s < 8) : nInv k l d q fc mk ae al fi mX ng (fu kd s 0) sg sm sr mr mc bs bh bd ab ak sv cn vs mY kn := by
  obtain ⟨hT, hS, hG, hSl, hN, hRl, hRv, hMk, hAr⟩ := h
  refine ⟨hT, hS, hG, fun t ht => ?_, hN, hRl, hRv, hMk, hAr⟩
  by_cases e : t = s
  · rw [e, fu_s]
    exact ⟨by omega, fun z => absurd rfl z, fun z => by omega, fun z => by omega⟩
  · rw [fu_n e]
    exact hSl t ht
end
theorem i_vc_put {k : Nat} {u : SX} {v : SY} (I : i_Rel k u v) (hk : k + 5 ≤ 2564) (v1 : Int32) : wpX_put (fun r u' => wpY_put (fun r' v' => r' = r ∧ i_Rel (k + 5) u' v') v v1) u v1 := by
  refine zz_el (P := fun u v => wpX_put (fun r u' => wpY_put (fun r' v' => r' = r ∧ i_Rel (k + 5) u' v') v v1) u v1) ?_ I
  intro k l d q fc mk ff ae al fi sr mr bs ab wk wt sv vs wd fo re mX bh ak mY kn ng kd sg sm mc bd cn h
  have h0 := h
  obtain ⟨hT, ⟨k1, k6, l1, l4, d1, d3, q1, qd, fc7⟩, hG, hSl, hN, hRl, hRv, hMk, hAr⟩ := h0
  by_cases hf : fc < 72
  · refine br_t (nI_lt (b := 72) hf (by omega)) ⟨pk_in fc 72 hf, tI_nm fc (gf_lo v1) rfl (by omega) (gf_and v1) (nm_r (nI_1 fc) ?_)⟩
    exact br_t (nI_lt (b := 72) hf (by omega)) ⟨pk_in fc 72 hf, tI_nm fc (gf_lo v1) rfl (by omega) (gf_and v1) (nm_r (nI_1 fc) ⟨nI_pred fc, zz_in (inv_put h hf _)⟩)⟩
  · exact br_f (nI_nlt (b := 72) (by omega) (by omega)) (br_f (nI_nlt (b := 72) (by omega) (by omega)) ⟨rfl, zz_in h⟩)
theorem i_vc_lose {k : Nat} {u : SX} {v : SY} (I : i_Rel k u v) (hk : k + 5 ≤ 2564) (v1 : Int32) : wpX_lose (fun r u' => wpY_lose (fun r' v' => r' = r ∧ i_Rel (k + 5) u' v') v v1) u v1 := by
  refine zz_el (P := fun u v => wpX_lose (fun r u' => wpY_lose (fun r' v' => r' = r ∧ i_Rel (k + 5) u' v') v v1) u v1) ?_ I
  intro k l d q fc mk ff ae al fi sr mr bs ab wk wt sv vs wd fo re mX bh ak mY kn ng kd sg sm mc bd cn h
  have h0 := h
  obtain ⟨hT, ⟨k1, k6, l1, l4, d1, d3, q1, qd, fc7⟩, hG, hSl, hN, hRl, hRv, hMk, hAr⟩ := h0
  unfold wpX_lose
  rcases pk_ix v1 (n := 8) (by omega) with z | z | ⟨s, hs, rfl⟩
  · exact xq_slot0 (Or.inl z) (br_t rfl (br_t z ⟨rfl, zz_in h⟩))
  · exact xq_slot0 (Or.inr z) (br_t rfl (br_f (ic_n0 (by omega) z) (br_f (Int32.not_lt.mpr z) ⟨rfl, zz_in h⟩)))
  · refine xq_slot1 hs (br_f (by decide) ?_)
    have hk := (hSl s hs).1
    rw [nI_clamp (by omega : s < 2 ^ 31)]
    refine ⟨pk_in s 8 hs, nm_e (pk_eq (kd s) 0 (fun z => ?_) (fun z => ⟨pk_in s 8 hs, nA_nw 0 rfl ?_⟩))⟩
    · refine br_f (nI_pos (by omega)) (br_t (nI_lt (b := 8) hs (by omega)) ?_)
      rw [nI_clamp (by omega : s < 2 ^ 31)]
      exact ⟨pk_in s 8 hs, br_t (by show nI (kd s) = 0; rw [z]; rfl) ⟨rfl, zz_in h⟩⟩
    · refine br_f (nI_pos (by omega)) (br_t (nI_lt (b := 8) hs (by omega)) ?_)
      rw [nI_clamp (by omega : s < 2 ^ 31)]
      exact ⟨pk_in s 8 hs, br_f (nI_ne0 (by omega) (by omega)) ⟨pk_in s 8 hs, nm_e ⟨pk_in s 8 hs, nA_nw 0 rfl ⟨rfl, zz_in (inv_lose h hs)⟩⟩⟩⟩
theorem i_vc_times {k : Nat} {u : SX} {v : SY} (I : i_Rel k u v) (hk : k + 5 ≤ 2564) (v1 : Int32) (v2 : Int32) : wpX_times (fun r => wpY_times (fun r' => r' = r ∧ i_Rel (k + 5) u v) v v1 v2) u v1 v2 := by
  refine zz_el (P := fun u v => wpX_times (fun r => wpY_times (fun r' => r' = r ∧ i_Rel (k + 5) u v) v v1 v2) u v1 v2) ?_ I
  intro k l d q fc mk ff ae al fi sr mr bs ab wk wt sv vs wd fo re mX bh ak mY kn ng kd sg sm mc bd cn h
  have h0 := h
  obtain ⟨hT, ⟨k1, k6, l1, l4, d1, d3, q1, qd, fc7⟩, hG, hSl, hN, hRl, hRv, hMk, hAr⟩ := h0
  exact xt_times hT (yt_times ⟨rfl, zz_in h⟩)
theorem i_vc_over {k : Nat} {u : SX} {v : SY} (I : i_Rel k u v) (hk : k + 5 ≤ 2564) (v1 : Int32) (v2 : Int32) : wpX_over (fun r => wpY_over (fun r' => r' = r ∧ i_Rel (k + 5) u v) v v1 v2) u v1 v2 := by
  refine zz_el (P := fun u v => wpX_over (fun r => wpY_over (fun r' => r' = r ∧ i_Rel (k + 5) u v) v v1 v2) u v1 v2) ?_ I
  intro k l d q fc mk ff ae al fi sr mr bs ab wk wt sv vs wd fo re mX bh ak mY kn ng kd sg sm mc bd cn h
  have h0 := h
  obtain ⟨hT, ⟨k1, k6, l1, l4, d1, d3, q1, qd, fc7⟩, hG, hSl, hN, hRl, hRv, hMk, hAr⟩ := h0
  exact xt_over hT (fun z => yt_over (fun _ => ⟨rfl, zz_in h⟩) (fun y => absurd z y)) (fun z => yt_over (fun y => absurd y z) (fun _ => ⟨rfl, zz_in h⟩))
theorem i_vc_generation {k : Nat} {u : SX} {v : SY} (I : i_Rel k u v) (hk : k + 5 ≤ 2564) (v1 : Int32) : wpX_generation (fun r => wpY_generation (fun r' => r' = r ∧ i_Rel (k + 5) u v) v v1) u v1 := by
  refine zz_el (P := fun u v => wpX_generation (fun r => wpY_generation (fun r' => r' = r ∧ i_Rel (k + 5) u v) v v1) u v1) ?_ I
  intro k l d q fc mk ff ae al fi sr mr bs ab wk wt sv vs wd fo re mX bh ak mY kn ng kd sg sm mc bd cn h
  have h0 := h
  obtain ⟨hT, ⟨k1, k6, l1, l4, d1, d3, q1, qd, fc7⟩, hG, hSl, hN, hRl, hRv, hMk, hAr⟩ := h0
  unfold wpX_generation
  rcases ic_r v1 0 (2 + d) (by omega) (by omega) with z | ⟨z, y⟩ | ⟨n, _, hn, rfl⟩
  · exact xq_node0 (Or.inl z) (br_t rfl (br_t z ⟨rfl, zz_in h⟩))
  · exact xq_node0 (Or.inr ⟨z, y⟩) (br_t rfl (br_f z (br_f (ic_nle y) ⟨rfl, zz_in h⟩)))
  · exact xq_node1 d3 hn (br_f (by decide) ⟨pk_in n 6 (by omega), br_f (nI_pos (by omega)) (br_t (nI_le hn (by omega)) ⟨pk_in n 6 (by omega), rfl, zz_in h⟩)⟩)
theorem i_vc_fileSize {k : Nat} {u : SX} {v : SY} (I : i_Rel k u v) (hk : k + 5 ≤ 2564) : wpX_fileSize (fun r => wpY_fileSize (fun r' => r' = r ∧ i_Rel (k + 5) u v) v) u := by
  refine zz_el (P := fun u v => wpX_fileSize (fun r => wpY_fileSize (fun r' => r' = r ∧ i_Rel (k + 5) u v) v) u) ?_ I
  intro k l d q fc mk ff ae al fi sr mr bs ab wk wt sv vs wd fo re mX bh ak mY kn ng kd sg sm mc bd cn h
  have h0 := h
  obtain ⟨hT, ⟨k1, k6, l1, l4, d1, d3, q1, qd, fc7⟩, hG, hSl, hN, hRl, hRv, hMk, hAr⟩ := h0
  exact ⟨rfl, zz_in h⟩
theorem i_vc_fileByte {k : Nat} {u : SX} {v : SY} (I : i_Rel k u v) (hk : k + 5 ≤ 2564) (v1 : Int32) : wpX_fileByte (fun r => wpY_fileByte (fun r' => r' = r ∧ i_Rel (k + 5) u v) v v1) u v1 := by
  refine zz_el (P := fun u v => wpX_fileByte (fun r => wpY_fileByte (fun r' => r' = r ∧ i_Rel (k + 5) u v) v v1) u v1) ?_ I
  intro k l d q fc mk ff ae al fi sr mr bs ab wk wt sv vs wd fo re mX bh ak mY kn ng kd sg sm mc bd cn h
  have h0 := h
  obtain ⟨hT, ⟨k1, k6, l1, l4, d1, d3, q1, qd, fc7⟩, hG, hSl, hN, hRl, hRv, hMk, hAr⟩ := h0
  by_cases z : v1 < 0
  · exact br_t z (br_t z ⟨rfl, zz_in h⟩)
  · obtain ⟨p, hp, rfl⟩ := nI_of z
    by_cases y : p < fc
    · exact br_f z (br_t (nI_lt y (by omega)) ⟨pk_in p 72 (by omega), br_f z (br_t (nI_lt y (by omega)) ⟨pk_in p 72 (by omega), rfl, zz_in h⟩)⟩)
    · exact br_f z (br_f (nI_nlt (by omega) hp) (br_f z (br_f (nI_nlt (by omega) hp) ⟨rfl, zz_in h⟩)))
theorem i_vc_packetHead {k : Nat} {u : SX} {v : SY} (I : i_Rel k u v) (hk : k + 5 ≤ 2564) (v1 : Int32) (v2 : Int32) : wpX_packetHead (fun r => wpY_packetHead (fun r' => r' = r ∧ i_Rel (k + 5) u v) v v1 v2) u v1 v2 := by
  refine zz_el (P := fun u v => wpX_packetHead (fun r => wpY_packetHead (fun r' => r' = r ∧ i_Rel (k + 5) u v) v v1 v2) u v1 v2) ?_ I
  intro k l d q fc mk ff ae al fi sr mr bs ab wk wt sv vs wd fo re mX bh ak mY kn ng kd sg sm mc bd cn h
  have h0 := h
  obtain ⟨hT, ⟨k1, k6, l1, l4, d1, d3, q1, qd, fc7⟩, hG, hSl, hN, hRl, hRv, hMk, hAr⟩ := h0
  unfold wpX_packetHead
  rcases pk_ix v1 (n := 8) (by omega) with z | z | ⟨s, hs, rfl⟩
  · exact xq_slot0 (Or.inl z) (br_t rfl (br_t z ⟨rfl, zz_in h⟩))
  · exact xq_slot0 (Or.inr z) (br_t rfl (br_f (ic_n0 (by omega) z) (br_t z ⟨rfl, zz_in h⟩)))
  · refine xq_slot1 hs (br_f (by decide) ?_)
    have hk := (hSl s hs).1
    have y1 : ¬ nI s < 0 := nI_pos (by omega)
    have y2 : ¬ (8 : Int32) ≤ nI s := nI_ge (b := 8) hs (by omega)
    have y3 : vp_in (nI s) 8 := pk_in s 8 hs
    by_cases a : v2 < 0
    · exact br_t a (br_f y1 (br_f y2 (br_t a ⟨rfl, zz_in h⟩)))
    · by_cases b : v2 ≤ 2
      · by_cases c : v2 = 0
        · exact br_f a (br_t b (br_t c ⟨y3, br_f y1 (br_f y2 (br_f a (br_t b (br_t c ⟨y3, rfl, zz_in h⟩))))⟩))
        · refine br_f a (br_t b (br_f c ⟨y3, ?_⟩))
          by_cases e : nA kd (nI s).toNatClampNeg = 0
          · exact br_t e (br_f y1 (br_f y2 (br_f a (br_t b (br_f c ⟨y3, br_t e ⟨rfl, zz_in h⟩⟩)))))
          · by_cases f : v2 = 1
            · exact br_f e (br_t f ⟨y3, br_f y1 (br_f y2 (br_f a (br_t b (br_f c ⟨y3, br_f e (br_t f ⟨y3, rfl, zz_in h⟩)⟩))))⟩)
            · exact br_f e (br_f f ⟨y3, br_f y1 (br_f y2 (br_f a (br_t b (br_f c ⟨y3, br_f e (br_f f ⟨y3, rfl, zz_in h⟩)⟩))))⟩)
      · exact br_f a (br_f b (br_f y1 (br_f y2 (br_f a (br_f b ⟨rfl, zz_in h⟩)))))
theorem i_vc_packetCoefficient {k : Nat} {u : SX} {v : SY} (I : i_Rel k u v) (hk : k + 5 ≤ 2564) (v1 : Int32) (v2 : Int32) : wpX_packetCoefficient (fun r => wpY_packetCoefficient (fun r' => r' = r ∧ i_Rel (k + 5) u v) v v1 v2) u v1 v2 := by
  refine zz_el (P := fun u v => wpX_packetCoefficient (fun r => wpY_packetCoefficient (fun r' => r' = r ∧ i_Rel (k + 5) u v) v v1 v2) u v1 v2) ?_ I
  intro k l d q fc mk ff ae al fi sr mr bs ab wk wt sv vs wd fo re mX bh ak mY kn ng kd sg sm mc bd cn h
  have h0 := h
  obtain ⟨hT, ⟨k1, k6, l1, l4, d1, d3, q1, qd, fc7⟩, hG, hSl, hN, hRl, hRv, hMk, hAr⟩ := h0
  unfold wpX_packetCoefficient
  rcases pk_ix v1 (n := 8) (by omega) with z | z | ⟨s, hs, rfl⟩
  · exact xq_slot0 (Or.inl z) (br_t rfl (br_t z ⟨rfl, zz_in h⟩))
  · exact xq_slot0 (Or.inr z) (br_t rfl (br_f (ic_n0 (by omega) z) (br_t z ⟨rfl, zz_in h⟩)))
  · refine xq_slot1 hs (br_f (by decide) ?_)
    obtain ⟨hk, _, hd1, _⟩ := hSl s hs
    have y1 : ¬ nI s < 0 := nI_pos (by omega)
    have y2 : ¬ (8 : Int32) ≤ nI s := nI_ge (b := 8) hs (by omega)
    have y3 : vp_in (nI s) 8 := pk_in s 8 hs
    by_cases a : v2 < 0
    · exact br_t a (br_f y1 (br_f y2 (br_t a ⟨rfl, zz_in h⟩)))
    · obtain ⟨i, hi, rfl⟩ := nI_of a
      by_cases b : i < k
      · refine br_f a (br_t (nI_lt b (by omega)) ?_)
        unfold wpX_packetColumn
        refine ⟨y3, ?_⟩
        by_cases e : nA kd (nI s).toNatClampNeg = 0
        · exact br_t e (br_f y1 (br_f y2 (br_f a (br_t (nI_lt b (by omega)) ⟨y3, br_t e ⟨rfl, zz_in h⟩⟩))))
        · refine br_f e ⟨y3, ?_⟩
          by_cases f : nA kd (nI s).toNatClampNeg = 2
          · exact br_t f (br_f y1 (br_f y2 (br_f a (br_t (nI_lt b (by omega)) ⟨y3, br_f e ⟨y3, br_t f ⟨rfl, zz_in h⟩⟩⟩))))
          · have e1 : nI s * 10 + nI i = nI (s * 10 + i) := by rw [show nI s * 10 = nI (s * 10) from pk_mul s 10, nI_add]
            refine br_f f ⟨pk_in (s * 10 + i) 80 (by omega) e1, br_f y1 (br_f y2 (br_f a (br_t (nI_lt b (by omega)) ⟨y3, br_f e ⟨y3, br_f f ⟨pk_in (s * 6 + i) 48 (by omega) ix_6, ?_, zz_in h⟩⟩⟩)))⟩
            rw [nI_clamp (by omega : s < 2 ^ 31)] at e f
            have hk1 : kd s = 1 := by
              rcases (show kd s = 0 ∨ kd s = 1 ∨ kd s = 2 by omega) with g | g | g
              · exact absurd (show nI (kd s) = 0 by rw [g]; rfl) e
              · exact g
              · exact absurd (show nI (kd s) = 2 by rw [g]; rfl) f
            rw [e1, ix_6, nI_clamp (by omega : s * 10 + i < 2 ^ 31), nI_clamp (by omega : s * 6 + i < 2 ^ 31)]
            show gf_I (sv _) = gf_I (sr _)
            rw [(hd1 hk1).1 i (by omega)]
      · exact br_f a (br_f (nI_nlt (by omega) hi) (br_f y1 (br_f y2 (br_f a (br_f (nI_nlt (by omega) hi) ⟨rfl, zz_in h⟩)))))
theorem i_vc_held {k : Nat} {u : SX} {v : SY} (I : i_Rel k u v) (hk : k + 5 ≤ 2564) (v1 : Int32) : wpX_held (fun r => wpY_held (fun r' => r' = r ∧ i_Rel (k + 5) u v) v v1) u v1 := by
  refine zz_el (P := fun u v => wpX_held (fun r => wpY_held (fun r' => r' = r ∧ i_Rel (k + 5) u v) v v1) u v1) ?_ I
  intro k l d q fc mk ff ae al fi sr mr bs ab wk wt sv vs wd fo re mX bh ak mY kn ng kd sg sm mc bd cn h
  have h0 := h
  obtain ⟨hT, ⟨k1, k6, l1, l4, d1, d3, q1, qd, fc7⟩, hG, hSl, hN, hRl, hRv, hMk, hAr⟩ := h0
  unfold wpX_held
  rcases ic_rel v1 with ⟨a, b⟩ | ⟨r, hr, rfl⟩
  · exact xq_rel0 a b (br_t rfl (br_f a (br_f b ⟨rfl, zz_in h⟩)))
  · have e := (hRl r hr).1
    refine xq_rel1 hr (br_f (by decide) ?_)
    rw [nI_pred, nI_clamp (by omega : r < 2 ^ 31)]
    refine ⟨pk_in r 2 hr, ?_⟩
    have hy : ∀ kk, vp_in (nI (r + 1)) 6 ∧ nA cn (nI (r + 1)).toNatClampNeg = nA mc r ∧ i_Rel kk (nI k, nI l, nI d, nI q, 10, 5, nI fc, nI mk, ae, al, tI fi, bA mX, nA ng, nA kd, nA sg, nA sm, tI sr, tI mr, nA mc, tI bs, bA bh, nA bd, tI ab, bA ak, tI wk, tI wt) (nI k, nI l, nI q, nI (2 + d), nI fc, nI ff, tI fi, nA kd, nA sg, nA sm, tI sv, nA ng, nA cn, tI vs, bA mY, bA kn, tI wd, tI fo, tI re) := by
      intro kk
      rw [nI_clamp (by omega : r + 1 < 2 ^ 31)]
      exact ⟨pk_in (r + 1) 6 (by omega), by show nI (cn (r + 1)) = nI (mc r); rw [e], zz_in h⟩
    by_cases a : nI (r + 1) = 1
    · exact br_t a (hy _)
    · by_cases b : nI (r + 1) = 2
      · exact br_f a (br_t b (hy _))
      · rcases (show r = 0 ∨ r = 1 by omega) with e | e
        · exact absurd (by rw [e]; rfl) a
        · exact absurd (by rw [e]; rfl) b
theorem i_vc_archive {k : Nat} {u : SX} {v : SY} (I : i_Rel k u v) (hk : k + 5 ≤ 2564) (v1 : Int32) (v2 : Int32) : wpX_archive (fun r => wpY_archive (fun r' => r' = r ∧ i_Rel (k + 5) u v) v v1 v2) u v1 v2 := by
  refine zz_el (P := fun u v => wpX_archive (fun r => wpY_archive (fun r' => r' = r ∧ i_Rel (k + 5) u v) v v1 v2) u v1 v2) ?_ I
  intro k l d q fc mk ff ae al fi sr mr bs ab wk wt sv vs wd fo re mX bh ak mY kn ng kd sg sm mc bd cn h
  have h0 := h
  obtain ⟨hT, ⟨k1, k6, l1, l4, d1, d3, q1, qd, fc7⟩, hG, hSl, hN, hRl, hRv, hMk, hAr⟩ := h0
  unfold wpX_archive
  rcases ic_r v1 3 (2 + d) (by omega) (by omega) with z | ⟨z, y⟩ | ⟨n, h3, hn, rfl⟩
  · exact xq_recv0 (Or.inl z) (br_t rfl (br_t z ⟨rfl, zz_in h⟩))
  · exact xq_recv0 (Or.inr ⟨z, y⟩) (br_t rfl (br_f z (br_t y ⟨rfl, zz_in h⟩)))
  · refine xq_recv1 d3 h3 hn (br_f (by decide) ?_)
    obtain ⟨v, rfl⟩ : ∃ v, n = v + 3 := ⟨n - 3, by omega⟩
    have y1 : ¬ nI (v + 3) < 3 := nI_nlt (b := 3) h3 (by omega)
    have y2 : ¬ nI (2 + d) < nI (v + 3) := nI_nlt hn (by omega)
    by_cases a : v2 < 0
    · exact br_t a (br_f y1 (br_f y2 (br_t a ⟨rfl, zz_in h⟩)))
    · obtain ⟨p, hp, rfl⟩ := nI_of a
      by_cases b : p < 72
      · have hb : nI p < 72 := nI_lt (b := 72) b (by omega)
        refine br_f a (br_t hb (nm_r (e' := nI (v * 72 + p)) ?_ ?_))
        · rw [show nI (v + 3) - 3 = nI v from pk_sub (b := 3) (by omega), show nI v * 72 = nI (v * 72) from pk_mul v 72, nI_add]
        · have e2 : nI (v + 3) * 72 + nI p = nI ((v + 3) * 72 + p) := by rw [show nI (v + 3) * 72 = nI ((v + 3) * 72) from pk_mul (v + 3) 72, nI_add]
          have hkn := hAr.2 v (by omega) p b
          rw [nI_clamp (by omega : v * 72 + p < 2 ^ 31)]
          refine ⟨pk_in (v * 72 + p) 216 (by omega), ?_⟩
          cases hq : ak (v * 72 + p)
          · refine br_t (by show bI (ak (v * 72 + p)) = 0; rw [hq]; rfl) (br_f y1 (br_f y2 (br_f a (br_t hb ?_))))
            rw [e2, nI_clamp (by omega : (v + 3) * 72 + p < 2 ^ 31)]
            exact ⟨pk_in ((v + 3) * 72 + p) 432 (by omega), br_t (by show bI (kn ((v + 3) * 72 + p)) = 0; rw [← hkn, hq]; rfl) ⟨rfl, zz_in h⟩⟩
          · refine br_f (by show ¬ bI (ak (v * 72 + p)) = 0; rw [hq]; decide) ⟨pk_in (v * 72 + p) 216 (by omega), br_f y1 (br_f y2 (br_f a (br_t hb ?_)))⟩
            rw [e2, nI_clamp (by omega : (v + 3) * 72 + p < 2 ^ 31), nI_clamp (by omega : p < 2 ^ 31)]
            refine ⟨pk_in ((v + 3) * 72 + p) 432 (by omega), br_f (by show ¬ bI (kn ((v + 3) * 72 + p)) = 0; rw [← hkn, hq]; decide) ⟨pk_in p 72 b, ?_, zz_in h⟩⟩
            show gf_I (fi p) = gf_I (ab (v * 72 + p))
            rw [(hAr.1 v (by omega) p b hq).1]
      · have hb : ¬ nI p < 72 := nI_nlt (b := 72) (by omega) hp
        exact br_f a (br_f hb (br_f y1 (br_f y2 (br_f a (br_f hb ⟨rfl, zz_in h⟩)))))
theorem i_vc_counted {k : Nat} {u : SX} {v : SY} (I : i_Rel k u v) (hk : k + 5 ≤ 2564) (v1 : Int32) : wpX_counted (fun r => wpY_counted (fun r' => r' = r ∧ i_Rel (k + 5) u v) v v1) u v1 := by
  refine zz_el (P := fun u v => wpX_counted (fun r => wpY_counted (fun r' => r' = r ∧ i_Rel (k + 5) u v) v v1) u v1) ?_ I
  intro k l d q fc mk ff ae al fi sr mr bs ab wk wt sv vs wd fo re mX bh ak mY kn ng kd sg sm mc bd cn h
  have h0 := h
  obtain ⟨hT, ⟨k1, k6, l1, l4, d1, d3, q1, qd, fc7⟩, hG, hSl, hN, hRl, hRv, hMk, hAr⟩ := h0
  unfold wpX_counted
  rcases ic_r v1 3 (2 + d) (by omega) (by omega) with z | ⟨z, y⟩ | ⟨n, h3, hn, rfl⟩
  · exact xq_recv0 (Or.inl z) (br_t rfl (br_t z ⟨rfl, zz_in h⟩))
  · exact xq_recv0 (Or.inr ⟨z, y⟩) (br_t rfl (br_f z (br_f (ic_nle y) ⟨rfl, zz_in h⟩)))
  · refine xq_recv1 d3 h3 hn (br_f (by decide) ?_)
    obtain ⟨v, rfl⟩ : ∃ v, n = v + 3 := ⟨n - 3, by omega⟩
    have y1 : ¬ nI (v + 3) < 3 := nI_nlt (b := 3) h3 (by omega)
    have y2 : nI (v + 3) ≤ nI (2 + d) := nI_le hn (by omega)
    have hm := hMk.1 v (by omega)
    rw [show nI (v + 3) - 3 = nI v from pk_sub (b := 3) (by omega), nI_clamp (by omega : v < 2 ^ 31)]
    refine ⟨pk_in v 3 (by omega), ?_⟩
    cases hq : mX v
    · refine br_t (by show bI (mX v) = 0; rw [hq]; rfl) (br_f y1 (br_t y2 ?_))
      rw [nI_clamp (by omega : v + 3 < 2 ^ 31)]
      exact ⟨pk_in (v + 3) 6 (by omega), br_t (by show bI (mY (v + 3)) = 0; rw [← hm, hq]; rfl) ⟨rfl, zz_in h⟩⟩
    · refine br_f (by show ¬ bI (mX v) = 0; rw [hq]; decide) (br_f y1 (br_t y2 ?_))
      rw [nI_clamp (by omega : v + 3 < 2 ^ 31)]
      exact ⟨pk_in (v + 3) 6 (by omega), br_f (by show ¬ bI (mY (v + 3)) = 0; rw [← hm, hq]; decide) ⟨rfl, zz_in h⟩⟩
end
section
/-! ===== the invariant under launches, spans ===== -/
def fst0 (kd : Nat → Nat) (s : Nat) : Prop := s < 8 ∧ kd s = 0 ∧ ∀ j, j < s → kd j ≠ 0
theorem fst0_or (kd : Nat → Nat) : (∀ j, j < 8 → kd j ≠ 0) ∨ ∃ s, fst0 kd s := by
  by_cases h : ∃ s, s < 8 ∧ kd s = 0
  · obtain ⟨s, ⟨h1, h2⟩, h3⟩ := pk_least (fun s => s < 8 ∧ kd s = 0) h
    exact Or.inr ⟨s, h1, h2, fun j hj z => h3 j hj ⟨by omega, z⟩⟩
  · exact Or.inl (fun j hj z => h ⟨j, hj, z⟩)
theorem fst0_u {kd : Nat → Nat} {s t : Nat} (h : fst0 kd s) (g : fst0 kd t) : s = t := by
  rcases Nat.lt_trichotomy s t with z | z | z
  · exact absurd h.2.1 (g.2.2 s z)
  · exact z
  · exact absurd g.2.1 (h.2.2 t z)
section
variable {k l d q fc mk : Nat} {ae al : Nat → Int32} {fi sr mr bs ab wk wt : Nat → gf_K} {mX bh ak : Nat → Bool} {ng kd sg sm mc bd : Nat → Nat}
theorem xl_some {post : Int32 → SX → Prop} {kk gg mm s : Nat} (hkd : ∀ s, s < 8 → kd s ≤ 2) (hs : fst0 kd s)
    (H : ∀ r, (∀ t, t < 10 → r (s * 10 + t) = wt t) → (∀ j, j < s * 10 ∨ s * 10 + 10 ≤ j → r j = sr j) → post (nI s) (nI k, nI l, nI d, nI q, 10, 5, nI fc, nI mk, ae, al, tI fi, bA mX, nA ng, nA (fu kd s kk), nA (fu sg s gg), nA (fu sm s mm), tI r, tI mr, nA mc, tI bs, bA bh, nA bd, tI ab, bA ak, tI wk, tI wt)) : wpX_launch post (nI k, nI l, nI d, nI q, 10, 5, nI fc, nI mk, ae, al, tI fi, bA mX, nA ng, nA kd, nA sg, nA sm, tI sr, tI mr, nA mc, tI bs, bA bh, nA bd, tI ab, bA ak, tI wk, tI wt) (nI kk) (nI gg) (nI mm) := by
  refine xw_launch hkd (fun t h1 h2 h3 r h4 h5 => ?_) (fun z => absurd hs.2.1 (z s hs.1))
  obtain rfl := fst0_u hs ⟨h1, h2, h3⟩
  exact H r h4 h5
theorem xl_none {post : Int32 → SX → Prop} {kk gg mm : Nat} (hkd : ∀ s, s < 8 → kd s ≤ 2) (hs : ∀ j, j < 8 → kd j ≠ 0) (H : post (-3) (nI k, nI l, nI d, nI q, 10, 5, nI fc, nI mk, ae, al, tI fi, bA mX, nA ng, nA kd, nA sg, nA sm, tI sr, tI mr, nA mc, tI bs, bA bh, nA bd, tI ab, bA ak, tI wk, tI wt)) : wpX_launch post (nI k, nI l, nI d, nI q, 10, 5, nI fc, nI mk, ae, al, tI fi, bA mX, nA ng, nA kd, nA sg, nA sm, tI sr, tI mr, nA mc, tI bs, bA bh, nA bd, tI ab, bA ak, tI wk, tI wt) (nI kk) (nI gg) (nI mm) :=
  xw_launch hkd (fun t h1 h2 _ _ _ _ => absurd h2 (hs t h1)) (fun _ => H)
end
section
variable {k l d q fc ff : Nat} {fi sv vs wd fo re : Nat → gf_K} {mY kn : Nat → Bool} {ng kd sg sm cn : Nat → Nat}
theorem yl_some {post : Int32 → SY → Prop} {kk nd s : Nat} (hnd : nd < 6) (hkd : ∀ s, s < 8 → kd s ≤ 2) (hs : fst0 kd s)
    (H : ∀ r, (∀ t, t < 6 → r (s * 6 + t) = wd t) → (∀ j, j < s * 6 ∨ s * 6 + 6 ≤ j → r j = sv j) → post (nI s) (nI k, nI l, nI q, nI (2 + d), nI fc, nI ff, tI fi, nA (fu kd s kk), nA (fu sg s (ng nd)), nA (fu sm s nd), tI r, nA ng, nA cn, tI vs, bA mY, bA kn, tI wd, tI fo, tI re)) : wpY_launch post (nI k, nI l, nI q, nI (2 + d), nI fc, nI ff, tI fi, nA kd, nA sg, nA sm, tI sv, nA ng, nA cn, tI vs, bA mY, bA kn, tI wd, tI fo, tI re) (nI kk) (nI nd) := by
  refine yw_launch hnd hkd (fun t h1 h2 h3 r h4 h5 => ?_) (fun z => absurd hs.2.1 (z s hs.1))
  obtain rfl := fst0_u hs ⟨h1, h2, h3⟩
  exact H r h4 h5
theorem yl_none {post : Int32 → SY → Prop} {kk nd : Nat} (hnd : nd < 6) (hkd : ∀ s, s < 8 → kd s ≤ 2) (hs : ∀ j, j < 8 → kd j ≠ 0) (H : post (-3) (nI k, nI l, nI q, nI (2 + d), nI fc, nI ff, tI fi, nA kd, nA sg, nA sm, tI sv, nA ng, nA cn, tI vs, bA mY, bA kn, tI wd, tI fo, tI re)) : wpY_launch post (nI k, nI l, nI q, nI (2 + d), nI fc, nI ff, tI fi, nA kd, nA sg, nA sm, tI sv, nA ng, nA cn, tI vs, bA mY, bA kn, tI wd, tI fo, tI re) (nI kk) (nI nd) :=
  yw_launch hnd hkd (fun t h1 h2 _ _ _ _ => absurd h2 (hs t h1)) (fun _ => H)
end
section
variable {k l d q fc mk ff : Nat} {ae al : Nat → Int32} {fi sr mr bs ab wk wt sv vs wd fo re : Nat → gf_K} {mX bh ak mY kn : Nat → Bool} {ng kd sg sm mc bd cn : Nat → Nat}
theorem inv_kd (h : nInv k l d q fc mk ae al fi mX ng kd sg sm sr mr mc bs bh bd ab ak sv cn vs mY kn) : ∀ s, s < 8 → kd s ≤ 2 := fun s hs => (h.2.2.2.1 s hs).1
theorem inv_sl (h : nInv k l d q fc mk ae al fi mX ng kd sg sm sr mr mc bs bh bd ab ak sv cn vs mY kn) {s kk nd g : Nat} {r r' : Nat → gf_K} (hs : s < 8) (h2 : ∀ j, j < s * 10 ∨ s * 10 + 10 ≤ j → r j = sr j) (h4 : ∀ j, j < s * 6 ∨ s * 6 + 6 ≤ j → r' j = sv j)
    (hk : kk ≤ 2) (hb : g * k * l + k * l ≤ fc) (hd : kk = 1 → (∀ i, i < 6 → r (s * 10 + i) = r' (s * 6 + i)) ∧ rwT k l fi g (fun t => r (s * 10 + t))) (ha : kk = 2 → ∃ v, v < 3 ∧ nd = v + 3) :
    nInv k l d q fc mk ae al fi mX ng (fu kd s kk) (fu sg s g) (fu sm s nd) r mr mc bs bh bd ab ak r' cn vs mY kn := by
  obtain ⟨hT, hS, hG, hSl, hN, hRl, hRv, hMk, hAr⟩ := h
  refine ⟨hT, hS, hG, fun t ht => ?_, hN, hRl, hRv, hMk, hAr⟩
  by_cases e : t = s
  · rw [e, fu_s, fu_s, fu_s]
    exact ⟨hk, fun _ => hb, hd, ha⟩
  · rw [fu_n e, fu_n e, fu_n e]
    obtain ⟨a1, a2, a3, a4⟩ := hSl t ht
    refine ⟨a1, a2, fun z => ⟨fun i hi => ?_, ?_⟩, a4⟩
    · rw [h2 _ (by omega), h4 _ (by omega)]; exact (a3 z).1 i hi
    · exact (rw_LT hS.2.1 hS.2.2.2.1).1 _ _ (fun t' ht' => (h2 _ (by omega)).symm) (a3 z).2
theorem inv_fr5 (h : nInv k l d q fc mk ae al fi mX ng kd sg sm sr mr mc bs bh bd ab ak sv cn vs mY kn) {s : Nat → gf_K} {h' : Nat → Bool} {d' : Nat → Nat} (hF : xFr 5 bs bh bd s h' d') : nInv k l d q fc mk ae al fi mX ng kd sg sm sr mr mc s h' d' ab ak sv cn vs mY kn := by
  obtain ⟨hT, hS, hG, hSl, hN, hRl, hRv, hMk, hAr⟩ := h
  refine ⟨hT, hS, hG, hSl, fun m hm => ?_, hRl, fun v hv => ?_, hMk, hAr⟩
  · obtain ⟨a1, a2, a3, a4⟩ := hN m hm
    exact ⟨xFr_B hS.2.1 (rw_LT hS.2.1 hS.2.2.2.1) hF (by omega) (by omega) a1, a2, a3, a4⟩
  · rw [hRv v hv, (hF (v + 2) (by omega) (by omega)).1]
end
/-! spans -/
section
variable {k l m g : Nat} {fi bs : Nat → gf_K} {bh : Nat → Bool} {bd : Nat → Nat} {A T : (Nat → gf_K) → Prop} {w : Nat → gf_K}
theorem n_span (hk : k ≤ 6) (hTs : ∀ v, T v → la_su k v) (hB : xB k bs bh bd m A T) (hw : la_su k w) : (∀ φ, A φ → la_dot φ w = 0#8) ↔ ∀ i, i < k → la_rd k (bP bh m) (bR bs m) w i = 0#8 := by
  rw [← la_crit hB.2.1 hk (fun c hc hp => hTs _ (hB.2.2.2.2 c hc hp)) hw]
  exact ⟨fun h φ hφ => h φ ((hB.2.2.2.1 φ).mpr hφ), fun h φ hφ => h φ ((hB.2.2.2.1 φ).mp hφ)⟩
theorem n_solve (hk : k ≤ 6) (hl : l ≤ 4) (hB : xB k bs bh bd m A (rwT k l fi g)) (hw : la_su k w) (hw6 : ∀ t, 6 ≤ t → t < 10 → w t = 0#8) (hz : ∀ i, i < k → la_rd k (bP bh m) (bR bs m) w i = 0#8) {v : Nat → gf_K} (h1 : ∀ t, t < 6 → v t = w t) (h2 : ∀ t, 6 ≤ t → t < 10 → v t = la_rd k (bP bh m) (bR bs m) w t) : rwT k l fi g v := by
  have hLT : la_LT (rwT k l fi g) := rw_LT hk hl
  have hu := la_LTsum hLT (x := w) (w := fun _ => 0#8) k hB.2.2.2.2 hLT.2.1
  have hrd : ∀ t, la_rd k (bP bh m) (bR bs m) w t = w t ^^^ la_sm k (fun c => gf_sel (bP bh m c) (gf_mu (w c) (bR bs m c t))) := fun t => rfl
  refine hLT.1 _ _ (fun t ht => ?_) hu
  show 0#8 ^^^ la_sm k (fun c => gf_sel (bP bh m c) (gf_mu (w c) (bR bs m c t))) = v t
  by_cases e : t < 6
  · rw [h1 t e]
    by_cases e2 : t < k
    · have := hz t e2
      rw [hrd] at this
      rw [gf_0x, gf_eq0 this]
    · have := hu.1 t (by omega) e
      exact this.trans (hw t (by omega) e).symm
  · rw [h2 t (by omega) ht, hrd, hw6 t (by omega) ht]
theorem n_row (hk : k ≤ 6) (hB : xB k bs bh bd m A T) (hz : ∀ i, i < k → la_rd k (bP bh m) (bR bs m) w i = 0#8) (hn : ∃ i, i < k ∧ w i ≠ 0#8) : ¬ ∀ φ, A φ := by
  intro hA
  have hf := xB_none hk hB hA
  obtain ⟨i, hi, hne⟩ := hn
  have := hz i hi
  unfold la_rd at this
  rw [la_zero (fun c hc => la_sel_f (show bP bh m c = false from hf c (by omega)) _), gf_x0] at this
  exact hne this
theorem n_dec (hk : k ≤ 6) (hTs : ∀ v, T v → la_su k v) (hB : xB k bs bh bd m A T) {i : Nat} (hi : i < k) : xDec k bs bh m i ↔ ∀ φ, A φ → la_dot φ (yE i) = 0#8 := by
  have hsu : la_su k (yE i) := fun t h1 _ => if_neg (by omega)
  rw [n_span hk hTs hB hsu]
  have hrd : ∀ c, la_rd k (bP bh m) (bR bs m) (yE i) c = yE i c ^^^ gf_sel (bh (m * 6 + i)) (bs ((m * 6 + i) * 10 + c)) := by
    intro c
    unfold la_rd
    rw [la_one (j := i) hi (fun e _ ne => by rw [show yE i e = 0#8 from if_neg ne, gf_0m, gf_sel0]), show yE i i = 1#8 from if_pos rfl, gf_1m]
    rfl
  constructor
  · intro ⟨h1, h2⟩ c hc
    rw [hrd, h1]
    show yE i c ^^^ bs ((m * 6 + i) * 10 + c) = 0#8
    by_cases e : c = i
    · subst e
      have : bs ((m * 6 + c) * 10 + c) = 1#8 := by
        have := hB.2.1 c hi h1 c hi h1
        rw [if_pos rfl] at this
        exact this
      rw [this, show yE c c = 1#8 from if_pos rfl, gf_xx]
    · rw [h2 c hc e, show yE i c = 0#8 from if_neg e, gf_x0]
  · intro h
    have h1 : bh (m * 6 + i) = true := by
      cases hq : bh (m * 6 + i)
      · have := h i hi
        rw [hrd, hq, show yE i i = 1#8 from if_pos rfl, la_sel_f rfl, gf_x0] at this
        exact absurd this (by decide)
      · rfl
    refine ⟨h1, fun c hc ne => ?_⟩
    have := h c hc
    rw [hrd, h1, show yE i c = 0#8 from if_neg ne, gf_0x] at this
    exact this
end
def lvW (k : Nat) (lo hi : Int32) : Nat → gf_K := fun t => if t < k then lv lo hi t else 0#8
theorem lvW_su {k : Nat} {lo hi : Int32} : la_su k (lvW k lo hi) := fun t h _ => if_neg (by omega)
theorem lvW_6 {k : Nat} {lo hi : Int32} (hk : k ≤ 6) : ∀ t, 6 ≤ t → t < 10 → lvW k lo hi t = 0#8 := fun t h _ => if_neg (by omega)
theorem lvW_x {k : Nat} {lo hi : Int32} {w : Nat → gf_K} (h1 : ∀ t, t < k → w t = lv lo hi t) (h2 : ∀ t, k ≤ t → t < 10 → w t = 0#8) : ∀ t, t < 10 → w t = lvW k lo hi t := by
  intro t ht
  unfold lvW
  by_cases e : t < k
  · rw [if_pos e]; exact h1 t e
  · rw [if_neg e]; exact h2 t (by omega) ht
theorem lvW_s {k : Nat} {lo hi : Int32} (hk : k ≤ 6) {w : Nat → gf_K} (h1 : ∀ t, t < k → w t = lv lo hi t) (h2 : ∀ t, k ≤ t → t < 10 → w t = 0#8) : ∀ t, t < 10 → sv_w w t = lvW k lo hi t := by
  intro t ht
  unfold sv_w
  by_cases e : t < 6
  · rw [if_pos e]; exact lvW_x h1 h2 t ht
  · rw [if_neg e, lvW_6 hk t (by omega) ht]
end
section
/-! ===== emit, recode, aim, acknowledge, packetByte, heldCoefficient, rank, value, decodedBlocks ===== -/
theorem en_T {k l g : Nat} {fi w0 w : Nat → gf_K} (hk : k ≤ 6) (hsu : la_su k w0) (h6 : ∀ t, 6 ≤ t → t < 10 → w0 t = 0#8) (hl : l ≤ 4) (h : en_I l (g * k * l) fi w0 k 0 w) : rwT k l fi g w := by
  refine ⟨fun i h1 h2 => by rw [h.1 i h2]; exact hsu i h1 h2, fun j hj => ?_⟩
  rw [h.2 j hj, if_neg (by omega), h6 (6 + j) (by omega) (by omega), gf_0x]
  exact la_congr (fun i hi => by rw [h.1 i (by omega)])
theorem mul_kl {k l : Nat} (hk : k ≤ 6) (hl : l ≤ 4) : k * l ≤ 24 := Nat.mul_le_mul hk hl
theorem succ_kl (g k l : Nat) : (g + 1) * k * l = g * k * l + k * l := by rw [Nat.add_mul, Nat.add_mul, Nat.one_mul]
theorem i_vc_emit {k : Nat} {u : SX} {v : SY} (I : i_Rel k u v) (hk : k + 5 ≤ 2564) (v1 : Int32) (v2 : Int32) : wpX_emit (fun r u' => wpY_emit (fun r' v' => r' = r ∧ i_Rel (k + 5) u' v') v v1 v2) u v1 v2 := by
  refine zz_el (P := fun u v => wpX_emit (fun r u' => wpY_emit (fun r' v' => r' = r ∧ i_Rel (k + 5) u' v') v v1 v2) u v1 v2) ?_ I
  intro k l d q fc mk ff ae al fi sr mr bs ab wk wt sv vs wd fo re mX bh ak mY kn ng kd sg sm mc bd cn h
  have h0 := h
  obtain ⟨hT, ⟨k1, k6, l1, l4, d1, d3, q1, qd, fc7⟩, hG, hSl, hN, hRl, hRv, hMk, hAr⟩ := h0
  have hkl := mul_kl k6 l4
  have hg0 := hG 0 (by omega)
  have eg : ((nI (ng 0) + 1) * nI k) * nI l = nI (ng 0 * k * l + k * l) := by rw [nI_1, pk_mul, pk_mul, succ_kl]
  have hkd := inv_kd h
  refine nm_e ?_
  by_cases hb : ng 0 * k * l + k * l ≤ fc
  · have hc : ((nI (ng 0) + 1) * nI k) * nI l ≤ nI fc := by rw [eg]; exact nI_le hb (by omega)
    refine br_t hc ?_
    refine xw_load k6 (fun w h1 h2 hne => br_f (by decide) (xw_enc hT k6 l4 fc7 hb (fun w' hw' => ?_))) (fun w h1 h2 hz => br_t rfl ?_)
    · have hW := lvW_x h1 h2
      have hTw : rwT k l fi (ng 0) w' := en_T k6 (fun i a b => h2 i a (by omega)) (fun t a b => h2 t (by omega) b) l4 hw'
      rcases fst0_or kd with hf | ⟨s, hs⟩
      · refine xl_none (kk := 1) (gg := ng 0) (mm := 0) hkd hf (br_t hc (yw_read k6 (fun w2 h3 => yw_isz (fun hz => ?_) (fun i hi hn => br_t rfl (yl_none (kk := 1) (nd := 0) (by omega) hkd hf ⟨rfl, zz_in h⟩)))))
        obtain ⟨i, hi, hn⟩ := hne
        have := hz i (by omega)
        rw [h3 i (by omega), if_pos hi] at this
        exact absurd this hn
      · refine xl_some (kk := 1) (gg := ng 0) (mm := 0) hkd hs (fun r hr1 hr2 => br_t hc (yw_read k6 (fun w2 h3 => yw_isz (fun hz => ?_) (fun i hi hn => br_t rfl (yl_some (kk := 1) (nd := 0) (by omega) hkd hs (fun r' hr3 hr4 => ⟨rfl, zz_in (inv_sl h hs.1 hr2 hr4 (by omega) hb (fun _ => ⟨fun i hi => ?_, ?_⟩) (fun z => by omega))⟩))))))
        · obtain ⟨i, hi, hn⟩ := hne
          have := hz i (by omega)
          rw [h3 i (by omega), if_pos hi] at this
          exact absurd this hn
        · rw [hr1 i (by omega), hr3 i hi, hw'.1 i hi, hW i (by omega), h3 i hi]
          rfl
        · exact (rw_LT k6 l4).1 _ _ (fun t ht => (hr1 t ht).symm) hTw
    · refine br_t hc (yw_read k6 (fun w2 h3 => yw_isz (fun _ => br_f (by decide) ⟨rfl, zz_in h⟩) (fun i hi hn => ?_)))
      rw [h3 i hi] at hn
      by_cases e : i < k
      · rw [if_pos e, hz i e] at hn; exact absurd rfl hn
      · rw [if_neg e] at hn; exact absurd rfl hn
  · have hc : ¬ ((nI (ng 0) + 1) * nI k) * nI l ≤ nI fc := by rw [eg]; exact nI_ge (by omega) (by omega)
    exact br_f hc (br_f hc ⟨rfl, zz_in h⟩)
theorem rec_T {k l g n : Nat} {fi : Nat → gf_K} {x w : Nat → gf_K} {R : Nat → Nat → gf_K} (hk : k ≤ 6) (hl : l ≤ 4) (hR : ∀ p, p < n → rwT k l fi g (R p)) (hw : ∀ t, t < 10 → w t = la_sm n (fun c => gf_mu (x c) (R c t))) : rwT k l fi g w := by
  have hLT : la_LT (rwT k l fi g) := rw_LT hk hl
  refine hLT.1 _ _ (fun t ht => ?_) (la_LTsum hLT (P := fun _ => true) (R := R) (x := x) (w := fun _ => 0#8) n (fun c hc _ => hR c hc) hLT.2.1)
  rw [hw t ht]
  exact gf_0x _
theorem i_vc_recode {k : Nat} {u : SX} {v : SY} (I : i_Rel k u v) (hk : k + 5 ≤ 2564) (v1 : Int32) (v2 : Int32) : wpX_recode (fun r u' => wpY_recode (fun r' v' => r' = r ∧ i_Rel (k + 5) u' v') v v1 v2) u v1 v2 := by
  refine zz_el (P := fun u v => wpX_recode (fun r u' => wpY_recode (fun r' v' => r' = r ∧ i_Rel (k + 5) u' v') v v1 v2) u v1 v2) ?_ I
  intro k l d q fc mk ff ae al fi sr mr bs ab wk wt sv vs wd fo re mX bh ak mY kn ng kd sg sm mc bd cn h
  have h0 := h
  obtain ⟨hT, ⟨k1, k6, l1, l4, d1, d3, q1, qd, fc7⟩, hG, hSl, hN, hRl, hRv, hMk, hAr⟩ := h0
  unfold wpX_recode
  rcases ic_rel v1 with ⟨a, b⟩ | ⟨r, hr, rfl⟩
  · exact xq_rel0 a b (br_t rfl (br_f a (br_f b ⟨rfl, zz_in h⟩)))
  · obtain ⟨e, hc4, hrow⟩ := hRl r hr
    obtain ⟨hB, hsu, _, hbd⟩ := hN r (by omega)
    have hkd := inv_kd h
    refine xq_rel1 hr (br_f (by decide) ?_)
    rw [nI_pred, nI_clamp (by omega : r < 2 ^ 31), nI_clamp (by omega : r + 1 < 2 ^ 31)]
    refine ⟨pk_in r 2 hr, ?_⟩
    have hY : ∀ (post : Int32 → SY → Prop), wY_recode_12 post (nI (r + 1)) v2 (nI k) (nI l) (nI q) (nI (2 + d)) (nI fc) (nI ff) (tI fi) (nA kd) (nA sg) (nA sm) (tI sv) (nA ng) (nA cn) (tI vs) (bA mY) (bA kn) (tI wd) (tI fo) (tI re) → wpY_recode post (nI k, nI l, nI q, nI (2 + d), nI fc, nI ff, tI fi, nA kd, nA sg, nA sm, tI sv, nA ng, nA cn, tI vs, bA mY, bA kn, tI wd, tI fo, tI re) (nI (r + 1)) v2 := by
      intro post hp
      rcases (show r = 0 ∨ r = 1 by omega) with z | z
      · subst z; exact br_t rfl hp
      · subst z; exact br_f (by decide) (br_t rfl hp)
    refine pk_eq (mc r) 0 (fun z => hY _ ?_) (fun z => ?_)
    · unfold wY_recode_12
      rw [nI_clamp (by omega : r + 1 < 2 ^ 31)]
      exact ⟨pk_in (r + 1) 6 (by omega), br_t (by show nI (cn (r + 1)) = 0; rw [← e, z]; rfl) ⟨rfl, zz_in h⟩⟩
    · have hb : ng (r + 1) * k * l + k * l ≤ fc := hbd (by omega)
      have hcne : ¬ nI (cn (r + 1)) = 0 := nI_ne0 (by omega) (by omega)
      refine xw_cm hT hr (by omega) (fun w hw => ?_)
      have hw6 : ∀ i, i < 6 → w i = la_sm (cn (r + 1)) (fun p => gf_mu (wgt v2 p) (vR vs (r + 1) p i)) := by
        intro i hi
        rw [hw i (by omega), e]
        exact la_congr (fun p hp => by rw [(hrow p hp).1 i hi])
      have hTw : rwT k l fi (ng (r + 1)) w := rec_T k6 l4 (fun p hp => (hrow p (by omega)).2) hw
      have hY2 : ∀ (post : Int32 → SY → Prop), (∃ n, wY_recode_26 post (nI (r + 1)) v2 (nI k) (nI l) (nI q) (nI (2 + d)) (nI fc) (nI ff) n 0 (tI fi) (nA kd) (nA sg) (nA sm) (tI sv) (nA ng) (nA cn) (tI vs) (bA mY) (bA kn) (tI wd) (tI fo) (tI re)) → wpY_recode post (nI k, nI l, nI q, nI (2 + d), nI fc, nI ff, tI fi, nA kd, nA sg, nA sm, tI sv, nA ng, nA cn, tI vs, bA mY, bA kn, tI wd, tI fo, tI re) (nI (r + 1)) v2 := by
        intro post hp
        refine hY post ?_
        unfold wY_recode_12
        rw [nI_clamp (by omega : r + 1 < 2 ^ 31)]
        exact ⟨pk_in (r + 1) 6 (by omega), br_f hcne hp⟩
      refine xw_isz k6 (fun hz => br_f (by decide) (hY2 _ (Exists.intro 7 ?_))) (fun i hi hn => br_t rfl ?_)
      · refine yw_rc_lp (by omega) hc4 hkd (fun w2 _ _ => ⟨rfl, zz_in h⟩) (fun w2 h3 i hi hn => ?_) (fun w2 h3 i hi hn => ?_) 7 0 wd (by omega) (by omega) (fun t ht => by omega)
        · rw [h3 i hi, ← hw6 i hi] at hn
          by_cases y : i < k
          · exact absurd (hz i y) hn
          · exact absurd (hTw.1 i (by omega) hi) hn
        · rw [h3 i hi, ← hw6 i hi] at hn
          by_cases y : i < k
          · exact absurd (hz i y) hn
          · exact absurd (hTw.1 i (by omega) hi) hn
      · refine ⟨pk_in (r + 1) 6 (by omega), ?_⟩
        have hno : ∀ w2 : Nat → gf_K, (∀ i, i < 6 → w2 i = la_sm (cn (r + 1)) (fun p => gf_mu (wgt v2 p) (vR vs (r + 1) p i))) → ¬ ∀ i, i < 6 → w2 i = 0#8 := fun w2 h3 hz => hn (by rw [hw6 i (by omega), ← h3 i (by omega)]; exact hz i (by omega))
        rcases fst0_or kd with hf | ⟨s, hs⟩
        · refine xl_none (kk := 1) (gg := ng (r + 1)) (mm := r + 1) hkd hf (hY2 _ (Exists.intro 7 ?_))
          exact yw_rc_lp (by omega) hc4 hkd (fun w2 h3 hz => absurd hz (hno w2 h3)) (fun w2 h3 i hi hn s h5 h6 => absurd h6 (hf s h5)) (fun w2 h3 i hi hn _ => ⟨rfl, zz_in h⟩) 7 0 wd (by omega) (by omega) (fun t ht => by omega)
        · refine xl_some (kk := 1) (gg := ng (r + 1)) (mm := r + 1) hkd hs (fun rr hr1 hr2 => hY2 _ (Exists.intro 7 ?_))
          refine yw_rc_lp (by omega) hc4 hkd (fun w2 h3 hz => absurd hz (hno w2 h3)) (fun w2 h3 i hi hn s' h5 h6 h7 r' hr3 hr4 => ?_) (fun w2 h3 i hi hn hf => absurd hs.2.1 (hf s hs.1)) 7 0 wd (by omega) (by omega) (fun t ht => by omega)
          obtain rfl := fst0_u hs ⟨h5, h6, h7⟩
          refine ⟨rfl, zz_in (inv_sl h hs.1 hr2 hr4 (by omega) hb (fun _ => ⟨fun i hi => ?_, ?_⟩) (fun z => by omega))⟩
          · rw [hr1 i (by omega), hr3 i hi, hw6 i hi, h3 i hi]
          · exact (rw_LT k6 l4).1 _ _ (fun t ht => (hr1 t ht).symm) hTw
end
section
/-! ===== aim, value, acknowledge, rank, decodedBlocks, packetByte, heldCoefficient ===== -/
theorem la_rd_cc {k : Nat} {P : Nat → Bool} {R : Nat → Nat → gf_K} {v w : Nat → gf_K} (hk : k ≤ 6) (h : ∀ t, t < 10 → v t = w t) : (∀ i, i < k → la_rd k P R v i = 0#8) ↔ ∀ i, i < k → la_rd k P R w i = 0#8 :=
  ⟨fun z i hi => by rw [← la_rd_c (by omega) h (by omega)]; exact z i hi, fun z i hi => by rw [la_rd_c (by omega) h (by omega)]; exact z i hi⟩
theorem i_vc_aim {k : Nat} {u : SX} {v : SY} (I : i_Rel k u v) (hk : k + 5 ≤ 2564) (v1 : Int32) (v2 : Int32) (v3 : Int32) : wpX_aim (fun r u' => wpY_aim (fun r' v' => r' = r ∧ i_Rel (k + 5) u' v') v v1 v2 v3) u v1 v2 v3 := by
  refine zz_el (P := fun u v => wpX_aim (fun r u' => wpY_aim (fun r' v' => r' = r ∧ i_Rel (k + 5) u' v') v v1 v2 v3) u v1 v2 v3) ?_ I
  intro k l d q fc mk ff ae al fi sr mr bs ab wk wt sv vs wd fo re mX bh ak mY kn ng kd sg sm mc bd cn h
  have h0 := h
  obtain ⟨hT, ⟨k1, k6, l1, l4, d1, d3, q1, qd, fc7⟩, hG, hSl, hN, hRl, hRv, hMk, hAr⟩ := h0
  unfold wpX_aim
  rcases ic_r v1 1 (2 + d) (by omega) (by omega) with z | ⟨z, y⟩ | ⟨n, hn1, hn, rfl⟩
  · exact xq_hold0 (Or.inl z) (br_t rfl (br_t z ⟨rfl, zz_in h⟩))
  · exact xq_hold0 (Or.inr ⟨z, y⟩) (br_t rfl (br_f z (br_f (ic_nle y) ⟨rfl, zz_in h⟩)))
  · obtain ⟨m, rfl⟩ : ∃ m, n = m + 1 := ⟨n - 1, by omega⟩
    obtain ⟨hB, hsu, hc6, hbd⟩ := hN m (by omega)
    have hkd := inv_kd h
    refine xq_hold1 d3 hn1 hn (br_f (by decide) ?_)
    have y1 : ¬ nI (m + 1) < 1 := nI_nlt (b := 1) hn1 (by omega)
    have y2 : nI (m + 1) ≤ nI (2 + d) := nI_le hn (by omega)
    refine xw_load k6 (fun w h1 h2 hne => br_f (by decide) ?_) (fun w h1 h2 hz => br_t rfl ?_)
    · have hW := lvW_x h1 h2
      have hWs := lvW_s k6 h1 h2
      have hsp := n_span k6 rw_su hB (lvW_su (k := k) (lo := v2) (hi := v3))
      have hYd : ∀ w2 : Nat → gf_K, (∀ t, t < 6 → w2 t = if t < k then lv v2 v3 t else 0#8) → ((∀ φ, aV cn vs (m + 1) φ → la_dot φ w2 = 0#8) ↔ ∀ i, i < k → la_rd k (bP bh m) (bR bs m) (sv_w w) i = 0#8) := by
        intro w2 h3
        rw [la_rd_cc k6 hWs, ← hsp]
        exact ⟨fun a φ hφ => by rw [← la_dot_c (v := w2) (w := lvW k v2 v3) (fun i hi => h3 i hi)]; exact a φ hφ, fun a φ hφ => by rw [la_dot_c (v := w2) (w := lvW k v2 v3) (fun i hi => h3 i hi)]; exact a φ hφ⟩
      have hY0 : ∀ (post : Int32 → SY → Prop) , (∀ w2 : Nat → gf_K, (∀ t, t < 6 → w2 t = if t < k then lv v2 v3 t else 0#8) → la_su k w2 → wpY_inSpan (fun r u => (r = 0 → post (-5) u) ∧ (¬ r = 0 → wpY_launch (fun r u => post r u) u 1 (nI (m + 1)))) (nI k, nI l, nI q, nI (2 + d), nI fc, nI ff, tI fi, nA kd, nA sg, nA sm, tI sv, nA ng, nA cn, tI vs, bA mY, bA kn, tI w2, tI fo, tI re) (nI (m + 1))) → wpY_aim post (nI k, nI l, nI q, nI (2 + d), nI fc, nI ff, tI fi, nA kd, nA sg, nA sm, tI sv, nA ng, nA cn, tI vs, bA mY, bA kn, tI wd, tI fo, tI re) (nI (m + 1)) v2 v3 := by
        intro post hp
        refine br_f y1 (br_t y2 (yw_read k6 (fun w2 h3 => yw_isz (fun hz => ?_) (fun i hi hn => br_t rfl (hp w2 h3 ?_)))))
        · obtain ⟨i, hi, hn⟩ := hne
          have := hz i (by omega)
          rw [h3 i (by omega), if_pos hi] at this
          exact absurd this hn
        · intro i a b; rw [h3 i b]; exact if_neg (by omega)
      rw [nI_pred, nI_clamp (by omega : m + 1 < 2 ^ 31)]
      refine xw_solve hT k6 (by omega) hB.2.1 (fun hz wk' w' h5 h6 => br_f (by decide) ⟨pk_in (m + 1) 6 (by omega), ?_⟩) (fun i hi hn wk' => br_t rfl (hY0 _ (fun w2 h3 hs2 => yb_in k6 (by omega) hc6 hsu hs2 (fun a => ?_) (fun _ f1 f2 f3 => br_t rfl ⟨rfl, zz_in h⟩))))
      · have hb : ng (m + 1) * k * l + k * l ≤ fc := by
          refine hbd ?_
          rcases Nat.eq_zero_or_pos (cn (m + 1)) with z | z
          · refine absurd (fun φ p hp => by omega) (n_row k6 hB hz ?_)
            obtain ⟨i, hi, hn⟩ := hne
            exact ⟨i, hi, by rw [hWs i (by omega)]; show (if i < k then lv v2 v3 i else 0#8) ≠ 0#8; rw [if_pos hi]; exact hn⟩
          · exact z
        have hTw : rwT k l fi (ng (m + 1)) w' := by
          refine n_solve k6 l4 hB (w := sv_w w) (fun i a b => ?_) (fun t a b => if_neg (by omega)) hz (fun t ht => ?_) h6
          · rw [hWs i (by omega)]; exact lvW_su i a b
          · rw [h5 t ht]; exact (if_pos ht).symm
        rcases fst0_or kd with hf | ⟨s, hs⟩
        · refine xl_none (kk := 1) (gg := ng (m + 1)) (mm := m + 1) hkd hf (hY0 _ (fun w2 h3 hs2 => yb_in k6 (by omega) hc6 hsu hs2 (fun _ f1 f2 f3 => br_f (by decide) (yl_none (kk := 1) (nd := m + 1) (by omega) hkd hf ⟨rfl, zz_in h⟩)) (fun a => absurd ((hYd w2 h3).mpr hz) a)))
        · refine xl_some (kk := 1) (gg := ng (m + 1)) (mm := m + 1) hkd hs (fun r hr1 hr2 => hY0 _ (fun w2 h3 hs2 => yb_in k6 (by omega) hc6 hsu hs2 (fun _ f1 f2 f3 => br_f (by decide) (yl_some (kk := 1) (nd := m + 1) (by omega) hkd hs (fun r' hr3 hr4 => ⟨rfl, zz_in (inv_sl h hs.1 hr2 hr4 (by omega) hb (fun _ => ⟨fun i hi => ?_, ?_⟩) (fun z => by omega))⟩))) (fun a => absurd ((hYd w2 h3).mpr hz) a)))
          · rw [hr1 i (by omega), hr3 i hi, h5 i hi, hW i (by omega), h3 i hi]; rfl
          · exact (rw_LT k6 l4).1 _ _ (fun t ht => (hr1 t ht).symm) hTw
      · exact absurd ((hYd w2 h3).mp a i hi) hn
    · refine br_f y1 (br_t y2 (yw_read k6 (fun w2 h3 => yw_isz (fun _ => br_f (by decide) ⟨rfl, zz_in h⟩) (fun i hi hn => ?_))))
      rw [h3 i hi] at hn
      by_cases e : i < k
      · rw [if_pos e, hz i e] at hn; exact absurd rfl hn
      · rw [if_neg e] at hn; exact absurd rfl hn
end
section
theorem i_vc_value {k : Nat} {u : SX} {v : SY} (I : i_Rel k u v) (hk : k + 5 ≤ 2564) (v1 : Int32) (v2 : Int32) (v3 : Int32) (v4 : Int32) : wpX_value (fun r u' => wpY_value (fun r' v' => r' = r ∧ i_Rel (k + 5) u' v') v v1 v2 v3 v4) u v1 v2 v3 v4 := by
  refine zz_el (P := fun u v => wpX_value (fun r u' => wpY_value (fun r' v' => r' = r ∧ i_Rel (k + 5) u' v') v v1 v2 v3 v4) u v1 v2 v3 v4) ?_ I
  intro k l d q fc mk ff ae al fi sr mr bs ab wk wt sv vs wd fo re mX bh ak mY kn ng kd sg sm mc bd cn h
  have h0 := h
  obtain ⟨hT, ⟨k1, k6, l1, l4, d1, d3, q1, qd, fc7⟩, hG, hSl, hN, hRl, hRv, hMk, hAr⟩ := h0
  unfold wpX_value
  rcases ic_r v1 1 (2 + d) (by omega) (by omega) with z | ⟨z, y⟩ | ⟨n, hn1, hn, rfl⟩
  · exact xq_hold0 (Or.inl z) (br_t rfl (br_t z ⟨rfl, zz_in h⟩))
  · exact xq_hold0 (Or.inr ⟨z, y⟩) (br_t rfl (br_f z (br_t y ⟨rfl, zz_in h⟩)))
  · obtain ⟨m, rfl⟩ : ∃ m, n = m + 1 := ⟨n - 1, by omega⟩
    obtain ⟨hB, hsu, hc6, hbd⟩ := hN m (by omega)
    refine xq_hold1 d3 hn1 hn (br_f (by decide) ?_)
    have y1 : ¬ nI (m + 1) < 1 := nI_nlt (b := 1) hn1 (by omega)
    have y2 : ¬ nI (2 + d) < nI (m + 1) := nI_nlt hn (by omega)
    by_cases a : v4 < 0
    · exact br_t a (br_f y1 (br_f y2 (br_t a ⟨rfl, zz_in h⟩)))
    · obtain ⟨j, hj, rfl⟩ := nI_of a
      by_cases b : j < l
      · have hb : nI j < nI l := nI_lt b (by omega)
        refine br_f a (br_t hb ?_)
        have hsp := n_span k6 rw_su hB (lvW_su (k := k) (lo := v2) (hi := v3))
        have hYs : ∀ w2 : Nat → gf_K, (∀ t, t < 6 → w2 t = if t < k then lv v2 v3 t else 0#8) → la_su k w2 := by
          intro w2 h3 i e f; rw [h3 i f]; exact if_neg (by omega)
        refine xw_load k6 (fun w h1 h2 hne => br_f (by decide) ?_) (fun w h1 h2 hz => br_t rfl ?_)
        · have hWs := lvW_s k6 h1 h2
          have hYd : ∀ w2 : Nat → gf_K, (∀ t, t < 6 → w2 t = if t < k then lv v2 v3 t else 0#8) → ((∀ φ, aV cn vs (m + 1) φ → la_dot φ w2 = 0#8) ↔ ∀ i, i < k → la_rd k (bP bh m) (bR bs m) (sv_w w) i = 0#8) := by
            intro w2 h3
            rw [la_rd_cc k6 hWs, ← hsp]
            exact ⟨fun a φ hφ => by rw [← la_dot_c (v := w2) (w := lvW k v2 v3) (fun i hi => h3 i hi)]; exact a φ hφ, fun a φ hφ => by rw [la_dot_c (v := w2) (w := lvW k v2 v3) (fun i hi => h3 i hi)]; exact a φ hφ⟩
          rw [nI_pred]
          refine xw_solve hT k6 (by omega) hB.2.1 (fun hz wk' w' h5 h6 => br_f (by decide) ?_) (fun i hi hn wk' => br_t rfl ?_)
          · have hbb : ng (m + 1) * k * l + k * l ≤ fc := by
              refine hbd ?_
              rcases Nat.eq_zero_or_pos (cn (m + 1)) with z | z
              · refine absurd (fun φ p hp => by omega) (n_row k6 hB hz ?_)
                obtain ⟨i, hi, hn⟩ := hne
                exact ⟨i, hi, by rw [hWs i (by omega)]; show (if i < k then lv v2 v3 i else 0#8) ≠ 0#8; rw [if_pos hi]; exact hn⟩
              · exact z
            have hTw : rwT k l fi (ng (m + 1)) w' := by
              refine n_solve k6 l4 hB (w := sv_w w) (fun i a b => ?_) (fun t a b => if_neg (by omega)) hz (fun t ht => ?_) h6
              · rw [hWs i (by omega)]; exact lvW_su i a b
              · rw [h5 t ht]; exact (if_pos ht).symm
            rw [show (6 : Int32) + nI j = nI (6 + j) from nI_add 6 j, nI_clamp (by omega : 6 + j < 2 ^ 31)]
            refine ⟨pk_in (6 + j) 10 (by omega), br_f y1 (br_f y2 (br_f a (br_t hb (yw_read k6 (fun w2 h3 => yb_in k6 (by omega) hc6 hsu (hYs w2 h3) (fun _ f1 f2 f3 => br_f (by decide) (yw_isz (fun hz2 => ?_) (fun _ _ _ => br_t rfl ?_))) (fun e => absurd ((hYd w2 h3).mpr hz) e))))))⟩
            · obtain ⟨i, hi, hn⟩ := hne
              have := hz2 i (by omega)
              rw [h3 i (by omega), if_pos hi] at this
              exact absurd this hn
            · rw [nI_clamp (by omega : m + 1 < 2 ^ 31)]
              refine ⟨pk_in (m + 1) 6 (by omega), yw_cb k6 l4 b (by omega) ⟨?_, zz_in h⟩⟩
              show gf_I _ = gf_I (w' (6 + j))
              rw [hTw.2 j b]
              refine congrArg gf_I (la_congr (fun i hi => ?_))
              have e1 : w' i = w2 i := by
                rw [h5 i (by omega), h3 i (by omega), if_pos hi, h1 i hi]
              rw [e1]
          · exact br_f y1 (br_f y2 (br_f a (br_t hb (yw_read k6 (fun w2 h3 => yb_in k6 (by omega) hc6 hsu (hYs w2 h3) (fun e => absurd ((hYd w2 h3).mp e i hi) hn) (fun _ f1 f2 f3 => br_t rfl ⟨rfl, zz_in h⟩))))))
        · have hz6 : ∀ w2 : Nat → gf_K, (∀ t, t < 6 → w2 t = if t < k then lv v2 v3 t else 0#8) → ∀ t, t < 6 → w2 t = 0#8 := by
            intro w2 h3 t ht
            rw [h3 t ht]
            by_cases e : t < k
            · rw [if_pos e]; exact hz t e
            · rw [if_neg e]
          refine br_f y1 (br_f y2 (br_f a (br_t hb (yw_read k6 (fun w2 h3 => yb_in k6 (by omega) hc6 hsu (hYs w2 h3) (fun _ f1 f2 f3 => br_f (by decide) (yw_isz (fun _ => br_f (by decide) ⟨rfl, zz_in h⟩) (fun i hi hn => absurd (hz6 w2 h3 i hi) hn))) (fun e => absurd (fun φ _ => la_dot_0 (hz6 w2 h3)) e))))))
      · have hb : ¬ nI j < nI l := nI_nlt (by omega) hj
        exact br_f a (br_f hb (br_f y1 (br_f y2 (br_f a (br_f hb ⟨rfl, zz_in h⟩)))))
theorem i_vc_acknowledge {k : Nat} {u : SX} {v : SY} (I : i_Rel k u v) (hk : k + 5 ≤ 2564) (v1 : Int32) : wpX_acknowledge (fun r u' => wpY_acknowledge (fun r' v' => r' = r ∧ i_Rel (k + 5) u' v') v v1) u v1 := by
  refine zz_el (P := fun u v => wpX_acknowledge (fun r u' => wpY_acknowledge (fun r' v' => r' = r ∧ i_Rel (k + 5) u' v') v v1) u v1) ?_ I
  intro k l d q fc mk ff ae al fi sr mr bs ab wk wt sv vs wd fo re mX bh ak mY kn ng kd sg sm mc bd cn h
  have h0 := h
  obtain ⟨hT, ⟨k1, k6, l1, l4, d1, d3, q1, qd, fc7⟩, hG, hSl, hN, hRl, hRv, hMk, hAr⟩ := h0
  unfold wpX_acknowledge
  rcases ic_r v1 3 (2 + d) (by omega) (by omega) with z | ⟨z, y⟩ | ⟨n, hn3, hn, rfl⟩
  · exact xq_recv0 (Or.inl z) (br_t rfl (br_t z ⟨rfl, zz_in h⟩))
  · exact xq_recv0 (Or.inr ⟨z, y⟩) (br_t rfl (br_f z (br_f (ic_nle y) ⟨rfl, zz_in h⟩)))
  · obtain ⟨m, rfl⟩ : ∃ m, n = m + 1 := ⟨n - 1, by omega⟩
    obtain ⟨hB, hsu, hc6, hbd⟩ := hN m (by omega)
    have hkd := inv_kd h
    have hng : ∀ i, i < 6 → ng i < 2 ^ 31 := fun i hi => by have := n_bd k1 l1 (hG i hi); omega
    have hd6 : bd m ≤ 6 := by rw [hB.2.2.1]; exact la_ct_le 6 _
    have y1 : ¬ nI (m + 1) < 3 := nI_nlt (b := 3) hn3 (by omega)
    have y2 : nI (m + 1) ≤ nI (2 + d) := nI_le hn (by omega)
    have hdim : ∀ (ff' : Nat) (fo' : Nat → gf_K), la_FI k ff' (fF fo') (fun φ => aV cn vs (m + 1) φ ∧ aV cn vs (m + 1) φ) → k - ff' = bd m := by
      intro ff' fo' hF
      have := la_dim hF hB.2.1 k6 (fun c hc hp => (hB.2.2.2.2 c hc hp).1) hB.1 (fun φ => by rw [← hB.2.2.2.1 φ]; exact and_self_iff)
      have e := hB.2.2.1
      omega
    refine xq_recv1 d3 hn3 hn (br_f (by decide) ?_)
    rw [nI_pred, nI_clamp (by omega : m < 2 ^ 31), nI_clamp (by omega : m + 1 < 2 ^ 31)]
    refine ⟨pk_in m 6 (by omega), pk_le k (bd m) (fun g => ?_) (fun g => ?_)⟩
    · have hb : ng (m + 1) * k * l + k * l ≤ fc := by
        refine hbd ?_
        rcases Nat.eq_zero_or_pos (cn (m + 1)) with z | z
        · have hf := xB_none k6 hB (fun φ p hp => by omega)
          have : la_ct 6 (bP bh m) ≤ 0 := la_ct_lt (by omega) (fun i hi hp => by
            have hp2 : bh (m * 6 + i) = true := hp
            rw [hf i hi] at hp2; cases hp2)
          have e := hB.2.2.1
          omega
        · exact z
      refine xw_clear (fun w hw => ⟨pk_in (m + 1) 6 (by omega), ?_⟩)
      have hY : ∀ (post : Int32 → SY → Prop), (∀ ff' fo' re', wpY_launch (fun r u => post r u) (nI k, nI l, nI q, nI (2 + d), nI fc, nI ff', tI fi, nA kd, nA sg, nA sm, tI sv, nA ng, nA cn, tI vs, bA mY, bA kn, tI wd, tI fo', tI re') 2 (nI (m + 1))) → wpY_acknowledge post (nI k, nI l, nI q, nI (2 + d), nI fc, nI ff, tI fi, nA kd, nA sg, nA sm, tI sv, nA ng, nA cn, tI vs, bA mY, bA kn, tI wd, tI fo, tI re) (nI (m + 1)) := by
        intro post hp
        refine br_f y1 (br_t y2 (yw_rank k6 d3 (by omega) hn (by omega) hn hng hc6 hc6 hsu hsu (fun e => absurd rfl e) (fun _ f1 f2 f3 hF => ?_)))
        rw [hdim f1 f2 hF]
        exact br_t (nI_le g (by omega)) (hp f1 f2 f3)
      rcases fst0_or kd with hf | ⟨s, hs⟩
      · exact xl_none (kk := 2) (gg := ng (m + 1)) (mm := m + 1) hkd hf (hY _ (fun f1 f2 f3 => yl_none (kk := 2) (nd := m + 1) (by omega) hkd hf ⟨rfl, zz_in h⟩))
      · exact xl_some (kk := 2) (gg := ng (m + 1)) (mm := m + 1) hkd hs (fun r hr1 hr2 => hY _ (fun f1 f2 f3 => yl_some (kk := 2) (nd := m + 1) (by omega) hkd hs (fun r' hr3 hr4 => ⟨rfl, zz_in (inv_sl h hs.1 hr2 hr4 (by omega) hb (fun z => by omega) (fun _ => ⟨m - 2, by omega, by omega⟩))⟩)))
    · refine br_f y1 (br_t y2 (yw_rank k6 d3 (by omega) hn (by omega) hn hng hc6 hc6 hsu hsu (fun e => absurd rfl e) (fun _ f1 f2 f3 hF => ?_)))
      rw [hdim f1 f2 hF]
      exact br_f (nI_ge g (by omega)) ⟨rfl, zz_in h⟩
theorem i_vc_rank {k : Nat} {u : SX} {v : SY} (I : i_Rel k u v) (hk : k + 5 ≤ 2564) (v1 : Int32) (v2 : Int32) : wpX_rank (fun r u' => wpY_rank (fun r' v' => r' = r ∧ i_Rel (k + 5) u' v') v v1 v2) u v1 v2 := by
  refine zz_el (P := fun u v => wpX_rank (fun r u' => wpY_rank (fun r' v' => r' = r ∧ i_Rel (k + 5) u' v') v v1 v2) u v1 v2) ?_ I
  intro k l d q fc mk ff ae al fi sr mr bs ab wk wt sv vs wd fo re mX bh ak mY kn ng kd sg sm mc bd cn h
  have h0 := h
  obtain ⟨hT, ⟨k1, k6, l1, l4, d1, d3, q1, qd, fc7⟩, hG, hSl, hN, hRl, hRv, hMk, hAr⟩ := h0
  unfold wpX_rank
  rcases ic_r v1 1 (2 + d) (by omega) (by omega) with z | ⟨z, y⟩ | ⟨a, ha1, ha, rfl⟩
  · exact xq_hold0 (Or.inl z) (br_t rfl (br_t z ⟨rfl, zz_in h⟩))
  · exact xq_hold0 (Or.inr ⟨z, y⟩) (br_t rfl (br_f z (br_t y ⟨rfl, zz_in h⟩)))
  · have x1 : ¬ nI a < 1 := nI_nlt (b := 1) ha1 (by omega)
    have x2 : ¬ nI (2 + d) < nI a := nI_nlt ha (by omega)
    refine xq_hold1 d3 ha1 ha (br_f (by decide) ?_)
    rcases ic_r v2 1 (2 + d) (by omega) (by omega) with z | ⟨z, y⟩ | ⟨b, hb1, hb, rfl⟩
    · exact xq_hold0 (Or.inl z) (br_t rfl (br_f x1 (br_f x2 (br_t z ⟨rfl, zz_in h⟩))))
    · exact xq_hold0 (Or.inr ⟨z, y⟩) (br_t rfl (br_f x1 (br_f x2 (br_f z (br_f (ic_nle y) ⟨rfl, zz_in h⟩)))))
    · refine xq_hold1 d3 hb1 hb (br_f (by decide) ?_)
      obtain ⟨m, rfl⟩ : ∃ m, a = m + 1 := ⟨a - 1, by omega⟩
      obtain ⟨n, rfl⟩ : ∃ n, b = n + 1 := ⟨b - 1, by omega⟩
      obtain ⟨hBa, hsa, hca, _⟩ := hN m (by omega)
      obtain ⟨hBb, hsb, hcb, _⟩ := hN n (by omega)
      have hng : ∀ i, i < 6 → ng i < 2 ^ 31 := fun i hi => by have := n_bd k1 l1 (hG i hi); omega
      have hga := hng (m + 1) (by omega)
      have hgb := hng (n + 1) (by omega)
      rw [nI_clamp (by omega : m + 1 < 2 ^ 31), nI_clamp (by omega : n + 1 < 2 ^ 31), nI_pred, nI_pred]
      refine ⟨pk_in (m + 1) 6 (by omega), pk_in (n + 1) 6 (by omega), pk_eq (ng (m + 1)) (ng (n + 1)) (fun g => ?_) (fun g => ?_)⟩
      · have hfin : ∀ (s : Nat → gf_K) (h' : Nat → Bool) (d' : Nat → Nat), xB k s h' d' 5 (fun φ => aV cn vs (m + 1) φ ∧ aV cn vs (n + 1) φ) (la_su k) → ∀ (ff' : Nat) (fo' : Nat → gf_K), la_FI k ff' (fF fo') (fun φ => aV cn vs (m + 1) φ ∧ aV cn vs (n + 1) φ) → k - ff' = d' 5 := by
          intro s h' d' hB ff' fo' hF
          have := la_dim hF hB.2.1 k6 (fun c hc hp => hB.2.2.2.2 c hc hp) hB.1 hB.2.2.2.1
          have e := hB.2.2.1
          omega
        refine xb_clear (b := 5) (la_su k) k6 (by omega) (fun h1 hB1 hF1 => ?_)
        refine xb_insb (a := m) (b := 5) hT k6 (by omega) (by omega) (by omega) (fun c hc hp => ?_) hB1 (fun w2 s2 h2 d2 hB2 hF2 => ?_)
        · have hp2 : bh (m * 6 + c) = true := by rw [← ((hF1 m (by omega) (by omega)).2 c (by omega)).1]; exact hp
          exact (hBa.2.2.2.2 c hc hp2).1
        · have hBa1 := xFr_B k6 (rw_LT k6 l4) hF1 (by omega : m < 6) (by omega) hBa
          refine pk_eq (m + 1) (n + 1) (fun e => ?_) (fun e => ?_)
          · have emn : n = m := by omega
            subst emn
            refine yw_rank k6 d3 ha1 ha ha1 ha hng hca hca hsa hsa (fun z => absurd rfl z) (fun _ f1 f2 f3 hF => ⟨?_, zz_in (inv_fr5 h (xFr_t hF1 hF2))⟩)
            refine congrArg nI (hfin s2 h2 d2 (la_BI_A hB2 (fun φ => ?_)) f1 f2 hF)
            rw [← hBa1.2.2.2.1 φ]
            exact ⟨fun z => ⟨trivial, z.1⟩, fun z => ⟨z.2, z.2⟩⟩
          · have hF12 := xFr_t hF1 hF2
            have hBb2 := xFr_B k6 (rw_LT k6 l4) hF12 (by omega : n < 6) (by omega) hBb
            refine xb_insb (a := n) (b := 5) hT k6 (by omega) (by omega) (by omega) (fun c hc hp => (hBb2.2.2.2.2 c hc hp).1) hB2 (fun w3 s3 h3 d3' hB3 hF3 => ?_)
            refine yw_rank k6 d3 ha1 ha hb1 hb hng hca hcb hsa hsb (fun z => absurd g z) (fun _ f1 f2 f3 hF => ⟨?_, zz_in (inv_fr5 h (xFr_t hF12 hF3))⟩)
            refine congrArg nI (hfin s3 h3 d3' (la_BI_A hB3 (fun φ => ?_)) f1 f2 hF)
            rw [← hBa1.2.2.2.1 φ, ← hBb2.2.2.2.1 φ]
            exact ⟨fun z => ⟨⟨trivial, z.1⟩, z.2⟩, fun z => ⟨z.1.2, z.2⟩⟩
      · exact yw_rank k6 d3 ha1 ha hb1 hb hng hca hcb hsa hsb (fun _ => ⟨rfl, zz_in h⟩) (fun z => absurd z g)
theorem i_vc_decodedBlocks {k : Nat} {u : SX} {v : SY} (I : i_Rel k u v) (hk : k + 5 ≤ 2564) (v1 : Int32) : wpX_decodedBlocks (fun r => wpY_decodedBlocks (fun r' v' => r' = r ∧ i_Rel (k + 5) u v') v v1) u v1 := by
  refine zz_el (P := fun u v => wpX_decodedBlocks (fun r => wpY_decodedBlocks (fun r' v' => r' = r ∧ i_Rel (k + 5) u v') v v1) u v1) ?_ I
  intro k l d q fc mk ff ae al fi sr mr bs ab wk wt sv vs wd fo re mX bh ak mY kn ng kd sg sm mc bd cn h
  have h0 := h
  obtain ⟨hT, ⟨k1, k6, l1, l4, d1, d3, q1, qd, fc7⟩, hG, hSl, hN, hRl, hRv, hMk, hAr⟩ := h0
  unfold wpX_decodedBlocks
  rcases ic_r v1 1 (2 + d) (by omega) (by omega) with z | ⟨z, y⟩ | ⟨n, hn1, hn, rfl⟩
  · exact xq_hold0 (Or.inl z) (br_t rfl (br_t z ⟨rfl, zz_in h⟩))
  · exact xq_hold0 (Or.inr ⟨z, y⟩) (br_t rfl (br_f z (br_f (ic_nle y) ⟨rfl, zz_in h⟩)))
  · obtain ⟨m, rfl⟩ : ∃ m, n = m + 1 := ⟨n - 1, by omega⟩
    obtain ⟨hB, hsu, hc6, hbd⟩ := hN m (by omega)
    refine xq_hold1 d3 hn1 hn (br_f (by decide) (Exists.intro 7 (xw_dec_lp k6 (by omega) ?_ 7 0 (by omega) (by omega))))
    refine yw_dec k6 hn1 hn d3 hc6 hsu (fun f1 f2 f3 f4 => ⟨?_, zz_in h⟩)
    exact dbits_c (fun i hi => tb_c (n_dec k6 rw_su hB hi).symm)
section
variable {k l d q fc ff : Nat} {fi sv vs wd fo re : Nat → gf_K} {mY kn : Nat → Bool} {ng kd sg sm cn : Nat → Nat}
theorem yw_pb_lp {post : Int32 → SY → Prop} {s j : Nat} (hk : k ≤ 6) (hl : l ≤ 4) (hs : s < 8) (hj : j < l) (hg : sg s * k * l + k * l ≤ 72)
    (H : ∀ w, post (gf_I (la_sm k (fun i => gf_mu (sv (s * 6 + i)) (fi (sg s * k * l + i * l + j))))) (nI k, nI l, nI q, nI (2 + d), nI fc, nI ff, tI fi, nA kd, nA sg, nA sm, tI sv, nA ng, nA cn, tI vs, bA mY, bA kn, tI w, tI fo, tI re)) :
    ∀ (n i : Nat) (w : Nat → gf_K), i ≤ 6 → 6 < n + i → (∀ t, t < i → w t = sv (s * 6 + t)) → wY_packetByte_51 post (nI s) (nI j) (nI k) (nI l) (nI q) (nI (2 + d)) (nI fc) (nI ff) n (nI i) (tI fi) (nA kd) (nA sg) (nA sm) (tI sv) (nA ng) (nA cn) (tI vs) (bA mY) (bA kn) (tI w) (tI fo) (tI re) := by
  intro n
  induction n with
  | zero => intro i w h1 h2; omega
  | succ n ih =>
    intro i w h1 h2 h3
    refine pk_le 6 i (fun g => ⟨pk_in s 8 hs, ?_⟩) (fun g => ⟨pk_in (s * 6 + i) 48 (by omega) ix_6, pk_in i 6 g, tI_nm i (sv (s * 6 + i)) rfl (by omega) (by rw [ix_6, nI_clamp (by omega : s * 6 + i < 2 ^ 31)]) (nm_r (nI_1 i) (ih (i + 1) _ (by omega) (by omega) (fu_lt (Q := fun t x => x = sv (s * 6 + t)) h3 rfl)))⟩)
    rw [nI_clamp (by omega : s < 2 ^ 31)]
    refine yw_cb hk hl hj hg ?_
    have := H w
    rw [la_congr (n := k) (g := fun i => gf_mu (w i) (fi (sg s * k * l + i * l + j))) (fun c hc => by rw [h3 c (by omega)])] at this
    exact this
end
theorem i_vc_packetByte {k : Nat} {u : SX} {v : SY} (I : i_Rel k u v) (hk : k + 5 ≤ 2564) (v1 : Int32) (v2 : Int32) : wpX_packetByte (fun r => wpY_packetByte (fun r' v' => r' = r ∧ i_Rel (k + 5) u v') v v1 v2) u v1 v2 := by
  refine zz_el (P := fun u v => wpX_packetByte (fun r => wpY_packetByte (fun r' v' => r' = r ∧ i_Rel (k + 5) u v') v v1 v2) u v1 v2) ?_ I
  intro k l d q fc mk ff ae al fi sr mr bs ab wk wt sv vs wd fo re mX bh ak mY kn ng kd sg sm mc bd cn h
  have h0 := h
  obtain ⟨hT, ⟨k1, k6, l1, l4, d1, d3, q1, qd, fc7⟩, hG, hSl, hN, hRl, hRv, hMk, hAr⟩ := h0
  unfold wpX_packetByte
  rcases pk_ix v1 (n := 8) (by omega) with z | z | ⟨s, hs, rfl⟩
  · exact xq_slot0 (Or.inl z) (br_t rfl (br_t z ⟨rfl, zz_in h⟩))
  · exact xq_slot0 (Or.inr z) (br_t rfl (br_f (ic_n0 (by omega) z) (br_t z ⟨rfl, zz_in h⟩)))
  · refine xq_slot1 hs (br_f (by decide) ?_)
    obtain ⟨hk, hbd, hd1, _⟩ := hSl s hs
    have y1 : ¬ nI s < 0 := nI_pos (by omega)
    have y2 : ¬ (8 : Int32) ≤ nI s := nI_ge (b := 8) hs (by omega)
    have y3 : vp_in (nI s) 8 := pk_in s 8 hs
    by_cases a : v2 < 0
    · exact br_t a (br_f y1 (br_f y2 (br_t a ⟨rfl, zz_in h⟩)))
    · obtain ⟨j, hj, rfl⟩ := nI_of a
      by_cases b : j < l
      · refine br_f a (br_t (nI_lt b (by omega)) ?_)
        unfold wpX_packetColumn
        refine ⟨y3, ?_⟩
        by_cases e : nA kd (nI s).toNatClampNeg = 0
        · exact br_t e (br_f y1 (br_f y2 (br_f a (br_t (nI_lt b (by omega)) ⟨y3, br_t e ⟨rfl, zz_in h⟩⟩))))
        · refine br_f e ⟨y3, ?_⟩
          by_cases f : nA kd (nI s).toNatClampNeg = 2
          · exact br_t f (br_f y1 (br_f y2 (br_f a (br_t (nI_lt b (by omega)) ⟨y3, br_f e ⟨y3, br_t f ⟨rfl, zz_in h⟩⟩⟩))))
          · have e1 : nI s * 10 + (6 + nI j) = nI (s * 10 + (6 + j)) := by rw [show nI s * 10 = nI (s * 10) from pk_mul s 10, show (6 : Int32) + nI j = nI (6 + j) from nI_add 6 j, nI_add]
            have e' := e
            have f' := f
            rw [nI_clamp (by omega : s < 2 ^ 31)] at e' f'
            have hk1 : kd s = 1 := by
              rcases (show kd s = 0 ∨ kd s = 1 ∨ kd s = 2 by omega) with g | g | g
              · exact absurd (show nI (kd s) = 0 by rw [g]; rfl) e'
              · exact g
              · exact absurd (show nI (kd s) = 2 by rw [g]; rfl) f'
            have hb := hbd (by omega)
            refine br_f f ⟨pk_in (s * 10 + (6 + j)) 80 (by omega) e1, br_f y1 (br_f y2 (br_f a (br_t (nI_lt b (by omega)) ⟨y3, br_f e ⟨y3, br_f f (Exists.intro 7 (yw_pb_lp k6 l4 hs b (by omega) (fun w => ⟨?_, zz_in h⟩) 7 0 wd (by omega) (by omega) (fun t ht => by omega)))⟩⟩)))⟩
            rw [e1, nI_clamp (by omega : s * 10 + (6 + j) < 2 ^ 31)]
            show gf_I _ = gf_I (sr _)
            have hp : sr (s * 10 + (6 + j)) = la_sm k (fun i => gf_mu (sr (s * 10 + i)) (fi (sg s * k * l + i * l + j))) := (hd1 hk1).2.2 j b
            rw [hp]
            exact congrArg gf_I (la_congr (fun i hi => by rw [(hd1 hk1).1 i (by omega)]))
      · exact br_f a (br_f (nI_nlt (by omega) hj) (br_f y1 (br_f y2 (br_f a (br_f (nI_nlt (by omega) hj) ⟨rfl, zz_in h⟩)))))
theorem i_vc_heldCoefficient {k : Nat} {u : SX} {v : SY} (I : i_Rel k u v) (hk : k + 5 ≤ 2564) (v1 : Int32) (v2 : Int32) (v3 : Int32) : wpX_heldCoefficient (fun r => wpY_heldCoefficient (fun r' => r' = r ∧ i_Rel (k + 5) u v) v v1 v2 v3) u v1 v2 v3 := by
  refine zz_el (P := fun u v => wpX_heldCoefficient (fun r => wpY_heldCoefficient (fun r' => r' = r ∧ i_Rel (k + 5) u v) v v1 v2 v3) u v1 v2 v3) ?_ I
  intro k l d q fc mk ff ae al fi sr mr bs ab wk wt sv vs wd fo re mX bh ak mY kn ng kd sg sm mc bd cn h
  have h0 := h
  obtain ⟨hT, ⟨k1, k6, l1, l4, d1, d3, q1, qd, fc7⟩, hG, hSl, hN, hRl, hRv, hMk, hAr⟩ := h0
  unfold wpX_heldCoefficient
  rcases ic_rel v1 with ⟨a, b⟩ | ⟨r, hr, rfl⟩
  · exact xq_rel0 a b (br_t rfl (br_f a (br_f b ⟨rfl, zz_in h⟩)))
  · obtain ⟨e, hc4, hrow⟩ := hRl r hr
    refine xq_rel1 hr (br_f (by decide) ?_)
    have hY : ∀ (post : Int32 → Prop), wY_heldCoefficient_12 post (nI (r + 1)) v2 v3 (nI k) (nI l) (nI q) (nI (2 + d)) (nI fc) (nI ff) (tI fi) (nA kd) (nA sg) (nA sm) (tI sv) (nA ng) (nA cn) (tI vs) (bA mY) (bA kn) (tI wd) (tI fo) (tI re) → wpY_heldCoefficient post (nI k, nI l, nI q, nI (2 + d), nI fc, nI ff, tI fi, nA kd, nA sg, nA sm, tI sv, nA ng, nA cn, tI vs, bA mY, bA kn, tI wd, tI fo, tI re) (nI (r + 1)) v2 v3 := by
      intro post hp
      rcases (show r = 0 ∨ r = 1 by omega) with z | z
      · subst z; exact br_t rfl hp
      · subst z; exact br_f (by decide) (br_t rfl hp)
    rw [nI_pred, nI_clamp (by omega : r < 2 ^ 31)]
    by_cases a : v2 < 0
    · exact br_t a (hY _ (br_t a ⟨rfl, zz_in h⟩))
    · obtain ⟨p, hp, rfl⟩ := nI_of a
      by_cases b : p < 4
      · have hb : ¬ (4 : Int32) ≤ nI p := nI_ge (b := 4) b (by omega)
        by_cases c : v3 < 0
        · exact br_f a (br_f hb (br_t c (hY _ (br_f a (br_f hb (br_t c ⟨rfl, zz_in h⟩))))))
        · obtain ⟨i, hi, rfl⟩ := nI_of c
          by_cases f : i < k
          · have hf : nI i < nI k := nI_lt f (by omega)
            refine br_f a (br_f hb (br_f c (br_t hf ⟨pk_in r 2 hr, pk_lt p (mc r) (fun g => xw_ms ?_) (fun g => hY _ ?_)⟩)))
            · rw [nI_add, nI_clamp (by omega : (r * 4 + p) * 10 + i < 2 ^ 31)]
              refine ⟨pk_in ((r * 4 + p) * 10 + i) 80 (by omega), hY _ (br_f a (br_f hb (br_f c (br_t hf ⟨pk_in (r + 1) 6 (by omega), ?_⟩))))⟩
              rw [nI_clamp (by omega : r + 1 < 2 ^ 31), ix_v, nI_add, nI_clamp (by omega : (r + 1) * 36 + p * 6 + i < 2 ^ 31)]
              refine br_t (nI_lt (by omega) (by omega)) ⟨pk_in ((r + 1) * 36 + p * 6 + i) 216 (by omega), ?_, zz_in h⟩
              exact congrArg gf_I ((hrow p (by omega)).1 i (by omega)).symm
            · refine br_f a (br_f hb (br_f c (br_t hf ⟨pk_in (r + 1) 6 (by omega), ?_⟩)))
              rw [nI_clamp (by omega : r + 1 < 2 ^ 31)]
              exact br_f (nI_nlt (by omega) (by omega)) ⟨rfl, zz_in h⟩
          · have hf : ¬ nI i < nI k := nI_nlt (by omega) hi
            exact br_f a (br_f hb (br_f c (br_f hf (hY _ (br_f a (br_f hb (br_f c (br_f hf ⟨rfl, zz_in h⟩))))))))
      · have hb : (4 : Int32) ≤ nI p := nI_le (a := 4) (by omega) hp
        exact br_f a (br_t hb (hY _ (br_f a (br_t hb ⟨rfl, zz_in h⟩))))
end
section
/-! ===== Y: deliveries ===== -/
def ry_M (vs : Nat → gf_K) (cn : Nat → Nat) (w : Nat → gf_K) (nd : Nat) (v' : Nat → gf_K) (c' : Nat → Nat) : Prop :=
  (cn nd < 4 → c' = fu cn nd (cn nd + 1) ∧ (∀ p, p < cn nd → ∀ t, t < 6 → vR v' nd p t = vR vs nd p t) ∧ ∀ t, t < 6 → vR v' nd (cn nd) t = w t) ∧
  (¬ cn nd < 4 → c' = fu cn nd 4 ∧ (∀ p, p < 3 → ∀ t, t < 6 → vR v' nd p t = vR vs nd (p + 1) t) ∧ ∀ t, t < 6 → vR v' nd 3 t = w t) ∧
  ∀ j, j < nd * 36 ∨ nd * 36 + 36 ≤ j → v' j = vs j
section
variable {k l d q fc ff : Nat} {fi sv vs wd fo re : Nat → gf_K} {mY kn : Nat → Bool} {ng kd sg sm cn : Nat → Nat}
/-! acks -/
theorem yk_95 {post : Int32 → SY → Prop} (H : ∀ m, (∀ v, v < 3 → m (v + 3) = false) → post 6 (nI k, nI l, nI q, nI (2 + d), nI fc, nI ff, tI fi, nA kd, nA sg, nA sm, tI sv, nA ng, nA cn, tI vs, bA m, bA kn, tI wd, tI fo, tI re)) : ∀ (n i : Nat) (m : Nat → Bool), i ≤ 3 → 3 < n + i → (∀ v, v < i → m (v + 3) = false) → wY_deliverAck_95 post (nI k) (nI l) (nI q) (nI (2 + d)) (nI fc) (nI ff) n (nI (i + 3)) (tI fi) (nA kd) (nA sg) (nA sm) (tI sv) (nA ng) (nA cn) (tI vs) (bA m) (bA kn) (tI wd) (tI fo) (tI re) := by
  intro n
  induction n with
  | zero => intro i m h1 h2; omega
  | succ n ih =>
    intro i m h1 h2 h3
    refine pk_le 6 (i + 3) (fun g => H m (fun r hr => h3 r (by omega))) (fun g => ⟨pk_in (i + 3) 6 g, bA_nm (i + 3) false rfl (by omega) vb0 (nm_r (e' := nI (i + 1 + 3)) ((nI_1 (i + 3)).trans (congrArg nI (by omega))) (ih (i + 1) _ (by omega) (by omega) (fun v hv => ?_)))⟩)
    by_cases e : v = i
    · rw [e, fu_s]
    · rw [fu_n (by omega)]; exact h3 v (by omega)
theorem yk_49 {post : Int32 → SY → Prop} (hq : q < 2 ^ 31) (H5 : la_ct 3 (fun v => mY (v + 3)) < q → post 5 (nI k, nI l, nI q, nI (2 + d), nI fc, nI ff, tI fi, nA kd, nA sg, nA sm, tI sv, nA ng, nA cn, tI vs, bA mY, bA kn, tI wd, tI fo, tI re))
    (H6 : q ≤ la_ct 3 (fun v => mY (v + 3)) → ∀ m, (∀ v, v < 3 → m (v + 3) = false) → post 6 (nI k, nI l, nI q, nI (2 + d), nI fc, nI ff, tI fi, nA kd, nA sg, nA sm, tI sv, nA (fu ng 0 (ng 0 + 1)), nA cn, tI vs, bA m, bA kn, tI wd, tI fo, tI re)) :
    ∀ (n i : Nat), i ≤ 3 → 3 < n + i → wY_deliverAck_49 post (nI k) (nI l) (nI q) (nI (2 + d)) (nI fc) (nI ff) (tI fi) (nA kd) (nA sg) (nA sm) (tI sv) (nA ng) (nA cn) (tI vs) (bA mY) (bA kn) (tI wd) (tI fo) (tI re) n (nI (la_ct i (fun v => mY (v + 3)))) (nI (i + 3)) := by
  intro n
  induction n with
  | zero => intro i h1 h2; omega
  | succ n ih =>
    intro i h1 h2
    have hct := la_ct_le i (fun v => mY (v + 3))
    refine pk_le 6 (i + 3) (fun g => ?_) (fun g => ⟨pk_in (i + 3) 6 g, ?_⟩)
    · obtain rfl : i = 3 := by omega
      refine pk_le q (la_ct 3 (fun v => mY (v + 3))) (fun z => nm_r (e' := nA (fu ng 0 (ng 0 + 1))) (by rw [show nA ng 0 + 1 = nI (ng 0 + 1) from nI_1 _, nA_upd]) ?_) (fun z => H5 z)
      exact ⟨4, yk_95 (H6 z) 4 0 mY (by omega) (by omega) (fun v hv => by omega)⟩
    · rw [nI_clamp (by omega : i + 3 < 2 ^ 31)]
      have e3 : nI (i + 3) + 1 = nI (i + 1 + 3) := (nI_1 (i + 3)).trans (congrArg nI (by omega))
      have hs := la_ct_s i (fun v => mY (v + 3))
      have h := ih (i + 1) (by omega) (by omega)
      cases hq2 : mY (i + 3)
      · refine br_t (by show bI (mY (i + 3)) = 0; rw [hq2]; rfl) (nm_r e3 ?_)
        have e4 : la_ct (i + 1) (fun v => mY (v + 3)) = la_ct i (fun v => mY (v + 3)) := by rw [hs]; show _ + (if mY (i + 3) = true then 1 else 0) = _; rw [hq2]; rfl
        rw [e4] at h
        exact h
      · refine br_f (by show ¬ bI (mY (i + 3)) = 0; rw [hq2]; decide) (nm_r (nI_1 _) (nm_r e3 ?_))
        have e4 : la_ct (i + 1) (fun v => mY (v + 3)) = la_ct i (fun v => mY (v + 3)) + 1 := by rw [hs]; show _ + (if mY (i + 3) = true then 1 else 0) = _; rw [hq2]; rfl
        rw [e4] at h
        exact h
theorem yk_ack {post : Int32 → SY → Prop} {s v : Nat} (hs : s < 8) (hv : v < 3) (hm : sm s = v + 3) (hb1 : sg s < 2 ^ 31) (hb2 : ng 0 < 2 ^ 31) (hq : q < 2 ^ 31)
    (H0 : sg s ≠ ng 0 → post 0 (nI k, nI l, nI q, nI (2 + d), nI fc, nI ff, tI fi, nA kd, nA sg, nA sm, tI sv, nA ng, nA cn, tI vs, bA mY, bA kn, tI wd, tI fo, tI re)) (H1 : sg s = ng 0 → mY (v + 3) = true → post 1 (nI k, nI l, nI q, nI (2 + d), nI fc, nI ff, tI fi, nA kd, nA sg, nA sm, tI sv, nA ng, nA cn, tI vs, bA mY, bA kn, tI wd, tI fo, tI re))
    (H5 : sg s = ng 0 → mY (v + 3) = false → la_ct 3 (fun e => fu mY (v + 3) true (e + 3)) < q → post 5 (nI k, nI l, nI q, nI (2 + d), nI fc, nI ff, tI fi, nA kd, nA sg, nA sm, tI sv, nA ng, nA cn, tI vs, bA (fu mY (v + 3) true), bA kn, tI wd, tI fo, tI re))
    (H6 : sg s = ng 0 → mY (v + 3) = false → q ≤ la_ct 3 (fun e => fu mY (v + 3) true (e + 3)) → ∀ m, (∀ v, v < 3 → m (v + 3) = false) → post 6 (nI k, nI l, nI q, nI (2 + d), nI fc, nI ff, tI fi, nA kd, nA sg, nA sm, tI sv, nA (fu ng 0 (ng 0 + 1)), nA cn, tI vs, bA m, bA kn, tI wd, tI fo, tI re)) :
    wpY_deliverAck post (nI k, nI l, nI q, nI (2 + d), nI fc, nI ff, tI fi, nA kd, nA sg, nA sm, tI sv, nA ng, nA cn, tI vs, bA mY, bA kn, tI wd, tI fo, tI re) (nI s) := by
  unfold wpY_deliverAck
  dsimp only
  rw [nI_clamp (by omega : s < 2 ^ 31), show nA sm s = nI (v + 3) from congrArg nI hm, nI_clamp (by omega : v + 3 < 2 ^ 31)]
  refine ⟨pk_in s 8 hs, pk_eq (sg s) (ng 0) (fun g => ⟨pk_in s 8 hs, pk_in (v + 3) 6 (by omega), ?_⟩) (fun g => H0 g)⟩
  cases hq2 : mY (v + 3)
  · refine br_t (by show bI (mY (v + 3)) = 0; rw [hq2]; rfl) ⟨pk_in s 8 hs, pk_in (v + 3) 6 (by omega), bA_nw true vb1 ?_⟩
    exact ⟨4, yk_49 hq (H5 g hq2) (H6 g hq2) 4 0 (by omega) (by omega)⟩
  · exact br_f (by show ¬ bI (mY (v + 3)) = 0; rw [hq2]; decide) (H1 g hq2)
/-! the vector of a slot -/
theorem yk_133 {post : Int32 → SY → Prop} {s nd : Nat} (hs : s < 8) (H : ∀ w, (∀ t, t < 6 → w t = sv (s * 6 + t)) → ∀ n, wY_deliver_133 post (nI s) (nI nd) (nI k) (nI l) (nI q) (nI (2 + d)) (nI fc) (nI ff) (n + 1) 6 (tI fi) (nA kd) (nA sg) (nA sm) (tI sv) (nA ng) (nA cn) (tI vs) (bA mY) (bA kn) (tI w) (tI fo) (tI re)) : ∀ (n i : Nat) (w : Nat → gf_K), i ≤ 6 → 6 < n + i → (∀ t, t < i → w t = sv (s * 6 + t)) → wY_deliver_133 post (nI s) (nI nd) (nI k) (nI l) (nI q) (nI (2 + d)) (nI fc) (nI ff) n (nI i) (tI fi) (nA kd) (nA sg) (nA sm) (tI sv) (nA ng) (nA cn) (tI vs) (bA mY) (bA kn) (tI w) (tI fo) (tI re) := by
  intro n
  induction n with
  | zero => intro i w h1 h2; omega
  | succ n ih =>
    intro i w h1 h2 h3
    by_cases e : i = 6
    · subst e
      exact H w h3 n
    · exact br_f (nI_ge (b := 6) (by omega) (by omega)) ⟨pk_in (s * 6 + i) 48 (by omega) ix_6, pk_in i 6 (by omega), tI_nm i (sv (s * 6 + i)) rfl (by omega) (by rw [ix_6, nI_clamp (by omega : s * 6 + i < 2 ^ 31)]) (nm_r (nI_1 i) (ih (i + 1) _ (by omega) (by omega) (fu_lt (Q := fun t x => x = sv (s * 6 + t)) h3 rfl)))⟩
theorem yk_70 {post : Int32 → SY → Prop} {s nd : Nat} (hs : s < 8) (h1 : 1 ≤ nd) (h6 : nd < 6) (hb1 : sg s < 2 ^ 31) (hb2 : ng nd < 2 ^ 31) (hle : ng nd ≤ sg s)
    (H : ∀ c0 w, (c0 = if sg s ≤ ng nd then cn else fu cn nd 0) → (∀ t, t < 6 → w t = sv (s * 6 + t)) → ∀ n, wY_deliver_133 post (nI s) (nI nd) (nI k) (nI l) (nI q) (nI (2 + d)) (nI fc) (nI ff) (n + 1) 6 (tI fi) (nA kd) (nA sg) (nA sm) (tI sv) (nA (fu ng nd (sg s))) (nA c0) (tI vs) (bA mY) (bA kn) (tI w) (tI fo) (tI re)) :
    wY_deliver_70 post (nI s) (nI nd) (nI k) (nI l) (nI q) (nI (2 + d)) (nI fc) (nI ff) (tI fi) (nA kd) (nA sg) (nA sm) (tI sv) (nA ng) (nA cn) (tI vs) (bA mY) (bA kn) (tI wd) (tI fo) (tI re) := by
  unfold wY_deliver_70
  rw [nI_clamp (by omega : s < 2 ^ 31), nI_clamp (by omega : nd < 2 ^ 31)]
  refine br_f (nI_ne0 (by omega) (by omega)) ⟨pk_in s 8 hs, pk_in nd 6 h6, br_t (nI_le hle (by omega)) ⟨pk_in s 8 hs, pk_in nd 6 h6, pk_le (sg s) (ng nd) (fun g => ?_) (fun g => ⟨pk_in nd 6 h6, nA_nw 0 rfl ⟨pk_in s 8 hs, pk_in nd 6 h6, nA_nw (sg s) rfl ?_⟩⟩)⟩⟩
  · have e : ng nd = sg s := by omega
    rw [fu_same e] at H
    exact ⟨7, yk_133 hs (fun w hw n => H cn w (if_pos g).symm hw n) 7 0 wd (by omega) (by omega) (fun t ht => by omega)⟩
  · exact ⟨7, yk_133 hs (fun w hw n => H _ w (if_neg (by omega)).symm hw n) 7 0 wd (by omega) (by omega) (fun t ht => by omega)⟩
/-! to a relay -/
theorem yk_223 {post : Int32 → SY → Prop} {nd : Nat} (hnd : nd < 6) (hc : cn nd < 6)
    (H : ∀ v, (∀ t, t < 6 → vR v nd (cn nd) t = wd t) → (∀ j, j < nd * 36 + cn nd * 6 ∨ nd * 36 + cn nd * 6 + 6 ≤ j → v j = vs j) → post 2 (nI k, nI l, nI q, nI (2 + d), nI fc, nI ff, tI fi, nA kd, nA sg, nA sm, tI sv, nA ng, nA (fu cn nd (cn nd + 1)), tI v, bA mY, bA kn, tI wd, tI fo, tI re)) : wY_deliver_223 post (nI nd) (nI k) (nI l) (nI q) (nI (2 + d)) (nI fc) (nI ff) (tI fi) (nA kd) (nA sg) (nA sm) (tI sv) (nA ng) (nA cn) (tI vs) (bA mY) (bA kn) (tI wd) (tI fo) (tI re) := by
  unfold wY_deliver_223
  exact yw_sto hnd hc H
theorem yk_179 {post : Int32 → SY → Prop} {nd : Nat} {v0 : Nat → gf_K} (hnd : nd < 6)
    (H : ∀ v, (∀ t, t < 18 → v (nd * 36 + t) = v0 (nd * 36 + t + 6)) → (∀ j, j < nd * 36 ∨ nd * 36 + 18 ≤ j → v j = v0 j) → wY_deliver_223 post (nI nd) (nI k) (nI l) (nI q) (nI (2 + d)) (nI fc) (nI ff) (tI fi) (nA kd) (nA sg) (nA sm) (tI sv) (nA ng) (nA (fu cn nd 3)) (tI v) (bA mY) (bA kn) (tI wd) (tI fo) (tI re)) :
    ∀ (n i : Nat) (v : Nat → gf_K), i ≤ 18 → 18 < n + i → (∀ t, t < i → v (nd * 36 + t) = v0 (nd * 36 + t + 6)) → (∀ j, j < nd * 36 ∨ nd * 36 + i ≤ j → v j = v0 j) → wY_deliver_179 post (nI nd) (nI k) (nI l) (nI q) (nI (2 + d)) (nI fc) (nI ff) n (nI i) (tI fi) (nA kd) (nA sg) (nA sm) (tI sv) (nA ng) (nA cn) (tI v) (bA mY) (bA kn) (tI wd) (tI fo) (tI re) := by
  intro n
  induction n with
  | zero => intro i w h1 h2; omega
  | succ n ih =>
    intro i v h1 h2 h3 h4
    refine pk_le 18 i (fun g => ⟨pk_in nd 6 hnd, nA_nm nd 3 rfl (by omega) rfl (H v (fun t ht => h3 t (by omega)) (fun j hj => h4 j (by omega)))⟩) (fun g => ?_)
    have e0 : nI nd * 36 + nI i = nI (nd * 36 + i) := by rw [show nI nd * 36 = nI (nd * 36) from pk_mul nd 36, nI_add]
    have e1 : nI nd * 36 + nI i + 6 = nI (nd * 36 + i + 6) := by rw [e0]; exact nI_add _ 6
    refine ⟨pk_in (nd * 36 + i + 6) 216 (by omega) e1, pk_in (nd * 36 + i) 216 (by omega) e0, tI_nm (nd * 36 + i) (v0 (nd * 36 + i + 6)) e0 (by omega) ?_ (nm_r (nI_1 i) (ih (i + 1) _ (by omega) (by omega) (fun t ht => ?_) (fun j hj => ?_)))⟩
    · rw [e1, nI_clamp (by omega : nd * 36 + i + 6 < 2 ^ 31)]
      show gf_I (v _) = _
      rw [h4 _ (by omega)]
    · by_cases e : t = i
      · rw [e, fu_s]
      · rw [fu_n (by omega)]; exact h3 t (by omega)
    · rw [fu_n (by omega)]; exact h4 j (by omega)
theorem yk_rel {post : Int32 → SY → Prop} {s r : Nat} (hr : r < 2) (hc : cn (r + 1) ≤ 4)
    (H : ∀ v' c', ry_M vs cn wd (r + 1) v' c' → post 2 (nI k, nI l, nI q, nI (2 + d), nI fc, nI ff, tI fi, nA kd, nA sg, nA sm, tI sv, nA ng, nA c', tI v', bA mY, bA kn, tI wd, tI fo, tI re)) : ∀ n, wY_deliver_133 post (nI s) (nI (r + 1)) (nI k) (nI l) (nI q) (nI (2 + d)) (nI fc) (nI ff) (n + 1) 6 (tI fi) (nA kd) (nA sg) (nA sm) (tI sv) (nA ng) (nA cn) (tI vs) (bA mY) (bA kn) (tI wd) (tI fo) (tI re) := by
  intro n
  refine br_t (by decide) (br_f (nI_nlt (a := 2) (b := r + 1) (by omega) (by omega)) ⟨pk_in (r + 1) 6 (by omega), ?_⟩)
  rw [nI_clamp (by omega : r + 1 < 2 ^ 31)]
  refine pk_eq (cn (r + 1)) 4 (fun g => ?_) (fun g => ?_)
  · refine ⟨19, yk_179 (v0 := vs) (by omega) (fun v h1 h2 => yk_223 (by omega) (by rw [fu_s]; omega) (fun v' h3 h4 => ?_)) 19 0 vs (by omega) (by omega) (fun t ht => by omega) (fun _ _ => rfl)⟩
    rw [fu_s] at h3 h4 ⊢
    have ec : fu (fu cn (r + 1) 3) (r + 1) (3 + 1) = fu cn (r + 1) 4 := by
      funext j
      by_cases e : j = r + 1
      · rw [e, fu_s, fu_s]
      · rw [fu_n e, fu_n e, fu_n e]
    rw [ec]
    refine H v' _ ⟨fun z => by omega, fun _ => ⟨rfl, fun p hp t ht => ?_, h3⟩, fun j hj => ?_⟩
    · show v' ((r + 1) * 36 + p * 6 + t) = vs ((r + 1) * 36 + (p + 1) * 6 + t)
      rw [h4 _ (by omega), show (r + 1) * 36 + p * 6 + t = (r + 1) * 36 + (p * 6 + t) by omega, h1 _ (by omega)]
      congr 1
      omega
    · rw [h4 _ (by omega), h2 _ (by omega)]
  · refine yk_223 (by omega) (by omega) (fun v' h3 h4 => H v' _ ⟨fun z => ⟨rfl, fun p hp t ht => ?_, h3⟩, fun z => by omega, fun j hj => h4 j (by omega)⟩)
    exact h4 _ (by omega)
/-! to a receiver -/
theorem yk_266 {post : Int32 → SY → Prop} {J : Int32 → (Nat → Int32) → (Nat → Int32) → (Nat → Int32) → (Nat → Int32) → (Nat → Int32) → (Nat → Int32) → (Nat → Int32) → (Nat → Int32) → (Nat → Int32) → (Nat → Int32) → (Nat → Int32) → (Nat → Int32) → (Nat → Int32) → Prop} {nd i : Nat} {D : Nat → Bool} {k0 : Nat → Bool} (hk : k ≤ 6) (hl : l ≤ 4) (hnd : nd < 6) (hi : i < k) (hg : ng nd * k * l + k * l ≤ 72)
    (HJ : ∀ m, (∀ j, m j = true ↔ k0 j = true ∨ mkS l (fun a => D a = true) (nd * 72 + ng nd * k * l) (i + 1) 0 j) → J (nI (i + 1)) (tI fi) (nA kd) (nA sg) (nA sm) (tI sv) (nA ng) (nA cn) (tI vs) (bA mY) (bA m) (tI wd) (tI fo) (tI re)) :
    ∀ (n e : Nat) (m : Nat → Bool), e ≤ l → l < n + e → (∀ j, m j = true ↔ k0 j = true ∨ mkS l (fun a => D a = true) (nd * 72 + ng nd * k * l) i e j) → wY_deliver_266 post J (nI nd) (dbits D k) (nI i) (nI k) (nI l) (nI q) (nI (2 + d)) (nI fc) (nI ff) n (nI e) (tI fi) (nA kd) (nA sg) (nA sm) (tI sv) (nA ng) (nA cn) (tI vs) (bA mY) (bA m) (tI wd) (tI fo) (tI re) := by
  intro n
  induction n with
  | zero => intro e m h1 h2; omega
  | succ n ih =>
    intro e m h1 h2 h3
    refine pk_le l e (fun z => nm_r (nI_1 i) (HJ m (fun j => ?_))) (fun z => ⟨pk_in nd 6 hnd, ?_⟩)
    · obtain rfl : e = l := by omega
      rw [h3 j, mkS_e]
    · rw [nI_clamp (by omega : nd < 2 ^ 31)]
      have hpos := en_pos hi z hg
      refine nm_r (e' := nI (ng nd * k * l + i * l + e)) (by show nI (ng nd) * nI k * nI l + nI i * nI l + nI e = _; rw [pk_mul, pk_mul, pk_mul, nI_add, nI_add]) ?_
      have hbit := gf_bit1 (dbits D k) i (by omega)
      rw [dbits_bit k i (by omega) (by omega), decide_eq_true hi, Bool.true_and] at hbit
      cases hd : D i
      · refine br_f (fun y => by rw [hbit, hd] at y; cases y) (nm_r (nI_1 e) (ih (e + 1) m (by omega) (by omega) (fun j => ?_)))
        rw [h3 j]
        refine or_congr_right ⟨?_, ?_⟩
        · rintro ⟨a, c, a1, a2, a3, a4⟩
          exact ⟨a, c, by omega, a2, a3, a4⟩
        · rintro ⟨a, c, a1, a2, a3, a4⟩
          have : a ≠ i := fun y => by rw [y, hd] at a3; cases a3
          exact ⟨a, c, by omega, a2, a3, a4⟩
      · refine br_t (hbit.mpr hd) (br_f (nI_pos (by omega)) (br_f (nI_ge (b := 72) hpos (by omega)) ?_))
        have e2 : nI nd * 72 + nI (ng nd * k * l + i * l + e) = nI (nd * 72 + (ng nd * k * l + i * l + e)) := by rw [show nI nd * 72 = nI (nd * 72) from pk_mul nd 72, nI_add]
        refine ⟨pk_in (nd * 72 + (ng nd * k * l + i * l + e)) 432 (by omega) e2, bA_nm (nd * 72 + (ng nd * k * l + i * l + e)) true e2 (by omega) vb1 (nm_r (nI_1 e) (ih (e + 1) _ (by omega) (by omega) (fun j => ?_)))⟩
        rw [mkS_s (D := fun a => D a = true) z hd, ← or_assoc, ← h3 j]
        by_cases y : j = nd * 72 + (ng nd * k * l + i * l + e)
        · rw [y, fu_s]
          exact ⟨fun _ => Or.inr (by omega), fun _ => rfl⟩
        · rw [fu_n y]
          exact ⟨Or.inl, fun w => w.resolve_right (fun w => y (by omega))⟩
theorem yk_254 {post : Int32 → SY → Prop} {nd N : Nat} {D : Nat → Bool} {k0 : Nat → Bool} (hk : k ≤ 6) (hl : l ≤ 4) (h1d : 1 ≤ nd) (h2d : nd ≤ 2 + d) (hd3 : d ≤ 3) (hg : ng nd * k * l + k * l ≤ 72) (hng : ∀ i, i < 6 → ng i < 2 ^ 31) (hc : cn nd ≤ 6) (hV : ∀ p, p < cn nd → la_su k (vR vs nd p))
    (hN : ∀ ff' fo', la_FI k ff' (fF fo') (fun φ => aV cn vs nd φ ∧ aV cn vs nd φ) → k - ff' = N)
    (H : ∀ m ff' fo' re', (∀ j, m j = true ↔ k0 j = true ∨ mkS l (fun a => D a = true) (nd * 72 + ng nd * k * l) k 0 j) → post (if N = k then 4 else 3) (nI k, nI l, nI q, nI (2 + d), nI fc, nI ff', tI fi, nA kd, nA sg, nA sm, tI sv, nA ng, nA cn, tI vs, bA mY, bA m, tI wd, tI fo', tI re')) :
    ∀ (n i : Nat) (m : Nat → Bool), i ≤ k → k < n + i → (∀ j, m j = true ↔ k0 j = true ∨ mkS l (fun a => D a = true) (nd * 72 + ng nd * k * l) i 0 j) → wY_deliver_254 post (nI nd) (dbits D k) (nI k) (nI l) (nI q) (nI (2 + d)) (nI fc) (nI ff) n (nI i) (tI fi) (nA kd) (nA sg) (nA sm) (tI sv) (nA ng) (nA cn) (tI vs) (bA mY) (bA m) (tI wd) (tI fo) (tI re) := by
  intro n
  induction n with
  | zero => intro e m h1 h2; omega
  | succ n ih =>
    intro i m h1 h2 h3
    refine pk_le k i (fun z => ?_) (fun z => ?_)
    · obtain rfl : i = k := by omega
      refine yw_rank hk hd3 h1d h2d h1d h2d hng hc hc hV hV (fun y => absurd rfl y) (fun _ f1 f2 f3 hF => ?_)
      rw [hN f1 f2 hF]
      have hN6 : N ≤ i := by have := hN f1 f2 hF; omega
      refine pk_eq N i (fun y => ?_) (fun y => ?_)
      · have := H m f1 f2 f3 h3
        rw [if_pos y] at this
        exact this
      · have := H m f1 f2 f3 h3
        rw [if_neg y] at this
        exact this
    · exact ⟨5, yk_266 hk hl (by omega) z hg (fun m' hm' => ih (i + 1) m' (by omega) (by omega) hm') 5 0 m (by omega) (by omega) h3⟩
theorem yk_recv {post : Int32 → SY → Prop} {s nd : Nat} (hk : k ≤ 6) (hl : l ≤ 4) (h3d : 3 ≤ nd) (h2d : nd ≤ 2 + d) (hd3 : d ≤ 3) (hg : ng nd * k * l + k * l ≤ 72) (hng : ∀ i, i < 6 → ng i < 2 ^ 31) (hc : cn nd ≤ 6) (hV : ∀ p, p < cn nd → la_su k (vR vs nd p)) (hw : la_su k wd)
    (H1 : (∀ φ, aV cn vs nd φ → la_dot φ wd = 0#8) → ∀ ff' fo' re', post 1 (nI k, nI l, nI q, nI (2 + d), nI fc, nI ff', tI fi, nA kd, nA sg, nA sm, tI sv, nA ng, nA cn, tI vs, bA mY, bA kn, tI wd, tI fo', tI re'))
    (H0 : (¬ ∀ φ, aV cn vs nd φ → la_dot φ wd = 0#8) → cn nd < 6 ∧ ∀ v', (∀ t, t < 6 → vR v' nd (cn nd) t = wd t) → (∀ j, j < nd * 36 + cn nd * 6 ∨ nd * 36 + cn nd * 6 + 6 ≤ j → v' j = vs j) → ∃ N, (∀ ff' fo', la_FI k ff' (fF fo') (fun φ => aV (fu cn nd (cn nd + 1)) v' nd φ ∧ aV (fu cn nd (cn nd + 1)) v' nd φ) → k - ff' = N) ∧
      ∀ m ff' fo' re' wd', (∀ j, m j = true ↔ kn j = true ∨ mkS l (yDec (fu cn nd (cn nd + 1)) v' nd) (nd * 72 + ng nd * k * l) k 0 j) → post (if N = k then 4 else 3) (nI k, nI l, nI q, nI (2 + d), nI fc, nI ff', tI fi, nA kd, nA sg, nA sm, tI sv, nA ng, nA (fu cn nd (cn nd + 1)), tI v', bA mY, bA m, tI wd', tI fo', tI re')) :
    ∀ n, wY_deliver_133 post (nI s) (nI nd) (nI k) (nI l) (nI q) (nI (2 + d)) (nI fc) (nI ff) (n + 1) 6 (tI fi) (nA kd) (nA sg) (nA sm) (tI sv) (nA ng) (nA cn) (tI vs) (bA mY) (bA kn) (tI wd) (tI fo) (tI re) := by
  intro n
  refine br_t (by decide) (br_t (nI_lt (a := 2) (by omega) (by omega)) (yb_in hk (by omega) hc hV hw (fun hz f1 f2 f3 => ?_) (fun hz f1 f2 f3 => ?_)))
  · exact br_f (by decide) (H1 hz f1 f2 f3)
  · obtain ⟨hc6, H0⟩ := H0 hz
    refine br_t rfl (yw_sto (by omega) hc6 (fun v' h1 h2 => ?_))
    obtain ⟨N, hN, H0⟩ := H0 v' h1 h2
    have hc' : fu cn nd (cn nd + 1) nd ≤ 6 := by rw [fu_s]; omega
    have hV' : ∀ p, p < fu cn nd (cn nd + 1) nd → la_su k (vR v' nd p) := by
      intro p hp
      rw [fu_s] at hp
      by_cases e : p = cn nd
      · rw [e]
        intro i a b
        rw [h1 i b]; exact hw i a b
      · intro i a b
        show v' _ = _
        rw [h2 _ (by omega)]
        exact hV p (by omega) i a b
    refine yw_dec hk (by omega) h2d hd3 hc' hV' (fun g1 g2 g3 g4 => ?_)
    refine Exists.intro 7 (yk_254 (k0 := kn) (N := N) hk hl (by omega) h2d hd3 hg hng hc' hV' hN (fun m e1 e2 e3 hm => H0 m e1 e2 e3 g4 (fun j => ?_)) 7 0 kn (by omega) (by omega) (fun j => ⟨Or.inl, fun z => z.resolve_right mkS_0⟩))
    rw [hm j]
    refine or_congr_right ?_
    constructor
    · rintro ⟨a, c, a1, a2, a3, a4⟩
      exact ⟨a, c, a1, a2, tb_t.mp a3, a4⟩
    · rintro ⟨a, c, a1, a2, a3, a4⟩
      exact ⟨a, c, a1, a2, tb_t.mpr a3, a4⟩
end
end
section
/-! ===== the invariant under deliveries ===== -/
theorem aV_c {cn y : Nat → Nat} {vs v : Nat → gf_K} {nd : Nat} (hc : y nd = cn nd) (hv : ∀ p, p < cn nd → ∀ t, t < 6 → vR v nd p t = vR vs nd p t) (φ : Nat → gf_K) : aV y v nd φ ↔ aV cn vs nd φ := by
  unfold aV
  rw [hc]
  constructor
  · intro h p hp
    rw [← la_dot_c (hv p hp)]; exact h p hp
  · intro h p hp
    rw [la_dot_c (hv p hp)]; exact h p hp
theorem mkS_c {l base base' n j j' : Nat} {D E : Nat → Prop} (hD : ∀ a, a < n → (D a ↔ E a)) (hj : ∀ x, j = base + x ↔ j' = base' + x) : mkS l D base n 0 j ↔ mkS l E base' n 0 j' := by
  constructor
  · rintro ⟨a, c, h1, h2, h3, h4⟩
    refine ⟨a, c, h1, h2, (hD a (by omega)).mp h3, ?_⟩
    have := (hj (a * l + c)).mp (by omega)
    omega
  · rintro ⟨a, c, h1, h2, h3, h4⟩
    refine ⟨a, c, h1, h2, (hD a (by omega)).mpr h3, ?_⟩
    have := (hj (a * l + c)).mpr (by omega)
    omega
section
variable {k l d q fc mk ff : Nat} {ae al : Nat → Int32} {fi sr mr bs ab wk wt sv vs wd fo re : Nat → gf_K} {mX bh ak mY kn : Nat → Bool} {ng kd sg sm mc bd cn : Nat → Nat}
theorem inv_node (h : nInv k l d q fc mk ae al fi mX ng kd sg sm sr mr mc bs bh bd ab ak sv cn vs mY kn) {m g : Nat} {b' v' m' ab' : Nat → gf_K} {h' ak' kn' : Nat → Bool} {d' c' y' : Nat → Nat} (hm : m < 5) (hF : xFr m bs bh bd b' h' d') (hB : xB k b' h' d' m (aV y' v' (m + 1)) (rwT k l fi g)) (hsu : ∀ p, p < y' (m + 1) → la_su k (vR v' (m + 1) p)) (hc6 : y' (m + 1) ≤ 6) (hg : g * k * l + k * l ≤ fc) (hcf : ∀ n, n ≠ m + 1 → y' n = cn n) (hvf : ∀ j, j < (m + 1) * 36 ∨ (m + 1) * 36 + 36 ≤ j → v' j = vs j)
    (hRl : nRl k l fi (fu ng (m + 1) g) m' c' y' v') (hRv : nRv d' y') (hAr : nAr fc fi ab' ak' kn') :
    nInv k l d q fc mk ae al fi mX (fu ng (m + 1) g) kd sg sm sr m' c' b' h' d' ab' ak' sv y' v' mY kn' := by
  obtain ⟨hT, hS, hG, hSl, hN, _, _, hMk, _⟩ := h
  refine ⟨hT, hS, fun i hi => ?_, hSl, fun n hn => ?_, hRl, hRv, hMk, hAr⟩
  · by_cases e : i = m + 1
    · rw [e, fu_s]; omega
    · rw [fu_n e]; exact hG i hi
  · by_cases e : n = m
    · rw [e, fu_s]
      exact ⟨hB, hsu, hc6, fun _ => hg⟩
    · rw [fu_n (by omega)]
      obtain ⟨a1, a2, a3, a4⟩ := hN n hn
      have ec : y' (n + 1) = cn (n + 1) := hcf _ (by omega)
      have ev : ∀ p, p < cn (n + 1) → ∀ t, t < 6 → vR v' (n + 1) p t = vR vs (n + 1) p t := fun p hp t ht => hvf _ (by omega)
      refine ⟨la_BI_A (xFr_B hS.2.1 (rw_LT hS.2.1 hS.2.2.2.1) hF (by omega) (by omega) a1) (aV_c ec ev), ?_, by omega, by rw [ec]; exact a4⟩
      rw [ec]
      intro p hp i b c
      rw [ev p hp i c]
      exact a2 p hp i b c
theorem inv_nd (h : nInv k l d q fc mk ae al fi mX ng kd sg sm sr mr mc bs bh bd ab ak sv cn vs mY kn) {v g : Nat} {b' v' ab' : Nat → gf_K} {h' ak' kn' : Nat → Bool} {d' y' : Nat → Nat} (hv : v < 3) (hF : xFr (v + 2) bs bh bd b' h' d') (hB : xB k b' h' d' (v + 2) (aV y' v' (v + 3)) (rwT k l fi g)) (hsu : ∀ p, p < y' (v + 3) → la_su k (vR v' (v + 3) p)) (hc6 : y' (v + 3) ≤ 6) (hg : g * k * l + k * l ≤ fc) (hcf : ∀ n, n ≠ v + 3 → y' n = cn n) (hvf : ∀ j, j < (v + 3) * 36 ∨ (v + 3) * 36 + 36 ≤ j → v' j = vs j)
    (hRl : nRl k l fi (fu ng (v + 3) g) mr mc y' v') (hRv : nRv d' y') (hAr : nAr fc fi ab' ak' kn') :
    nInv k l d q fc mk ae al fi mX (fu ng (v + 3) g) kd sg sm sr mr mc b' h' d' ab' ak' sv y' v' mY kn' :=
  inv_node h (m := v + 2) (by omega) hF hB hsu hc6 hg hcf hvf hRl hRv hAr
theorem inv_relay (h : nInv k l d q fc mk ae al fi mX ng kd sg sm sr mr mc bs bh bd ab ak sv cn vs mY kn) {s r : Nat} {b' v' m' w : Nat → gf_K} {h' : Nat → Bool} {d' c' y' c0 y0 : Nat → Nat} (hs : s < 8) (hr : r < 2) (hk1 : kd s = 1)
    (hc0 : c0 = if sg s ≤ ng (r + 1) then mc else fu mc r 0) (hy0 : y0 = if sg s ≤ ng (r + 1) then cn else fu cn (r + 1) 0)
    (hM : rl_M mr c0 (fun t => sr (s * 10 + t)) r m' c') (hw : ∀ t, t < 6 → w t = sv (s * 6 + t)) (hY : ry_M vs y0 w (r + 1) v' y')
    (hB : xB k b' h' d' r (fun φ => ∀ p, p < c' r → la_dot φ (mR m' r p) = 0#8) (rwT k l fi (sg s))) (hF : xFr r bs bh bd b' h' d') (hTr : ∀ p, p < c' r → rwT k l fi (sg s) (mR m' r p)) :
    nInv k l d q fc mk ae al fi mX (fu ng (r + 1) (sg s)) kd sg sm sr m' c' b' h' d' ab ak sv y' v' mY kn := by
  have h00 := h
  obtain ⟨hT, hS, hG, hSl, hN, hRl, hRv, hMk, hAr⟩ := h00
  obtain ⟨hk, hbd, hd1, _⟩ := hSl s hs
  obtain ⟨a1, a2, a3⟩ := hRl r hr
  have hg := hbd (by omega)
  have hsv : ∀ t, t < 6 → sr (s * 10 + t) = w t := fun t ht => by rw [hw t ht]; exact (hd1 hk1).1 t ht
  have e0 : c0 r = y0 (r + 1) ∧ c0 r ≤ 4 ∧ ∀ p, p < c0 r → ∀ t, t < 6 → mR mr r p t = vR vs (r + 1) p t := by
    by_cases g : sg s ≤ ng (r + 1)
    · rw [hc0, hy0, if_pos g, if_pos g]
      exact ⟨a1, by omega, fun p hp t ht => (a3 p (by omega)).1 t ht⟩
    · rw [hc0, hy0, if_neg g, if_neg g, fu_s, fu_s]
      exact ⟨rfl, by omega, fun p hp => by omega⟩
  have eo : (∀ x, x ≠ r → c0 x = mc x) ∧ ∀ x, x ≠ r + 1 → y0 x = cn x := by
    by_cases g : sg s ≤ ng (r + 1)
    · rw [hc0, hy0, if_pos g, if_pos g]; exact ⟨fun _ _ => rfl, fun _ _ => rfl⟩
    · rw [hc0, hy0, if_neg g, if_neg g]; exact ⟨fun _ hx => fu_n hx, fun _ hx => fu_n hx⟩
  have key : (c' r = y' (r + 1) ∧ c' r ≤ 4 ∧ (∀ p, p < c' r → ∀ t, t < 6 → mR m' r p t = vR v' (r + 1) p t)) ∧ (∀ x, x ≠ r → c' x = mc x) ∧ ∀ x, x ≠ r + 1 → y' x = cn x := by
    by_cases g : c0 r < 4
    · obtain ⟨p1, p2, p3⟩ := hM.1 g
      obtain ⟨q1, q2, q3⟩ := hY.1 (by omega)
      refine ⟨⟨by rw [p1, q1, fu_s, fu_s, e0.1], by rw [p1, fu_s]; omega, fun p hp t ht => ?_⟩, fun x hx => by rw [p1, fu_n hx]; exact eo.1 x hx, fun x hx => by rw [q1, fu_n hx]; exact eo.2 x hx⟩
      rw [p1, fu_s] at hp
      by_cases e : p = c0 r
      · rw [e, p3 t (by omega), e0.1, q3 t ht]
        exact hsv t ht
      · rw [p2 p (by omega) t (by omega), q2 p (by omega) t ht]
        exact e0.2.2 p (by omega) t ht
    · obtain ⟨p1, p2, p3⟩ := hM.2.1 g
      obtain ⟨q1, q2, q3⟩ := hY.2.1 (by omega)
      refine ⟨⟨by rw [p1, q1, fu_s, fu_s], by rw [p1, fu_s]; omega, fun p hp t ht => ?_⟩, fun x hx => by rw [p1, fu_n hx]; exact eo.1 x hx, fun x hx => by rw [q1, fu_n hx]; exact eo.2 x hx⟩
      rw [p1, fu_s] at hp
      by_cases e : p = 3
      · rw [e, p3 t (by omega), q3 t ht]
        exact hsv t ht
      · rw [p2 p (by omega) t (by omega), q2 p (by omega) t ht]
        exact e0.2.2 (p + 1) (by omega) t ht
  obtain ⟨⟨k1, k2, k3⟩, k4, k5⟩ := key
  refine inv_node h (by omega) hF (la_BI_A hB (fun φ => ?_)) (fun p hp i b c => ?_) (by omega) hg k5 hY.2.2 (fun x hx => ?_) (fun v hv => ?_) hAr
  · unfold aV
    rw [← k1]
    exact ⟨fun z p hp => by rw [la_dot_c (k3 p hp)]; exact z p hp, fun z p hp => by rw [← la_dot_c (k3 p hp)]; exact z p hp⟩
  · rw [← k3 p (by omega) i c]
    exact (hTr p (by omega)).1 i b c
  · by_cases e : x = r
    · rw [e, fu_s]
      exact ⟨k1, by omega, fun p hp => ⟨k3 p (by omega), hTr p (by omega)⟩⟩
    · obtain ⟨b1, b2, b3⟩ := hRl x hx
      rw [k4 x e, k5 (x + 1) (by omega), fu_n (by omega)]
      refine ⟨b1, b2, fun p hp => ⟨fun i hi => ?_, ?_⟩⟩
      · have e1 : mR m' x p i = mR mr x p i := hM.2.2 _ (by omega)
        have e2 : vR v' (x + 1) p i = vR vs (x + 1) p i := hY.2.2 _ (by omega)
        rw [e1, e2]
        exact (b3 p hp).1 i hi
      · exact (rw_LT hS.2.1 hS.2.2.2.1).1 _ _ (fun t ht => (hM.2.2 _ (by omega)).symm) (b3 p hp).2
  · rw [k5 _ (by omega), hRv v hv, (hF (v + 2) (by omega) (by omega)).1]
theorem inv_rlv (h : nInv k l d q fc mk ae al fi mX ng kd sg sm sr mr mc bs bh bd ab ak sv cn vs mY kn) {v g : Nat} {v' : Nat → gf_K} {y' : Nat → Nat} (hcf : ∀ n, n ≠ v + 3 → y' n = cn n) (hvf : ∀ j, j < (v + 3) * 36 ∨ (v + 3) * 36 + 36 ≤ j → v' j = vs j) : nRl k l fi (fu ng (v + 3) g) mr mc y' v' := by
  obtain ⟨hT, hS, hG, hSl, hN, hRl, hRv, hMk, hAr⟩ := h
  intro r hr
  obtain ⟨b1, b2, b3⟩ := hRl r hr
  rw [hcf _ (by omega), fu_n (by omega)]
  refine ⟨b1, b2, fun p hp => ⟨fun i hi => ?_, (b3 p hp).2⟩⟩
  have e2 : vR v' (r + 1) p i = vR vs (r + 1) p i := hvf _ (by omega)
  rw [e2]
  exact (b3 p hp).1 i hi
theorem inv_ack5 (h : nInv k l d q fc mk ae al fi mX ng kd sg sm sr mr mc bs bh bd ab ak sv cn vs mY kn) {v : Nat} (hv : v < 3) (hq : mX v = false) : nInv k l d q fc (mk + 1) ae al fi (fu mX v true) ng kd sg sm sr mr mc bs bh bd ab ak sv cn vs (fu mY (v + 3) true) kn := by
  obtain ⟨hT, hS, hG, hSl, hN, hRl, hRv, hMk, hAr⟩ := h
  refine ⟨hT, hS, hG, hSl, hN, hRl, hRv, ⟨fun e he => ?_, ?_⟩, hAr⟩
  · by_cases z : e = v
    · rw [z, fu_s, fu_s]
    · rw [fu_n z, fu_n (by omega)]; exact hMk.1 e he
  · rw [la_ct_set hv hq, hMk.2]
theorem inv_ackN (h : nInv k l d q fc mk ae al fi mX ng kd sg sm sr mr mc bs bh bd ab ak sv cn vs mY kn) {v : Nat} (hv : v < 3) (hq : mX v = false) : la_ct 3 (fun e => fu mY (v + 3) true (e + 3)) = mk + 1 := by
  obtain ⟨hT, hS, hG, hSl, hN, hRl, hRv, hMk, hAr⟩ := h
  rw [hMk.2, ← la_ct_set hv hq]
  refine la_ct_c (fun e he => ?_)
  show fu mY (v + 3) true (e + 3) = fu mX v true e
  by_cases z : e = v
  · rw [z, fu_s, fu_s]
  · rw [fu_n z, fu_n (by omega)]; exact (hMk.1 e he).symm
theorem inv_ack6 (h : nInv k l d q fc mk ae al fi mX ng kd sg sm sr mr mc bs bh bd ab ak sv cn vs mY kn) {m m2 : Nat → Bool} (hm : ∀ r, r < 3 → m r = false) (hm2 : ∀ v, v < 3 → m2 (v + 3) = false) (hg : ng 0 * k * l + k * l ≤ fc) : nInv k l d q fc 0 ae al fi m (fu ng 0 (ng 0 + 1)) kd sg sm sr mr mc bs bh bd ab ak sv cn vs m2 kn := by
  obtain ⟨hT, hS, hG, hSl, hN, hRl, hRv, hMk, hAr⟩ := h
  refine ⟨hT, hS, fun i hi => ?_, hSl, fun n hn => ?_, fun r hr => ?_, hRv, ⟨fun e he => ?_, ?_⟩, hAr⟩
  · by_cases e : i = 0
    · rw [e, fu_s, succ_kl]; exact hg
    · rw [fu_n e]; exact hG i hi
  · rw [fu_n (by omega)]; exact hN n hn
  · rw [fu_n (by omega)]; exact hRl r hr
  · rw [hm e he, hm2 e he]
  · have := la_ct_lt (n := 3) (m := 0) (P := m) (by omega) (fun i hi z => by rw [hm i hi] at z; cases z)
    omega
end
end
section
section
variable {k l d q fc mk ff : Nat} {ae al : Nat → Int32} {fi sr mr bs ab wk wt sv vs wd fo re : Nat → gf_K} {mX bh ak mY kn : Nat → Bool} {ng kd sg sm mc bd cn : Nat → Nat}
theorem dl_recv (h : nInv k l d q fc mk ae al fi mX ng kd sg sm sr mr mc bs bh bd ab ak sv cn vs mY kn) {kk s v : Nat} (hs : s < 8) (hv3 : v < 3) (hn : v + 3 ≤ 2 + d) (g : kd s = 1) (hle : ng (v + 3) ≤ sg s) {Q : Int32 → SX → Prop} (hQ : ∀ r u', wY_deliver_70 (fun r' v' => r' = r ∧ i_Rel kk u' v') (nI s) (nI (v + 3)) (nI k) (nI l) (nI q) (nI (2 + d)) (nI fc) (nI ff) (tI fi) (nA kd) (nA sg) (nA sm) (tI sv) (nA ng) (nA cn) (tI vs) (bA mY) (bA kn) (tI wd) (tI fo) (tI re) → Q r u') : wpX_deliverToReceiver Q (nI k, nI l, nI d, nI q, 10, 5, nI fc, nI mk, ae, al, tI fi, bA mX, nA ng, nA kd, nA sg, nA sm, tI sr, tI mr, nA mc, tI bs, bA bh, nA bd, tI ab, bA ak, tI wk, tI wt) (nI s) (nI (v + 3)) := by
  have h0 := h
  obtain ⟨hT, ⟨k1, k6, l1, l4, d1, d3, q1, qd, fc7⟩, hG, hSl, hN, hRl, hRv, hMk, hAr⟩ := h0
  obtain ⟨hk, hbd, hd1, hd2⟩ := hSl s hs
  have hng : ∀ i, i < 6 → ng i ≤ 72 := fun i hi => by have := n_bd k1 l1 (hG i hi); omega
  have hb := hbd (by omega)
  have hsg : sg s ≤ 72 := n_bd k1 l1 (show sg s * k * l ≤ 72 by omega)
  have hgm := hng (v + 3) (by omega)
  obtain ⟨hrow, hTs⟩ := hd1 g
  have hNv : xB k bs bh bd (v + 2) (aV cn vs (v + 3)) (rwT k l fi (ng (v + 3))) ∧ (∀ p, p < cn (v + 3) → la_su k (vR vs (v + 3) p)) ∧ cn (v + 3) ≤ 6 := ⟨(hN (v + 2) (by omega)).1, (hN (v + 2) (by omega)).2.1, (hN (v + 2) (by omega)).2.2.1⟩
  obtain ⟨hB, hsu, hc6⟩ := hNv
  have hcv : cn (v + 3) = bd (v + 2) := hRv v hv3
  have hLT : la_LT (rwT k l fi (sg s)) := rw_LT k6 l4
  refine xw_toRecv (v := v) hT k6 l4 hs hv3 fc7 hb hAr.1 (by omega) (by omega) hle hTs hB (fun h1 d1 hF hB1 hd hz w => hQ _ _ (yk_70 hs (by omega) (by omega) (by omega) (by omega) hle (fun c0 w2 hc0 hw2 nn2 => ?_))) (fun h1 d1 hF hB1 hd hz w b' h' d' ab' ak' hB2 hd2 hF2 hA2 hK2 => hQ _ _ (yk_70 hs (by omega) (by omega) (by omega) (by omega) hle (fun c0 w2 hc0 hw2 nn2 => ?_)))
  all_goals
    have hc0v : c0 (v + 3) ≤ cn (v + 3) ∧ c0 (v + 3) = d1 (v + 2) ∧ (∀ n, n ≠ v + 3 → c0 n = cn n) ∧ ∀ φ, aV c0 vs (v + 3) φ ↔ (sg s ≤ ng (v + 3) → aV cn vs (v + 3) φ) := by
      rw [hd, hc0]
      by_cases z : sg s ≤ ng (v + 3)
      · rw [if_pos z, if_pos z]
        exact ⟨Nat.le_refl _, hcv, fun _ _ => rfl, fun φ => ⟨fun y _ => y, fun y => y z⟩⟩
      · rw [if_neg z, if_neg z]
        refine ⟨by rw [fu_s]; omega, fu_s, fun n hn => fu_n hn, fun φ => ⟨fun _ y => absurd y z, fun _ p hp => ?_⟩⟩
        rw [fu_s] at hp
        omega
    obtain ⟨hc1, hc2, hc3, hc4⟩ := hc0v
    have hwd : ∀ t, t < 6 → w2 t = sr (s * 10 + t) := fun t ht => by rw [hw2 t ht, hrow t ht]
    have hwsu : la_su k w2 := fun i a b => by rw [hwd i b]; exact hTs.1 i a b
    have hsp : (∀ φ, aV c0 vs (v + 3) φ → la_dot φ w2 = 0#8) ↔ ∀ i, i < k → la_rd k (bP h1 (v + 2)) (bR bs (v + 2)) (fun t => sr (s * 10 + t)) i = 0#8 := by
      rw [← n_span k6 rw_su hB1 hTs.1]
      exact ⟨fun a φ hφ => by rw [← la_dot_c hwd]; exact a φ ((hc4 φ).mpr hφ), fun a φ hφ => by rw [la_dot_c hwd]; exact a φ ((hc4 φ).mp hφ)⟩
    have hgg : fu ng (v + 3) (sg s) (v + 3) * k * l + k * l ≤ 72 := by rw [fu_s]; omega
    have hngg : ∀ i, i < 6 → fu ng (v + 3) (sg s) i < 2 ^ 31 := by
      intro i hi
      by_cases e : i = v + 3
      · rw [e, fu_s]; omega
      · rw [fu_n e]; have := hng i hi; omega
  · refine yk_recv k6 l4 (by omega) hn d3 hgg hngg (by omega) (fun p hp => hsu p (by omega)) hwsu (fun _ f1 f2 f3 => ⟨rfl, zz_in ?_⟩) (fun a => absurd (hsp.mpr hz) a) nn2
    refine inv_nd h hv3 hF (la_BI_A hB1 hc4) (fun p hp => hsu p (by omega)) (by omega) hb hc3 (fun _ _ => rfl) (inv_rlv h hc3 (fun _ _ => rfl)) (fun e he => ?_) hAr
    by_cases z : e = v
    · rw [z]; exact hc2
    · rw [hc3 _ (by omega), hRv e he, (hF (e + 2) (by omega) (by omega)).1]
  · have hdk : d' (v + 2) ≤ k := by rw [hB2.2.2.1]; exact la_ct_lt k6 hB2.1
    refine yk_recv k6 l4 (by omega) hn d3 hgg hngg (by omega) (fun p hp => hsu p (by omega)) hwsu (fun a => absurd (hsp.mp a) hz) (fun _ => ⟨by omega, fun v' g1 g2 => ⟨d' (v + 2), ?_⟩⟩) nn2
    have hAA : ∀ φ, aV (fu c0 (v + 3) (c0 (v + 3) + 1)) v' (v + 3) φ ↔ (sg s ≤ ng (v + 3) → aV cn vs (v + 3) φ) ∧ la_dot φ (fun t => sr (s * 10 + t)) = 0#8 := by
      intro φ
      have ed : la_dot φ (vR v' (v + 3) (c0 (v + 3))) = la_dot φ (fun t => sr (s * 10 + t)) := la_dot_c (fun t ht => by rw [g1 t ht, hwd t ht])
      have ep : ∀ p, p < c0 (v + 3) → la_dot φ (vR v' (v + 3) p) = la_dot φ (vR vs (v + 3) p) := fun p hp => la_dot_c (fun t ht => g2 _ (by omega))
      rw [← hc4 φ, ← ed]
      unfold aV
      rw [fu_s]
      constructor
      · exact fun z => ⟨fun p hp => by rw [← ep p hp]; exact z p (by omega), z _ (by omega)⟩
      · intro z p hp
        by_cases e : p = c0 (v + 3)
        · rw [e]; exact z.2
        · rw [ep p (by omega)]; exact z.1 p (by omega)
    have hB3 := la_BI_A hB2 hAA
    refine ⟨fun f1 f2 hFI => ?_, fun mm f1 f2 f3 f4 hK3 => ⟨?_, zz_in ?_⟩⟩
    · have := la_dim hFI hB3.2.1 k6 (fun c hc hp => (hB3.2.2.2.2 c hc hp).1) hB3.1 (fun φ => by rw [← hB3.2.2.2.1 φ]; exact and_self_iff)
      have e := hB3.2.2.1
      omega
    · by_cases z : d' (v + 2) = k
      · rw [if_pos z, if_neg (by omega)]
      · rw [if_neg z, if_pos (by omega)]
    · have hvf : ∀ j, j < (v + 3) * 36 ∨ (v + 3) * 36 + 36 ≤ j → v' j = vs j := fun j hj => g2 j (by omega)
      have hcf : ∀ n, n ≠ v + 3 → fu c0 (v + 3) (c0 (v + 3) + 1) n = cn n := fun n hn => by rw [fu_n hn]; exact hc3 n hn
      refine inv_nd h hv3 hF2 hB3 (fun p hp => ?_) (by rw [fu_s]; omega) hb hcf hvf (inv_rlv h hcf hvf) (fun e he => ?_) ⟨hA2, fun x hx p hp => ?_⟩
      · rw [fu_s] at hp
        by_cases e : p = c0 (v + 3)
        · rw [e]
          intro i a b
          rw [g1 i b]; exact hwsu i a b
        · intro i a b
          show v' _ = _
          rw [g2 _ (by omega)]
          exact hsu p (by omega) i a b
      · by_cases z : e = v
        · rw [z, fu_s, hd2, hc2]
        · rw [hcf _ (by omega), hRv e he, (hF2 (e + 2) (by omega) (by omega)).1]
      · have e1 := hK2 (x * 72 + p)
        have e2 := hK3 ((x + 3) * 72 + p)
        rw [fu_s] at e2
        have e3 : mkS l (xDec k b' h' (v + 2)) (v * 72 + sg s * k * l) k 0 (x * 72 + p) ↔ mkS l (yDec (fu c0 (v + 3) (c0 (v + 3) + 1)) v' (v + 3)) ((v + 3) * 72 + sg s * k * l) k 0 ((x + 3) * 72 + p) :=
          mkS_c (fun a ha => n_dec k6 rw_su hB3 ha) (fun y => by omega)
        rw [e3, hAr.2 x hx p hp, ← e2] at e1
        cases q1 : ak' (x * 72 + p) <;> cases q2 : mm ((x + 3) * 72 + p)
        · rfl
        · rw [q1, q2] at e1; exact absurd (e1.mpr rfl) (by decide)
        · rw [q1, q2] at e1; exact absurd (e1.mp rfl) (by decide)
        · rfl
end
end
section
theorem i_vc_deliver {k : Nat} {u : SX} {v : SY} (I : i_Rel k u v) (hk : k + 5 ≤ 2564) (v1 : Int32) (v2 : Int32) : wpX_deliver (fun r u' => wpY_deliver (fun r' v' => r' = r ∧ i_Rel (k + 5) u' v') v v1 v2) u v1 v2 := by
  refine zz_el (P := fun u v => wpX_deliver (fun r u' => wpY_deliver (fun r' v' => r' = r ∧ i_Rel (k + 5) u' v') v v1 v2) u v1 v2) ?_ I
  intro k l d q fc mk ff ae al fi sr mr bs ab wk wt sv vs wd fo re mX bh ak mY kn ng kd sg sm mc bd cn h
  have h0 := h
  obtain ⟨hT, ⟨k1, k6, l1, l4, d1, d3, q1, qd, fc7⟩, hG, hSl, hN, hRl, hRv, hMk, hAr⟩ := h0
  unfold wpX_deliver
  rcases pk_ix v1 (n := 8) (by omega) with z | z | ⟨s, hs, rfl⟩
  · exact xq_slot0 (Or.inl z) (br_t rfl (br_t z ⟨rfl, zz_in h⟩))
  · exact xq_slot0 (Or.inr z) (br_t rfl (br_f (ic_n0 (by omega) z) (br_t z ⟨rfl, zz_in h⟩)))
  · refine xq_slot1 hs (br_f (by decide) ?_)
    have y1 : ¬ nI s < 0 := nI_pos (by omega)
    have y2 : ¬ (8 : Int32) ≤ nI s := nI_ge (b := 8) hs (by omega)
    have y3 : vp_in (nI s) 8 := pk_in s 8 hs
    rcases ic_r v2 0 (2 + d) (by omega) (by omega) with z | ⟨z, y⟩ | ⟨n, _, hn, rfl⟩
    · exact xq_node0 (Or.inl z) (br_t rfl (br_f y1 (br_f y2 (br_t z ⟨rfl, zz_in h⟩))))
    · exact xq_node0 (Or.inr ⟨z, y⟩) (br_t rfl (br_f y1 (br_f y2 (br_f z (br_f (ic_nle y) ⟨rfl, zz_in h⟩)))))
    · refine xq_node1 d3 hn (br_f (by decide) ?_)
      have y5 : ¬ nI n < 0 := nI_pos (by omega)
      have y6 : nI n ≤ nI (2 + d) := nI_le hn (by omega)
      obtain ⟨hk, hbd, hd1, hd2⟩ := hSl s hs
      have hng : ∀ i, i < 6 → ng i ≤ 72 := fun i hi => by have := n_bd k1 l1 (hG i hi); omega
      rw [nI_clamp (by omega : s < 2 ^ 31)]
      refine ⟨y3, nm_e ?_⟩
      have hY : ∀ (post : Int32 → SY → Prop), ((nA kd s = 0 → post (-6) (nI k, nI l, nI q, nI (2 + d), nI fc, nI ff, tI fi, nA kd, nA sg, nA sm, tI sv, nA ng, nA cn, tI vs, bA mY, bA kn, tI wd, tI fo, tI re)) ∧ (¬ nA kd s = 0 → (vp_in (nI s) 8 ∧ ((nA kd s = 1 → ((nI n = 0 → post (-7) (nI k, nI l, nI q, nI (2 + d), nI fc, nI ff, tI fi, nA kd, nA sg, nA sm, tI sv, nA ng, nA cn, tI vs, bA mY, bA kn, tI wd, tI fo, tI re)) ∧ (¬ nI n = 0 → wY_deliver_53 post (nI s) (nI n) (nI k) (nI l) (nI q) (nI (2 + d)) (nI fc) (nI ff) (tI fi) (nA kd) (nA sg) (nA sm) (tI sv) (nA ng) (nA cn) (tI vs) (bA mY) (bA kn) (tI wd) (tI fo) (tI re)))) ∧ (¬ nA kd s = 1 → wY_deliver_53 post (nI s) (nI n) (nI k) (nI l) (nI q) (nI (2 + d)) (nI fc) (nI ff) (tI fi) (nA kd) (nA sg) (nA sm) (tI sv) (nA ng) (nA cn) (tI vs) (bA mY) (bA kn) (tI wd) (tI fo) (tI re)))))) → wpY_deliver post (nI k, nI l, nI q, nI (2 + d), nI fc, nI ff, tI fi, nA kd, nA sg, nA sm, tI sv, nA ng, nA cn, tI vs, bA mY, bA kn, tI wd, tI fo, tI re) (nI s) (nI n) := by
        intro post hp
        refine br_f y1 (br_f y2 (br_f y5 (br_t y6 ?_)))
        rw [nI_clamp (by omega : s < 2 ^ 31)]
        exact ⟨y3, hp⟩
      rcases (show kd s = 0 ∨ kd s = 1 ∨ kd s = 2 by omega) with g | g | g
      · have ek : nA kd s = 0 := by show nI (kd s) = 0; rw [g]; rfl
        exact br_t ek (hY _ (br_t ek ⟨rfl, zz_in h⟩))
      · have ek0 : ¬ nA kd s = 0 := by show ¬ nI (kd s) = 0; rw [g]; decide
        have ek1 : nA kd s = 1 := by show nI (kd s) = 1; rw [g]; rfl
        have ek2 : ¬ nA kd s = 2 := by show ¬ nI (kd s) = 2; rw [g]; decide
        have hb := hbd (by omega)
        have hsg : sg s ≤ 72 := by have := n_bd k1 l1 (show sg s * k * l ≤ 72 by omega); exact this
        obtain ⟨hrow, hTs⟩ := hd1 g
        refine br_f ek0 (br_t ek1 ?_)
        unfold wX_deliver_42
        by_cases n0 : n = 0
        · subst n0
          refine br_t rfl ?_
          unfold wX_deliver_51
          exact br_t rfl (hY _ (br_f ek0 ⟨y3, br_t ek1 (br_t rfl ⟨rfl, zz_in h⟩)⟩))
        · obtain ⟨m, rfl⟩ : ∃ m, n = m + 1 := ⟨n - 1, by omega⟩
          have nn : ¬ nI (m + 1) = 0 := nI_ne0 (by omega) (by omega)
          have hgm := hng (m + 1) (by omega)
          refine br_f nn ?_
          unfold wX_deliver_51
          have hY7 : ∀ (post : Int32 → SY → Prop), wY_deliver_70 post (nI s) (nI (m + 1)) (nI k) (nI l) (nI q) (nI (2 + d)) (nI fc) (nI ff) (tI fi) (nA kd) (nA sg) (nA sm) (tI sv) (nA ng) (nA cn) (tI vs) (bA mY) (bA kn) (tI wd) (tI fo) (tI re) → wpY_deliver post (nI k, nI l, nI q, nI (2 + d), nI fc, nI ff, tI fi, nA kd, nA sg, nA sm, tI sv, nA ng, nA cn, tI vs, bA mY, bA kn, tI wd, tI fo, tI re) (nI s) (nI (m + 1)) := by
            intro post hp
            refine hY post (br_f ek0 ⟨y3, br_t ek1 (br_f nn ?_)⟩)
            unfold wY_deliver_53
            rw [nI_clamp (by omega : s < 2 ^ 31)]
            exact ⟨y3, br_f ek2 hp⟩
          refine br_f (by decide) (br_f ek2 ?_)
          rw [nI_clamp (by omega : s < 2 ^ 31), nI_clamp (by omega : m + 1 < 2 ^ 31)]
          refine ⟨y3, pk_in (m + 1) 6 (by omega), pk_le (ng (m + 1)) (sg s) (fun hle => ?_) (fun hlt => hY7 _ ?_)⟩
          · obtain ⟨hB, hsu, hc6, hbd2⟩ := hN m (by omega)
            by_cases m2 : m < 2
            · refine xq_rel1 m2 (br_f (by decide) ?_)
              obtain ⟨a1, a2, a3⟩ := hRl m m2
              have hB' : xB k bs bh bd m (fun φ => ∀ p, p < mc m → la_dot φ (mR mr m p) = 0#8) (rwT k l fi (ng (m + 1))) := by
                refine la_BI_A hB (fun φ => ?_)
                unfold aV
                rw [a1]
                exact ⟨fun z p hp => by rw [← la_dot_c (fun i hi => (a3 p hp).1 i hi)]; exact z p hp, fun z p hp => by rw [la_dot_c (fun i hi => (a3 p hp).1 i hi)]; exact z p hp⟩
              refine xw_toRelay hT k6 l4 hs m2 (by omega) (by omega) (by omega) hle (fun p hp => (a3 p (by omega)).2) hTs hB' (fun w c0 m' c' b' h' d' e1 e2 e3 e4 e5 => hY7 _ ?_)
              refine yk_70 hs (by omega) (by omega) (by omega) (by omega) hle (fun y0 w2 f1 f2 n => yk_rel m2 ?_ (fun v' y' f3 => ⟨rfl, zz_in (inv_relay h hs m2 g e1 f1 e2 f2 f3 e3 e4 e5)⟩) n)
              rw [f1]
              by_cases z : sg s ≤ ng (m + 1)
              · rw [if_pos z]; omega
              · rw [if_neg z, fu_s]; omega
            · obtain ⟨v, rfl⟩ : ∃ v, m = v + 2 := ⟨m - 2, by omega⟩
              refine xq_rel0 (fun z => ?_) (fun z => ?_) (br_t rfl (dl_recv h hs (by omega) hn g hle (fun r u' hp => hY7 _ hp)))
              · have := (nI_eq (b := 1) (by omega) (by omega)).mp z; omega
              · have := (nI_eq (b := 2) (by omega) (by omega)).mp z; omega
          · unfold wY_deliver_70
            rw [nI_clamp (by omega : s < 2 ^ 31), nI_clamp (by omega : m + 1 < 2 ^ 31)]
            exact br_f nn ⟨y3, pk_in (m + 1) 6 (by omega), br_f (nI_ge hlt (by omega)) ⟨rfl, zz_in h⟩⟩
      · have ek0 : ¬ nA kd s = 0 := by show ¬ nI (kd s) = 0; rw [g]; decide
        have ek1 : ¬ nA kd s = 1 := by show ¬ nI (kd s) = 1; rw [g]; decide
        have ek2 : nA kd s = 2 := by show nI (kd s) = 2; rw [g]; rfl
        have hb := hbd (by omega)
        have hsg : sg s ≤ 72 := n_bd k1 l1 (show sg s * k * l ≤ 72 by omega)
        obtain ⟨v, hv, hm⟩ := hd2 g
        refine br_f ek0 (br_f ek1 ?_)
        unfold wX_deliver_42
        by_cases n0 : n = 0
        · subst n0
          refine br_t rfl ?_
          unfold wX_deliver_51
          refine br_f (by decide) (br_t ek2 ?_)
          have hg0 := hng 0 (by omega)
          have hmk3 : mk ≤ 3 := by rw [hMk.2]; exact la_ct_le 3 _
          have hYa : ∀ (post : Int32 → SY → Prop), wpY_deliverAck (fun r u => post r u) (nI k, nI l, nI q, nI (2 + d), nI fc, nI ff, tI fi, nA kd, nA sg, nA sm, tI sv, nA ng, nA cn, tI vs, bA mY, bA kn, tI wd, tI fo, tI re) (nI s) → wpY_deliver post (nI k, nI l, nI q, nI (2 + d), nI fc, nI ff, tI fi, nA kd, nA sg, nA sm, tI sv, nA ng, nA cn, tI vs, bA mY, bA kn, tI wd, tI fo, tI re) (nI s) (nI 0) := by
            intro post hp
            refine hY post (br_f ek0 ⟨y3, br_f ek1 ?_⟩)
            unfold wY_deliver_53
            rw [nI_clamp (by omega : s < 2 ^ 31)]
            refine ⟨y3, br_t ek2 (br_t rfl ?_)⟩
            unfold wY_deliver_70
            exact br_t rfl hp
          have hmv := hMk.1 v hv
          refine xw_src hs hv hm (by omega) (by omega) (by omega) (by omega) (fun e => hYa _ ?_) (fun e e1 => hYa _ ?_) (fun e e1 e2 => hYa _ ?_) (fun e e1 e2 m hm2 => hYa _ ?_)
          · exact yk_ack hs hv hm (by omega) (by omega) (by omega) (fun _ => ⟨rfl, zz_in h⟩) (fun f => absurd f e) (fun f => absurd f e) (fun f => absurd f e)
          · exact yk_ack hs hv hm (by omega) (by omega) (by omega) (fun f => absurd e f) (fun _ _ => ⟨rfl, zz_in h⟩) (fun _ f => by rw [← hmv, e1] at f; cases f) (fun _ f => by rw [← hmv, e1] at f; cases f)
          · exact yk_ack hs hv hm (by omega) (by omega) (by omega) (fun f => absurd e f) (fun _ f => by rw [← hmv, e1] at f; cases f) (fun _ _ _ => ⟨rfl, zz_in (inv_ack5 h hv e1)⟩) (fun _ _ f => by rw [inv_ackN h hv e1] at f; omega)
          · exact yk_ack hs hv hm (by omega) (by omega) (by omega) (fun f => absurd e f) (fun _ f => by rw [← hmv, e1] at f; cases f) (fun _ _ f => by rw [inv_ackN h hv e1] at f; omega) (fun _ _ _ m2 hm3 => ⟨rfl, zz_in (inv_ack6 h hm2 hm3 (by rw [← e]; exact hb))⟩)
        · have nn : ¬ nI n = 0 := nI_ne0 (by omega) (by omega)
          refine br_f nn ?_
          unfold wX_deliver_51
          refine br_t rfl (hY _ (br_f ek0 ⟨y3, br_f ek1 ?_⟩))
          unfold wY_deliver_53
          rw [nI_clamp (by omega : s < 2 ^ 31)]
          exact ⟨y3, br_t ek2 (br_f nn ⟨rfl, zz_in h⟩)⟩
end
section
/-! ===== the constructors ===== -/
theorem ic_clamp (x : Int32) (g : Nat) (hg1 : 1 ≤ g) (hg : g < 2 ^ 31) : ∃ c, 1 ≤ c ∧ c ≤ g ∧ (∀ (post : Int32 → Prop) (u : SX), post (nI c) → wpX_clamp post u x (nI g)) ∧ ∀ (post : Int32 → Prop) (u : SY), post (nI c) → wpY_clamp post u x (nI g) := by
  by_cases h : (1 : Int32) ≤ x
  · obtain ⟨j, hj, rfl⟩ := nI_of (ic_n0 (n := 1) (by omega) h)
    have h1 : 1 ≤ j := (nI_leI (a := 1) (by omega) hj).mp h
    by_cases h2 : j ≤ g
    · refine ⟨j, h1, h2, fun post u hp => ?_, fun post u hp => ?_⟩
      · obtain ⟨rk, rl, rd, rq, rw, rs, rf, rm, ae, al, xfi, xmX, xng, xkd, xsg, xsm, xsr, xmr, xmc, xbs, xbh, xbd, xab, xak, xwk, xwt⟩ := u
        exact br_t h (br_t (nI_le h2 hg) hp)
      · obtain ⟨rk, rl, rq, rs, rf, rm, xfi, xkd, xsg, xsm, xsv, xng, xcn, xvs, xmY, xkn, xwd, xfo, xre⟩ := u
        exact br_t h (br_t (nI_le h2 hg) hp)
    · refine ⟨g, hg1, Nat.le_refl g, fun post u hp => ?_, fun post u hp => ?_⟩
      · obtain ⟨rk, rl, rd, rq, rw, rs, rf, rm, ae, al, xfi, xmX, xng, xkd, xsg, xsm, xsr, xmr, xmc, xbs, xbh, xbd, xab, xak, xwk, xwt⟩ := u
        exact br_t h (br_f (nI_ge (by omega) hj) hp)
      · obtain ⟨rk, rl, rq, rs, rf, rm, xfi, xkd, xsg, xsm, xsv, xng, xcn, xvs, xmY, xkn, xwd, xfo, xre⟩ := u
        exact br_t h (br_f (nI_ge (by omega) hj) hp)
  · refine ⟨1, by omega, hg1, fun post u hp => ?_, fun post u hp => ?_⟩
    · obtain ⟨rk, rl, rd, rq, rw, rs, rf, rm, ae, al, xfi, xmX, xng, xkd, xsg, xsm, xsr, xmr, xmc, xbs, xbh, xbd, xab, xak, xwk, xwt⟩ := u
      exact br_f h hp
    · obtain ⟨rk, rl, rq, rs, rf, rm, xfi, xkd, xsg, xsm, xsv, xng, xcn, xvs, xmY, xkn, xwd, xfo, xre⟩ := u
      exact br_f h hp
theorem gf_x28 : ∀ a : Fin 256, (gf_I (BitVec.ofFin a) <<< ((1 : Int32) &&& 31) ≤ 255 → gf_I (BitVec.ofFin a) <<< ((1 : Int32) &&& 31) = gf_I (gf_xt (BitVec.ofFin a))) ∧ (¬ gf_I (BitVec.ofFin a) <<< ((1 : Int32) &&& 31) ≤ 255 → (gf_I (BitVec.ofFin a) <<< ((1 : Int32) &&& 31)) ^^^ 285 = gf_I (gf_xt (BitVec.ofFin a))) := by decide +kernel
theorem gf_x2 (a : gf_K) : (gf_I a <<< ((1 : Int32) &&& 31) ≤ 255 → gf_I a <<< ((1 : Int32) &&& 31) = gf_I (gf_xt a)) ∧ (¬ gf_I a <<< ((1 : Int32) &&& 31) ≤ 255 → (gf_I a <<< ((1 : Int32) &&& 31)) ^^^ 285 = gf_I (gf_xt a)) := gf_x28 a.toFin
section
variable {rk rl rd rq rw rs rf rm : Int32} {ae al xfi xmX xng xkd xsg xsm xsr xmr xmc xbs xbh xbd xab xak xwk xwt : Nat → Int32}
theorem xz_lp {post : SX → Prop} (H : ∀ e g, gf_TB e g → post (rk, rl, rd, rq, rw, rs, rf, rm, e, g, xfi, xmX, xng, xkd, xsg, xsm, xsr, xmr, xmc, xbs, xbh, xbd, xab, xak, xwk, xwt)) :
    ∀ (n i : Nat) (e g : Nat → Int32), i ≤ 255 → 255 < n + i → (∀ j, j < i → e j = gf_I (gf_E j) ∧ e (j + 255) = gf_I (gf_E j)) → (∀ j, j < i → g (gf_E j).toNat = nI j) → wX_buildTables_4 post rk rl rd rq rw rs rf rm n (gf_I (gf_E i)) (nI i) e g xfi xmX xng xkd xsg xsm xsr xmr xmc xbs xbh xbd xab xak xwk xwt := by
  intro n
  induction n with
  | zero => intro i e g h1 h2; omega
  | succ n ih =>
    intro i e g h1 h2 h3 h4
    refine pk_le 255 i (fun z => H e g ⟨fun j hj => ?_, fun j hj => h4 j (by omega)⟩) (fun z => ?_)
    · by_cases y : j < 255
      · exact (h3 j (by omega)).1
      · have := (h3 (j - 255) (by omega)).2
        rw [show j - 255 + 255 = j by omega] at this
        rw [this]
        have e2 := gf_Ep (j - 255)
        rw [show j - 255 + 255 = j by omega] at e2
        rw [e2]
    · have e5 : nI i + 255 = nI (i + 255) := nI_add i 255
      have hlt := gf_lt (gf_E i)
      rw [e5, nI_clamp (by omega : i < 2 ^ 31), nI_clamp (by omega : i + 255 < 2 ^ 31), gf_clI]
      have hE : ∀ j, j < i + 1 → upd (upd e i (gf_I (gf_E i))) (i + 255) (gf_I (gf_E i)) j = gf_I (gf_E j) ∧ upd (upd e i (gf_I (gf_E i))) (i + 255) (gf_I (gf_E i)) (j + 255) = gf_I (gf_E j) := by
        intro j hj
        by_cases y : j = i
        · subst y
          exact ⟨by rw [pk_un (by omega), pk_us], pk_us⟩
        · exact ⟨by rw [pk_un (by omega), pk_un y]; exact (h3 j (by omega)).1, by rw [pk_un (by omega), pk_un (by omega)]; exact (h3 j (by omega)).2⟩
      have hL : ∀ j, j < i + 1 → upd g (gf_E i).toNat (nI i) (gf_E j).toNat = nI j := by
        intro j hj
        by_cases y : j = i
        · subst y; exact pk_us
        · rw [pk_un (fun w => y ?_)]
          · exact h4 j (by omega)
          · have w2 : gf_E j = gf_E i := BitVec.eq_of_toNat_eq w
            have := congrArg gf_dl w2
            rw [gf_dlE (by omega), gf_dlE (by omega)] at this
            exact this
      have hx := gf_x2 (gf_E i)
      refine ⟨pk_in i 512 (by omega), nm_e ⟨pk_in (i + 255) 512 (by omega), nm_e ⟨vp_in_nI hlt (by decide), nm_e (nm_e ⟨fun y => nm_r (nI_1 i) ?_, fun y => nm_r (hx.2 y) (nm_r (nI_1 i) ?_)⟩)⟩⟩⟩
      · rw [hx.1 y]
        exact ih (i + 1) _ _ (by omega) (by omega) hE hL
      · exact ih (i + 1) _ _ (by omega) (by omega) hE hL
theorem xz_tab {post : SX → Prop} (H : ∀ e g, gf_TB e g → post (rk, rl, rd, rq, rw, rs, rf, rm, e, g, xfi, xmX, xng, xkd, xsg, xsm, xsr, xmr, xmc, xbs, xbh, xbd, xab, xak, xwk, xwt)) : wpX_buildTables post (rk, rl, rd, rq, rw, rs, rf, rm, ae, al, xfi, xmX, xng, xkd, xsg, xsm, xsr, xmr, xmc, xbs, xbh, xbd, xab, xak, xwk, xwt) :=
  Exists.intro 256 (xz_lp H 256 0 ae al (by omega) (by omega) (fun j hj => by omega) (fun j hj => by omega))
end
theorem inv_0 {k l d q : Nat} {ae al : Nat → Int32} (hT : gf_TB ae al) (k1 : 1 ≤ k) (k6 : k ≤ 6) (l1 : 1 ≤ l) (l4 : l ≤ 4) (d1 : 1 ≤ d) (d3 : d ≤ 3) (q1 : 1 ≤ q) (qd : q ≤ d) : nInv k l d q 0 0 ae al (fun _ => 0#8) (fun _ => false) (fun _ => 0) (fun _ => 0) (fun _ => 0) (fun _ => 0) (fun _ => 0#8) (fun _ => 0#8) (fun _ => 0) (fun _ => 0#8) (fun _ => false) (fun _ => 0) (fun _ => 0#8) (fun _ => false) (fun _ => 0#8) (fun _ => 0) (fun _ => 0#8) (fun _ => false) (fun _ => false) := by
  refine ⟨hT, ⟨k1, k6, l1, l4, d1, d3, q1, qd, Nat.zero_le _⟩, fun i _ => ?_, fun s _ => ⟨Nat.zero_le _, fun z => absurd rfl z, fun z => absurd (show (0 : Nat) = 1 from z) (by decide), fun z => absurd (show (0 : Nat) = 2 from z) (by decide)⟩, fun m _ => ⟨?_, fun p hp => absurd hp (Nat.not_lt_zero _), Nat.zero_le _, fun z => absurd z (Nat.not_lt_zero _)⟩, fun r _ => ⟨rfl, Nat.zero_le _, fun p hp => absurd hp (Nat.not_lt_zero _)⟩, fun v _ => rfl, ⟨fun _ _ => rfl, ?_⟩, ⟨fun v _ p _ z => (nomatch z), fun _ _ _ _ => rfl⟩⟩
  · show 0 * k * l ≤ 0
    rw [Nat.zero_mul, Nat.zero_mul]
    exact Nat.le_refl 0
  · exact la_BI_A (la_BI_0 (fun _ _ => rfl) k6) (fun φ => ⟨fun _ => trivial, fun _ p hp => absurd hp (Nat.not_lt_zero _)⟩)
  · have := la_ct_lt (n := 3) (m := 0) (P := fun _ => false) (by omega) (fun i hi z => by cases z)
    omega
theorem i_vc0 (k0 : Int32) (k1 : Int32) (k2 : Int32) (k3 : Int32) : wpX_init (fun u => wpY_init (fun v => i_Rel 4 u v) k0 k1 k2 k3) k0 k1 k2 k3 := by
  obtain ⟨k, a1, a2, aX, aY⟩ := ic_clamp k0 6 (by omega) (by omega)
  obtain ⟨l, b1, b2, bX, bY⟩ := ic_clamp k1 4 (by omega) (by omega)
  obtain ⟨d, c1, c2, cX, cY⟩ := ic_clamp k2 3 (by omega) (by omega)
  obtain ⟨q, q1, q2, qX, qY⟩ := ic_clamp k3 d c1 (by omega)
  unfold wpX_init
  refine aX _ _ (bX _ _ (cX _ _ (qX _ _ (xz_tab (fun e g hT => ?_)))))
  show wpY_init _ k0 k1 k2 k3
  unfold wpY_init
  refine aY _ _ (bY _ _ (cY _ _ (qY _ _ (nm_r (e' := nI (2 + d)) (nI_add 2 d) ?_))))
  exact zz_in (ff := 0) (wk := fun _ => 0#8) (wt := fun _ => 0#8) (wd := fun _ => 0#8) (fo := fun _ => 0#8) (re := fun _ => 0#8) (inv_0 hT a1 a2 b1 b2 c1 c2 q1 q2)
end
