section
/-! pure rows to paste: stores, nI and lN arithmetic, masks, shifts, narrowing, branches by naturals (pk_le, pk_lt, pk_eq), loops (lp1 .. lp16: the measure of the state; rp1 ..: recursion), negatives. Take what you need -/
theorem pk_us {f : Nat → Int32} {k : Nat} {x : Int32} : upd f k x k = x := if_pos rfl
theorem pk_un {f : Nat → Int32} {k j : Nat} {x : Int32} (h : j ≠ k) : upd f k x j = f j := if_neg h
theorem pk_uLs {f : Nat → Int64} {k : Nat} {x : Int64} : vp_updL f k x k = x := if_pos rfl
theorem pk_uLn {f : Nat → Int64} {k j : Nat} {x : Int64} (h : j ≠ k) : vp_updL f k x j = f j := if_neg h
theorem pk_sub {a b : Nat} (h : b ≤ a) : nI a - nI b = nI (a - b) := by
  obtain ⟨c, rfl⟩ : ∃ c, a = c + b := ⟨a - b, by omega⟩
  rw [← nI_add, Int32.add_sub_cancel, Nat.add_sub_cancel]
theorem pk_m1 (n : Nat) : nI (n + 1) + (-1) = nI n := by
  rw [← nI_1, Int32.add_assoc, show (1 : Int32) + (-1) = 0 from rfl, Int32.add_zero]
theorem pk_mul (a b : Nat) : nI a * nI b = nI (a * b) := (Int32.ofNat_mul a b).symm
theorem pk_div {a d : Nat} (ha : a < 2 ^ 31) (h0 : 0 < d) (hd : d < 2 ^ 31) : nI a / nI d = nI (a / d) := by
  apply Int32.toInt_inj.mp
  rw [lg_idiv_nonneg (by rw [nI_toInt ha]; omega) (by rw [nI_toInt hd]; omega), nI_toInt ha, nI_toInt hd, nI_toInt (Nat.lt_of_le_of_lt (Nat.div_le_self a d) ha)]
  first | rfl | exact (Int.natCast_ediv _ _).symm
theorem pk_rem {a d : Nat} (ha : a < 2 ^ 31) (h0 : 0 < d) (hd : d < 2 ^ 31) : nI a - nI a / nI d * nI d = nI (a % d) := by
  rw [pk_div ha h0 hd, pk_mul, pk_sub (Nat.div_mul_le_self a d)]
  exact congrArg nI (by have := Nat.div_add_mod' a d; omega)
theorem pk_sub_toInt {a b : Nat} (ha : a < 2 ^ 30) (hb : b < 2 ^ 30) : (nI a - nI b).toInt = (a : Int) - b := by
  rw [Int32.toInt_sub, nI_toInt (by omega), nI_toInt (by omega)]
  exact Int.bmod_eq_of_le (by omega) (by omega)
theorem pk_sneg {a b : Nat} (hb : b < 2 ^ 30) (h : a < b) : nI a - nI b < 0 := by
  rw [Int32.lt_iff_toInt_lt, pk_sub_toInt (by omega) hb, show (0 : Int32).toInt = 0 from by decide]
  omega
theorem pk_ix (x : Int32) {n : Nat} (hn : n < 2 ^ 31) : x < 0 ∨ nI n ≤ x ∨ ∃ j : Nat, j < n ∧ x = nI j := by
  by_cases h : x < 0
  · exact Or.inl h
  · obtain ⟨j, hj, rfl⟩ := nI_of h
    by_cases h2 : j < n
    · exact Or.inr (Or.inr ⟨j, h2, rfl⟩)
    · exact Or.inr (Or.inl (nI_le (by omega) hj))
theorem pk_le {x y : Int32} {A B : Prop} (a b : Nat) (f : a ≤ b → A) (g : b < a → B) (hx : x = nI a := by rfl) (hy : y = nI b := by rfl) (ha : a < 2 ^ 31 := by omega) (hb : b < 2 ^ 31 := by omega) : (x ≤ y → A) ∧ (¬ x ≤ y → B) := by
  subst hx hy
  rw [nI_leI ha hb]
  exact ⟨f, fun z => g (by omega)⟩
theorem pk_lt {x y : Int32} {A B : Prop} (a b : Nat) (f : a < b → A) (g : b ≤ a → B) (hx : x = nI a := by rfl) (hy : y = nI b := by rfl) (ha : a < 2 ^ 31 := by omega) (hb : b < 2 ^ 31 := by omega) : (x < y → A) ∧ (¬ x < y → B) := by
  subst hx hy
  rw [nI_ltI ha hb]
  exact ⟨f, fun z => g (by omega)⟩
theorem pk_eq {x y : Int32} {A B : Prop} (a b : Nat) (f : a = b → A) (g : a ≠ b → B) (hx : x = nI a := by rfl) (hy : y = nI b := by rfl) (ha : a < 2 ^ 31 := by omega) (hb : b < 2 ^ 31 := by omega) : (x = y → A) ∧ (¬ x = y → B) := by
  subst hx hy
  rw [nI_eq ha hb]
  exact ⟨f, g⟩
theorem pk_in {x : Int32} (n N : Nat) (h : n < N) (hx : x = nI n := by rfl) (hN : N < 2 ^ 31 := by omega) : vp_in x N := by
  subst hx
  exact vp_in_nI h hN
theorem pk_cl {x : Int32} (n : Nat) (hx : x = nI n := by rfl) (h : n < 2 ^ 31 := by omega) : x.toNatClampNeg = n := by
  subst hx
  exact nI_clamp h
theorem pk_tn {n : Nat} (h : n < 2 ^ 32) : (nI n).toBitVec.toNat = n := Nat.mod_eq_of_lt h
theorem pk_and (x : Int32) {m : Int32} (k : Nat) (hm : m.toBitVec.toNat = 2 ^ k - 1) : x &&& m = nI (x.toBitVec.toNat % 2 ^ k) := by
  apply Int32.toBitVec_inj.mp
  apply BitVec.eq_of_toNat_eq
  rw [Int32.toBitVec_and, BitVec.toNat_and, hm, Nat.and_two_pow_sub_one_eq_mod]
  show _ = (BitVec.ofNat 32 _).toNat
  rw [BitVec.toNat_ofNat]
  exact (Nat.mod_eq_of_lt (Nat.lt_of_le_of_lt (Nat.mod_le _ _) x.toBitVec.isLt)).symm
theorem pk_andN {n : Nat} (h : n < 2 ^ 32) {m : Int32} (k : Nat) (hm : m.toBitVec.toNat = 2 ^ k - 1) : nI n &&& m = nI (n % 2 ^ k) := by
  rw [pk_and _ k hm, pk_tn h]
theorem pk_andE (x : Int32) {m : Int32} (k : Nat) (hm : m.toBitVec.toNat = 2 ^ k - 1) : ∃ j : Nat, j < 2 ^ k ∧ x &&& m = nI j := ⟨_, Nat.mod_lt _ (Nat.two_pow_pos k), pk_and x k hm⟩
theorem pk_andIn (x : Int32) {m : Int32} (k : Nat) (hm : m.toBitVec.toNat = 2 ^ k - 1) (hk : k ≤ 30) : vp_in (x &&& m) (2 ^ k) := by
  obtain ⟨j, hj, e⟩ := pk_andE x k hm
  rw [e]
  exact vp_in_nI hj (Nat.lt_of_le_of_lt (Nat.pow_le_pow_right (by decide) hk) (by decide))
theorem pk_shl (a s : Int32) (k : Nat) (hs : (s.toBitVec.smod 32).toNat = k) : (a <<< s).toBitVec.toNat = a.toBitVec.toNat * 2 ^ k % 2 ^ 32 := by
  show (a.toBitVec <<< (s.toBitVec.smod 32).toNat).toNat = _
  rw [hs, BitVec.toNat_shiftLeft, Nat.shiftLeft_eq]
theorem pk_shlN {n : Nat} (s : Int32) (k : Nat) (hs : (s.toBitVec.smod 32).toNat = k) (h : n * 2 ^ k < 2 ^ 32) : nI n <<< s = nI (n * 2 ^ k) := by
  apply Int32.toBitVec_inj.mp
  apply BitVec.eq_of_toNat_eq
  have hn : n < 2 ^ 32 := Nat.lt_of_le_of_lt (Nat.le_mul_of_pos_right n (Nat.two_pow_pos k)) h
  rw [pk_shl _ _ k hs, pk_tn hn, pk_tn h, Nat.mod_eq_of_lt h]
theorem pk_shr (a s : Int32) (k : Nat) (hs : (s.toBitVec.smod 32).toNat = k) : (a >>> s).toInt = a.toInt >>> k := by
  show (a.toBitVec.sshiftRight (s.toBitVec.smod 32).toNat).toInt = _
  rw [hs, BitVec.toInt_sshiftRight]
  rfl
theorem pk_shrN {n : Nat} (h : n < 2 ^ 31) (s : Int32) (k : Nat) (hs : (s.toBitVec.smod 32).toNat = k) : nI n >>> s = nI (n / 2 ^ k) := by
  apply Int32.toInt_inj.mp
  have h2 : n / 2 ^ k ≤ n := Nat.div_le_self _ _
  rw [pk_shr _ _ k hs, nI_toInt h, nI_toInt (by omega), Int.shiftRight_eq_div_pow]
  rfl
theorem pk_ushr (x s : Int32) (k : Nat) (hs : ((s.toUInt32 &&& Int32.toUInt32 31).toBitVec % 32).toNat = k) : (x.toUInt32 >>> (s.toUInt32 &&& Int32.toUInt32 31)).toInt32.toBitVec.toNat = x.toBitVec.toNat / 2 ^ k := by
  have e : (x.toUInt32 >>> (s.toUInt32 &&& Int32.toUInt32 31)).toInt32.toBitVec = x.toBitVec >>> k := by
    rw [← hs]
    exact UInt32.toBitVec_shiftRight _ _
  rw [e, BitVec.toNat_ushiftRight, Nat.shiftRight_eq_div_pow]
theorem pk_ushrN {n : Nat} (hn : n < 2 ^ 32) (s : Int32) (k : Nat) (hs : ((s.toUInt32 &&& Int32.toUInt32 31).toBitVec % 32).toNat = k) : ((nI n).toUInt32 >>> (s.toUInt32 &&& Int32.toUInt32 31)).toInt32 = nI (n / 2 ^ k) := by
  apply Int32.toBitVec_inj.mp
  apply BitVec.eq_of_toNat_eq
  rw [pk_ushr _ s k hs, pk_tn hn, pk_tn (Nat.lt_of_le_of_lt (Nat.div_le_self _ _) hn)]
theorem pk_loop {σ : Type} (W : Nat → Nat → σ → Prop) (I : Nat → σ → Prop) (e i0 : Nat) (s : σ) (hi : i0 ≤ e) (h0 : I i0 s) (hx : ∀ n s, I e s → W (n + 1) e s)
    (hs : ∀ n i s, i < e → I i s → (∀ s', I (i + 1) s' → W n (i + 1) s') → W (n + 1) i s) : ∃ n, W n i0 s :=
  ⟨e + 1, loop_i W I e hx hs (e + 1) i0 s hi (by omega) h0⟩
theorem pk_loopD {σ : Type} (W : Nat → Nat → σ → Prop) (I : Nat → σ → Prop) (hx : ∀ n s, I 0 s → W (n + 1) 0 s)
    (hs : ∀ n i s, I (i + 1) s → (∀ s', I i s' → W n i s') → W (n + 1) (i + 1) s) : ∀ (e : Nat) (s : σ), I e s → W (e + 1) e s := by
  intro e
  induction e with
  | zero => exact fun s h => hx 0 s h
  | succ e ih => exact fun s h => hs (e + 1) e s h (fun s' h' => ih s' h')
theorem lp1 {A1 : Type} (W : Nat → A1 → Prop) (I : A1 → Prop) (μ : A1 → Nat) (hs : ∀ (n : Nat) (a1 : A1), I a1 → (∀ (b1 : A1), I b1 → μ b1 < μ a1 → W n b1) → W (n + 1) a1) (a1 : A1) (h : I a1) : ∃ n, W n a1 :=
  loop_m (σ := A1) (fun n s => W n s) (fun s => I s) (fun s => μ s) (fun n s hI hk => hs n s hI (fun b1 h9 hm => hk b1 h9 hm)) a1 h
theorem lp2 {A1 A2 : Type} (W : Nat → A1 → A2 → Prop) (I : A1 → A2 → Prop) (μ : A1 → A2 → Nat) (hs : ∀ (n : Nat) (a1 : A1) (a2 : A2), I a1 a2 → (∀ (b1 : A1) (b2 : A2), I b1 b2 → μ b1 b2 < μ a1 a2 → W n b1 b2) → W (n + 1) a1 a2) (a1 : A1) (a2 : A2) (h : I a1 a2) : ∃ n, W n a1 a2 :=
  loop_m (σ := A1 × A2) (fun n s => W n s.1 s.2) (fun s => I s.1 s.2) (fun s => μ s.1 s.2) (fun n s hI hk => hs n s.1 s.2 hI (fun b1 b2 h9 hm => hk (b1, b2) h9 hm)) (a1, a2) h
theorem lp3 {A1 A2 A3 : Type} (W : Nat → A1 → A2 → A3 → Prop) (I : A1 → A2 → A3 → Prop) (μ : A1 → A2 → A3 → Nat) (hs : ∀ (n : Nat) (a1 : A1) (a2 : A2) (a3 : A3), I a1 a2 a3 → (∀ (b1 : A1) (b2 : A2) (b3 : A3), I b1 b2 b3 → μ b1 b2 b3 < μ a1 a2 a3 → W n b1 b2 b3) → W (n + 1) a1 a2 a3) (a1 : A1) (a2 : A2) (a3 : A3) (h : I a1 a2 a3) : ∃ n, W n a1 a2 a3 :=
  loop_m (σ := A1 × A2 × A3) (fun n s => W n s.1 s.2.1 s.2.2) (fun s => I s.1 s.2.1 s.2.2) (fun s => μ s.1 s.2.1 s.2.2) (fun n s hI hk => hs n s.1 s.2.1 s.2.2 hI (fun b1 b2 b3 h9 hm => hk (b1, b2, b3) h9 hm)) (a1, a2, a3) h
/-! ===== Int32 by its bits: bt x i ===== -/
def bt (x : Int32) (i : Nat) : Bool := x.toBitVec.getLsbD i
theorem b_ext {x y : Int32} (h : ∀ i, i < 32 → bt x i = bt y i) : x = y := Int32.toBitVec_inj.mp (BitVec.eq_of_getLsbD_eq (fun i hi => h i hi))
theorem b_or (x y : Int32) (i : Nat) : bt (x ||| y) i = (bt x i || bt y i) := by unfold bt; rw [Int32.toBitVec_or, BitVec.getLsbD_or]
theorem b_and (x y : Int32) (i : Nat) : bt (x &&& y) i = (bt x i && bt y i) := by unfold bt; rw [Int32.toBitVec_and, BitVec.getLsbD_and]
theorem b_xor (x y : Int32) (i : Nat) : bt (x ^^^ y) i = (bt x i ^^ bt y i) := by unfold bt; rw [Int32.toBitVec_xor, BitVec.getLsbD_xor]
theorem b_big {x : Int32} {i : Nat} (h : 32 ≤ i) : bt x i = false := BitVec.getLsbD_of_ge _ _ h
theorem b_255 (i : Nat) : bt 255 i = decide (i < 8) := by
  rcases Nat.lt_or_ge i 32 with h | h
  · exact (by decide +kernel : ∀ i, i < 32 → bt 255 i = decide (i < 8)) i h
  · rw [b_big h, decide_eq_false (by omega)]
theorem b_65535 (i : Nat) : bt 65535 i = decide (i < 16) := by
  rcases Nat.lt_or_ge i 32 with h | h
  · exact (by decide +kernel : ∀ i, i < 32 → bt 65535 i = decide (i < 16)) i h
  · rw [b_big h, decide_eq_false (by omega)]
theorem b_m1 : ∀ i, i < 32 → bt (-1) i = true := by decide +kernel
theorem b_0 (i : Nat) : bt 0 i = false := BitVec.getLsbD_zero
theorem s_l : ∀ n, n < 32 → ((nI n &&& 31).toBitVec.smod 32).toNat = n := by decide +kernel
theorem s_u : ∀ n, n < 32 → (((nI n).toUInt32 &&& Int32.toUInt32 31).toBitVec % 32).toNat = n := by decide +kernel
theorem b_shl (n : Nat) (hn : n < 32) (x : Int32) {i : Nat} (hi : i < 32) : bt (x <<< (nI n &&& 31)) i = (decide (n ≤ i) && bt x (i - n)) := by
  unfold bt
  rw [Int32.toBitVec_shiftLeft]
  show (x.toBitVec <<< ((nI n &&& 31).toBitVec.smod 32).toNat).getLsbD i = _
  rw [s_l n hn, BitVec.getLsbD_shiftLeft]
  rcases Nat.lt_or_ge i n with h | h
  · simp [h, Nat.not_le.mpr h]
  · simp [hi, h, Nat.not_lt.mpr h]
theorem b_ushr (n : Nat) (hn : n < 32) (x : Int32) (i : Nat) : bt ((x.toUInt32 >>> ((nI n).toUInt32 &&& Int32.toUInt32 31)).toInt32) i = bt x (n + i) := by
  show (x.toUInt32 >>> ((nI n).toUInt32 &&& Int32.toUInt32 31)).toBitVec.getLsbD i = x.toUInt32.toBitVec.getLsbD (n + i)
  rw [UInt32.toBitVec_shiftRight]
  show (x.toUInt32.toBitVec >>> (((nI n).toUInt32 &&& Int32.toUInt32 31).toBitVec % 32).toNat).getLsbD i = _
  rw [s_u n hn, BitVec.getLsbD_ushiftRight]
theorem b_sshr (n : Nat) (hn : n < 32) (x : Int32) {i : Nat} (hi : i < 32) : bt (x >>> (nI n &&& 31)) i = if n + i < 32 then bt x (n + i) else bt x 31 := by
  unfold bt
  rw [Int32.toBitVec_shiftRight]
  show (x.toBitVec.sshiftRight ((nI n &&& 31).toBitVec.smod 32).toNat).getLsbD i = _
  rw [s_l n hn, BitVec.getLsbD_sshiftRight, BitVec.msb_eq_getLsbD_last]
  simp [hi]
theorem b_shl8 (x : Int32) {i : Nat} (hi : i < 32) : bt (x <<< ((8 : Int32) &&& 31)) i = (decide (8 ≤ i) && bt x (i - 8)) := b_shl 8 (by omega) x hi
theorem b_shl16 (x : Int32) {i : Nat} (hi : i < 32) : bt (x <<< ((16 : Int32) &&& 31)) i = (decide (16 ≤ i) && bt x (i - 16)) := b_shl 16 (by omega) x hi
theorem b_shl24 (x : Int32) {i : Nat} (hi : i < 32) : bt (x <<< ((24 : Int32) &&& 31)) i = (decide (24 ≤ i) && bt x (i - 24)) := b_shl 24 (by omega) x hi
theorem b_sshr8 (x : Int32) {i : Nat} (hi : i < 32) : bt (x >>> ((8 : Int32) &&& 31)) i = if 8 + i < 32 then bt x (8 + i) else bt x 31 := b_sshr 8 (by omega) x hi
/-! ===== nI under and, xor, >>>, one bit, 65535 ===== -/
theorem nx_and (a b : Nat) : nI a &&& nI b = nI (a &&& b) := by
  apply Int32.toBitVec_inj.1
  show BitVec.ofNat 32 a &&& BitVec.ofNat 32 b = BitVec.ofNat 32 (a &&& b)
  apply BitVec.eq_of_getLsbD_eq
  intro i hi
  simp [hi]
theorem nx_xor (a b : Nat) : nI a ^^^ nI b = nI (a ^^^ b) := by
  apply Int32.toBitVec_inj.1
  show BitVec.ofNat 32 a ^^^ BitVec.ofNat 32 b = BitVec.ofNat 32 (a ^^^ b)
  apply BitVec.eq_of_getLsbD_eq
  intro i hi
  simp [hi]
theorem nx_cnt : ∀ j : Fin 32, (UInt32.ofNat j.val &&& Int32.toUInt32 31).toNat % 32 = j.val := by decide +kernel
theorem nx_ush {k j : Nat} (hk : k < 65536) (hj : j < 32) : ((nI k).toUInt32 >>> ((nI j).toUInt32 &&& Int32.toUInt32 31)).toInt32 = nI (k >>> j) := by
  have hs : k >>> j ≤ k := by
    rw [Nat.shiftRight_eq_div_pow]
    exact Nat.div_le_self _ _
  have e2 : UInt32.ofNat k >>> (UInt32.ofNat j &&& Int32.toUInt32 31) = UInt32.ofNat (k >>> j) := by
    apply UInt32.toNat_inj.1
    have h1 : (UInt32.ofNat k).toNat = k := Nat.mod_eq_of_lt (by omega)
    have h2 : (UInt32.ofNat (k >>> j)).toNat = k >>> j := Nat.mod_eq_of_lt (by omega)
    rw [UInt32.toNat_shiftRight, nx_cnt ⟨j, hj⟩, h1, h2]
  show (UInt32.ofNat k >>> (UInt32.ofNat j &&& Int32.toUInt32 31)).toInt32 = _
  rw [e2]
  rfl
theorem nx_bit {k j : Nat} (hk : k < 65536) (hj : j < 16) : (((nI k).toUInt32 >>> ((nI j).toUInt32 &&& Int32.toUInt32 31)).toInt32 &&& 1) = 0 ↔ k.testBit j = false := by
  rw [nx_ush hk (by omega)]
  show nI (k >>> j) &&& nI 1 = 0 ↔ _
  rw [nx_and, Nat.and_one_is_mod, ← nI_0, nI_eq (by omega) (by omega), Nat.testBit_eq_decide_div_mod_eq, Nat.shiftRight_eq_div_pow, decide_eq_false_iff_not]
  generalize k / 2 ^ j = z
  omega
theorem nx_mod (k : Nat) : nI k &&& 65535 = nI (k % 65536) := by
  show nI k &&& nI 65535 = _
  rw [nx_and, show (65535 : Nat) = 2 ^ 16 - 1 from rfl, Nat.and_two_pow_sub_one_eq_mod]
theorem nx_m16 {k : Nat} (h : k < 65536) : nI k &&& 65535 = nI k := by rw [nx_mod, Nat.mod_eq_of_lt h]
theorem nx_mask (x : Int32) : ∃ k, k < 65536 ∧ x &&& 65535 = nI k := by
  have e : x = nI x.toBitVec.toNat := by
    apply Int32.toBitVec_inj.1
    show x.toBitVec = BitVec.ofNat 32 x.toBitVec.toNat
    simp
  refine ⟨x.toBitVec.toNat % 65536, Nat.mod_lt _ (by omega), ?_⟩
  rw [← nx_mod, ← e]
end
section
/-! ===== polynomials in five variables that are 0 or 1, as Int32: bit m is the coefficient of the monomial m ===== -/
def gb_xs : Nat → (Nat → Bool) → Bool
  | 0, _ => false
  | n + 1, f => (gb_xs n f ^^ f n)
theorem gb_xs_cong {f g : Nat → Bool} : ∀ n, (∀ i, i < n → f i = g i) → gb_xs n f = gb_xs n g := by
  intro n
  induction n with
  | zero => intro _; rfl
  | succ n ih =>
    intro h
    show (gb_xs n f ^^ f n) = (gb_xs n g ^^ g n)
    rw [ih (fun i hi => h i (by omega)), h n (by omega)]
theorem gb_xs_xor (f g : Nat → Bool) : ∀ n, gb_xs n (fun i => (f i ^^ g i)) = (gb_xs n f ^^ gb_xs n g) := by
  intro n
  induction n with
  | zero => rfl
  | succ n ih =>
    show (gb_xs n (fun i => (f i ^^ g i)) ^^ (f n ^^ g n)) = ((gb_xs n f ^^ f n) ^^ (gb_xs n g ^^ g n))
    rw [ih]
    cases gb_xs n f <;> cases gb_xs n g <;> cases f n <;> cases g n <;> rfl
theorem gb_xs_0 {f : Nat → Bool} : ∀ n, (∀ i, i < n → f i = false) → gb_xs n f = false := by
  intro n
  induction n with
  | zero => intro _; rfl
  | succ n ih =>
    intro h
    show (gb_xs n f ^^ f n) = false
    rw [ih (fun i hi => h i (by omega)), h n (by omega)]; rfl
theorem gb_xs_1 {f : Nat → Bool} {i : Nat} : ∀ n, i < n → (∀ j, j < n → j ≠ i → f j = false) → gb_xs n f = f i := by
  intro n
  induction n with
  | zero => intro h; omega
  | succ n ih =>
    intro hi h
    show (gb_xs n f ^^ f n) = f i
    by_cases e : i = n
    · subst e
      rw [gb_xs_0 i (fun j hj => h j (by omega) (by omega))]
      cases f i <;> rfl
    · rw [ih (by omega) (fun j hj hn => h j (by omega) hn), h n (by omega) (by omega)]
      cases f i <;> rfl
theorem gb_xs_and (f : Nat → Bool) (b : Bool) : ∀ n, gb_xs n (fun i => (f i && b)) = (gb_xs n f && b) := by
  intro n
  induction n with
  | zero => rfl
  | succ n ih =>
    show (gb_xs n (fun i => (f i && b)) ^^ (f n && b)) = ((gb_xs n f ^^ f n) && b)
    rw [ih]
    cases gb_xs n f <;> cases f n <;> cases b <;> rfl
theorem gb_xs_and' (f : Nat → Bool) (b : Bool) (n : Nat) : gb_xs n (fun i => (b && f i)) = (b && gb_xs n f) := by
  rw [Bool.and_comm, ← gb_xs_and]
  exact gb_xs_cong n (fun i _ => Bool.and_comm _ _)
theorem gb_xs_comm (f : Nat → Nat → Bool) (m : Nat) : ∀ n, gb_xs n (fun i => gb_xs m (fun j => f i j)) = gb_xs m (fun j => gb_xs n (fun i => f i j)) := by
  intro n
  induction n with
  | zero => exact (gb_xs_0 m (fun _ _ => rfl)).symm
  | succ n ih =>
    show (gb_xs n (fun i => gb_xs m (fun j => f i j)) ^^ gb_xs m (fun j => f n j)) = gb_xs m (fun j => (gb_xs n (fun i => f i j) ^^ f n j))
    rw [ih, gb_xs_xor]
theorem gb_xs_ex {f : Nat → Bool} : ∀ n, gb_xs n f = true → ∃ i, i < n ∧ f i = true := by
  intro n
  induction n with
  | zero => intro h; exact absurd (show false = true from h) (by decide)
  | succ n ih =>
    intro h
    by_cases e : f n = true
    · exact ⟨n, by omega, e⟩
    · have e' : f n = false := by cases h9 : f n; rfl; exact absurd h9 e
      have h' : (gb_xs n f ^^ f n) = true := h
      rw [e'] at h'
      obtain ⟨i, hi, h2⟩ := ih (by cases h9 : gb_xs n f; rw [h9] at h'; exact h'; rfl)
      exact ⟨i, by omega, h2⟩
/-- one bit -/
def gb_e (m : Nat) : Int32 := (1 : Int32) <<< (nI m &&& 31)
theorem gb_e_tab : ∀ m, m < 32 → ∀ i, i < 32 → bt (gb_e m) i = decide (i = m) := by decide +kernel
theorem gb_bt_e {m : Nat} (hm : m < 32) (i : Nat) : bt (gb_e m) i = decide (i = m) := by
  rcases Nat.lt_or_ge i 32 with h | h
  · exact gb_e_tab m hm i h
  · rw [b_big h, decide_eq_false (by omega)]
/-- the sum of the f t with b t -/
def gb_sum : Nat → (Nat → Int32) → (Nat → Bool) → Int32
  | 0, _, _ => 0
  | n + 1, f, b => gb_sum n f b ^^^ (if b n = true then f n else 0)
theorem gb_bt_sum (f : Nat → Int32) (b : Nat → Bool) (i : Nat) : ∀ n, bt (gb_sum n f b) i = gb_xs n (fun t => (b t && bt (f t) i)) := by
  intro n
  induction n with
  | zero => exact b_0 i
  | succ n ih =>
    show bt (gb_sum n f b ^^^ (if b n = true then f n else 0)) i = (gb_xs n (fun t => (b t && bt (f t) i)) ^^ (b n && bt (f n) i))
    rw [b_xor, ih]
    cases b n
    · show (_ ^^ bt 0 i) = (_ ^^ (false && _))
      rw [b_0]; rfl
    · rfl
theorem gb_sum_ind (S : Int32 → Prop) (h0 : S 0) (hx : ∀ a b, S a → S b → S (a ^^^ b)) (f : Nat → Int32) (b : Nat → Bool) : ∀ n, (∀ t, t < n → b t = true → S (f t)) → S (gb_sum n f b) := by
  intro n
  induction n with
  | zero => intro _; exact h0
  | succ n ih =>
    intro h
    show S (gb_sum n f b ^^^ (if b n = true then f n else 0))
    refine hx _ _ (ih (fun t ht => h t (by omega))) ?_
    by_cases e : b n = true
    · rw [if_pos e]; exact h n (by omega) e
    · rw [if_neg e]; exact h0
theorem gb_xx (a : Int32) : a ^^^ a = 0 := b_ext (fun i _ => by rw [b_xor, b_0]; cases bt a i <;> rfl)
theorem gb_x0 (a : Int32) : a ^^^ 0 = a := b_ext (fun i _ => by rw [b_xor, b_0]; cases bt a i <;> rfl)
theorem gb_0x (a : Int32) : 0 ^^^ a = a := b_ext (fun i _ => by rw [b_xor, b_0]; cases bt a i <;> rfl)
theorem gb_xc (a b : Int32) : a ^^^ b = b ^^^ a := b_ext (fun i _ => by rw [b_xor, b_xor]; cases bt a i <;> cases bt b i <;> rfl)
theorem gb_xa (a b c : Int32) : a ^^^ b ^^^ c = a ^^^ (b ^^^ c) := b_ext (fun i _ => by simp only [b_xor]; cases bt a i <;> cases bt b i <;> cases bt c i <;> rfl)
theorem gb_x4 (a b c d : Int32) : (a ^^^ b) ^^^ (c ^^^ d) = (a ^^^ c) ^^^ (b ^^^ d) := b_ext (fun i _ => by simp only [b_xor]; cases bt a i <;> cases bt b i <;> cases bt c i <;> cases bt d i <;> rfl)
theorem gb_xeq {a b : Int32} (h : a ^^^ b = 0) : a = b := b_ext (fun i _ => by
  have h1 : bt (a ^^^ b) i = false := by rw [h, b_0]
  rw [b_xor] at h1
  cases h2 : bt a i <;> cases h3 : bt b i <;> rw [h2, h3] at h1 <;> first | rfl | exact absurd h1 (by decide))
theorem gb_nz {a : Int32} (h : a ≠ 0) : ∃ i, i < 32 ∧ bt a i = true := by
  refine Classical.byContradiction fun hn => h (b_ext fun i hi => ?_)
  rw [b_0]
  cases e : bt a i
  · rfl
  · exact absurd ⟨i, hi, e⟩ hn
theorem gb_bt_of (b : Nat → Bool) {i : Nat} (hi : i < 32) : bt (gb_sum 32 gb_e b) i = b i := by
  rw [gb_bt_sum, gb_xs_1 (i := i) 32 hi]
  · rw [gb_bt_e hi, decide_eq_true rfl, Bool.and_true]
  · intro j hj hn
    rw [gb_bt_e hj, decide_eq_false (fun h => hn h.symm), Bool.and_false]
theorem gb_dec (p : Int32) : gb_sum 32 gb_e (bt p) = p := b_ext (fun _ hi => gb_bt_of (bt p) hi)
/-- a polynomial lies in every set that is closed under sums and holds its monomials -/
theorem gb_mon_ind (S : Int32 → Prop) (h0 : S 0) (hx : ∀ a b, S a → S b → S (a ^^^ b)) (p : Int32) (h : ∀ t, t < 32 → bt p t = true → S (gb_e t)) : S p := by
  have := gb_sum_ind S h0 hx gb_e (bt p) 32 h
  rw [gb_dec] at this
  exact this
/-- a polynomial times a monomial -/
def gb_mt (f : Nat) (p : Int32) : Int32 := gb_sum 32 (fun t => gb_e (t ||| f)) (bt p)
theorem gb_or_lt {a b : Nat} (ha : a < 32) (hb : b < 32) : a ||| b < 32 := Nat.or_lt_two_pow (n := 5) ha hb
theorem gb_bt_mt {f : Nat} (hf : f < 32) (p : Int32) (i : Nat) : bt (gb_mt f p) i = gb_xs 32 (fun t => (bt p t && decide (i = t ||| f))) := by
  unfold gb_mt
  rw [gb_bt_sum]
  exact gb_xs_cong 32 (fun t ht => by rw [gb_bt_e (gb_or_lt ht hf)])
theorem gb_mt_xor {f : Nat} (hf : f < 32) (p q : Int32) : gb_mt f (p ^^^ q) = gb_mt f p ^^^ gb_mt f q := by
  apply b_ext
  intro i _
  rw [b_xor, gb_bt_mt hf, gb_bt_mt hf, gb_bt_mt hf, ← gb_xs_xor]
  exact gb_xs_cong 32 (fun t _ => by rw [b_xor]; cases bt p t <;> cases bt q t <;> cases decide (i = t ||| f) <;> rfl)
theorem gb_mt_0 {f : Nat} (hf : f < 32) : gb_mt f 0 = 0 := by
  apply b_ext
  intro i _
  rw [gb_bt_mt hf, b_0]
  exact gb_xs_0 32 (fun t _ => by rw [b_0]; rfl)
theorem gb_mt_one (p : Int32) : gb_mt 0 p = p := by
  apply b_ext
  intro i hi
  rw [gb_bt_mt (by omega), gb_xs_1 (i := i) 32 hi]
  · rw [Nat.or_zero, decide_eq_true rfl, Bool.and_true]
  · intro j _ hn
    rw [Nat.or_zero, decide_eq_false (fun h => hn h.symm), Bool.and_false]
theorem gb_mt_mt {f g : Nat} (hf : f < 32) (hg : g < 32) (p : Int32) : gb_mt f (gb_mt g p) = gb_mt (f ||| g) p := by
  apply b_ext
  intro i _
  rw [gb_bt_mt hf, gb_bt_mt (gb_or_lt hf hg)]
  have h1 : gb_xs 32 (fun t => (bt (gb_mt g p) t && decide (i = t ||| f))) = gb_xs 32 (fun t => gb_xs 32 (fun s => ((bt p s && decide (t = s ||| g)) && decide (i = t ||| f)))) :=
    gb_xs_cong 32 (fun t _ => by rw [gb_bt_mt hg, gb_xs_and])
  rw [h1, gb_xs_comm]
  refine gb_xs_cong 32 (fun s hs => ?_)
  rw [gb_xs_1 (i := s ||| g) 32 (gb_or_lt hs hg)]
  · rw [decide_eq_true (rfl : s ||| g = s ||| g), Bool.and_true, Nat.or_assoc, Nat.or_comm g f]
  · intro j _ hn
    rw [decide_eq_false hn, Bool.and_false, Bool.false_and]
theorem gb_mt_sup {f : Nat} (hf : f < 32) {p : Int32} {i : Nat} (h : bt (gb_mt f p) i = true) : ∃ t, t < 32 ∧ bt p t = true ∧ i = t ||| f := by
  rw [gb_bt_mt hf] at h
  obtain ⟨t, ht, h2⟩ := gb_xs_ex 32 h
  rw [Bool.and_eq_true, decide_eq_true_eq] at h2
  exact ⟨t, ht, h2.1, h2.2⟩
theorem gb_mt_e {f t : Nat} (hf : f < 32) (ht : t < 32) : gb_mt f (gb_e t) = gb_e (t ||| f) := by
  apply b_ext
  intro i _
  rw [gb_bt_mt hf, gb_bt_e (gb_or_lt ht hf), gb_xs_1 (i := t) 32 ht]
  · rw [gb_bt_e ht, decide_eq_true rfl, Bool.true_and]
  · intro j _ hn
    rw [gb_bt_e ht, decide_eq_false hn, Bool.false_and]
/-- the value at a point -/
def gb_ev (p : Int32) (a : Nat) : Bool := gb_xs 32 (fun m => (bt p m && decide (m &&& a = m)))
theorem gb_ev_xor (p q : Int32) (a : Nat) : gb_ev (p ^^^ q) a = (gb_ev p a ^^ gb_ev q a) := by
  unfold gb_ev
  rw [← gb_xs_xor]
  exact gb_xs_cong 32 (fun t _ => by rw [b_xor]; cases bt p t <;> cases bt q t <;> cases decide (t &&& a = t) <;> rfl)
theorem gb_ev_0 (a : Nat) : gb_ev 0 a = false := gb_xs_0 32 (fun t _ => by rw [b_0]; rfl)
theorem gb_ev_e {m : Nat} (hm : m < 32) (a : Nat) : gb_ev (gb_e m) a = decide (m &&& a = m) := by
  unfold gb_ev
  rw [gb_xs_1 (i := m) 32 hm]
  · rw [gb_bt_e hm, decide_eq_true rfl, Bool.true_and]
  · intro j _ hn
    rw [gb_bt_e hm, decide_eq_false hn, Bool.false_and]
theorem gb_ev_sum (f : Nat → Int32) (b : Nat → Bool) (a : Nat) : ∀ n, gb_ev (gb_sum n f b) a = gb_xs n (fun t => (b t && gb_ev (f t) a)) := by
  intro n
  induction n with
  | zero => exact gb_ev_0 a
  | succ n ih =>
    show gb_ev (gb_sum n f b ^^^ (if b n = true then f n else 0)) a = (gb_xs n (fun t => (b t && gb_ev (f t) a)) ^^ (b n && gb_ev (f n) a))
    rw [gb_ev_xor, ih]
    cases b n
    · show (_ ^^ gb_ev 0 a) = (_ ^^ (false && _))
      rw [gb_ev_0]; rfl
    · rfl
theorem gb_or_sub (t f a : Nat) : (t ||| f) &&& a = t ||| f ↔ t &&& a = t ∧ f &&& a = f := by
  constructor
  · intro h
    have hb : ∀ i, ((t.testBit i || f.testBit i) && a.testBit i) = (t.testBit i || f.testBit i) := fun i => by
      rw [← Nat.testBit_or, ← Nat.testBit_and, h]
    constructor
    · apply Nat.eq_of_testBit_eq
      intro i
      have := hb i
      rw [Nat.testBit_and]
      revert this
      cases t.testBit i <;> cases f.testBit i <;> cases a.testBit i <;> decide
    · apply Nat.eq_of_testBit_eq
      intro i
      have := hb i
      rw [Nat.testBit_and]
      revert this
      cases t.testBit i <;> cases f.testBit i <;> cases a.testBit i <;> decide
  · intro ⟨h1, h2⟩
    rw [Nat.and_or_distrib_right, h1, h2]
theorem gb_dec_and (p q : Prop) [Decidable p] [Decidable q] {r : Prop} [Decidable r] (h : r ↔ p ∧ q) : decide r = (decide p && decide q) := by
  by_cases hp : p <;> by_cases hq : q <;> simp [h, hp, hq]
theorem gb_ev_mt {f : Nat} (hf : f < 32) (p : Int32) (a : Nat) : gb_ev (gb_mt f p) a = (gb_ev p a && decide (f &&& a = f)) := by
  unfold gb_mt
  rw [gb_ev_sum]
  unfold gb_ev
  rw [← gb_xs_and]
  refine gb_xs_cong 32 (fun t ht => ?_)
  have := gb_ev_e (gb_or_lt ht hf) a
  unfold gb_ev at this
  rw [this, gb_dec_and _ _ (gb_or_sub t f a), Bool.and_assoc]
/-- Moebius: the chains between two sets -/
theorem gb_chain : ∀ t, t < 32 → ∀ m, m < 32 → gb_xs 32 (fun x => (decide (t &&& x = t) && decide (x &&& m = x))) = decide (t = m) := by decide +kernel
theorem gb_mob (p : Int32) {m : Nat} (hm : m < 32) : gb_xs 32 (fun x => (decide (x &&& m = x) && gb_ev p x)) = bt p m := by
  have h1 : gb_xs 32 (fun x => (decide (x &&& m = x) && gb_ev p x)) = gb_xs 32 (fun x => gb_xs 32 (fun t => (bt p t && (decide (t &&& x = t) && decide (x &&& m = x))))) :=
    gb_xs_cong 32 (fun x _ => by
      unfold gb_ev
      rw [← gb_xs_and']
      exact gb_xs_cong 32 (fun t _ => by cases bt p t <;> cases decide (t &&& x = t) <;> cases decide (x &&& m = x) <;> rfl))
  rw [h1, gb_xs_comm, gb_xs_1 (i := m) 32 hm]
  · rw [gb_xs_and', gb_chain m hm m hm, decide_eq_true rfl, Bool.and_true]
  · intro j hj hn
    rw [gb_xs_and', gb_chain j hj m hm, decide_eq_false hn, Bool.and_false]
theorem gb_ev_inj {p q : Int32} (h : ∀ a, a < 32 → gb_ev p a = gb_ev q a) : p = q := by
  apply b_ext
  intro i hi
  rw [← gb_mob p hi, ← gb_mob q hi]
  exact gb_xs_cong 32 (fun x hx => by rw [h x hx])
/-- the polynomial with the values V -/
def gb_fv (V : Nat → Bool) : Int32 := gb_sum 32 gb_e (fun m => gb_xs 32 (fun x => (decide (x &&& m = x) && V x)))
theorem gb_ev_fv (V : Nat → Bool) {a : Nat} (ha : a < 32) : gb_ev (gb_fv V) a = V a := by
  unfold gb_fv
  rw [gb_ev_sum]
  have h1 : gb_xs 32 (fun t => (gb_xs 32 (fun x => (decide (x &&& t = x) && V x)) && gb_ev (gb_e t) a)) = gb_xs 32 (fun t => gb_xs 32 (fun x => (V x && (decide (x &&& t = x) && decide (t &&& a = t))))) :=
    gb_xs_cong 32 (fun t ht => by
      rw [gb_ev_e ht, ← gb_xs_and]
      exact gb_xs_cong 32 (fun x _ => by cases V x <;> cases decide (x &&& t = x) <;> cases decide (t &&& a = t) <;> rfl))
  rw [h1, gb_xs_comm, gb_xs_1 (i := a) 32 ha]
  · rw [gb_xs_and', gb_chain a ha a ha, decide_eq_true rfl, Bool.and_true]
  · intro j hj hn
    rw [gb_xs_and', gb_chain j hj a ha, decide_eq_false hn, Bool.and_false]
/-- the product -/
def gb_mul (p q : Int32) : Int32 := gb_sum 32 (fun t => gb_mt t q) (bt p)
theorem gb_ev_mul (p q : Int32) (a : Nat) : gb_ev (gb_mul p q) a = (gb_ev p a && gb_ev q a) := by
  unfold gb_mul
  rw [gb_ev_sum]
  have h1 : gb_xs 32 (fun t => (bt p t && gb_ev (gb_mt t q) a)) = gb_xs 32 (fun t => ((bt p t && decide (t &&& a = t)) && gb_ev q a)) :=
    gb_xs_cong 32 (fun t ht => by rw [gb_ev_mt ht]; cases bt p t <;> cases decide (t &&& a = t) <;> cases gb_ev q a <;> rfl)
  rw [h1, gb_xs_and]
  rfl
/-- the polynomials that vanish on the zeros z -/
def gb_V (z : Nat → Bool) (p : Int32) : Prop := ∀ a, a < 32 → z a = true → gb_ev p a = false
theorem gb_V_0 (z : Nat → Bool) : gb_V z 0 := fun a _ _ => gb_ev_0 a
theorem gb_V_xor {z : Nat → Bool} {p q : Int32} (hp : gb_V z p) (hq : gb_V z q) : gb_V z (p ^^^ q) := fun a ha hz => by
  rw [gb_ev_xor, hp a ha hz, hq a ha hz]; rfl
theorem gb_V_mt {z : Nat → Bool} {p : Int32} {f : Nat} (hf : f < 32) (hp : gb_V z p) : gb_V z (gb_mt f p) := fun a ha hz => by
  rw [gb_ev_mt hf, hp a ha hz]; rfl
end
section
/-! ===== the two orders of the monomials: a weight, additive on disjoint sets; places ===== -/
def gb_on (m : Nat) : Nat := m % 2 + m / 2 % 2 + m / 4 % 2 + m / 8 % 2 + m / 16 % 2
def gb_w (kd m : Nat) : Nat := if kd = 0 then 64 * gb_on m + m else m
def gb_P (kd m : Nat) : Nat := if kd = 0 then [0, 1, 2, 6, 3, 7, 8, 16, 4, 9, 10, 17, 11, 18, 19, 26, 5, 12, 13, 20, 14, 21, 22, 27, 15, 23, 24, 28, 25, 29, 30, 31].getD m 0 else m
def gb_M (kd m : Nat) : Nat := if kd = 0 then [0, 1, 2, 4, 8, 16, 3, 5, 6, 9, 10, 12, 17, 18, 20, 24, 7, 11, 13, 14, 19, 21, 22, 25, 26, 28, 15, 23, 27, 29, 30, 31].getD m 0 else m
theorem gb_Plt : ∀ kd, kd < 2 → ∀ m, m < 32 → gb_P kd m < 32 := by decide +kernel
theorem gb_Mlt : ∀ kd, kd < 2 → ∀ m, m < 32 → gb_M kd m < 32 := by decide +kernel
theorem gb_MP : ∀ kd, kd < 2 → ∀ m, m < 32 → gb_M kd (gb_P kd m) = m := by decide +kernel
theorem gb_PM : ∀ kd, kd < 2 → ∀ m, m < 32 → gb_P kd (gb_M kd m) = m := by decide +kernel
theorem gb_Pw : ∀ kd, kd < 2 → ∀ a, a < 32 → ∀ b, b < 32 → (gb_w kd a < gb_w kd b ↔ gb_P kd a < gb_P kd b) := by decide +kernel
theorem gb_wi : ∀ kd, kd < 2 → ∀ a, a < 32 → ∀ b, b < 32 → gb_w kd a = gb_w kd b → a = b := by decide +kernel
/-- the difference of two sets -/
def gb_df (m l : Nat) : Nat := m ^^^ (m &&& l)
theorem gb_df_lt : ∀ m, m < 32 → ∀ l, l < 32 → gb_df m l < 32 := by decide +kernel
theorem gb_df_w : ∀ kd, kd < 2 → ∀ m, m < 32 → ∀ l, l < 32 → l &&& m = l → gb_w kd (gb_df m l) + gb_w kd l = gb_w kd m := by decide +kernel
theorem gb_df_or : ∀ m, m < 32 → ∀ l, l < 32 → l &&& m = l → l ||| gb_df m l = m := by decide +kernel
theorem gb_df_and : ∀ m, m < 32 → ∀ l, l < 32 → gb_df m l &&& l = 0 := by decide +kernel
theorem gb_df_dis : ∀ f, f < 32 → ∀ l, l < 32 → f &&& l = 0 → gb_df (l ||| f) l = f := by decide +kernel
theorem gb_w_or : ∀ kd, kd < 2 → ∀ a, a < 32 → ∀ b, b < 32 → gb_w kd (a ||| b) ≤ gb_w kd a + gb_w kd b := by decide +kernel
theorem gb_w_dis : ∀ kd, kd < 2 → ∀ a, a < 32 → ∀ b, b < 32 → a &&& b = 0 → gb_w kd (a ||| b) = gb_w kd a + gb_w kd b := by decide +kernel
theorem gb_w_lt : ∀ kd, kd < 2 → ∀ a, a < 32 → gb_w kd a < 1000 := by decide +kernel
theorem gb_common : ∀ f, f < 32 → ∀ l, l < 32 → f &&& l ≠ 0 → ∃ v, v < 5 ∧ l / 2 ^ v % 2 = 1 ∧ f / 2 ^ v % 2 = 1 := by decide +kernel
theorem gb_var : ∀ v, v < 5 → ∀ f, f < 32 → f / 2 ^ v % 2 = 1 → 2 ^ v < 32 ∧ 2 ^ v &&& f = 2 ^ v ∧ f ||| 2 ^ v = f := by decide +kernel
theorem gb_var_w : ∀ kd, kd < 2 → ∀ v, v < 5 → 0 < gb_w kd (2 ^ v) := by decide +kernel
theorem gb_sub_or_l (a b : Nat) : a &&& (a ||| b) = a := by
  apply Nat.eq_of_testBit_eq
  intro i
  rw [Nat.testBit_and, Nat.testBit_or]
  cases a.testBit i <;> cases b.testBit i <;> rfl
theorem gb_sub_or_r (a b : Nat) : b &&& (a ||| b) = b := by rw [Nat.or_comm]; exact gb_sub_or_l b a
theorem gb_sub_trans {a b c : Nat} (h1 : a &&& b = a) (h2 : b &&& c = b) : a &&& c = a := by
  rw [← h1, Nat.and_assoc, h2]
theorem gb_sub_anti {a b : Nat} (h1 : a &&& b = a) (h2 : b &&& a = b) : a = b := by
  rw [← h1, Nat.and_comm, h2]
theorem gb_sub_w : ∀ kd, kd < 2 → ∀ a, a < 32 → ∀ b, b < 32 → a &&& b = a → gb_w kd a ≤ gb_w kd b := by decide +kernel
/-- the multiple of one monomial that cancels against another's: m = l or i or h apart -/
theorem gb_df_lcm (f i j : Nat) (hf : f < 32) (hi : i < 32) (hj : j < 32) (hd : f &&& i = 0) (hs : j &&& (i ||| f) = j) :
    gb_df (i ||| f) (i ||| j) ||| gb_df (i ||| j) i = f ∧ gb_df (i ||| f) (i ||| j) ||| gb_df (i ||| j) j = gb_df (i ||| f) j := by
  have hb : ∀ k, (f.testBit k && i.testBit k) = false := fun k => by rw [← Nat.testBit_and, hd, Nat.zero_testBit]
  have hc : ∀ k, (j.testBit k && (i.testBit k || f.testBit k)) = j.testBit k := fun k => by rw [← Nat.testBit_or, ← Nat.testBit_and, hs]
  constructor
  · apply Nat.eq_of_testBit_eq
    intro k
    have h1 := hb k
    have h2 := hc k
    unfold gb_df
    simp only [Nat.testBit_or, Nat.testBit_xor, Nat.testBit_and]
    revert h1 h2
    cases f.testBit k <;> cases i.testBit k <;> cases j.testBit k <;> decide
  · apply Nat.eq_of_testBit_eq
    intro k
    have h1 := hb k
    have h2 := hc k
    unfold gb_df
    simp only [Nat.testBit_or, Nat.testBit_xor, Nat.testBit_and]
    revert h1 h2
    cases f.testBit k <;> cases i.testBit k <;> cases j.testBit k <;> decide
theorem gb_or_sub2 {a b c : Nat} (h1 : a &&& c = a) (h2 : b &&& c = b) : (a ||| b) &&& c = a ||| b := by
  rw [Nat.and_or_distrib_right, h1, h2]
/-- m is the leading monomial of p -/
def gb_Ld (kd : Nat) (p : Int32) (m : Nat) : Prop := m < 32 ∧ bt p m = true ∧ ∀ t, t < 32 → bt p t = true → t ≠ m → gb_w kd t < gb_w kd m
theorem gb_Ld_le {kd : Nat} {p : Int32} {m t : Nat} (h : gb_Ld kd p m) (ht : t < 32) (hb : bt p t = true) : gb_w kd t ≤ gb_w kd m := by
  by_cases e : t = m
  · rw [e]; exact Nat.le_refl _
  · exact Nat.le_of_lt (h.2.2 t ht hb e)
theorem gb_Ld_hi {kd : Nat} {p : Int32} {m t : Nat} (h : gb_Ld kd p m) (ht : t < 32) (hw : gb_w kd m < gb_w kd t) : bt p t = false := by
  cases e : bt p t
  · rfl
  · have := gb_Ld_le h ht e
    omega
theorem gb_mt_ld {kd : Nat} (hk : kd < 2) {p : Int32} {l f : Nat} (h : gb_Ld kd p l) (hf : f < 32) (hd : f &&& l = 0) : gb_Ld kd (gb_mt f p) (l ||| f) := by
  have hl := h.1
  have key : ∀ t, t < 32 → bt p t = true → t ≠ l → gb_w kd (t ||| f) < gb_w kd (l ||| f) := fun t ht hb hn => by
    have h1 := h.2.2 t ht hb hn
    have h2 := gb_w_or kd hk t ht f hf
    have h3 := gb_w_dis kd hk l hl f hf (by rw [Nat.and_comm]; exact hd)
    omega
  refine ⟨gb_or_lt hl hf, ?_, ?_⟩
  · rw [gb_bt_mt hf, gb_xs_1 (i := l) 32 hl]
    · rw [h.2.1, decide_eq_true rfl]; rfl
    · intro j hj hn
      cases e : bt p j
      · rfl
      · have := key j hj e hn
        rw [decide_eq_false (fun h9 => by rw [h9] at this; omega)]; rfl
  · intro t ht hb hn
    obtain ⟨s, hs, hb2, e⟩ := gb_mt_sup hf hb
    by_cases e2 : s = l
    · subst e2; exact absurd e hn
    · rw [e]; exact key s hs hb2 e2
/-! ===== counting ===== -/
def gb_cn : Nat → (Nat → Bool) → Nat
  | 0, _ => 0
  | n + 1, p => gb_cn n p + (if p n = true then 1 else 0)
theorem gb_Pcn : ∀ kd, kd < 2 → ∀ m, m < 32 → gb_cn 32 (fun l => decide (gb_w kd l < gb_w kd m)) = gb_P kd m := by decide +kernel
theorem gb_cn_cong {f g : Nat → Bool} : ∀ n, (∀ i, i < n → f i = g i) → gb_cn n f = gb_cn n g := by
  intro n
  induction n with
  | zero => intro _; rfl
  | succ n ih =>
    intro h
    show gb_cn n f + (if f n = true then 1 else 0) = gb_cn n g + (if g n = true then 1 else 0)
    rw [ih (fun i hi => h i (by omega)), h n (by omega)]
theorem gb_cn_le (p : Nat → Bool) : ∀ n, gb_cn n p ≤ n := by
  intro n
  induction n with
  | zero => exact Nat.le_refl _
  | succ n ih =>
    show gb_cn n p + (if p n = true then 1 else 0) ≤ n + 1
    by_cases e : p n = true
    · rw [if_pos e]; omega
    · rw [if_neg e]; omega
theorem gb_cn_0 {p : Nat → Bool} : ∀ n, (∀ i, i < n → p i = false) → gb_cn n p = 0 := by
  intro n
  induction n with
  | zero => intro _; rfl
  | succ n ih =>
    intro h
    show gb_cn n p + (if p n = true then 1 else 0) = 0
    rw [ih (fun i hi => h i (by omega)), h n (by omega)]; rfl
theorem gb_cn_rem {p : Nat → Bool} {a : Nat} : ∀ n, a < n → p a = true → gb_cn n p = gb_cn n (fun i => (p i && decide (i ≠ a))) + 1 := by
  intro n
  induction n with
  | zero => intro h; omega
  | succ n ih =>
    intro ha hp
    show gb_cn n p + (if p n = true then 1 else 0) = gb_cn n (fun i => (p i && decide (i ≠ a))) + (if (p n && decide (n ≠ a)) = true then 1 else 0) + 1
    by_cases e : a = n
    · subst e
      rw [hp, decide_eq_false (fun h => h rfl), gb_cn_cong a (f := p) (g := fun i => (p i && decide (i ≠ a)))
        (fun i hi => by rw [decide_eq_true (show i ≠ a by omega), Bool.and_true])]
      rfl
    · rw [ih (by omega) hp, decide_eq_true (show n ≠ a by omega), Bool.and_true]
      omega
/-- what an injective list s of length R enumerates has R elements -/
theorem gb_cn_enum {n : Nat} : ∀ (R : Nat) (s : Nat → Nat) (p : Nat → Bool), (∀ r, r < R → s r < n ∧ p (s r) = true) → (∀ r r', r < r' → r' < R → s r ≠ s r') → (∀ m, m < n → p m = true → ∃ r, r < R ∧ s r = m) → gb_cn n p = R := by
  intro R
  induction R with
  | zero =>
    intro s p _ _ h
    exact gb_cn_0 n (fun i hi => by
      cases e : p i
      · rfl
      · obtain ⟨r, hr, _⟩ := h i hi e
        omega)
  | succ R ih =>
    intro s p h1 h2 h3
    rw [gb_cn_rem n (h1 R (by omega)).1 (h1 R (by omega)).2]
    congr 1
    refine ih s _ ?_ ?_ ?_
    · intro r hr
      refine ⟨(h1 r (by omega)).1, ?_⟩
      show (p (s r) && decide (s r ≠ s R)) = true
      rw [(h1 r (by omega)).2, decide_eq_true (h2 r R hr (by omega))]; rfl
    · exact fun r r' hr hr' => h2 r r' hr (by omega)
    · intro m hm hp
      have hp' : (p m && decide (m ≠ s R)) = true := hp
      rw [Bool.and_eq_true, decide_eq_true_eq] at hp'
      obtain ⟨r, hr, e⟩ := h3 m hm hp'.1
      by_cases e2 : r = R
      · subst e2; exact absurd e.symm hp'.2
      · exact ⟨r, by omega, e⟩
end
section
/-! ===== reduction by a list of polynomials g with leading monomials ld ===== -/
/-- the first i < n whose monomial divides m, or n -/
def gb_fi (ld : Nat → Nat) (m : Nat) : Nat → Nat
  | 0 => 0
  | n + 1 => if gb_fi ld m n < n then gb_fi ld m n else if ld n &&& m = ld n then n else n + 1
theorem gb_fi_spec (ld : Nat → Nat) (m : Nat) : ∀ n, gb_fi ld m n ≤ n ∧ (gb_fi ld m n < n → ld (gb_fi ld m n) &&& m = ld (gb_fi ld m n)) ∧ (∀ i, i < gb_fi ld m n → ¬ ld i &&& m = ld i) := by
  intro n
  induction n with
  | zero => exact ⟨Nat.le_refl _, fun h => absurd h (Nat.lt_irrefl _), fun i hi => absurd hi (Nat.not_lt_zero _)⟩
  | succ n ih =>
    obtain ⟨h1, h2, h3⟩ := ih
    unfold gb_fi
    by_cases c : gb_fi ld m n < n
    · rw [if_pos c]
      exact ⟨by omega, fun _ => h2 c, h3⟩
    · rw [if_neg c]
      have e : gb_fi ld m n = n := by omega
      rw [e] at h3
      by_cases d : ld n &&& m = ld n
      · rw [if_pos d]
        exact ⟨by omega, fun _ => d, h3⟩
      · rw [if_neg d]
        refine ⟨Nat.le_refl _, fun h => absurd h (Nat.lt_irrefl _), fun i hi => ?_⟩
        by_cases e2 : i = n
        · rw [e2]; exact d
        · exact h3 i (by omega)
theorem gb_fi_le (ld : Nat → Nat) (m n : Nat) : gb_fi ld m n ≤ n := (gb_fi_spec ld m n).1
theorem gb_fi_div {ld : Nat → Nat} {m n : Nat} (h : gb_fi ld m n < n) : ld (gb_fi ld m n) &&& m = ld (gb_fi ld m n) := (gb_fi_spec ld m n).2.1 h
theorem gb_fi_min {ld : Nat → Nat} {m n i : Nat} (h : i < gb_fi ld m n) : ¬ ld i &&& m = ld i := (gb_fi_spec ld m n).2.2 i h
theorem gb_fi_of {ld : Nat → Nat} {m n i : Nat} (hi : i < n) (hd : ld i &&& m = ld i) : gb_fi ld m n < n := by
  refine Classical.byContradiction fun h => ?_
  exact gb_fi_min (n := n) (by have := gb_fi_le ld m n; omega) hd
theorem gb_fi_eq {ld : Nat → Nat} {m n i : Nat} (hi : i < n) (hd : ld i &&& m = ld i) (hm : ∀ j, j < i → ¬ ld j &&& m = ld j) : gb_fi ld m n = i := by
  have h1 := gb_fi_of hi hd
  have h2 := gb_fi_div h1
  rcases Nat.lt_trichotomy (gb_fi ld m n) i with h | h | h
  · exact absurd h2 (hm _ h)
  · exact h
  · exact absurd hd (gb_fi_min h)
theorem gb_fi_none {ld : Nat → Nat} {m n : Nat} (hm : ∀ j, j < n → ¬ ld j &&& m = ld j) : gb_fi ld m n = n := by
  refine Classical.byContradiction fun h => ?_
  have h1 : gb_fi ld m n < n := by have := gb_fi_le ld m n; omega
  exact hm _ h1 (gb_fi_div h1)
/-- the multiple with the leading monomial m -/
def gb_pm (n : Nat) (g : Nat → Int32) (ld : Nat → Nat) (m : Nat) : Int32 := gb_mt (gb_df m (ld (gb_fi ld m n))) (g (gb_fi ld m n))
def gb_st (n : Nat) (g : Nat → Int32) (ld : Nat → Nat) (x : Int32) (m : Nat) : Int32 := if bt x m = true ∧ gb_fi ld m n < n then x ^^^ gb_pm n g ld m else x
def gb_rd (kd n : Nat) (g : Nat → Int32) (ld : Nat → Nat) : Nat → Int32 → Int32
  | 0, x => x
  | k + 1, x => gb_rd kd n g ld k (gb_st n g ld x (gb_M kd k))
def gb_G (kd n : Nat) (g : Nat → Int32) (ld : Nat → Nat) : Prop := ∀ i, i < n → gb_Ld kd (g i) (ld i)
section
variable {kd n : Nat} {g : Nat → Int32} {ld : Nat → Nat}
theorem gb_pm_ld (hk : kd < 2) (hG : gb_G kd n g ld) {m : Nat} (hm : m < 32) (hf : gb_fi ld m n < n) : gb_Ld kd (gb_pm n g ld m) m := by
  have h1 := hG _ hf
  have h2 := gb_fi_div hf
  have h3 := gb_mt_ld hk h1 (gb_df_lt m hm _ h1.1) (gb_df_and m hm _ h1.1)
  rw [gb_df_or m hm _ h1.1 h2] at h3
  exact h3
theorem gb_st_bit (hk : kd < 2) (hG : gb_G kd n g ld) {m : Nat} (hm : m < 32) (hf : gb_fi ld m n < n) (x : Int32) : bt (gb_st n g ld x m) m = false := by
  unfold gb_st
  by_cases c : bt x m = true
  · rw [if_pos ⟨c, hf⟩, b_xor, c, (gb_pm_ld hk hG hm hf).2.1]; rfl
  · rw [if_neg (fun h => c h.1)]
    cases e : bt x m
    · rfl
    · exact absurd e c
theorem gb_st_hi (hk : kd < 2) (hG : gb_G kd n g ld) {m t : Nat} (hm : m < 32) (ht : t < 32) (hw : gb_w kd m < gb_w kd t) (x : Int32) : bt (gb_st n g ld x m) t = bt x t := by
  unfold gb_st
  by_cases c : bt x m = true ∧ gb_fi ld m n < n
  · rw [if_pos c, b_xor, gb_Ld_hi (gb_pm_ld hk hG hm c.2) ht hw, Bool.xor_false]
  · rw [if_neg c]
/-- what is left has no monomial that a leading one divides -/
theorem gb_rd_std (hk : kd < 2) (hG : gb_G kd n g ld) : ∀ k, k ≤ 32 → ∀ (x : Int32) (t : Nat), t < 32 → bt (gb_rd kd n g ld k x) t = true → (gb_P kd t < k → ¬ gb_fi ld t n < n) ∧ (k ≤ gb_P kd t → bt x t = true) := by
  intro k
  induction k with
  | zero => intro _ x t _ h; exact ⟨fun h => absurd h (Nat.not_lt_zero _), fun _ => h⟩
  | succ k ih =>
    intro hk2 x t ht h
    obtain ⟨h1, h2⟩ := ih (by omega) _ t ht h
    have hM := gb_Mlt kd hk k (by omega)
    constructor
    · intro hp
      by_cases e : gb_P kd t = k
      · have e2 : gb_M kd k = t := by rw [← e]; exact gb_MP kd hk t ht
        intro hf
        have h3 := h2 (by omega)
        rw [e2, gb_st_bit hk hG ht hf] at h3
        exact absurd h3 (by decide)
      · exact h1 (by omega)
    · intro hp
      have h3 := h2 (by omega)
      rw [gb_st_hi hk hG hM ht ((gb_Pw kd hk _ hM t ht).mpr (by rw [gb_PM kd hk k (by omega)]; omega))] at h3
      exact h3
/-- x less what is left of it is a sum of multiples whose leading monomials are below x's bound -/
theorem gb_rd_span (hk : kd < 2) (hG : gb_G kd n g ld) (S : Int32 → Prop) (h0 : S 0) (hx : ∀ a b, S a → S b → S (a ^^^ b)) (B : Nat) (hS : ∀ m, m < 32 → gb_fi ld m n < n → gb_w kd m < B → S (gb_pm n g ld m)) :
    ∀ k, k ≤ 32 → ∀ x : Int32, (∀ t, t < 32 → bt x t = true → gb_w kd t < B) → S (x ^^^ gb_rd kd n g ld k x) ∧ (∀ t, t < 32 → bt (gb_rd kd n g ld k x) t = true → gb_w kd t < B) := by
  intro k
  induction k with
  | zero => intro _ x h; exact ⟨by show S (x ^^^ x); rw [gb_xx]; exact h0, h⟩
  | succ k ih =>
    intro hk2 x h
    have hM := gb_Mlt kd hk k (by omega)
    show S (x ^^^ gb_rd kd n g ld k (gb_st n g ld x (gb_M kd k))) ∧ (∀ t, t < 32 → bt (gb_rd kd n g ld k (gb_st n g ld x (gb_M kd k))) t = true → gb_w kd t < B)
    by_cases c : bt x (gb_M kd k) = true ∧ gb_fi ld (gb_M kd k) n < n
    · have e : gb_st n g ld x (gb_M kd k) = x ^^^ gb_pm n g ld (gb_M kd k) := if_pos c
      have hB := h _ hM c.1
      have hp := gb_pm_ld hk hG hM c.2
      obtain ⟨h1, h2⟩ := ih (by omega) (x ^^^ gb_pm n g ld (gb_M kd k)) (fun t ht hb => by
        rw [b_xor] at hb
        cases e1 : bt x t
        · rw [e1, Bool.false_xor] at hb
          have := gb_Ld_le hp ht hb
          omega
        · exact h t ht e1)
      rw [e]
      refine ⟨?_, h2⟩
      have h3 := hx _ _ h1 (hS _ hM c.2 hB)
      have e3 : (x ^^^ gb_pm n g ld (gb_M kd k) ^^^ gb_rd kd n g ld k (x ^^^ gb_pm n g ld (gb_M kd k))) ^^^ gb_pm n g ld (gb_M kd k) = x ^^^ gb_rd kd n g ld k (x ^^^ gb_pm n g ld (gb_M kd k)) := by
        generalize gb_rd kd n g ld k (x ^^^ gb_pm n g ld (gb_M kd k)) = y
        generalize gb_pm n g ld (gb_M kd k) = q
        exact b_ext (fun i _ => by simp only [b_xor]; cases bt x i <;> cases bt y i <;> cases bt q i <;> rfl)
      rw [e3] at h3
      exact h3
    · have e : gb_st n g ld x (gb_M kd k) = x := if_neg c
      rw [e]
      exact ih (by omega) x h
theorem gb_st_xor (x y : Int32) (m : Nat) : gb_st n g ld (x ^^^ y) m = gb_st n g ld x m ^^^ gb_st n g ld y m := by
  unfold gb_st
  by_cases c : gb_fi ld m n < n
  · generalize gb_pm n g ld m = q
    cases hx : bt x m <;> cases hy : bt y m
    · rw [if_neg (by rw [b_xor, hx, hy]; exact fun h => absurd h.1 (by decide)), if_neg (fun h => absurd h.1 (by decide)), if_neg (fun h => absurd h.1 (by decide))]
    · rw [if_pos (by rw [b_xor, hx, hy]; exact ⟨rfl, c⟩), if_neg (fun h => absurd h.1 (by decide)), if_pos ⟨rfl, c⟩, gb_xa]
    · rw [if_pos (by rw [b_xor, hx, hy]; exact ⟨rfl, c⟩), if_pos ⟨rfl, c⟩, if_neg (fun h => absurd h.1 (by decide)), gb_xa, gb_xa, gb_xc q y]
    · rw [if_neg (by rw [b_xor, hx, hy]; exact fun h => absurd h.1 (by decide)), if_pos ⟨rfl, c⟩, if_pos ⟨rfl, c⟩, gb_x4, gb_xx, gb_x0]
  · rw [if_neg (fun h => c h.2), if_neg (fun h => c h.2), if_neg (fun h => c h.2)]
theorem gb_rd_xor : ∀ k (x y : Int32), gb_rd kd n g ld k (x ^^^ y) = gb_rd kd n g ld k x ^^^ gb_rd kd n g ld k y := by
  intro k
  induction k with
  | zero => intro x y; rfl
  | succ k ih =>
    intro x y
    show gb_rd kd n g ld k (gb_st n g ld (x ^^^ y) (gb_M kd k)) = _
    rw [gb_st_xor, ih]
    rfl
theorem gb_rd_0 (k : Nat) : gb_rd kd n g ld k 0 = 0 := by
  have h := gb_rd_xor (kd := kd) (n := n) (g := g) (ld := ld) k 0 0
  rw [gb_xx] at h
  rw [h, gb_xx]
theorem gb_rd_pm (hk : kd < 2) (hG : gb_G kd n g ld) {m : Nat} (hm : m < 32) (hf : gb_fi ld m n < n) : ∀ k, k ≤ 32 → gb_P kd m < k → gb_rd kd n g ld k (gb_pm n g ld m) = 0 := by
  intro k
  induction k with
  | zero => intro _ h; omega
  | succ k ih =>
    intro hk2 hp
    show gb_rd kd n g ld k (gb_st n g ld (gb_pm n g ld m) (gb_M kd k)) = 0
    have hL := gb_pm_ld hk hG hm hf
    by_cases e : gb_P kd m = k
    · have e2 : gb_M kd k = m := by rw [← e]; exact gb_MP kd hk m hm
      rw [e2]
      unfold gb_st
      rw [if_pos ⟨hL.2.1, hf⟩, gb_xx, gb_rd_0]
    · have hM := gb_Mlt kd hk k (by omega)
      have h1 : bt (gb_pm n g ld m) (gb_M kd k) = false := gb_Ld_hi hL hM ((gb_Pw kd hk m hm _ hM).mpr (by rw [gb_PM kd hk k (by omega)]; omega))
      have h2 : gb_st n g ld (gb_pm n g ld m) (gb_M kd k) = gb_pm n g ld m := if_neg (by rw [h1]; exact fun h => absurd h.1 (by decide))
      rw [h2]
      exact ih (by omega) (by omega)
end
/-! ===== the whole reduction, and Buchberger's criterion ===== -/
def gb_RD (kd n : Nat) (g : Nat → Int32) (ld : Nat → Nat) (x : Int32) : Int32 := gb_rd kd n g ld 32 x
section
variable {kd n : Nat} {g : Nat → Int32} {ld : Nat → Nat}
theorem gb_RD_xor (x y : Int32) : gb_RD kd n g ld (x ^^^ y) = gb_RD kd n g ld x ^^^ gb_RD kd n g ld y := gb_rd_xor 32 x y
theorem gb_RD_0 : gb_RD kd n g ld 0 = 0 := gb_rd_0 32
theorem gb_RD_pm (hk : kd < 2) (hG : gb_G kd n g ld) {m : Nat} (hm : m < 32) (hf : gb_fi ld m n < n) : gb_RD kd n g ld (gb_pm n g ld m) = 0 := gb_rd_pm hk hG hm hf 32 (Nat.le_refl _) (gb_Plt kd hk m hm)
theorem gb_RD_std (hk : kd < 2) (hG : gb_G kd n g ld) {x : Int32} {t : Nat} (ht : t < 32) (h : bt (gb_RD kd n g ld x) t = true) : ∀ i, i < n → ¬ ld i &&& t = ld i :=
  fun _ hi hd => (gb_rd_std hk hG 32 (Nat.le_refl _) x t ht h).1 (gb_Plt kd hk t ht) (gb_fi_of hi hd)
/-- a sum of multiples that reduces to 0, times h, reduces to 0 if the multiples do -/
theorem gb_lift (hk : kd < 2) (hG : gb_G kd n g ld) {h : Nat} (hh : h < 32) (B : Nat) (ih : ∀ f i, f < 32 → i < n → gb_w kd f + gb_w kd (ld i) < gb_w kd h + B → gb_RD kd n g ld (gb_mt f (g i)) = 0)
    (x : Int32) (hx : ∀ t, t < 32 → bt x t = true → gb_w kd t < B) (h0 : gb_RD kd n g ld x = 0) : gb_RD kd n g ld (gb_mt h x) = 0 := by
  have := (gb_rd_span hk hG (fun y => gb_RD kd n g ld (gb_mt h y) = 0) (by rw [gb_mt_0 hh, gb_RD_0]) (fun a b ha hb => by rw [gb_mt_xor hh, gb_RD_xor, ha, hb, gb_xx]) B
    (fun m hm hf hw => by
      have h1 := hG _ hf
      have h2 := gb_fi_div hf
      have h3 := gb_df_lt m hm _ h1.1
      show gb_RD kd n g ld (gb_mt h (gb_mt (gb_df m (ld (gb_fi ld m n))) (g (gb_fi ld m n)))) = 0
      rw [gb_mt_mt hh h3]
      refine ih _ _ (gb_or_lt hh h3) hf ?_
      have h4 := gb_w_or kd hk h hh _ h3
      have h5 := gb_df_w kd hk m hm _ h1.1 h2
      omega) 32 (Nat.le_refl _) x hx).1
  have e : x ^^^ gb_rd kd n g ld 32 x = x := by
    have h1 : gb_rd kd n g ld 32 x = 0 := h0
    rw [h1, gb_x0]
  rw [e] at this
  exact this
def gb_HV (kd n : Nat) (g : Nat → Int32) (ld : Nat → Nat) : Prop := ∀ i, i < n → ∀ v, v < 5 → ld i / 2 ^ v % 2 = 1 → gb_RD kd n g ld (gb_mt (2 ^ v) (g i)) = 0
def gb_sp (g : Nat → Int32) (ld : Nat → Nat) (i j : Nat) : Int32 := gb_mt (gb_df (ld i ||| ld j) (ld i)) (g i) ^^^ gb_mt (gb_df (ld i ||| ld j) (ld j)) (g j)
def gb_HP (kd n : Nat) (g : Nat → Int32) (ld : Nat → Nat) : Prop := ∀ i, i < n → ∀ j, j < i → gb_RD kd n g ld (gb_sp g ld i j) = 0
theorem gb_sp_comm (i j : Nat) : gb_sp g ld i j = gb_sp g ld j i := by
  unfold gb_sp
  rw [gb_xc, Nat.or_comm]
theorem gb_sp_ld (hk : kd < 2) (hG : gb_G kd n g ld) {i j : Nat} (hi : i < n) (hj : j < n) : ∀ t, t < 32 → bt (gb_sp g ld i j) t = true → gb_w kd t < gb_w kd (ld i ||| ld j) := by
  intro t ht hb
  have h1 := hG i hi
  have h2 := hG j hj
  have h3 := gb_or_lt h1.1 h2.1
  have a := gb_mt_ld hk h1 (gb_df_lt _ h3 _ h1.1) (gb_df_and _ h3 _ h1.1)
  have b := gb_mt_ld hk h2 (gb_df_lt _ h3 _ h2.1) (gb_df_and _ h3 _ h2.1)
  rw [gb_df_or _ h3 _ h1.1 (gb_sub_or_l _ _)] at a
  rw [gb_df_or _ h3 _ h2.1 (gb_sub_or_r _ _)] at b
  unfold gb_sp at hb
  rw [b_xor] at hb
  by_cases e : t = ld i ||| ld j
  · rw [e, a.2.1, b.2.1] at hb
    exact absurd hb (by decide)
  · cases e1 : bt (gb_mt (gb_df (ld i ||| ld j) (ld i)) (g i)) t
    · rw [e1, Bool.false_xor] at hb
      exact b.2.2 t ht hb e
    · exact a.2.2 t ht e1 e
theorem gb_buch (hk : kd < 2) (hG : gb_G kd n g ld) (hV : gb_HV kd n g ld) (hP : gb_HP kd n g ld) : ∀ N f i, f < 32 → i < n → gb_w kd f + gb_w kd (ld i) = N → gb_RD kd n g ld (gb_mt f (g i)) = 0 := by
  intro N
  induction N using Nat.strongRecOn with
  | ind N ih =>
    intro f i hf hi hN
    have hL := hG i hi
    by_cases hd : f &&& ld i = 0
    · have hm : ld i ||| f < 32 := gb_or_lt hL.1 hf
      have hfi : gb_fi ld (ld i ||| f) n < n := gb_fi_of hi (gb_sub_or_l _ _)
      obtain ⟨j, hj, hjd, hpm⟩ : ∃ j, j < n ∧ ld j &&& (ld i ||| f) = ld j ∧ gb_RD kd n g ld (gb_mt (gb_df (ld i ||| f) (ld j)) (g j)) = 0 := ⟨_, hfi, gb_fi_div hfi, gb_RD_pm hk hG hm hfi⟩
      have hLj := hG j hj
      by_cases e : j = i
      · subst e
        rw [gb_df_dis f hf _ hL.1 hd] at hpm
        exact hpm
      · obtain ⟨e1, e2⟩ := gb_df_lcm f (ld i) (ld j) hf hL.1 hLj.1 hd hjd
        have h3 := gb_or_lt hL.1 hLj.1
        have hh := gb_df_lt _ hm _ h3
        have hs : gb_RD kd n g ld (gb_sp g ld i j) = 0 := by
          rcases Nat.lt_or_gt_of_ne e with h | h
          · exact hP i hi j h
          · rw [gb_sp_comm]; exact hP j hj i h
        have key := gb_lift hk hG hh (gb_w kd (ld i ||| ld j)) (fun f' i' hf' hi' hw => ih _ (by
            have := gb_df_w kd hk _ hm _ h3 (gb_or_sub2 (gb_sub_or_l _ _) hjd)
            have h4 := gb_w_dis kd hk _ hL.1 f hf (by rw [Nat.and_comm]; exact hd)
            omega) f' i' hf' hi' rfl) _ (gb_sp_ld hk hG hi hj) hs
        unfold gb_sp at key
        rw [gb_mt_xor hh, gb_mt_mt hh (gb_df_lt _ h3 _ hL.1), gb_mt_mt hh (gb_df_lt _ h3 _ hLj.1), e1, e2, gb_RD_xor, hpm, gb_x0] at key
        exact key
    · obtain ⟨v, hv, hlv, hfv⟩ := gb_common f hf _ hL.1 hd
      obtain ⟨he, hes, _⟩ := gb_var v hv f hf hfv
      obtain ⟨_, _, hle⟩ := gb_var v hv _ hL.1 hlv
      have hf1 := gb_df_lt f hf _ he
      have e1 : gb_mt f (g i) = gb_mt (gb_df f (2 ^ v)) (gb_mt (2 ^ v) (g i)) := by
        rw [gb_mt_mt hf1 he, Nat.or_comm, gb_df_or f hf _ he hes]
      rw [e1]
      refine gb_lift hk hG hf1 (gb_w kd (2 ^ v) + gb_w kd (ld i)) (fun f' i' hf' hi' hw => ih _ (by
          have := gb_df_w kd hk f hf _ he hes
          omega) f' i' hf' hi' rfl) _ ?_ (hV i hi v hv hlv)
      intro t ht hb
      obtain ⟨s, hs, hb2, e⟩ := gb_mt_sup he hb
      have hp := gb_var_w kd hk v hv
      by_cases e2 : s = ld i
      · rw [e, e2, hle]; omega
      · have h1 := hL.2.2 s hs hb2 e2
        have h2 := gb_w_or kd hk s hs _ he
        rw [e]; omega
/-- the polynomials that reduce to 0 are closed under monomials -/
theorem gb_ker_mt (hk : kd < 2) (hG : gb_G kd n g ld) (hB : ∀ f i, f < 32 → i < n → gb_RD kd n g ld (gb_mt f (g i)) = 0) {f : Nat} (hf : f < 32) {x : Int32} (hx : gb_RD kd n g ld x = 0) : gb_RD kd n g ld (gb_mt f x) = 0 :=
  gb_lift hk hG hf 1000 (fun f' i' hf' hi' _ => hB f' i' hf' hi') x (fun t ht _ => gb_w_lt kd hk t ht) hx
end
end
section
/-! ===== sums of multiples, zeros, leading monomials, normal forms ===== -/
def gb_Sp (n : Nat) (g : Nat → Int32) (q : Int32) : Prop := ∀ S : Int32 → Prop, S 0 → (∀ a b, S a → S b → S (a ^^^ b)) → (∀ i, i < n → ∀ f, f < 32 → S (gb_mt f (g i))) → S q
theorem gb_Sp_mono {n n' : Nat} {g g' : Nat → Int32} {q : Int32} (h : ∀ i, i < n → i < n' ∧ g' i = g i) (hq : gb_Sp n g q) : gb_Sp n' g' q :=
  fun S h0 hx hm => hq S h0 hx (fun i hi f hf => by rw [← (h i hi).2]; exact hm i (h i hi).1 f hf)
theorem gb_Sp_0 {n : Nat} {g : Nat → Int32} : gb_Sp n g 0 := fun _ h0 _ _ => h0
theorem gb_Sp_xor {n : Nat} {g : Nat → Int32} {a b : Int32} (ha : gb_Sp n g a) (hb : gb_Sp n g b) : gb_Sp n g (a ^^^ b) := fun S h0 hx hm => hx _ _ (ha S h0 hx hm) (hb S h0 hx hm)
theorem gb_Sp_mt {n : Nat} {g : Nat → Int32} {i f : Nat} (hi : i < n) (hf : f < 32) : gb_Sp n g (gb_mt f (g i)) := fun _ _ _ hm => hm i hi f hf
theorem gb_Sp_mem {n : Nat} {g : Nat → Int32} {i : Nat} (hi : i < n) : gb_Sp n g (g i) := by
  have := gb_Sp_mt (g := g) (f := 0) hi (by omega)
  rw [gb_mt_one] at this
  exact this
section
variable {kd n : Nat} {g : Nat → Int32} {ld : Nat → Nat}
theorem gb_RD_Sp (hk : kd < 2) (hG : gb_G kd n g ld) (x : Int32) : gb_Sp n g (x ^^^ gb_RD kd n g ld x) :=
  (gb_rd_span hk hG (gb_Sp n g) gb_Sp_0 (fun _ _ => gb_Sp_xor) 1000 (fun m hm hf _ => gb_Sp_mt hf (gb_df_lt m hm _ (hG _ hf).1)) 32 (Nat.le_refl _) x (fun t ht _ => gb_w_lt kd hk t ht)).1
theorem gb_Sp_V {z : Nat → Bool} (hz : ∀ i, i < n → gb_V z (g i)) {x : Int32} (h : gb_Sp n g x) : gb_V z x :=
  h (gb_V z) (gb_V_0 z) (fun _ _ => gb_V_xor) (fun i hi _ hf => gb_V_mt hf (hz i hi))
theorem gb_RD_bd (hk : kd < 2) (hG : gb_G kd n g ld) {B : Nat} {x : Int32} (h : ∀ t, t < 32 → bt x t = true → gb_w kd t < B) : ∀ t, t < 32 → bt (gb_RD kd n g ld x) t = true → gb_w kd t < B :=
  (gb_rd_span hk hG (fun _ => True) trivial (fun _ _ _ _ => trivial) B (fun _ _ _ _ => trivial) 32 (Nat.le_refl _) x h).2
theorem gb_ker_mul (hk : kd < 2) (hG : gb_G kd n g ld) (hB : ∀ f i, f < 32 → i < n → gb_RD kd n g ld (gb_mt f (g i)) = 0) (p : Int32) {q : Int32} (hq : gb_RD kd n g ld q = 0) : gb_RD kd n g ld (gb_mul p q) = 0 :=
  gb_sum_ind (fun y => gb_RD kd n g ld y = 0) gb_RD_0 (fun a b ha hb => by rw [gb_RD_xor, ha, hb, gb_xx]) _ _ 32 (fun _ ht _ => gb_ker_mt hk hG hB ht hq)
def gb_dl (a : Nat) : Int32 := gb_fv (fun b => decide (b = a))
theorem gb_ev_dl {a b : Nat} (hb : b < 32) : gb_ev (gb_dl a) b = decide (b = a) := gb_ev_fv _ hb
theorem gb_null (hk : kd < 2) (hG : gb_G kd n g ld) (hB : ∀ f i, f < 32 → i < n → gb_RD kd n g ld (gb_mt f (g i)) = 0) {z : Nat → Bool} (Q : Int32 → Prop) (hQ : ∀ q, Q q → gb_RD kd n g ld q = 0)
    (hz : ∀ a, a < 32 → z a = false → ∃ q, Q q ∧ gb_ev q a = true) {x : Int32} (hx : gb_V z x) : gb_RD kd n g ld x = 0 := by
  have e : gb_sum 32 gb_dl (gb_ev x) = x := by
    apply gb_ev_inj
    intro b hb
    rw [gb_ev_sum, gb_xs_1 (i := b) 32 hb]
    · rw [gb_ev_dl hb, decide_eq_true rfl, Bool.and_true]
    · intro j _ hn
      rw [gb_ev_dl hb, decide_eq_false (fun h => hn h.symm), Bool.and_false]
  rw [← e]
  refine gb_sum_ind (fun y => gb_RD kd n g ld y = 0) gb_RD_0 (fun a b ha hb => by rw [gb_RD_xor, ha, hb, gb_xx]) _ _ 32 (fun a ha hb => ?_)
  have hza : z a = false := by
    cases e1 : z a
    · rfl
    · rw [hx a ha e1] at hb
      exact absurd hb (by decide)
  obtain ⟨q, hq, hqa⟩ := hz a ha hza
  have e2 : gb_mul (gb_dl a) q = gb_dl a := by
    apply gb_ev_inj
    intro b hb2
    rw [gb_ev_mul, gb_ev_dl hb2]
    by_cases c : b = a
    · rw [c, hqa, Bool.and_true]
    · rw [decide_eq_false c, Bool.false_and]
  have := gb_ker_mul hk hG hB (gb_dl a) (hQ q hq)
  rw [e2] at this
  exact this
end
/-! ===== places: the encoding by an order, the highest bit ===== -/
def gb_in (kd : Nat) (p : Int32) : Int32 := gb_sum 32 gb_e (fun j => bt p (gb_M kd j))
def gb_ou (kd : Nat) (x : Int32) : Int32 := gb_sum 32 gb_e (fun m => bt x (gb_P kd m))
theorem gb_bt_in {kd : Nat} (p : Int32) {j : Nat} (hj : j < 32) : bt (gb_in kd p) j = bt p (gb_M kd j) := gb_bt_of _ hj
theorem gb_bt_ou {kd : Nat} (p : Int32) {j : Nat} (hj : j < 32) : bt (gb_ou kd p) j = bt p (gb_P kd j) := gb_bt_of _ hj
theorem gb_ou_in {kd : Nat} (hk : kd < 2) (p : Int32) : gb_ou kd (gb_in kd p) = p := b_ext (fun i hi => by
  rw [gb_bt_ou _ hi, gb_bt_in _ (gb_Plt kd hk i hi), gb_MP kd hk i hi])
theorem gb_in_ou {kd : Nat} (hk : kd < 2) (p : Int32) : gb_in kd (gb_ou kd p) = p := b_ext (fun i hi => by
  rw [gb_bt_in _ hi, gb_bt_ou _ (gb_Mlt kd hk i hi), gb_PM kd hk i hi])
theorem gb_in_xor {kd : Nat} (p q : Int32) : gb_in kd (p ^^^ q) = gb_in kd p ^^^ gb_in kd q := b_ext (fun i hi => by
  rw [b_xor, gb_bt_in _ hi, gb_bt_in _ hi, gb_bt_in _ hi, b_xor])
theorem gb_in_0 {kd : Nat} : gb_in kd 0 = 0 := b_ext (fun i hi => by rw [gb_bt_in _ hi, b_0, b_0])
theorem gb_in_inj {kd : Nat} (hk : kd < 2) {p q : Int32} (h : gb_in kd p = gb_in kd q) : p = q := by
  rw [← gb_ou_in hk p, h, gb_ou_in hk q]
theorem gb_in_e {kd : Nat} (hk : kd < 2) {m : Nat} (hm : m < 32) : gb_in kd (gb_e m) = gb_e (gb_P kd m) := b_ext (fun i hi => by
  rw [gb_bt_in _ hi, gb_bt_e hm, gb_bt_e (gb_Plt kd hk m hm)]
  by_cases c : i = gb_P kd m
  · rw [decide_eq_true c, c, gb_MP kd hk m hm, decide_eq_true rfl]
  · rw [decide_eq_false c, decide_eq_false (fun h => c (by rw [← h, gb_PM kd hk i hi]))])
def gb_hi : Nat → Int32 → Nat
  | 0, _ => 0
  | k + 1, x => if bt x (k + 1) = true then k + 1 else gb_hi k x
theorem gb_hi_spec (x : Int32) : ∀ k, gb_hi k x ≤ k ∧ (∀ j, j ≤ k → gb_hi k x < j → bt x j = false) ∧ ((∃ j, j ≤ k ∧ bt x j = true) → bt x (gb_hi k x) = true) := by
  intro k
  induction k with
  | zero =>
    refine ⟨Nat.le_refl _, fun j hj h => ?_, fun ⟨j, hj, h⟩ => ?_⟩
    · have : gb_hi 0 x = 0 := rfl
      omega
    · have e : j = 0 := by omega
      rw [e] at h
      exact h
  | succ k ih =>
    obtain ⟨h1, h2, h3⟩ := ih
    unfold gb_hi
    by_cases c : bt x (k + 1) = true
    · rw [if_pos c]
      exact ⟨Nat.le_refl _, fun j hj h => by omega, fun _ => c⟩
    · rw [if_neg c]
      refine ⟨by omega, fun j hj h => ?_, fun ⟨j, hj, h⟩ => ?_⟩
      · by_cases e : j = k + 1
        · rw [e]
          cases e1 : bt x (k + 1)
          · rfl
          · exact absurd e1 c
        · exact h2 j (by omega) h
      · by_cases e : j = k + 1
        · rw [e] at h; exact absurd h c
        · exact h3 ⟨j, by omega, h⟩
theorem gb_hi_lt (x : Int32) : gb_hi 31 x < 32 := by have := (gb_hi_spec x 31).1; omega
/-- the leading monomial is the one at the highest place -/
theorem gb_hi_ld {kd : Nat} (hk : kd < 2) {p : Int32} {m : Nat} (h : gb_Ld kd p m) : gb_hi 31 (gb_in kd p) = gb_P kd m := by
  obtain ⟨h1, h2, h3⟩ := gb_hi_spec (gb_in kd p) 31
  have hP := gb_Plt kd hk m h.1
  have hb : bt (gb_in kd p) (gb_P kd m) = true := by rw [gb_bt_in _ hP, gb_MP kd hk m h.1]; exact h.2.1
  have h4 := h3 ⟨_, by omega, hb⟩
  have hM := gb_Mlt kd hk _ (gb_hi_lt (gb_in kd p))
  rw [gb_bt_in _ (gb_hi_lt _)] at h4
  rcases Nat.lt_trichotomy (gb_hi 31 (gb_in kd p)) (gb_P kd m) with c | c | c
  · rw [h2 _ (by omega) c] at hb
    exact absurd hb (by decide)
  · exact c
  · have h5 := gb_Ld_le h hM h4
    have h6 := (gb_Pw kd hk m h.1 _ hM).mpr (by rw [gb_PM kd hk _ (gb_hi_lt _)]; exact c)
    omega
theorem gb_has_ld {kd : Nat} (hk : kd < 2) {p : Int32} (h : p ≠ 0) : gb_Ld kd p (gb_M kd (gb_hi 31 (gb_in kd p))) := by
  obtain ⟨h1, h2, h3⟩ := gb_hi_spec (gb_in kd p) 31
  have hM := gb_Mlt kd hk _ (gb_hi_lt (gb_in kd p))
  obtain ⟨i, hi, hb⟩ := gb_nz h
  have hPi := gb_Plt kd hk i hi
  have hb2 : bt (gb_in kd p) (gb_P kd i) = true := by rw [gb_bt_in _ hPi, gb_MP kd hk i hi]; exact hb
  have h4 := h3 ⟨_, by omega, hb2⟩
  rw [gb_bt_in _ (gb_hi_lt _)] at h4
  refine ⟨hM, h4, fun t ht hbt hn => ?_⟩
  have hPt := gb_Plt kd hk t ht
  have hb3 : bt (gb_in kd p) (gb_P kd t) = true := by rw [gb_bt_in _ hPt, gb_MP kd hk t ht]; exact hbt
  refine (gb_Pw kd hk t ht _ hM).mpr ?_
  rw [gb_PM kd hk _ (gb_hi_lt _)]
  rcases Nat.lt_trichotomy (gb_hi 31 (gb_in kd p)) (gb_P kd t) with c | c | c
  · rw [h2 _ (by omega) c] at hb3
    exact absurd hb3 (by decide)
  · exact absurd (by rw [c, gb_MP kd hk t ht]) hn
  · exact c
/-! ===== leading monomials of the ideal of the zeros ===== -/
def gb_LM (kd : Nat) (z : Nat → Bool) (m : Nat) : Prop := ∃ p, gb_V z p ∧ gb_Ld kd p m
theorem gb_LM_up {kd : Nat} (hk : kd < 2) {z : Nat → Bool} {m m' : Nat} (h : gb_LM kd z m) (hm' : m' < 32) (hs : m &&& m' = m) : gb_LM kd z m' := by
  obtain ⟨p, hp, hL⟩ := h
  have hd := gb_df_lt m' hm' m hL.1
  have := gb_mt_ld hk hL hd (gb_df_and m' hm' m hL.1)
  rw [gb_df_or m' hm' m hL.1 hs] at this
  exact ⟨_, gb_V_mt hd hp, this⟩
theorem gb_LM_lt {kd : Nat} {z : Nat → Bool} {m : Nat} (h : gb_LM kd z m) : m < 32 := by
  obtain ⟨p, _, hL⟩ := h
  exact hL.1
def gb_NF (kd : Nat) (z : Nat → Bool) (p c : Int32) : Prop := gb_V z (p ^^^ c) ∧ ∀ t, t < 32 → bt c t = true → ¬ gb_LM kd z t
theorem gb_NF_uniq {kd : Nat} (hk : kd < 2) {z : Nat → Bool} {p c d : Int32} (hc : gb_NF kd z p c) (hd : gb_NF kd z p d) : c = d := by
  apply gb_xeq
  refine Classical.byContradiction fun hn => ?_
  have hL := gb_has_ld hk hn
  have hV : gb_V z (c ^^^ d) := by
    have := gb_V_xor hc.1 hd.1
    rw [gb_x4, gb_xx, gb_0x] at this
    exact this
  have hb := hL.2.1
  rw [b_xor] at hb
  cases e : bt c (gb_M kd (gb_hi 31 (gb_in kd (c ^^^ d))))
  · rw [e, Bool.false_xor] at hb
    exact hd.2 _ hL.1 hb ⟨_, hV, hL⟩
  · exact hc.2 _ hL.1 e ⟨_, hV, hL⟩
def gb_GB (kd : Nat) (z : Nat → Bool) (n : Nat) (g : Nat → Int32) (ld : Nat → Nat) : Prop := gb_G kd n g ld ∧ (∀ i, i < n → gb_V z (g i)) ∧ (∀ m, gb_LM kd z m → ∃ i, i < n ∧ ld i &&& m = ld i)
section
variable {kd n : Nat} {g : Nat → Int32} {ld : Nat → Nat} {z : Nat → Bool}
theorem gb_GB_of (hk : kd < 2) (hG : gb_G kd n g ld) (hV : ∀ i, i < n → gb_V z (g i)) (h : ∀ x, gb_V z x → gb_RD kd n g ld x = 0) : gb_GB kd z n g ld := by
  refine ⟨hG, hV, fun m hm => ?_⟩
  obtain ⟨p, hp, hL⟩ := hm
  refine Classical.byContradiction fun hn => ?_
  have hno : ∀ m', m' < 32 → gb_fi ld m' n < n → m' ≠ m := fun m' _ hf e => by
    subst e
    exact hn ⟨_, hf, gb_fi_div hf⟩
  have := (gb_rd_span hk hG (fun y => bt y m = false) (b_0 m) (fun a b ha hb => by rw [b_xor, ha, hb]; rfl) (gb_w kd m + 1) (fun m' hm' hf hw => by
    refine gb_Ld_hi (gb_pm_ld hk hG hm' hf) hL.1 ?_
    have h1 : gb_w kd m' ≠ gb_w kd m := fun e => hno m' hm' hf (gb_wi kd hk m' hm' m hL.1 e)
    omega) 32 (Nat.le_refl _) p (fun t ht hb => by have := gb_Ld_le hL ht hb; omega)).1
  have e : gb_rd kd n g ld 32 p = 0 := h p hp
  rw [e, gb_x0, hL.2.1] at this
  exact absurd this (by decide)
theorem gb_GB_NF (hk : kd < 2) (h : gb_GB kd z n g ld) (x : Int32) : gb_NF kd z x (gb_RD kd n g ld x) :=
  ⟨gb_Sp_V h.2.1 (gb_RD_Sp hk h.1 x), fun t ht hb hl => by
    obtain ⟨i, hi, hd⟩ := h.2.2 t hl
    exact gb_RD_std hk h.1 ht hb i hi hd⟩
theorem gb_GB_LM (hk : kd < 2) (h : gb_GB kd z n g ld) {m : Nat} (hm : m < 32) : gb_LM kd z m ↔ ∃ i, i < n ∧ ld i &&& m = ld i :=
  ⟨h.2.2 m, fun ⟨i, hi, hd⟩ => gb_LM_up hk ⟨g i, h.2.1 i hi, h.1 i hi⟩ hm hd⟩
end
def gb_mn (kd : Nat) (z : Nat → Bool) (m : Nat) : Prop := gb_LM kd z m ∧ ∀ l, gb_LM kd z l → l &&& m = l → l = m
theorem gb_mn_ex {kd : Nat} {z : Nat → Bool} : ∀ m, gb_LM kd z m → ∃ l, gb_mn kd z l ∧ l &&& m = l := by
  intro m
  induction m using Nat.strongRecOn with
  | ind m ih =>
    intro h
    by_cases c : gb_mn kd z m
    · exact ⟨m, c, Nat.and_self m⟩
    · have : ∃ l, gb_LM kd z l ∧ l &&& m = l ∧ l ≠ m := Classical.byContradiction fun hn => c ⟨h, fun l hl hs => Classical.byContradiction fun hne => hn ⟨l, hl, hs, hne⟩⟩
      obtain ⟨l, hl, hs, hne⟩ := this
      have hle : l ≤ m := by rw [← hs]; exact Nat.and_le_right
      obtain ⟨l', h1, h2⟩ := ih l (by omega) hl
      exact ⟨l', h1, gb_sub_trans h2 hs⟩
/-- the reduced basis, sorted -/
def gb_RL (kd : Nat) (z : Nat → Bool) (s : Nat) (b : Nat → Int32) (md : Nat → Nat) : Prop :=
  (∀ i, i < s → gb_Ld kd (b i) (md i) ∧ gb_V z (b i) ∧ gb_mn kd z (md i) ∧ ∀ t, t < 32 → bt (b i) t = true → t ≠ md i → ¬ gb_LM kd z t) ∧ (∀ i j, i < j → j < s → gb_w kd (md i) < gb_w kd (md j))
def gb_RB (kd : Nat) (z : Nat → Bool) (s : Nat) (b : Nat → Int32) (md : Nat → Nat) : Prop := gb_RL kd z s b md ∧ (∀ m, gb_mn kd z m → ∃ i, i < s ∧ md i = m)
theorem gb_RB_GB {kd : Nat} {z : Nat → Bool} {s : Nat} {b : Nat → Int32} {md : Nat → Nat} (h : gb_RB kd z s b md) : gb_GB kd z s b md :=
  ⟨fun i hi => (h.1.1 i hi).1, fun i hi => (h.1.1 i hi).2.1, fun m hm => by
    obtain ⟨l, hl, hs⟩ := gb_mn_ex m hm
    obtain ⟨i, hi, e⟩ := h.2 l hl
    exact ⟨i, hi, by rw [e]; exact hs⟩⟩
/-- an element of the reduced basis is its leading monomial plus that one's normal form -/
theorem gb_RB_NF {kd : Nat} {z : Nat → Bool} {s : Nat} {b : Nat → Int32} {md : Nat → Nat} (h : gb_RB kd z s b md) {i : Nat} (hi : i < s) : gb_NF kd z (gb_e (md i)) (gb_e (md i) ^^^ b i) := by
  obtain ⟨hL, hV, _, ht⟩ := h.1.1 i hi
  refine ⟨by rw [← gb_xa, gb_xx, gb_0x]; exact hV, fun t ht2 hb => ?_⟩
  rw [b_xor, gb_bt_e hL.1] at hb
  by_cases c : t = md i
  · rw [decide_eq_true c, c, hL.2.1] at hb
    exact absurd hb (by decide)
  · rw [decide_eq_false c, Bool.false_xor] at hb
    exact ht t ht2 hb c
/-- the length of an injective list of numbers below n -/
theorem gb_pigeon {n R : Nat} (s : Nat → Nat) (h1 : ∀ r, r < R → s r < n) (h2 : ∀ r r', r < r' → r' < R → s r ≠ s r') : R ≤ n := by
  have := gb_cn_enum (n := n) R s (fun m => (List.range R).any (fun r => s r == m)) (fun r hr => ⟨h1 r hr, by
      rw [List.any_eq_true]
      exact ⟨r, List.mem_range.mpr hr, beq_self_eq_true _⟩⟩) h2 (fun m _ hp => by
      rw [List.any_eq_true] at hp
      obtain ⟨r, hr, e⟩ := hp
      exact ⟨r, List.mem_range.mp hr, eq_of_beq e⟩)
  have h3 := gb_cn_le (fun m => (List.range R).any (fun r => s r == m)) n
  omega
end
section
/-! ===== linear equations between the values on the zeros ===== -/
def gb_lo : Nat → Int32 → Nat
  | 0, _ => 32
  | d + 1, x => if bt x (31 - d) = true then 31 - d else gb_lo d x
theorem gb_lo_spec (x : Int32) : ∀ d, d ≤ 32 → (∀ j, 32 - d ≤ j → j < gb_lo d x → bt x j = false) ∧ ((∃ j, 32 - d ≤ j ∧ bt x j = true) → gb_lo d x < 32 ∧ bt x (gb_lo d x) = true) := by
  intro d
  induction d with
  | zero =>
    intro _
    refine ⟨fun j hj h => ?_, fun ⟨j, hj, h⟩ => ?_⟩
    · have : gb_lo 0 x = 32 := rfl
      omega
    · rw [b_big (by omega)] at h
      exact absurd h (by decide)
  | succ d ih =>
    intro hd
    obtain ⟨h1, h2⟩ := ih (by omega)
    unfold gb_lo
    by_cases c : bt x (31 - d) = true
    · rw [if_pos c]
      exact ⟨fun j hj h => by omega, fun _ => ⟨by omega, c⟩⟩
    · rw [if_neg c]
      refine ⟨fun j hj h => ?_, fun ⟨j, hj, h⟩ => ?_⟩
      · by_cases e : j = 31 - d
        · rw [e]
          cases e1 : bt x (31 - d)
          · rfl
          · exact absurd e1 c
        · exact h1 j (by omega) h
      · by_cases e : j = 31 - d
        · rw [e] at h; exact absurd h c
        · exact h2 ⟨j, by omega, h⟩
theorem gb_lo_nz {x : Int32} (h : x ≠ 0) : gb_lo 32 x < 32 ∧ bt x (gb_lo 32 x) = true ∧ ∀ j, j < gb_lo 32 x → bt x j = false := by
  obtain ⟨i, hi, hb⟩ := gb_nz h
  obtain ⟨h1, h2⟩ := gb_lo_spec x 32 (Nat.le_refl _)
  obtain ⟨h3, h4⟩ := h2 ⟨i, by omega, hb⟩
  exact ⟨h3, h4, fun j hj => h1 j (by omega) hj⟩
theorem gb_bt_neg (x : Int32) {i : Nat} (hi : i < 32) (h : ∀ j, j < i → bt x j = false) : bt (-x) i = bt x i := by
  show (-x.toBitVec).getLsbD i = x.toBitVec.getLsbD i
  rw [BitVec.getLsbD_neg, decide_eq_false (p := ∃ j, j < i ∧ x.toBitVec.getLsbD j = true), Bool.and_false, Bool.xor_false]
  intro ⟨j, hj, hb⟩
  have := h j hj
  unfold bt at this
  rw [this] at hb
  exact absurd hb (by decide)
theorem gb_bt_neg' (x : Int32) {i j : Nat} (hi : i < 32) (hj : j < i) (hb : bt x j = true) : bt (-x) i = !(bt x i) := by
  show (-x.toBitVec).getLsbD i = !(x.toBitVec.getLsbD i)
  rw [BitVec.getLsbD_neg, decide_eq_true (p := ∃ j, j < i ∧ x.toBitVec.getLsbD j = true) ⟨j, hj, hb⟩, decide_eq_true hi]
  cases x.toBitVec.getLsbD i <;> rfl
theorem gb_low {x : Int32} (h : x ≠ 0) : x &&& (-x) = gb_e (gb_lo 32 x) := by
  obtain ⟨h1, h2, h3⟩ := gb_lo_nz h
  apply b_ext
  intro i hi
  rw [b_and, gb_bt_e h1]
  rcases Nat.lt_trichotomy i (gb_lo 32 x) with c | c | c
  · rw [h3 i c, decide_eq_false (by omega), Bool.false_and]
  · rw [gb_bt_neg x hi (fun j hj => h3 j (by omega)), c, h2, decide_eq_true rfl]; rfl
  · rw [gb_bt_neg' x hi c h2, decide_eq_false (by omega)]
    cases bt x i <;> rfl
theorem gb_and_e {v : Int32} {a : Nat} (ha : a < 32) : (v &&& gb_e a) = 0 ↔ bt v a = false := by
  constructor
  · intro h
    have h1 : bt (v &&& gb_e a) a = false := by rw [h, b_0]
    rw [b_and, gb_bt_e ha, decide_eq_true rfl, Bool.and_true] at h1
    exact h1
  · intro h
    apply b_ext
    intro i _
    rw [b_and, gb_bt_e ha, b_0]
    by_cases c : i = a
    · rw [c, h]; rfl
    · rw [decide_eq_false c, Bool.and_false]
/-- the values on the zeros -/
def gb_vz (z : Nat → Bool) (p : Int32) : Int32 := gb_sum 32 gb_e (fun a => (z a && gb_ev p a))
theorem gb_bt_vz (z : Nat → Bool) (p : Int32) {a : Nat} (ha : a < 32) : bt (gb_vz z p) a = (z a && gb_ev p a) := gb_bt_of _ ha
theorem gb_vz_xor (z : Nat → Bool) (p q : Int32) : gb_vz z (p ^^^ q) = gb_vz z p ^^^ gb_vz z q := b_ext (fun i hi => by
  rw [b_xor, gb_bt_vz z _ hi, gb_bt_vz z _ hi, gb_bt_vz z _ hi, gb_ev_xor]
  cases z i <;> cases gb_ev p i <;> cases gb_ev q i <;> rfl)
theorem gb_vz_0 {z : Nat → Bool} {p : Int32} : gb_vz z p = 0 ↔ gb_V z p := by
  constructor
  · intro h a ha hz
    have := gb_bt_vz z p ha
    rw [h, b_0, hz, Bool.true_and] at this
    exact this.symm
  · intro h
    apply b_ext
    intro a ha
    rw [gb_bt_vz z p ha, b_0]
    cases e : z a
    · rfl
    · rw [h a ha e]; rfl
def gb_el (ro : Nat → Int32) : Nat → Int32 → Int32
  | 0, v => v
  | r + 1, v => if bt (gb_el ro r v) (gb_lo 32 (ro r)) = true then gb_el ro r v ^^^ ro r else gb_el ro r v
def gb_ec (ro mk : Nat → Int32) : Nat → Int32 → Int32 → Int32
  | 0, _, c => c
  | r + 1, v, c => if bt (gb_el ro r v) (gb_lo 32 (ro r)) = true then gb_ec ro mk r v c ^^^ mk r else gb_ec ro mk r v c
theorem gb_el_cong {ro ro' : Nat → Int32} {v : Int32} : ∀ R, (∀ r, r < R → ro' r = ro r) → gb_el ro' R v = gb_el ro R v := by
  intro R
  induction R with
  | zero => intro _; rfl
  | succ R ih =>
    intro h
    unfold gb_el
    rw [ih (fun r hr => h r (by omega)), h R (by omega)]
theorem gb_el_0 (ro : Nat → Int32) : ∀ R, gb_el ro R 0 = 0 := by
  intro R
  induction R with
  | zero => rfl
  | succ R ih =>
    unfold gb_el
    rw [ih, if_neg (by rw [b_0]; decide)]
theorem gb_el_xor (ro : Nat → Int32) (v w : Int32) : ∀ R, gb_el ro R (v ^^^ w) = gb_el ro R v ^^^ gb_el ro R w := by
  intro R
  induction R with
  | zero => rfl
  | succ R ih =>
    unfold gb_el
    rw [ih, b_xor]
    generalize gb_el ro R v = x
    generalize gb_el ro R w = y
    generalize ro R = q
    cases hx : bt x (gb_lo 32 q) <;> cases hy : bt y (gb_lo 32 q)
    · rfl
    · show (x ^^^ y) ^^^ q = x ^^^ (y ^^^ q)
      exact gb_xa _ _ _
    · show (x ^^^ y) ^^^ q = (x ^^^ q) ^^^ y
      rw [gb_xa, gb_xa, gb_xc y q]
    · show x ^^^ y = (x ^^^ q) ^^^ (y ^^^ q)
      rw [gb_x4, gb_xx, gb_x0]
/-- each row has its lowest bit, and not those of the rows before it -/
def gb_Tr (R : Nat) (ro : Nat → Int32) : Prop := ∀ r, r < R → ro r ≠ 0 ∧ ∀ r', r' < r → bt (ro r) (gb_lo 32 (ro r')) = false
theorem gb_el_pv {ro : Nat → Int32} {v : Int32} : ∀ R, gb_Tr R ro → ∀ r, r < R → bt (gb_el ro R v) (gb_lo 32 (ro r)) = false := by
  intro R
  induction R with
  | zero => intro _ r hr; omega
  | succ R ih =>
    intro h r hr
    have ih' := ih (fun r hr => h r (by omega))
    obtain ⟨h1, h2⟩ := h R (by omega)
    unfold gb_el
    by_cases c : bt (gb_el ro R v) (gb_lo 32 (ro R)) = true
    · rw [if_pos c, b_xor]
      by_cases e : r = R
      · rw [e, c, (gb_lo_nz h1).2.1]; rfl
      · rw [ih' r (by omega), h2 r (by omega)]; rfl
    · rw [if_neg c]
      by_cases e : r = R
      · rw [e]
        cases e1 : bt (gb_el ro R v) (gb_lo 32 (ro R))
        · rfl
        · exact absurd e1 c
      · exact ih' r (by omega)
def gb_Sy (z : Nat → Bool) (v c : Int32) : Prop := ∀ a, a < 32 → bt v a = (z a && gb_ev c a)
theorem gb_Sy_xor {z : Nat → Bool} {v c v' c' : Int32} (h : gb_Sy z v c) (h' : gb_Sy z v' c') : gb_Sy z (v ^^^ v') (c ^^^ c') := fun a ha => by
  rw [b_xor, gb_ev_xor, h a ha, h' a ha]
  cases z a <;> cases gb_ev c a <;> cases gb_ev c' a <;> rfl
theorem gb_ec_sy {z : Nat → Bool} {ro mk : Nat → Int32} {v c : Int32} (h0 : gb_Sy z v c) : ∀ R, (∀ r, r < R → gb_Sy z (ro r) (mk r)) → gb_Sy z (gb_el ro R v) (gb_ec ro mk R v c) := by
  intro R
  induction R with
  | zero => intro _; exact h0
  | succ R ih =>
    intro h
    unfold gb_el gb_ec
    by_cases e : bt (gb_el ro R v) (gb_lo 32 (ro R)) = true
    · rw [if_pos e, if_pos e]
      exact gb_Sy_xor (ih (fun r hr => h r (by omega))) (h R (by omega))
    · rw [if_neg e, if_neg e]
      exact ih (fun r hr => h r (by omega))
theorem gb_ec_0 (ro mk : Nat → Int32) (v c : Int32) : ∀ R, gb_ec ro mk R v c = c ^^^ gb_ec ro mk R v 0 := by
  intro R
  induction R with
  | zero => exact (gb_x0 c).symm
  | succ R ih =>
    unfold gb_ec
    by_cases e : bt (gb_el ro R v) (gb_lo 32 (ro R)) = true
    · rw [if_pos e, if_pos e, ih, gb_xa]
    · rw [if_neg e, if_neg e, ih]
theorem gb_ec_bits {ro mk : Nat → Int32} {v : Int32} {S : Nat → Prop} : ∀ R, (∀ r, r < R → ∀ t, t < 32 → bt (mk r) t = true → S t) → ∀ t, t < 32 → bt (gb_ec ro mk R v 0) t = true → S t := by
  intro R
  induction R with
  | zero =>
    intro _ t _ hb
    have : bt 0 t = true := hb
    rw [b_0] at this
    exact absurd this (by decide)
  | succ R ih =>
    intro h t ht hb
    unfold gb_ec at hb
    have ih' := ih (fun r hr => h r (by omega)) t ht
    by_cases e : bt (gb_el ro R v) (gb_lo 32 (ro R)) = true
    · rw [if_pos e, b_xor] at hb
      cases e2 : bt (gb_ec ro mk R v 0) t
      · rw [e2, Bool.false_xor] at hb
        exact h R (by omega) t ht hb
      · exact ih' e2
    · rw [if_neg e] at hb
      exact ih' hb
/-- the state behind i monomials -/
def gb_EA (kd : Nat) (z : Nat → Bool) (i R : Nat) (ro mk : Nat → Int32) : Prop :=
  gb_Tr R ro ∧ (∀ r, r < R → gb_Sy z (ro r) (mk r)) ∧ (∀ r, r < R → ∀ t, t < 32 → bt (mk r) t = true → gb_P kd t < i ∧ ¬ gb_LM kd z t) ∧ (∀ t, t < 32 → gb_P kd t < i → gb_el ro R (gb_vz z (gb_e t)) = 0)
def gb_EC (kd : Nat) (z : Nat → Bool) (i R : Nat) : Prop :=
  ∃ sm : Nat → Nat, (∀ r, r < R → sm r < 32 ∧ gb_P kd (sm r) < i ∧ ¬ gb_LM kd z (sm r)) ∧ (∀ r r', r < r' → r' < R → sm r ≠ sm r') ∧ (∀ t, t < 32 → gb_P kd t < i → ¬ gb_LM kd z t → ∃ r, r < R ∧ sm r = t)
def gb_EI (kd : Nat) (z : Nat → Bool) (i R : Nat) (ro mk : Nat → Int32) : Prop := gb_EA kd z i R ro mk ∧ gb_EC kd z i R
theorem gb_EI_0 (kd : Nat) (z : Nat → Bool) (ro mk : Nat → Int32) : gb_EI kd z 0 0 ro mk :=
  ⟨⟨fun r hr => absurd hr (Nat.not_lt_zero _), fun r hr => absurd hr (Nat.not_lt_zero _), fun r hr => absurd hr (Nat.not_lt_zero _), fun t _ hp => absurd hp (Nat.not_lt_zero _)⟩,
   ⟨fun _ => 0, fun r hr => absurd hr (Nat.not_lt_zero _), fun r r' _ hr => absurd hr (Nat.not_lt_zero _), fun t _ hp => absurd hp (Nat.not_lt_zero _)⟩⟩
theorem gb_P_last {kd : Nat} (hk : kd < 2) {i t : Nat} (hi : i < 32) (ht : t < 32) (h : gb_P kd t < i + 1) : gb_P kd t < i ∨ t = gb_M kd i := by
  by_cases e : gb_P kd t = i
  · exact Or.inr (by rw [← e, gb_MP kd hk t ht])
  · exact Or.inl (by omega)
section
variable {kd : Nat} {z : Nat → Bool} {i R : Nat} {ro mk : Nat → Int32}
theorem gb_EI_c (hk : kd < 2) (hi : i < 32) (h : gb_EA kd z i R ro mk) {t : Nat} (ht : t < 32) (hb : bt (gb_ec ro mk R (gb_vz z (gb_e (gb_M kd i))) (gb_e (gb_M kd i))) t = true) (hn : t ≠ gb_M kd i) : gb_P kd t < i ∧ ¬ gb_LM kd z t := by
  rw [gb_ec_0, b_xor, gb_bt_e (gb_Mlt kd hk i hi), decide_eq_false hn, Bool.false_xor] at hb
  exact gb_ec_bits R h.2.2.1 t ht hb
theorem gb_EI_cm (hk : kd < 2) (hi : i < 32) (h : gb_EA kd z i R ro mk) : bt (gb_ec ro mk R (gb_vz z (gb_e (gb_M kd i))) (gb_e (gb_M kd i))) (gb_M kd i) = true := by
  rw [gb_ec_0, b_xor, gb_bt_e (gb_Mlt kd hk i hi), decide_eq_true rfl]
  cases e : bt (gb_ec ro mk R (gb_vz z (gb_e (gb_M kd i))) 0) (gb_M kd i)
  · rfl
  · have := (gb_ec_bits R h.2.2.1 _ (gb_Mlt kd hk i hi) e).1
    rw [gb_PM kd hk i hi] at this
    omega
theorem gb_EI_sy (h : gb_EA kd z i R ro mk) (p : Int32) : gb_Sy z (gb_el ro R (gb_vz z p)) (gb_ec ro mk R (gb_vz z p) p) :=
  gb_ec_sy (fun _ ha => gb_bt_vz z p ha) R h.2.1
theorem gb_Sy_V {v c : Int32} (h : gb_Sy z v c) (h0 : v = 0) : gb_V z c := fun a ha hz => by
  have := h a ha
  rw [h0, b_0, hz, Bool.true_and] at this
  exact this.symm
/-- a monomial whose values are dependent on the lower ones' is led -/
theorem gb_EI_led (hk : kd < 2) (hi : i < 32) (h : gb_EI kd z i R ro mk) (h0 : gb_el ro R (gb_vz z (gb_e (gb_M kd i))) = 0) : gb_LM kd z (gb_M kd i) ∧ gb_EI kd z (i + 1) R ro mk := by
  have hM := gb_Mlt kd hk i hi
  have hL : gb_LM kd z (gb_M kd i) := by
    refine ⟨_, gb_Sy_V (gb_EI_sy h.1 _) h0, hM, gb_EI_cm hk hi h.1, fun t ht hb hn => ?_⟩
    refine (gb_Pw kd hk t ht _ hM).mpr ?_
    rw [gb_PM kd hk i hi]
    exact (gb_EI_c hk hi h.1 ht hb hn).1
  refine ⟨hL, ⟨h.1.1, h.1.2.1, fun r hr t ht hb => ?_, fun t ht hp => ?_⟩, ?_⟩
  · obtain ⟨h1, h2⟩ := h.1.2.2.1 r hr t ht hb
    exact ⟨by omega, h2⟩
  · rcases gb_P_last hk hi ht hp with c | c
    · exact h.1.2.2.2 t ht c
    · rw [c]; exact h0
  · obtain ⟨sm, h1, h2, h3⟩ := h.2
    refine ⟨sm, fun r hr => ?_, h2, fun t ht hp hn => ?_⟩
    · obtain ⟨a, b, c⟩ := h1 r hr
      exact ⟨a, by omega, c⟩
    · rcases gb_P_last hk hi ht hp with c | c
      · exact h3 t ht c hn
      · rw [c] at hn; exact absurd hL hn
theorem gb_EI_kill (h : gb_EA kd z i R ro mk) {p : Int32} (hp : ∀ t, t < 32 → bt p t = true → gb_P kd t < i) : gb_el ro R (gb_vz z p) = 0 :=
  gb_mon_ind (fun y => gb_el ro R (gb_vz z y) = 0) (by rw [gb_vz_0.mpr (gb_V_0 z), gb_el_0]) (fun a b ha hb => by rw [gb_vz_xor, gb_el_xor, ha, hb, gb_xx]) p (fun t ht hb => h.2.2.2 t ht (hp t ht hb))
theorem gb_EI_free (hk : kd < 2) (hi : i < 32) (h : gb_EI kd z i R ro mk) (h0 : gb_el ro R (gb_vz z (gb_e (gb_M kd i))) ≠ 0) :
    ¬ gb_LM kd z (gb_M kd i) ∧ gb_EI kd z (i + 1) (R + 1) (upd ro R (gb_el ro R (gb_vz z (gb_e (gb_M kd i))))) (upd mk R (gb_ec ro mk R (gb_vz z (gb_e (gb_M kd i))) (gb_e (gb_M kd i)))) := by
  have hM := gb_Mlt kd hk i hi
  have hL : ¬ gb_LM kd z (gb_M kd i) := fun ⟨p, hp, hLd⟩ => h0 (by
    have e1 : gb_el ro R (gb_vz z (p ^^^ gb_e (gb_M kd i))) = 0 := gb_EI_kill h.1 (fun t ht hb => by
      rw [b_xor, gb_bt_e hM] at hb
      by_cases c : t = gb_M kd i
      · rw [decide_eq_true c, c, hLd.2.1] at hb
        exact absurd hb (by decide)
      · rw [decide_eq_false c, Bool.xor_false] at hb
        have := (gb_Pw kd hk t ht _ hM).mp (hLd.2.2 t ht hb c)
        rw [gb_PM kd hk i hi] at this
        exact this)
    rw [gb_vz_xor, gb_el_xor, gb_vz_0.mpr hp, gb_el_0, gb_0x] at e1
    exact e1)
  refine ⟨hL, ⟨?_, ?_, ?_, ?_⟩, ?_⟩
  · intro r hr
    by_cases e : r = R
    · rw [e, pk_us]
      refine ⟨h0, fun r' hr' => ?_⟩
      rw [pk_un (by omega)]
      exact gb_el_pv R h.1.1 r' hr'
    · rw [pk_un e]
      obtain ⟨h1, h2⟩ := h.1.1 r (by omega)
      exact ⟨h1, fun r' hr' => by rw [pk_un (by omega)]; exact h2 r' hr'⟩
  · intro r hr
    by_cases e : r = R
    · rw [e, pk_us, pk_us]
      exact gb_EI_sy h.1 _
    · rw [pk_un e, pk_un e]
      exact h.1.2.1 r (by omega)
  · intro r hr t ht hb
    by_cases e : r = R
    · rw [e, pk_us] at hb
      by_cases c : t = gb_M kd i
      · rw [c, gb_PM kd hk i hi]
        exact ⟨by omega, hL⟩
      · obtain ⟨h1, h2⟩ := gb_EI_c hk hi h.1 ht hb c
        exact ⟨by omega, h2⟩
    · rw [pk_un e] at hb
      obtain ⟨h1, h2⟩ := h.1.2.2.1 r (by omega) t ht hb
      exact ⟨by omega, h2⟩
  · intro t ht hp
    unfold gb_el
    rw [gb_el_cong R (fun r hr => pk_un (by omega)), pk_us]
    rcases gb_P_last hk hi ht hp with c | c
    · rw [h.1.2.2.2 t ht c, if_neg (by rw [b_0]; decide)]
    · rw [c, if_pos (gb_lo_nz h0).2.1, gb_xx]
  · obtain ⟨sm, h1, h2, h3⟩ := h.2
    refine ⟨fun r => if r = R then gb_M kd i else sm r, fun r hr => ?_, fun r r' hr hr' => ?_, fun t ht hp hn => ?_⟩
    · show (if r = R then gb_M kd i else sm r) < 32 ∧ gb_P kd (if r = R then gb_M kd i else sm r) < i + 1 ∧ ¬ gb_LM kd z (if r = R then gb_M kd i else sm r)
      by_cases e : r = R
      · rw [if_pos e, gb_PM kd hk i hi]
        exact ⟨hM, by omega, hL⟩
      · rw [if_neg e]
        obtain ⟨a, b, c⟩ := h1 r (by omega)
        exact ⟨a, by omega, c⟩
    · show (if r = R then gb_M kd i else sm r) ≠ (if r' = R then gb_M kd i else sm r')
      rw [if_neg (show ¬ r = R by omega)]
      by_cases e : r' = R
      · rw [if_pos e]
        intro e2
        have := (h1 r (by omega)).2.1
        rw [e2, gb_PM kd hk i hi] at this
        omega
      · rw [if_neg e]
        exact h2 r r' hr (by omega)
    · rcases gb_P_last hk hi ht hp with c | c
      · obtain ⟨r, hr, e⟩ := h3 t ht c hn
        exact ⟨r, by omega, by show (if r = R then gb_M kd i else sm r) = t; rw [if_neg (by omega)]; exact e⟩
      · exact ⟨R, by omega, by show (if R = R then gb_M kd i else sm R) = t; rw [if_pos rfl]; exact c.symm⟩
/-- the normal form, by the rows -/
theorem gb_EI_NF (hk : kd < 2) (h : gb_EA kd z 32 R ro mk) (p : Int32) : gb_NF kd z p (gb_ec ro mk R (gb_vz z p) 0) := by
  have h0 : gb_el ro R (gb_vz z p) = 0 := gb_EI_kill h (fun t ht _ => gb_Plt kd hk t ht)
  refine ⟨?_, fun t ht hb => (gb_ec_bits R h.2.2.1 t ht hb).2⟩
  rw [← gb_ec_0]
  exact gb_Sy_V (gb_EI_sy h p) h0
end
theorem gb_EI_ex {kd : Nat} (hk : kd < 2) (z : Nat → Bool) : ∀ i, i ≤ 32 → ∃ R ro mk, gb_EI kd z i R ro mk := by
  intro i
  induction i with
  | zero => intro _; exact ⟨0, fun _ => 0, fun _ => 0, gb_EI_0 kd z _ _⟩
  | succ i ih =>
    intro hi
    obtain ⟨R, ro, mk, h⟩ := ih (by omega)
    by_cases c : gb_el ro R (gb_vz z (gb_e (gb_M kd i))) = 0
    · exact ⟨R, ro, mk, (gb_EI_led hk (by omega) h c).2⟩
    · exact ⟨R + 1, _, _, (gb_EI_free hk (by omega) h c).2⟩
/-! ===== as many monomials are not led as there are zeros ===== -/
noncomputable def gb_lm (kd : Nat) (z : Nat → Bool) (m : Nat) : Bool := @decide (gb_LM kd z m) (Classical.propDecidable _)
theorem gb_lm_t {kd : Nat} {z : Nat → Bool} {m : Nat} (h : gb_LM kd z m) : gb_lm kd z m = true := @decide_eq_true _ (Classical.propDecidable _) h
theorem gb_lm_f {kd : Nat} {z : Nat → Bool} {m : Nat} (h : ¬ gb_LM kd z m) : gb_lm kd z m = false := @decide_eq_false _ (Classical.propDecidable _) h
theorem gb_lm_of {kd : Nat} {z : Nat → Bool} {m : Nat} (h : gb_lm kd z m = true) : gb_LM kd z m := @of_decide_eq_true _ (Classical.propDecidable _) h
theorem gb_lm_nof {kd : Nat} {z : Nat → Bool} {m : Nat} (h : gb_lm kd z m = false) : ¬ gb_LM kd z m := @of_decide_eq_false _ (Classical.propDecidable _) h
theorem gb_dim {kd : Nat} (hk : kd < 2) (z : Nat → Bool) : gb_cn 32 (fun m => !(gb_lm kd z m)) = gb_cn 32 z := by
  obtain ⟨R, ro, mk, h⟩ := gb_EI_ex hk z 32 (Nat.le_refl _)
  have e1 : gb_cn 32 (fun m => !(gb_lm kd z m)) = R := by
    obtain ⟨sm, h1, h2, h3⟩ := h.2
    refine gb_cn_enum R sm _ (fun r hr => ⟨(h1 r hr).1, ?_⟩) h2 (fun m hm hp => ?_)
    · show (!(gb_lm kd z (sm r))) = true
      rw [gb_lm_f (h1 r hr).2.2]; rfl
    · have hp' : (!(gb_lm kd z m)) = true := hp
      refine h3 m hm (gb_Plt kd hk m hm) (gb_lm_nof ?_)
      cases e : gb_lm kd z m
      · rfl
      · rw [e] at hp'; exact absurd hp' (by decide)
  have e2 : gb_cn 32 z = R := by
    refine gb_cn_enum R (fun r => gb_lo 32 (ro r)) z (fun r hr => ?_) (fun r r' hr hr' e => ?_) (fun a ha hz => ?_)
    · obtain ⟨h1, h2, _⟩ := gb_lo_nz (h.1.1 r hr).1
      refine ⟨h1, ?_⟩
      have := h.1.2.1 r hr _ h1
      rw [h2] at this
      show z (gb_lo 32 (ro r)) = true
      cases e : z (gb_lo 32 (ro r))
      · rw [e, Bool.false_and] at this
        exact absurd this (by decide)
      · rfl
    · have e' : gb_lo 32 (ro r) = gb_lo 32 (ro r') := e
      have h1 := (h.1.1 r' hr').2 r hr
      rw [e', (gb_lo_nz (h.1.1 r' hr').1).2.1] at h1
      exact absurd h1 (by decide)
    · refine Classical.byContradiction fun hn => ?_
      have k1 : ∀ R', R' ≤ R → gb_el ro R' (gb_e a) = gb_e a := by
        intro R'
        induction R' with
        | zero => intro _; rfl
        | succ R' ih =>
          intro hR
          unfold gb_el
          rw [ih (by omega), if_neg]
          rw [gb_bt_e ha, decide_eq_false (fun e => hn ⟨R', by omega, e⟩)]
          decide
      have k2 : gb_vz z (gb_dl a) = gb_e a := b_ext (fun i hi => by
        rw [gb_bt_vz z _ hi, gb_ev_dl hi, gb_bt_e ha]
        by_cases c : i = a
        · rw [c, hz, decide_eq_true rfl]; rfl
        · rw [decide_eq_false c, Bool.and_false])
      have k3 := gb_EI_kill h.1 (p := gb_dl a) (fun t ht _ => gb_Plt kd hk t ht)
      rw [k2, k1 R (Nat.le_refl _)] at k3
      have k4 : bt (gb_e a) a = true := by rw [gb_bt_e ha, decide_eq_true rfl]
      rw [k3, b_0] at k4
      exact absurd k4 (by decide)
  rw [e1, e2]
end
section
/-! ===== tools for the walks ===== -/
def gb_bI (b : Bool) : Int32 := if b = true then 1 else 0
theorem gb_b1 : ∀ i, i < 32 → bt 1 i = decide (i = 0) := by decide +kernel
theorem gb_bt_bI (b : Bool) {i : Nat} (hi : i < 32) : bt (gb_bI b) i = (b && decide (i = 0)) := by
  cases b
  · exact b_0 i
  · exact gb_b1 i hi
theorem gb_bI_1 {b : Bool} : gb_bI b = 1 ↔ b = true := by cases b <;> decide
theorem gb_bI_0 {b : Bool} : gb_bI b = 0 ↔ b = false := by cases b <;> decide
theorem gb_and1 (y : Int32) : y &&& 1 = gb_bI (bt y 0) := b_ext (fun i hi => by
  rw [b_and, gb_b1 i hi, gb_bt_bI _ hi]
  by_cases c : i = 0
  · rw [c]
  · rw [decide_eq_false c, Bool.and_false, Bool.and_false])
theorem gb_ut (x : Int32) {j : Nat} (hj : j < 32) : (((x.toUInt32 >>> ((nI j).toUInt32 &&& Int32.toUInt32 31)).toInt32) &&& 1) = gb_bI (bt x j) := by
  rw [gb_and1, b_ushr j hj, Nat.add_zero]
theorem gb_it (x : Int32) {j : Nat} (hj : j < 32) : ((x >>> (nI j &&& 31)) &&& 1) = gb_bI (bt x j) := by
  rw [gb_and1, b_sshr j hj x (by omega), if_pos (by omega), Nat.add_zero]
theorem gb_shl_bI (b : Bool) {j i : Nat} (hj : j < 32) (hi : i < 32) : bt (gb_bI b <<< (nI j &&& 31)) i = (b && decide (i = j)) := by
  rw [b_shl j hj _ hi]
  by_cases c : j ≤ i
  · rw [decide_eq_true c, Bool.true_and, gb_bt_bI b (by omega)]
    by_cases e : i = j
    · rw [decide_eq_true e, decide_eq_true (by omega)]
    · rw [decide_eq_false e, decide_eq_false (by omega)]
  · rw [decide_eq_false c, Bool.false_and, decide_eq_false (by omega), Bool.and_false]
theorem gb_nor (a b : Nat) : nI a ||| nI b = nI (a ||| b) := by
  apply Int32.toBitVec_inj.1
  show BitVec.ofNat 32 a ||| BitVec.ofNat 32 b = BitVec.ofNat 32 (a ||| b)
  apply BitVec.eq_of_getLsbD_eq
  intro i hi
  simp [hi]
/-- a branch by a Bool -/
theorem gb_brb {c A B : Prop} (b : Bool) (h : c ↔ b = true) (ht : b = true → A) (hf : b = false → B) : (c → A) ∧ (¬ c → B) :=
  ⟨fun hc => ht (h.mp hc), fun hc => hf (by
    cases e : b
    · rfl
    · exact absurd (h.mpr e) hc)⟩
theorem gb_brn {c A B : Prop} (b : Bool) (h : c ↔ b = false) (hf : b = false → A) (ht : b = true → B) : (c → A) ∧ (¬ c → B) :=
  ⟨fun hc => hf (h.mp hc), fun hc => ht (by
    cases e : b
    · exact absurd (h.mpr e) hc
    · rfl)⟩
theorem gb_brd {c d A B : Prop} (h : c ↔ d) (ht : d → A) (hf : ¬ d → B) : (c → A) ∧ (¬ c → B) := ⟨fun hc => ht (h.mp hc), fun hc => hf (fun hd => hc (h.mpr hd))⟩
/-- a counted loop whose state is a function of the counter -/
theorem gb_det (W : Nat → Nat → Prop) (E : Nat) (hx : ∀ n, W (n + 1) E) (hs : ∀ n j, j < E → W n (j + 1) → W (n + 1) j) : ∀ d j, j + d = E → W (d + 1) j := by
  intro d
  induction d with
  | zero => intro j h; have e : j = E := by omega
            rw [e]; exact hx 0
  | succ d ih => intro j h; exact hs (d + 1) j (by omega) (ih (j + 1) (by omega))
theorem gb_sum_t {f : Nat → Int32} {b : Nat → Bool} {j : Nat} (h : b j = true) : gb_sum j f b ^^^ f j = gb_sum (j + 1) f b := by
  show _ = gb_sum j f b ^^^ (if b j = true then f j else 0)
  rw [if_pos h]
theorem gb_sum_f {f : Nat → Int32} {b : Nat → Bool} {j : Nat} (h : b j = false) : gb_sum j f b = gb_sum (j + 1) f b := by
  show _ = gb_sum j f b ^^^ (if b j = true then f j else 0)
  rw [if_neg (by rw [h]; decide), gb_x0]
theorem gb_xs_t {b : Nat → Bool} {j : Nat} (h : b j = true) : gb_bI (gb_xs j b) ^^^ 1 = gb_bI (gb_xs (j + 1) b) := by
  show _ = gb_bI (gb_xs j b ^^ b j)
  rw [h]
  cases gb_xs j b <;> decide
theorem gb_xs_f {b : Nat → Bool} {j : Nat} (h : b j = false) : gb_bI (gb_xs j b) = gb_bI (gb_xs (j + 1) b) := by
  show _ = gb_bI (gb_xs j b ^^ b j)
  rw [h, Bool.xor_false]
theorem gb_bI_x (a b : Bool) : gb_bI a ^^^ gb_bI b = gb_bI (a ^^ b) := by cases a <;> cases b <;> decide
theorem gb_cn_t {p : Nat → Bool} {j : Nat} (h : p j = true) : gb_cn (j + 1) p = gb_cn j p + 1 := by
  show gb_cn j p + (if p j = true then 1 else 0) = _
  rw [if_pos h]
theorem gb_cn_f {p : Nat → Bool} {j : Nat} (h : p j = false) : gb_cn (j + 1) p = gb_cn j p := by
  show gb_cn j p + (if p j = true then 1 else 0) = _
  rw [if_neg (by rw [h]; decide)]; rfl
/-- bits set one by one along a permutation pi with the inverse si -/
def gb_os (si : Nat → Nat) (b : Nat → Bool) (j : Nat) : Int32 := gb_sum 32 gb_e (fun i => (decide (si i < j) && b (si i)))
theorem gb_os_0 (si : Nat → Nat) (b : Nat → Bool) : gb_os si b 0 = 0 := b_ext (fun i hi => by
  unfold gb_os
  rw [gb_bt_of _ hi, b_0, decide_eq_false (Nat.not_lt_zero _), Bool.false_and])
theorem gb_os_32 {si : Nat → Nat} (hs : ∀ i, i < 32 → si i < 32) (b : Nat → Bool) : gb_os si b 32 = gb_sum 32 gb_e (fun i => b (si i)) := b_ext (fun i hi => by
  unfold gb_os
  rw [gb_bt_of _ hi, gb_bt_of _ hi, decide_eq_true (hs i hi), Bool.true_and])
theorem gb_os_s {si pi : Nat → Nat} {j : Nat} (hp : pi j < 32) (h1 : si (pi j) = j) (h2 : ∀ i, i < 32 → pi (si i) = i) (b : Nat → Bool) : gb_os si b j ||| (gb_bI (b j) <<< (nI (pi j) &&& 31)) = gb_os si b (j + 1) := b_ext (fun i hi => by
  unfold gb_os
  rw [b_or, gb_bt_of _ hi, gb_bt_of _ hi, gb_shl_bI _ hp hi]
  by_cases c : i = pi j
  · rw [c, h1, decide_eq_true rfl, decide_eq_false (Nat.lt_irrefl _), decide_eq_true (Nat.lt_succ_self _)]
    cases b j <;> rfl
  · have hn : si i ≠ j := fun e => c (by rw [← e, h2 i hi])
    rw [decide_eq_false c, Bool.and_false, Bool.or_false]
    by_cases d : si i < j
    · rw [decide_eq_true d, decide_eq_true (by omega)]
    · rw [decide_eq_false d, decide_eq_false (by omega)])
/-- a sum over the places is a sum over the monomials -/
theorem gb_xs_perm {kd : Nat} (hk : kd < 2) (F : Nat → Bool) : gb_xs 32 (fun l => F (gb_M kd l)) = gb_xs 32 F := by
  have h1 : gb_xs 32 (fun l => F (gb_M kd l)) = gb_xs 32 (fun l => gb_xs 32 (fun t => (F t && decide (t = gb_M kd l)))) :=
    gb_xs_cong 32 (fun l hl => by
      rw [gb_xs_1 (i := gb_M kd l) 32 (gb_Mlt kd hk l hl)]
      · rw [decide_eq_true rfl, Bool.and_true]
      · intro j _ hn
        rw [decide_eq_false hn, Bool.and_false])
  rw [h1, gb_xs_comm]
  refine gb_xs_cong 32 (fun t ht => ?_)
  rw [gb_xs_1 (i := gb_P kd t) 32 (gb_Plt kd hk t ht)]
  · rw [gb_MP kd hk t ht, decide_eq_true rfl, Bool.and_true]
  · intro j hj hn
    rw [decide_eq_false (fun e => hn (by rw [e, gb_PM kd hk j hj])), Bool.and_false]
theorem gb_tdiv : ∀ a, a < 32 → ∀ b, b < 32 → ((nI a &&& (nI b ^^^ (-1))) = 0 ↔ a &&& b = a) := by decide +kernel
theorem gb_tdf : ∀ a, a < 32 → ∀ b, b < 32 → (nI a &&& (nI b ^^^ (-1))) = nI (gb_df a b) := by decide +kernel
theorem gb_tsub : ∀ a, a < 32 → ∀ b, b < 32 → ((nI a &&& nI b) = nI a ↔ a &&& b = a) := by decide +kernel
theorem gb_tvar : ∀ m, m < 32 → ∀ v, v < 5 → ((nI m >>> (nI v &&& 31)) &&& 1) = nI (m / 2 ^ v % 2) := by decide +kernel
theorem gb_tpow : ∀ v, v < 5 → (1 : Int32) <<< (nI v &&& 31) = nI (2 ^ v) := by decide +kernel
theorem gb_narb0 : vp_nar .boolean 0 = 0 := rfl
theorem gb_narb1 : vp_nar .boolean 1 = 1 := rfl
end
section
/-! ===== the component: the small methods ===== -/
def gb_PT (kd : Nat) (pl mo : Nat → Int32) : Prop := ∀ j, j < 32 → pl j = nI (gb_P kd j) ∧ mo j = nI (gb_M kd j)
def gb_ons (m : Nat) : Nat → Nat
  | 0 => 0
  | j + 1 => gb_ons m j + m / 2 ^ j % 2
theorem gb_ons_5 : ∀ m, m < 32 → gb_ons m 5 = gb_on m := by decide +kernel
theorem gb_x_ones {post : Int32 → Prop} {m : Nat} (hm : m < 32) (h : post (nI (gb_on m))) : wpX_ones post (nI m) := by
  refine ⟨6, gb_det (fun n j => wX_ones_4 post (nI m) n (nI (gb_ons m j)) (nI j)) 5 (fun n => ?_) (fun n j hj h' => ?_) 5 0 rfl⟩
  · exact br_t (show (5 : Int32) ≤ nI 5 by decide) (by rw [gb_ons_5 m hm]; exact h)
  · refine br_f (nI_ge (b := 5) hj (by decide)) (nm_r (e' := nI (gb_ons m (j + 1))) ?_ (nm_r (nI_1 j) h'))
    rw [gb_tvar m hm j hj, nI_add]; rfl
theorem gb_x_valueAt {post : Int32 → Prop} {p : Int32} {a : Nat} (ha : a < 32) (h : post (gb_bI (gb_ev p a))) : wpX_valueAt post p (nI a) := by
  refine ⟨33, gb_det (fun n j => wX_valueAt_4 post p (nI a) n (gb_bI (gb_xs j (fun m => (bt p m && decide (m &&& a = m))))) (nI j)) 32 (fun n => ?_) (fun n j hj h' => ?_) 32 0 rfl⟩
  · exact br_t (show (32 : Int32) ≤ nI 32 by decide) h
  · refine br_f (nI_ge (b := 32) hj (by decide)) (gb_brb (bt p j) (by rw [gb_ut p hj, gb_bI_1]) (fun hb => ?_) (fun hb => ?_))
    · refine gb_brd (gb_tdiv j hj a ha) (fun hd => ?_) (fun hd => ?_)
      · refine nm_r (gb_xs_t ?_) (nm_r (nI_1 j) h')
        rw [hb, decide_eq_true hd]; rfl
      · rw [← gb_xs_f (by rw [decide_eq_false hd, Bool.and_false])] at h'
        exact nm_r (nI_1 j) h'
    · rw [← gb_xs_f (by rw [hb, Bool.false_and])] at h'
      exact nm_r (nI_1 j) h'
theorem gb_x_highest {post : Int32 → Prop} {x : Int32} (h : post (nI (gb_hi 31 x))) : wpX_highest post x := by
  have key : ∀ k, k < 32 → post (nI (gb_hi k x)) → wX_highest_3 post x (k + 1) (nI k) := by
    intro k
    induction k with
    | zero => intro _ h; exact br_t (show nI 0 ≤ 0 by decide) h
    | succ k ih =>
      intro hk h
      refine br_f (nI_nle (by omega) (by omega)) (gb_brn (bt x (k + 1)) (by rw [gb_ut x hk, gb_bI_0]) (fun hb => ?_) (fun hb => ?_))
      · refine nm_r (pk_m1 k) (ih (by omega) ?_)
        unfold gb_hi at h
        rw [if_neg (by rw [hb]; decide)] at h
        exact h
      · unfold gb_hi at h
        rw [if_pos hb] at h
        exact h
  exact ⟨32, key 31 (by decide) h⟩
section
variable {kd : Nat} {fk ws : Int32} {gv cs pl mo aw al ba sz rd : Nat → Int32}
theorem gb_x_inOrder (hk : kd < 2) (hT : gb_PT kd pl mo) {post : Int32 → Prop} {p : Int32} (h : post (gb_in kd p)) : wpX_inOrder post (fk, ws, gv, cs, pl, mo, aw, al, ba, sz, rd) p := by
  have h0 := gb_os_0 (gb_M kd) (bt p)
  have key := gb_det (fun n j => wX_inOrder_4 post p fk ws gv cs pl mo aw al ba sz rd n (gb_os (gb_M kd) (bt p) j) (nI j)) 32 (fun n => ?_) (fun n j hj h' => ?_) 32 0 rfl
  · exact ⟨33, by rw [h0] at key; exact key⟩
  · refine br_t (show (32 : Int32) ≤ nI 32 by decide) ?_
    rw [gb_os_32 (gb_Mlt kd hk)]
    exact h
  · refine br_f (nI_ge (b := 32) hj (by decide)) ⟨vp_in_nI hj (by decide), nm_r (e' := gb_os (gb_M kd) (bt p) (j + 1)) ?_ (nm_r (nI_1 j) h')⟩
    rw [gb_ut p hj, nI_clamp (by omega), (hT j hj).1]
    exact gb_os_s (gb_Plt kd hk j hj) (gb_MP kd hk j hj) (gb_PM kd hk) (bt p)
theorem gb_x_outOfOrder (hk : kd < 2) (hT : gb_PT kd pl mo) {post : Int32 → Prop} {x : Int32} (h : post (gb_ou kd x)) : wpX_outOfOrder post (fk, ws, gv, cs, pl, mo, aw, al, ba, sz, rd) x := by
  have h0 := gb_os_0 (gb_P kd) (bt x)
  have key := gb_det (fun n j => wX_outOfOrder_4 post x fk ws gv cs pl mo aw al ba sz rd n (gb_os (gb_P kd) (bt x) j) (nI j)) 32 (fun n => ?_) (fun n j hj h' => ?_) 32 0 rfl
  · exact ⟨33, by rw [h0] at key; exact key⟩
  · refine br_t (show (32 : Int32) ≤ nI 32 by decide) ?_
    rw [gb_os_32 (gb_Plt kd hk)]
    exact h
  · refine br_f (nI_ge (b := 32) hj (by decide)) ⟨vp_in_nI hj (by decide), nm_r (e' := gb_os (gb_P kd) (bt x) (j + 1)) ?_ (nm_r (nI_1 j) h')⟩
    rw [gb_ut x hj, nI_clamp (by omega), (hT j hj).2]
    exact gb_os_s (gb_Mlt kd hk j hj) (gb_PM kd hk j hj) (gb_MP kd hk) (bt x)
theorem gb_times_eq (hk : kd < 2) {f : Nat} (hf : f < 32) (p : Int32) : gb_sum 32 (fun l => gb_e (gb_P kd (gb_M kd l ||| f))) (fun l => bt p (gb_M kd l)) = gb_in kd (gb_mt f p) := b_ext (fun i hi => by
  rw [gb_bt_in _ hi, gb_bt_sum, gb_bt_mt hf, ← gb_xs_perm hk (fun t => (bt p t && decide (gb_M kd i = t ||| f)))]
  refine gb_xs_cong 32 (fun l hl => ?_)
  have h1 := gb_or_lt (gb_Mlt kd hk l hl) hf
  rw [gb_bt_e (gb_Plt kd hk _ h1)]
  by_cases c : i = gb_P kd (gb_M kd l ||| f)
  · rw [decide_eq_true c, c, gb_MP kd hk _ h1, decide_eq_true rfl]
  · rw [decide_eq_false c, decide_eq_false (fun e => c (by rw [← e, gb_PM kd hk i hi]))])
theorem gb_x_times (hk : kd < 2) (hT : gb_PT kd pl mo) {post : Int32 → Prop} {p : Int32} {f : Nat} (hf : f < 32) (h : post (gb_in kd (gb_mt f p))) : wpX_times post (fk, ws, gv, cs, pl, mo, aw, al, ba, sz, rd) (gb_in kd p) (nI f) := by
  refine ⟨33, gb_det (fun n j => wX_times_5 post (gb_in kd p) (nI f) fk ws gv cs pl mo aw al ba sz rd n (gb_sum j (fun l => gb_e (gb_P kd (gb_M kd l ||| f))) (fun l => bt p (gb_M kd l))) (nI j)) 32 (fun n => ?_) (fun n j hj h' => ?_) 32 0 rfl⟩
  · exact br_t (show (32 : Int32) ≤ nI 32 by decide) (by rw [gb_times_eq hk hf]; exact h)
  · refine br_f (nI_ge (b := 32) hj (by decide)) (gb_brb (bt p (gb_M kd j)) (by rw [gb_ut _ hj, gb_bI_1, gb_bt_in _ hj]) (fun hb => ?_) (fun hb => ?_))
    · have h1 := gb_or_lt (gb_Mlt kd hk j hj) hf
      rw [nI_clamp (by omega), (hT j hj).2, gb_nor, nI_clamp (by omega), (hT _ h1).1]
      exact ⟨vp_in_nI hj (by decide), vp_in_nI h1 (by decide), nm_r (gb_sum_t hb) (nm_r (nI_1 j) h')⟩
    · rw [← gb_sum_f (b := fun l => bt p (gb_M kd l)) (j := j) hb] at h'
      exact nm_r (nI_1 j) h'
theorem gb_x_product (hk : kd < 2) (hT : gb_PT kd pl mo) {post : Int32 → Prop} {p q : Int32} (h : post (gb_mul p q)) : wpX_product post (fk, ws, gv, cs, pl, mo, aw, al, ba, sz, rd) p q := by
  refine gb_x_inOrder hk hT (gb_x_inOrder hk hT ?_)
  refine ⟨33, gb_det (fun n j => wX_product_19 post (gb_in kd p) (gb_in kd q) fk ws gv cs pl mo aw al ba sz rd n (gb_sum j (fun l => gb_in kd (gb_mt (gb_M kd l) q)) (fun l => bt p (gb_M kd l))) (nI j)) 32 (fun n => ?_) (fun n j hj h' => ?_) 32 0 rfl⟩
  · refine br_t (show (32 : Int32) ≤ nI 32 by decide) (gb_x_outOfOrder hk hT ?_)
    have e : gb_ou kd (gb_sum 32 (fun l => gb_in kd (gb_mt (gb_M kd l) q)) (fun l => bt p (gb_M kd l))) = gb_mul p q := b_ext (fun i hi => by
      unfold gb_mul
      rw [gb_bt_ou _ hi, gb_bt_sum, gb_bt_sum, ← gb_xs_perm hk (fun t => (bt p t && bt (gb_mt t q) i))]
      exact gb_xs_cong 32 (fun l hl => by rw [gb_bt_in _ (gb_Plt kd hk i hi), gb_MP kd hk i hi]))
    rw [e]
    exact h
  · refine br_f (nI_ge (b := 32) hj (by decide)) (gb_brb (bt p (gb_M kd j)) (by rw [gb_ut _ hj, gb_bI_1, gb_bt_in _ hj]) (fun hb => ?_) (fun hb => ?_))
    · rw [nI_clamp (by omega), (hT j hj).2]
      exact ⟨vp_in_nI hj (by decide), gb_x_times hk hT (gb_Mlt kd hk j hj) (nm_r (gb_sum_t hb) (nm_r (nI_1 j) h'))⟩
    · rw [← gb_sum_f (b := fun l => bt p (gb_M kd l)) (j := j) hb] at h'
      exact nm_r (nI_1 j) h'
theorem gb_x_leading (hk : kd < 2) (hT : gb_PT kd pl mo) {post : Int32 → Prop} {p : Int32} (h0 : p = 0 → post (-1)) (h : p ≠ 0 → post (nI (gb_M kd (gb_hi 31 (gb_in kd p))))) : wpX_leading post (fk, ws, gv, cs, pl, mo, aw, al, ba, sz, rd) p := by
  refine gb_x_inOrder hk hT ?_
  refine br_c (fun e => h0 (gb_in_inj hk (e.trans gb_in_0.symm))) (fun e => ?_)
  refine gb_x_highest ⟨vp_in_nI (gb_hi_lt _) (by decide), ?_⟩
  rw [nI_clamp (by have := gb_hi_lt (gb_in kd p); omega), (hT _ (gb_hi_lt _)).2]
  exact h (fun e2 => e (by rw [e2, gb_in_0]))
/-! ===== reduce, enter ===== -/
def gb_WK (kd n : Nat) (aw al : Nat → Int32) (g : Nat → Int32) (ld : Nat → Nat) : Prop := ∀ i, i < n → aw i = gb_in kd (g i) ∧ al i = nI (ld i) ∧ gb_Ld kd (g i) (ld i)
theorem gb_WK_G {n : Nat} {g : Nat → Int32} {ld : Nat → Nat} (h : gb_WK kd n aw al g ld) : gb_G kd n g ld := fun i hi => (h i hi).2.2
theorem gb_x_red_done {n : Nat} {g : Nat → Int32} {ld : Nat → Nat} {post : Int32 → Prop} {J5 : Int32 → Int32 → Prop} {k : Nat} (hk' : k < 32) {p : Int32} (hb : bt p (gb_M kd k) = false) (hJ : J5 (gb_in kd p) (nI k + (-1))) (d : Nat) (x4 : Int32) :
    wX_reduce_12 post J5 (nI k) fk ws gv cs pl mo aw al ba sz rd (d + 1) (gb_in kd p) x4 := by
  refine br_c (fun _ => nm_e hJ) (fun _ => ?_)
  exact br_f (by rw [gb_ut _ hk', gb_bI_1, gb_bt_in _ hk', hb]; decide) (nm_e hJ)
theorem gb_x_red12 (hk : kd < 2) (hT : gb_PT kd pl mo) {n : Nat} (hn : n ≤ 40) {g : Nat → Int32} {ld : Nat → Nat} (hW : gb_WK kd n aw al g ld) {post : Int32 → Prop} {J5 : Int32 → Int32 → Prop} {k : Nat} (hk' : k < 32) {p : Int32}
    (hJ : J5 (gb_in kd (gb_st n g ld p (gb_M kd k))) (nI k + (-1))) : ∀ d i, i + d = n → (∀ j, j < i → ¬ ld j &&& gb_M kd k = ld j) → wX_reduce_12 post J5 (nI k) fk (nI n) gv cs pl mo aw al ba sz rd (d + 1) (gb_in kd p) (nI i) := by
  have hM := gb_Mlt kd hk k hk'
  intro d
  induction d with
  | zero =>
    intro i hi hno
    have e : i = n := by omega
    subst e
    refine br_t (nI_le (Nat.le_refl _) (by omega)) (nm_e ?_)
    have e2 : gb_st i g ld p (gb_M kd k) = p := if_neg (fun h => by have := gb_fi_none hno; omega)
    rw [e2] at hJ
    exact hJ
  | succ d ih =>
    intro i hi hno
    refine br_f (nI_ge (by omega) (by omega)) ?_
    refine gb_brb (bt p (gb_M kd k)) (by rw [gb_ut _ hk', gb_bI_1, gb_bt_in _ hk']) (fun hb => ?_) (fun hb => ?_)
    · obtain ⟨e1, e2, hL⟩ := hW i (by omega)
      rw [nI_clamp (by omega), nI_clamp (by omega), e2, e1, (hT k hk').2, gb_tdf _ hM _ hL.1]
      refine ⟨vp_in_nI (by omega) (by decide), vp_in_nI hk' (by decide), gb_brd (gb_tdiv _ hL.1 _ hM) (fun hd => ?_) (fun hd => ?_)⟩
      · refine ⟨vp_in_nI (by omega) (by decide), vp_in_nI hk' (by decide), vp_in_nI (by omega) (by decide), ?_⟩
        have hfi : gb_fi ld (gb_M kd k) n = i := gb_fi_eq (by omega) hd hno
        have hst : gb_st n g ld p (gb_M kd k) = p ^^^ gb_mt (gb_df (gb_M kd k) (ld i)) (g i) := by
          unfold gb_st gb_pm
          rw [hfi, if_pos ⟨hb, by omega⟩]
        have hbit : bt (gb_st n g ld p (gb_M kd k)) (gb_M kd k) = false := gb_st_bit hk (gb_WK_G hW) hM (by omega) p
        refine gb_x_times hk hT (gb_df_lt _ hM _ hL.1) ?_
        refine nm_r (e' := gb_in kd (gb_st n g ld p (gb_M kd k))) (by rw [hst, gb_in_xor]) (nm_e ?_)
        exact gb_x_red_done (g := g) (ld := ld) (n := n) hk' hbit hJ d _
      · refine nm_r (nI_1 i) (ih (i + 1) (by omega) (fun j hj => ?_))
        by_cases e : j = i
        · rw [e]; exact hd
        · exact hno j (by omega)
    · have e2 : gb_st n g ld p (gb_M kd k) = p := if_neg (fun h => by rw [hb] at h; exact absurd h.1 (by decide))
      rw [e2] at hJ
      exact nm_e hJ
theorem gb_x_red5 (hk : kd < 2) (hT : gb_PT kd pl mo) {n : Nat} (hn : n ≤ 40) {g : Nat → Int32} {ld : Nat → Nat} (hW : gb_WK kd n aw al g ld) {post : Int32 → Prop} : ∀ k, k ≤ 32 → ∀ p : Int32, post (gb_in kd (gb_rd kd n g ld k p)) → wX_reduce_5 post fk (nI n) gv cs pl mo aw al ba sz rd (k + 1) (gb_in kd p) (nI k + (-1)) := by
  intro k
  induction k with
  | zero => intro _ p h; exact br_t (show nI 0 + (-1) < 0 by decide) h
  | succ k ih =>
    intro hk2 p h
    rw [pk_m1]
    refine br_f (nI_pos (by omega)) ⟨n + 1, ?_⟩
    refine gb_x_red12 hk hT hn hW (by omega) ?_ n 0 (by omega) (fun j hj => absurd hj (Nat.not_lt_zero _))
    exact ih (by omega) _ h
theorem gb_x_reduce (hk : kd < 2) (hT : gb_PT kd pl mo) {n : Nat} (hn : n ≤ 40) {g : Nat → Int32} {ld : Nat → Nat} (hW : gb_WK kd n aw al g ld) {post : Int32 → Prop} {p : Int32} (h : post (gb_in kd (gb_RD kd n g ld p))) : wpX_reduce post (fk, nI n, gv, cs, pl, mo, aw, al, ba, sz, rd) (gb_in kd p) := by
  have := gb_x_red5 (fk := fk) (gv := gv) (cs := cs) (ba := ba) (sz := sz) (rd := rd) hk hT hn hW 32 (Nat.le_refl _) p h
  exact ⟨33, this⟩
theorem gb_x_enter (hk : kd < 2) (hT : gb_PT kd pl mo) {n : Nat} (hn : n < 40) {g : Nat → Int32} {ld : Nat → Nat} (hW : gb_WK kd n aw al g ld) {post : Int32 → SX → Prop} {p : Int32}
    (h0 : gb_RD kd n g ld p = 0 → post 0 (fk, nI n, gv, cs, pl, mo, aw, al, ba, sz, rd))
    (h1 : gb_RD kd n g ld p ≠ 0 → post 1 (fk, nI (n + 1), gv, cs, pl, mo, upd aw n (gb_in kd (gb_RD kd n g ld p)), upd al n (nI (gb_M kd (gb_hi 31 (gb_in kd (gb_RD kd n g ld p))))), ba, sz, rd)) :
    wpX_enter post (fk, nI n, gv, cs, pl, mo, aw, al, ba, sz, rd) (gb_in kd p) := by
  refine gb_x_reduce hk hT (by omega) hW ?_
  refine br_c (fun e => h0 (gb_in_inj hk (e.trans gb_in_0.symm))) (fun e => ?_)
  have h2 := h1 (fun e2 => e (by rw [e2, gb_in_0]))
  have hh := gb_hi_lt (gb_in kd (gb_RD kd n g ld p))
  refine br_f (fun e2 => ?_) ⟨vp_in_nI hn (by decide), ?_⟩
  · have e3 : nI n = nI 40 := e2
    rw [nI_eq (by omega) (by omega)] at e3
    omega
  · rw [nI_clamp (by omega)]
    refine nm_e (gb_x_highest ⟨vp_in_nI hh (by decide), vp_in_nI hn (by decide), ?_⟩)
    rw [nI_clamp (by omega), (hT _ hh).2]
    exact nm_e (nm_r (nI_1 n) h2)
end
end
section
/-! ===== the work list ===== -/
def gb_WI (z : Nat → Bool) (n : Nat) (g : Nat → Int32) (ld : Nat → Nat) : Prop := (∀ i, i < n → gb_V z (g i)) ∧ (∀ i j, i < j → j < n → ¬ ld i &&& ld j = ld i)
def gb_WS (kd : Nat) (z : Nat → Bool) (n : Nat) (aw al g : Nat → Int32) (ld : Nat → Nat) : Prop := gb_WK kd n aw al g ld ∧ gb_WI z n g ld
def gb_Ex (n : Nat) (g : Nat → Int32) (n' : Nat) (g' : Nat → Int32) : Prop := n ≤ n' ∧ ∀ i, i < n → g' i = g i
theorem gb_Ex_rf {n : Nat} {g : Nat → Int32} : gb_Ex n g n g := ⟨Nat.le_refl _, fun _ _ => rfl⟩
theorem gb_Ex_tr {n n' n'' : Nat} {g g' g'' : Nat → Int32} (h : gb_Ex n g n' g') (h' : gb_Ex n' g' n'' g'') : gb_Ex n g n'' g'' :=
  ⟨Nat.le_trans h.1 h'.1, fun i hi => (h'.2 i (Nat.lt_of_lt_of_le hi h.1)).trans (h.2 i hi)⟩
theorem gb_Ex_Sp {n n' : Nat} {g g' : Nat → Int32} {q : Int32} (h : gb_Ex n g n' g') (hq : gb_Sp n g q) : gb_Sp n' g' q :=
  gb_Sp_mono (fun i hi => ⟨Nat.lt_of_lt_of_le hi h.1, h.2 i hi⟩) hq
theorem gb_WS_n {kd : Nat} {z : Nat → Bool} {n : Nat} {aw al g : Nat → Int32} {ld : Nat → Nat} (h : gb_WS kd z n aw al g ld) : n ≤ 32 :=
  gb_pigeon ld (fun r hr => (h.1 r hr).2.2.1) (fun r r' hr hr' e => h.2.2 r r' hr hr' (by rw [← e, Nat.and_self]))
def gb_nx (ld : Nat → Nat) (n m : Nat) : Nat → Nat := fun i => if i = n then m else ld i
theorem gb_nx_s {ld : Nat → Nat} {n m : Nat} : gb_nx ld n m n = m := if_pos rfl
theorem gb_nx_n {ld : Nat → Nat} {n m i : Nat} (h : i ≠ n) : gb_nx ld n m i = ld i := if_neg h
theorem gb_WS_app {kd : Nat} (hk : kd < 2) {z : Nat → Bool} {n : Nat} {aw al g : Nat → Int32} {ld : Nat → Nat} (h : gb_WS kd z n aw al g ld) {p : Int32} (hp : gb_V z p) (hr : gb_RD kd n g ld p ≠ 0) :
    gb_WS kd z (n + 1) (upd aw n (gb_in kd (gb_RD kd n g ld p))) (upd al n (nI (gb_M kd (gb_hi 31 (gb_in kd (gb_RD kd n g ld p)))))) (upd g n (gb_RD kd n g ld p)) (gb_nx ld n (gb_M kd (gb_hi 31 (gb_in kd (gb_RD kd n g ld p))))) := by
  have hG := gb_WK_G h.1
  have hL := gb_has_ld hk hr
  have hV := gb_V_xor hp (gb_Sp_V h.2.1 (gb_RD_Sp hk hG p))
  rw [← gb_xa, gb_xx, gb_0x] at hV
  have hS := fun i hi => gb_RD_std hk hG hL.1 hL.2.1 i hi
  revert hL hV hS
  generalize gb_M kd (gb_hi 31 (gb_in kd (gb_RD kd n g ld p))) = m
  generalize gb_RD kd n g ld p = c
  intro hL hV hS
  refine ⟨fun i hi => ?_, fun i hi => ?_, fun i j hij hj => ?_⟩
  · by_cases e : i = n
    · rw [e, pk_us, pk_us, pk_us, gb_nx_s]
      exact ⟨rfl, rfl, hL⟩
    · rw [pk_un e, pk_un e, pk_un e, gb_nx_n e]
      exact h.1 i (by omega)
  · by_cases e : i = n
    · rw [e, pk_us]; exact hV
    · rw [pk_un e]; exact h.2.1 i (by omega)
  · rw [gb_nx_n (show i ≠ n by omega)]
    by_cases e : j = n
    · rw [e, gb_nx_s]; exact hS i (by omega)
    · rw [gb_nx_n e]; exact h.2.2 i j hij (by omega)
theorem gb_Ex_app {n : Nat} {g : Nat → Int32} {c : Int32} : gb_Ex n g (n + 1) (upd g n c) := ⟨Nat.le_succ _, fun i hi => pk_un (by omega)⟩
/-- nothing new yet and D seen, or something new -/
def gb_Tk (n : Nat) (aw al g : Nat → Int32) (ld : Nat → Nat) (D : Prop) (ch : Int32) (n' : Nat) (aw' al' g' : Nat → Int32) (ld' : Nat → Nat) : Prop :=
  (ch = 0 ∧ n' = n ∧ aw' = aw ∧ al' = al ∧ g' = g ∧ ld' = ld ∧ D) ∨ (ch = 1 ∧ n < n')
theorem gb_Tk_mono {n : Nat} {aw al g : Nat → Int32} {ld : Nat → Nat} {D D' : Prop} {ch : Int32} {n' : Nat} {aw' al' g' : Nat → Int32} {ld' : Nat → Nat} (hD : n' = n → D → D') (h : gb_Tk n aw al g ld D ch n' aw' al' g' ld') : gb_Tk n aw al g ld D' ch n' aw' al' g' ld' := by
  rcases h with ⟨h1, h2, h3, h4, h5, h6, h7⟩ | h
  · exact Or.inl ⟨h1, h2, h3, h4, h5, h6, hD h2 h7⟩
  · exact Or.inr h
def gb_Dv (kd n : Nat) (g : Nat → Int32) (ld : Nat → Nat) (i v : Nat) : Prop := ld i / 2 ^ v % 2 = 1 → gb_RD kd n g ld (gb_mt (2 ^ v) (g i)) = 0
def gb_DV (kd n : Nat) (g : Nat → Int32) (ld : Nat → Nat) (i v : Nat) : Prop := (∀ i', i' < i → ∀ v', v' < 5 → gb_Dv kd n g ld i' v') ∧ ∀ v', v' < v → gb_Dv kd n g ld i v'
theorem gb_DV_s {kd n : Nat} {g : Nat → Int32} {ld : Nat → Nat} {i v : Nat} (h : gb_DV kd n g ld i v) (h1 : gb_Dv kd n g ld i v) : gb_DV kd n g ld i (v + 1) :=
  ⟨h.1, fun v' hv => by
    by_cases e : v' = v
    · rw [e]; exact h1
    · exact h.2 v' (by omega)⟩
theorem gb_DV_5 {kd n : Nat} {g : Nat → Int32} {ld : Nat → Nat} {i : Nat} (h : gb_DV kd n g ld i 5) : gb_DV kd n g ld (i + 1) 0 :=
  ⟨fun i' hi' => by
    by_cases e : i' = i
    · rw [e]; exact h.2
    · exact h.1 i' (by omega), fun v' hv => absurd hv (Nat.not_lt_zero _)⟩
def gb_DP (kd n : Nat) (g : Nat → Int32) (ld : Nat → Nat) (i j : Nat) : Prop := (∀ i', i' < i → ∀ j', j' < i' → gb_RD kd n g ld (gb_sp g ld i' j') = 0) ∧ ∀ j', j' < j → gb_RD kd n g ld (gb_sp g ld i j') = 0
theorem gb_DP_s {kd n : Nat} {g : Nat → Int32} {ld : Nat → Nat} {i j : Nat} (h : gb_DP kd n g ld i j) (h1 : gb_RD kd n g ld (gb_sp g ld i j) = 0) : gb_DP kd n g ld i (j + 1) :=
  ⟨h.1, fun v' hv => by
    by_cases e : v' = j
    · rw [e]; exact h1
    · exact h.2 v' (by omega)⟩
theorem gb_DP_i {kd n : Nat} {g : Nat → Int32} {ld : Nat → Nat} {i : Nat} (h : gb_DP kd n g ld i i) : gb_DP kd n g ld (i + 1) 0 :=
  ⟨fun i' hi' => by
    by_cases e : i' = i
    · rw [e]; exact h.2
    · exact h.1 i' (by omega), fun v' hv => absurd hv (Nat.not_lt_zero _)⟩
section
variable {kd : Nat} {fk : Int32} {gv cs pl mo ba sz rd : Nat → Int32} {z : Nat → Bool} {n : Nat} {aw al g : Nat → Int32} {ld : Nat → Nat}
theorem gb_x_tv14 (hk : kd < 2) (hT : gb_PT kd pl mo) {post : Int32 → SX → Prop} {J4 : Int32 → Int32 → Int32 → Int32 → (Nat → Int32) → (Nat → Int32) → (Nat → Int32) → (Nat → Int32) → (Nat → Int32) → (Nat → Int32) → (Nat → Int32) → (Nat → Int32) → (Nat → Int32) → Prop} {i : Nat}
    (hJ : ∀ ch n' aw' al' g' ld', gb_WS kd z n' aw' al' g' ld' → gb_Ex n g n' g' → gb_Tk n aw al g ld (gb_DV kd n g ld (i + 1) 0) ch n' aw' al' g' ld' → i + 1 ≤ n' → J4 ch (nI (i + 1)) fk (nI n') gv cs pl mo aw' al' ba sz rd) :
    ∀ d v, v + d = 5 → ∀ ch n' aw' al' g' ld', gb_WS kd z n' aw' al' g' ld' → gb_Ex n g n' g' → gb_Tk n aw al g ld (gb_DV kd n g ld i v) ch n' aw' al' g' ld' → i < n' →
      wX_tryVariables_14 post J4 (nI i) (d + 1) ch (nI v) fk (nI n') gv cs pl mo aw' al' ba sz rd := by
  intro d
  induction d with
  | zero =>
    intro v hv ch n' aw' al' g' ld' hW hE hK hi
    have e : v = 5 := by omega
    subst e
    refine br_t (show (5 : Int32) ≤ nI 5 by decide) (nm_r (nI_1 i) ?_)
    exact hJ ch n' aw' al' g' ld' hW hE (gb_Tk_mono (fun _ => gb_DV_5) hK) hi
  | succ d ih =>
    intro v hv ch n' aw' al' g' ld' hW hE hK hi
    have hn := gb_WS_n hW
    have hv5 : v < 5 := by omega
    obtain ⟨e1, e2, hL⟩ := hW.1 i hi
    refine br_f (nI_ge (b := 5) hv5 (by decide)) ?_
    rw [nI_clamp (by omega), e2, e1, gb_tpow v hv5]
    refine ⟨vp_in_nI (by omega) (by decide), gb_brd (d := ld' i / 2 ^ v % 2 = 1) ?_ (fun hb => ?_) (fun hb => ?_)⟩
    · rw [gb_tvar _ hL.1 v hv5]
      exact nI_eq (b := 1) (by omega) (by omega)
    · have hp2 := (gb_var v hv5 _ hL.1 hb).1
      refine ⟨vp_in_nI (by omega) (by decide), gb_x_times hk hT hp2 ?_⟩
      have hVp : gb_V z (gb_mt (2 ^ v) (g' i)) := gb_V_mt hp2 (hW.2.1 i hi)
      refine gb_x_enter hk hT (by omega) hW.1 (fun h0 => ?_) (fun h1 => ?_)
      · rcases hK with ⟨k1, k2, k3, k4, k5, k6, k7⟩ | ⟨k1, k2⟩
        · refine br_t k1 (br_t rfl (nm_r (nI_1 v) (ih (v + 1) (by omega) 0 n' aw' al' g' ld' hW hE (Or.inl ⟨rfl, k2, k3, k4, k5, k6, ?_⟩) hi)))
          rw [k2, k5, k6] at h0
          exact gb_DV_s k7 (fun _ => h0)
        · exact br_f (by rw [k1]; decide) (nm_r (nI_1 v) (ih (v + 1) (by omega) 1 n' aw' al' g' ld' hW hE (Or.inr ⟨rfl, k2⟩) hi))
      · have hW2 := gb_WS_app hk hW hVp h1
        have hE2 : gb_Ex n g (n' + 1) (upd g' n' (gb_RD kd n' g' ld' (gb_mt (2 ^ v) (g' i)))) := gb_Ex_tr hE gb_Ex_app
        have hlt : n < n' + 1 := by have := hE.1; omega
        have hgo := ih (v + 1) (by omega) 1 _ _ _ _ _ hW2 hE2 (Or.inr ⟨rfl, hlt⟩) (by omega)
        exact br_c (fun _ => br_f (by decide) (nm_r (nI_1 v) hgo)) (fun _ => nm_r (nI_1 v) hgo)
    · refine nm_r (nI_1 v) (ih (v + 1) (by omega) ch n' aw' al' g' ld' hW hE (Or.elim hK (fun ⟨k1, k2, k3, k4, k5, k6, k7⟩ => Or.inl ⟨k1, k2, k3, k4, k5, k6, gb_DV_s k7 (fun hb2 => ?_)⟩) Or.inr) hi)
      rw [k6] at hb
      exact absurd hb2 hb
theorem gb_x_tv4 (hk : kd < 2) (hT : gb_PT kd pl mo) {post : Int32 → SX → Prop}
    (hJ : ∀ ch n' aw' al' g' ld', gb_WS kd z n' aw' al' g' ld' → gb_Ex n g n' g' → gb_Tk n aw al g ld (gb_HV kd n g ld) ch n' aw' al' g' ld' → post ch (fk, nI n', gv, cs, pl, mo, aw', al', ba, sz, rd)) :
    ∀ d i, i + d = 40 → ∀ ch n' aw' al' g' ld', gb_WS kd z n' aw' al' g' ld' → gb_Ex n g n' g' → gb_Tk n aw al g ld (gb_DV kd n g ld i 0) ch n' aw' al' g' ld' → i ≤ n' →
      wX_tryVariables_4 post (d + 1) ch (nI i) fk (nI n') gv cs pl mo aw' al' ba sz rd := by
  intro d
  induction d with
  | zero =>
    intro i hi ch n' aw' al' g' ld' hW hE hK hin
    have hn := gb_WS_n hW
    omega
  | succ d ih =>
    intro i hi ch n' aw' al' g' ld' hW hE hK hin
    have hn := gb_WS_n hW
    refine pk_le n' i (fun hle => ?_) (fun hlt => ?_)
    · refine ⟨?_, hJ ch n' aw' al' g' ld' hW hE (gb_Tk_mono (fun e h i' hi' v hv => h.1 i' (by omega) v hv) hK)⟩
      rcases hK with k | k
      · rw [k.1]; rfl
      · rw [k.1]; rfl
    · exact ⟨6, gb_x_tv14 hk hT (fun ch n' aw' al' g' ld' hW hE hK hi' => ih (i + 1) (by omega) ch n' aw' al' g' ld' hW hE hK hi') 5 0 rfl ch n' aw' al' g' ld' hW hE hK hlt⟩
theorem gb_x_tryVariables (hk : kd < 2) (hT : gb_PT kd pl mo) (hW : gb_WS kd z n aw al g ld) {post : Int32 → SX → Prop}
    (hJ : ∀ ch n' aw' al' g' ld', gb_WS kd z n' aw' al' g' ld' → gb_Ex n g n' g' → gb_Tk n aw al g ld (gb_HV kd n g ld) ch n' aw' al' g' ld' → post ch (fk, nI n', gv, cs, pl, mo, aw', al', ba, sz, rd)) :
    wpX_tryVariables post (fk, nI n, gv, cs, pl, mo, aw, al, ba, sz, rd) :=
  ⟨41, gb_x_tv4 hk hT hJ 40 0 rfl 0 n aw al g ld hW gb_Ex_rf (Or.inl ⟨rfl, rfl, rfl, rfl, rfl, rfl, fun i' hi' => absurd hi' (Nat.not_lt_zero _), fun v' hv' => absurd hv' (Nat.not_lt_zero _)⟩) (Nat.zero_le _)⟩
theorem gb_x_tp14 (hk : kd < 2) (hT : gb_PT kd pl mo) {post : Int32 → SX → Prop} {J4 : Int32 → Int32 → Int32 → Int32 → (Nat → Int32) → (Nat → Int32) → (Nat → Int32) → (Nat → Int32) → (Nat → Int32) → (Nat → Int32) → (Nat → Int32) → (Nat → Int32) → (Nat → Int32) → Prop} {i : Nat}
    (hJ : ∀ ch n' aw' al' g' ld', gb_WS kd z n' aw' al' g' ld' → gb_Ex n g n' g' → gb_Tk n aw al g ld (gb_DP kd n g ld (i + 1) 0) ch n' aw' al' g' ld' → i + 1 ≤ n' → J4 ch (nI (i + 1)) fk (nI n') gv cs pl mo aw' al' ba sz rd) :
    ∀ d v, v + d = i → ∀ ch n' aw' al' g' ld', gb_WS kd z n' aw' al' g' ld' → gb_Ex n g n' g' → gb_Tk n aw al g ld (gb_DP kd n g ld i v) ch n' aw' al' g' ld' → i < n' →
      wX_tryPairs_14 post J4 (nI i) (d + 1) ch (nI v) fk (nI n') gv cs pl mo aw' al' ba sz rd := by
  intro d
  induction d with
  | zero =>
    intro v hv ch n' aw' al' g' ld' hW hE hK hi
    have hn := gb_WS_n hW
    have e : v = i := by omega
    subst e
    refine br_t (nI_le (Nat.le_refl _) (by omega)) (nm_r (nI_1 v) ?_)
    exact hJ ch n' aw' al' g' ld' hW hE (gb_Tk_mono (fun _ => gb_DP_i) hK) hi
  | succ d ih =>
    intro v hv ch n' aw' al' g' ld' hW hE hK hi
    have hn := gb_WS_n hW
    obtain ⟨e1, e2, hL⟩ := hW.1 i hi
    obtain ⟨f1, f2, hM⟩ := hW.1 v (by omega)
    have hor := gb_or_lt hL.1 hM.1
    have hd1 := gb_df_lt _ hor _ hL.1
    have hd2 := gb_df_lt _ hor _ hM.1
    refine br_f (nI_ge (by omega) (by omega)) ?_
    rw [nI_clamp (by omega), nI_clamp (by omega), e2, e1, f2, f1, gb_nor]
    refine ⟨vp_in_nI (by omega) (by decide), vp_in_nI (by omega) (by decide), nm_e ⟨vp_in_nI (by omega) (by decide), vp_in_nI (by omega) (by decide), ?_⟩⟩
    rw [gb_tdf _ hor _ hL.1, gb_tdf _ hor _ hM.1]
    refine gb_x_times hk hT hd1 ⟨vp_in_nI (by omega) (by decide), vp_in_nI (by omega) (by decide), gb_x_times hk hT hd2 ?_⟩
    have hVp : gb_V z (gb_sp g' ld' i v) := gb_V_xor (gb_V_mt hd1 (hW.2.1 i hi)) (gb_V_mt hd2 (hW.2.1 v (by omega)))
    refine nm_r (e' := gb_in kd (gb_sp g' ld' i v)) (by unfold gb_sp; rw [gb_in_xor]) ?_
    refine gb_x_enter hk hT (by omega) hW.1 (fun h0 => ?_) (fun h1 => ?_)
    · rcases hK with ⟨k1, k2, k3, k4, k5, k6, k7⟩ | ⟨k1, k2⟩
      · refine br_t k1 (br_t rfl (nm_r (nI_1 v) (ih (v + 1) (by omega) 0 n' aw' al' g' ld' hW hE (Or.inl ⟨rfl, k2, k3, k4, k5, k6, ?_⟩) hi)))
        rw [k2, k5, k6] at h0
        exact gb_DP_s k7 h0
      · exact br_f (by rw [k1]; decide) (nm_r (nI_1 v) (ih (v + 1) (by omega) 1 n' aw' al' g' ld' hW hE (Or.inr ⟨rfl, k2⟩) hi))
    · have hW2 := gb_WS_app hk hW hVp h1
      have hE2 : gb_Ex n g (n' + 1) (upd g' n' (gb_RD kd n' g' ld' (gb_sp g' ld' i v))) := gb_Ex_tr hE gb_Ex_app
      have hlt : n < n' + 1 := by have := hE.1; omega
      have hgo := ih (v + 1) (by omega) 1 _ _ _ _ _ hW2 hE2 (Or.inr ⟨rfl, hlt⟩) (by omega)
      exact br_c (fun _ => br_f (by decide) (nm_r (nI_1 v) hgo)) (fun _ => nm_r (nI_1 v) hgo)
theorem gb_x_tp4 (hk : kd < 2) (hT : gb_PT kd pl mo) {post : Int32 → SX → Prop}
    (hJ : ∀ ch n' aw' al' g' ld', gb_WS kd z n' aw' al' g' ld' → gb_Ex n g n' g' → gb_Tk n aw al g ld (gb_HP kd n g ld) ch n' aw' al' g' ld' → post ch (fk, nI n', gv, cs, pl, mo, aw', al', ba, sz, rd)) :
    ∀ d i, i + d = 40 → ∀ ch n' aw' al' g' ld', gb_WS kd z n' aw' al' g' ld' → gb_Ex n g n' g' → gb_Tk n aw al g ld (gb_DP kd n g ld i 0) ch n' aw' al' g' ld' → i ≤ n' →
      wX_tryPairs_4 post (d + 1) ch (nI i) fk (nI n') gv cs pl mo aw' al' ba sz rd := by
  intro d
  induction d with
  | zero =>
    intro i hi ch n' aw' al' g' ld' hW hE hK hin
    have hn := gb_WS_n hW
    omega
  | succ d ih =>
    intro i hi ch n' aw' al' g' ld' hW hE hK hin
    have hn := gb_WS_n hW
    refine pk_le n' i (fun hle => ?_) (fun hlt => ?_)
    · refine ⟨?_, hJ ch n' aw' al' g' ld' hW hE (gb_Tk_mono (fun e h i' hi' v hv => h.1 i' (by omega) v hv) hK)⟩
      rcases hK with k | k
      · rw [k.1]; rfl
      · rw [k.1]; rfl
    · exact ⟨i + 1, gb_x_tp14 hk hT (fun ch n' aw' al' g' ld' hW hE hK hi' => ih (i + 1) (by omega) ch n' aw' al' g' ld' hW hE hK hi') i 0 (by omega) ch n' aw' al' g' ld' hW hE hK hlt⟩
theorem gb_x_tryPairs (hk : kd < 2) (hT : gb_PT kd pl mo) (hW : gb_WS kd z n aw al g ld) {post : Int32 → SX → Prop}
    (hJ : ∀ ch n' aw' al' g' ld', gb_WS kd z n' aw' al' g' ld' → gb_Ex n g n' g' → gb_Tk n aw al g ld (gb_HP kd n g ld) ch n' aw' al' g' ld' → post ch (fk, nI n', gv, cs, pl, mo, aw', al', ba, sz, rd)) :
    wpX_tryPairs post (fk, nI n, gv, cs, pl, mo, aw, al, ba, sz, rd) :=
  ⟨41, gb_x_tp4 hk hT hJ 40 0 rfl 0 n aw al g ld hW gb_Ex_rf (Or.inl ⟨rfl, rfl, rfl, rfl, rfl, rfl, fun i' hi' => absurd hi' (Nat.not_lt_zero _), fun v' hv' => absurd hv' (Nat.not_lt_zero _)⟩) (Nat.zero_le _)⟩
end
end
section
/-! ===== keepLeast ===== -/
theorem gb_ix8 (k i : Nat) : 8 * nI k + nI i = nI (8 * k + i) := by rw [show (8 : Int32) = nI 8 from rfl, pk_mul, nI_add]
theorem gb_ix32 (k i : Nat) : 32 * nI k + nI i = nI (32 * k + i) := by rw [show (32 : Int32) = nI 32 from rfl, pk_mul, nI_add]
def gb_ins {α : Type} (f : Nat → α) (a : Nat) (x : α) (j : Nat) : α := if j < a then f j else if j = a then x else f (j - 1)
theorem gb_ins_lo {α : Type} {f : Nat → α} {a : Nat} {x : α} {j : Nat} (h : j < a) : gb_ins f a x j = f j := if_pos h
theorem gb_ins_at {α : Type} {f : Nat → α} {a : Nat} {x : α} : gb_ins f a x a = x := by
  unfold gb_ins
  rw [if_neg (Nat.lt_irrefl _), if_pos rfl]
theorem gb_ins_hi {α : Type} {f : Nat → α} {a : Nat} {x : α} {j : Nat} (h : a < j) : gb_ins f a x j = f (j - 1) := by
  unfold gb_ins
  rw [if_neg (by omega), if_neg (by omega)]
def gb_El (kd : Nat) (z : Nat → Bool) (b : Int32) (m : Nat) : Prop := gb_Ld kd b m ∧ gb_V z b ∧ gb_mn kd z m ∧ ∀ t, t < 32 → bt b t = true → t ≠ m → ¬ gb_LM kd z t
theorem gb_RL_ins {kd : Nat} {z : Nat → Bool} {s : Nat} {b : Nat → Int32} {md : Nat → Nat} (h : gb_RL kd z s b md) {a : Nat} (ha : a ≤ s) {x : Int32} {m : Nat} (hx : gb_El kd z x m)
    (hlo : ∀ j, j < a → gb_w kd (md j) < gb_w kd m) (hhi : ∀ j, a ≤ j → j < s → gb_w kd m < gb_w kd (md j)) : gb_RL kd z (s + 1) (gb_ins b a x) (gb_ins md a m) := by
  refine ⟨fun i hi => ?_, fun i j hij hj => ?_⟩
  · rcases Nat.lt_trichotomy i a with c | c | c
    · rw [gb_ins_lo c, gb_ins_lo c]
      exact h.1 i (by omega)
    · rw [c, gb_ins_at, gb_ins_at]
      exact hx
    · rw [gb_ins_hi c, gb_ins_hi c]
      exact h.1 (i - 1) (by omega)
  · rcases Nat.lt_trichotomy j a with c | c | c
    · rw [gb_ins_lo c, gb_ins_lo (show i < a by omega)]
      exact h.2 i j hij (by omega)
    · rw [c, gb_ins_at, gb_ins_lo (show i < a by omega)]
      exact hlo i (by omega)
    · rw [gb_ins_hi c]
      rcases Nat.lt_trichotomy i a with e | e | e
      · rw [gb_ins_lo e]
        have h1 := hlo i e
        have h2 := hhi (j - 1) (by omega) (by omega)
        omega
      · rw [e, gb_ins_at]
        exact hhi (j - 1) (by omega) (by omega)
      · rw [gb_ins_hi e]
        exact h.2 (i - 1) (j - 1) (by omega) (by omega)
/-- none but i itself divides -/
def gb_lf (ld : Nat → Nat) (i : Nat) : Nat → Bool
  | 0 => true
  | j + 1 => (gb_lf ld i j && (decide (j = i) || !(decide (ld j &&& ld i = ld j))))
theorem gb_lf_spec (ld : Nat → Nat) (i : Nat) : ∀ n, gb_lf ld i n = true ↔ ∀ j, j < n → j = i ∨ ¬ ld j &&& ld i = ld j := by
  intro n
  induction n with
  | zero => exact ⟨fun _ j hj => absurd hj (Nat.not_lt_zero _), fun _ => rfl⟩
  | succ n ih =>
    show (gb_lf ld i n && (decide (n = i) || !(decide (ld n &&& ld i = ld n)))) = true ↔ _
    rw [Bool.and_eq_true, ih, Bool.or_eq_true, decide_eq_true_eq, Bool.not_eq_true', decide_eq_false_iff_not]
    constructor
    · intro ⟨h1, h2⟩ j hj
      by_cases e : j = n
      · rw [e]; exact h2
      · exact h1 j (by omega)
    · intro h
      exact ⟨fun j hj => h j (by omega), h n (by omega)⟩
theorem gb_lf_mn {kd : Nat} {z : Nat → Bool} {n : Nat} {g : Nat → Int32} {ld : Nat → Nat} (h : gb_GB kd z n g ld) {i : Nat} (hi : i < n) (hl : gb_lf ld i n = true) : gb_mn kd z (ld i) := by
  refine ⟨⟨g i, h.2.1 i hi, h.1 i hi⟩, fun l hl2 hs => ?_⟩
  obtain ⟨j, hj, hd⟩ := h.2.2 l hl2
  rcases (gb_lf_spec ld i n).mp hl j hj with e | e
  · rw [e] at hd
    exact gb_sub_anti hs hd
  · exact absurd (gb_sub_trans hd hs) e
theorem gb_mn_lf {kd : Nat} {z : Nat → Bool} {n : Nat} {g : Nat → Int32} {ld : Nat → Nat} (h : gb_GB kd z n g ld) (hI : gb_WI z n g ld) {m : Nat} (hm : gb_mn kd z m) : ∃ i, i < n ∧ ld i = m ∧ gb_lf ld i n = true := by
  obtain ⟨i, hi, hd⟩ := h.2.2 m hm.1
  have e : ld i = m := hm.2 _ ⟨g i, h.2.1 i hi, h.1 i hi⟩ hd
  refine ⟨i, hi, e, (gb_lf_spec ld i n).mpr (fun j hj => ?_)⟩
  by_cases c : j = i
  · exact Or.inl c
  · refine Or.inr (fun hd2 => ?_)
    have e2 : ld j = ld i := by
      rw [e] at hd2
      rw [e]
      exact hm.2 _ ⟨g j, h.2.1 j hj, h.1 j hj⟩ hd2
    rcases Nat.lt_or_gt_of_ne c with c2 | c2
    · exact hI.2 j i c2 hi (by rw [e2, Nat.and_self])
    · exact hI.2 i j c2 hj (by rw [e2, Nat.and_self])
/-- the reduced tail -/
def gb_rt (kd n : Nat) (g : Nat → Int32) (ld : Nat → Nat) (i : Nat) : Int32 := gb_e (ld i) ^^^ gb_RD kd n g ld (g i ^^^ gb_e (ld i))
theorem gb_rt_bd {kd : Nat} (hk : kd < 2) {n : Nat} {g : Nat → Int32} {ld : Nat → Nat} (hG : gb_G kd n g ld) {i : Nat} (hi : i < n) : ∀ t, t < 32 → bt (gb_RD kd n g ld (g i ^^^ gb_e (ld i))) t = true → gb_w kd t < gb_w kd (ld i) := by
  have hL := hG i hi
  refine gb_RD_bd hk hG (fun t ht hb => ?_)
  rw [b_xor, gb_bt_e hL.1] at hb
  by_cases c : t = ld i
  · rw [decide_eq_true c, c, hL.2.1] at hb
    exact absurd hb (by decide)
  · rw [decide_eq_false c, Bool.xor_false] at hb
    exact hL.2.2 t ht hb c
theorem gb_rt_El {kd : Nat} (hk : kd < 2) {z : Nat → Bool} {n : Nat} {g : Nat → Int32} {ld : Nat → Nat} (h : gb_GB kd z n g ld) {i : Nat} (hi : i < n) (hl : gb_lf ld i n = true) : gb_El kd z (gb_rt kd n g ld i) (ld i) := by
  have hL := h.1 i hi
  have hb := gb_rt_bd hk h.1 hi
  have hN := gb_GB_NF hk h (g i ^^^ gb_e (ld i))
  have hz : bt (gb_RD kd n g ld (g i ^^^ gb_e (ld i))) (ld i) = false := by
    cases e : bt (gb_RD kd n g ld (g i ^^^ gb_e (ld i))) (ld i)
    · rfl
    · have := hb _ hL.1 e
      omega
  have hx : ∀ t, t ≠ ld i → bt (gb_rt kd n g ld i) t = bt (gb_RD kd n g ld (g i ^^^ gb_e (ld i))) t := fun t hn => by
    unfold gb_rt
    rw [b_xor, gb_bt_e hL.1, decide_eq_false hn, Bool.false_xor]
  refine ⟨⟨hL.1, ?_, fun t ht hbt hn => ?_⟩, ?_, gb_lf_mn h hi hl, fun t ht hbt hn => ?_⟩
  · unfold gb_rt
    rw [b_xor, gb_bt_e hL.1, decide_eq_true rfl, hz]; rfl
  · rw [hx t hn] at hbt
    exact hb t ht hbt
  · have hV := gb_V_xor (h.2.1 i hi) hN.1
    have e : g i ^^^ (g i ^^^ gb_e (ld i) ^^^ gb_RD kd n g ld (g i ^^^ gb_e (ld i))) = gb_rt kd n g ld i := by
      unfold gb_rt
      rw [← gb_xa, ← gb_xa, gb_xx, gb_0x]
    rw [e] at hV
    exact hV
  · rw [hx t hn] at hbt
    exact hN.2 t ht hbt
section
variable {kd : Nat} {fk ws : Int32} {gv cs pl mo ba sz rd : Nat → Int32} {z : Nat → Bool} {n : Nat} {aw al g : Nat → Int32} {ld : Nat → Nat}
theorem gb_x_reduceTail (hk : kd < 2) (hT : gb_PT kd pl mo) (hn : n ≤ 32) (hW : gb_WK kd n aw al g ld) {i : Nat} (hi : i < n) {post : Int32 → Prop} (h : post (gb_in kd (gb_rt kd n g ld i))) : wpX_reduceTail post (fk, nI n, gv, cs, pl, mo, aw, al, ba, sz, rd) (nI i) := by
  obtain ⟨e1, e2, hL⟩ := hW i hi
  have hP := gb_Plt kd hk _ hL.1
  refine And.intro (vp_in_nI (by omega) (by decide)) ?_
  rw [nI_clamp (by omega), e1]
  refine gb_x_highest ?_
  rw [gb_hi_ld hk hL]
  refine nm_r (e' := gb_e (gb_P kd (ld i))) rfl ⟨vp_in_nI (by omega) (by decide), ?_⟩
  have e3 : gb_in kd (g i) &&& (gb_e (gb_P kd (ld i)) ^^^ (-1)) = gb_in kd (g i ^^^ gb_e (ld i)) := b_ext (fun j hj => by
    rw [gb_in_xor, gb_in_e hk hL.1, b_and, b_xor, b_xor, b_m1 j hj, gb_bt_e hP]
    by_cases c : j = gb_P kd (ld i)
    · rw [decide_eq_true c, c, gb_bt_in _ hP, gb_MP kd hk _ hL.1, hL.2.1]; rfl
    · rw [decide_eq_false c]
      cases bt (gb_in kd (g i)) j <;> rfl)
  rw [e3]
  refine gb_x_reduce hk hT (by omega) hW ?_
  have e4 : gb_e (gb_P kd (ld i)) ||| gb_in kd (gb_RD kd n g ld (g i ^^^ gb_e (ld i))) = gb_in kd (gb_rt kd n g ld i) := b_ext (fun j hj => by
    unfold gb_rt
    rw [gb_in_xor, gb_in_e hk hL.1, b_or, b_xor, gb_bt_e hP]
    by_cases c : j = gb_P kd (ld i)
    · have hz : bt (gb_RD kd n g ld (g i ^^^ gb_e (ld i))) (ld i) = false := by
        cases e : bt (gb_RD kd n g ld (g i ^^^ gb_e (ld i))) (ld i)
        · rfl
        · have := gb_rt_bd hk (gb_WK_G hW) hi _ hL.1 e
          omega
      rw [decide_eq_true c, c, gb_bt_in _ hP, gb_MP kd hk _ hL.1, hz]; rfl
    · rw [decide_eq_false c]
      cases bt (gb_in kd (gb_RD kd n g ld (g i ^^^ gb_e (ld i)))) j <;> rfl)
  rw [e4]
  exact h
/-- the kept ones so far -/
def gb_KB (kd k s : Nat) (b ba ba' : Nat → Int32) : Prop := (∀ j, j < s → ba' (32 * k + j) = gb_in kd (b j)) ∧ (∀ j, (j < 32 * k ∨ 32 * k + 32 ≤ j) → ba' j = ba j)
theorem gb_x_k159 {k s i a : Nat} (hk2 : k < 2) (hs : s < 32) (has : a ≤ s) {b : Nat → Int32} {md : Nat → Nat} (hR : gb_RL kd z s b md) {x : Int32} {m : Nat} (hx : gb_El kd z x m)
    (hlo : ∀ j, j < a → gb_w kd (md j) < gb_w kd m) (hhi : ∀ j, a ≤ j → j < s → gb_w kd m < gb_w kd (md j)) {ba' : Nat → Int32}
    (hb1 : ∀ j, j < a → ba' (32 * k + j) = gb_in kd (b j)) (hb2 : ∀ j, a < j → j ≤ s → ba' (32 * k + j) = gb_in kd (b (j - 1))) (hb3 : ∀ j, (j < 32 * k ∨ 32 * k + 32 ≤ j) → ba' j = ba j)
    {post : SX → Prop} {J4 : Int32 → Int32 → (Nat → Int32) → (Nat → Int32) → (Nat → Int32) → (Nat → Int32) → (Nat → Int32) → (Nat → Int32) → (Nat → Int32) → (Nat → Int32) → (Nat → Int32) → Prop}
    (hJ : ∀ a b' md' ba'', a ≤ s → gb_RL kd z (s + 1) b' md' → md' = gb_ins md a m → gb_KB kd k (s + 1) b' ba ba'' → J4 (nI (s + 1)) (nI (i + 1)) gv cs pl mo aw al ba'' sz rd) :
    wX_keepLeast_159 post J4 (nI k) (nI s) (nI i) (gb_in kd x) (nI a) fk ws gv cs pl mo aw al ba' sz rd := by
  unfold wX_keepLeast_159
  rw [gb_ix32, nI_clamp (by omega)]
  refine ⟨vp_in_nI (by omega) (by decide), nm_e (nm_r (nI_1 s) (nm_r (nI_1 i) (hJ a (gb_ins b a x) _ _ has (gb_RL_ins hR has hx hlo hhi) rfl ⟨fun j hj => ?_, fun j hj => ?_⟩)))⟩
  · rcases Nat.lt_trichotomy j a with c | c | c
    · rw [pk_un (by omega), gb_ins_lo c]; exact hb1 j c
    · rw [c, pk_us, gb_ins_at]
    · rw [pk_un (by omega), gb_ins_hi c]; exact hb2 j c (by omega)
  · rw [pk_un (by omega)]
    exact hb3 j hj
theorem gb_x_k97 (hk : kd < 2) {k s i : Nat} (hk2 : k < 2) (hs : s < 32) {b : Nat → Int32} {md : Nat → Nat} (hR : gb_RL kd z s b md) {x : Int32} {m : Nat} (hx : gb_El kd z x m) (hne : ∀ j, j < s → md j ≠ m)
    {post : SX → Prop} {J4 : Int32 → Int32 → (Nat → Int32) → (Nat → Int32) → (Nat → Int32) → (Nat → Int32) → (Nat → Int32) → (Nat → Int32) → (Nat → Int32) → (Nat → Int32) → (Nat → Int32) → Prop}
    (hJ : ∀ a b' md' ba'', a ≤ s → gb_RL kd z (s + 1) b' md' → md' = gb_ins md a m → gb_KB kd k (s + 1) b' ba ba'' → J4 (nI (s + 1)) (nI (i + 1)) gv cs pl mo aw al ba'' sz rd) :
    ∀ a, a ≤ s → (∀ j, a ≤ j → j < s → gb_w kd m < gb_w kd (md j)) → ∀ ba' : Nat → Int32, (∀ j, j < a → ba' (32 * k + j) = gb_in kd (b j)) → (∀ j, a < j → j ≤ s → ba' (32 * k + j) = gb_in kd (b (j - 1))) → (∀ j, (j < 32 * k ∨ 32 * k + 32 ≤ j) → ba' j = ba j) →
      wX_keepLeast_97 post J4 (nI k) (nI s) (nI i) (gb_in kd x) fk ws (a + 1) (nI a) gv cs pl mo aw al ba' sz rd := by
  intro a
  induction a with
  | zero =>
    intro has hhi ba' hb1 hb2 hb3
    exact br_t (show nI 0 ≤ 0 by decide) (gb_x_k159 hk2 hs has hR hx (fun j hj => absurd hj (Nat.not_lt_zero _)) hhi hb1 hb2 hb3 hJ)
  | succ a ih =>
    intro has hhi ba' hb1 hb2 hb3
    have hLa := (hR.1 a (by omega)).1
    have hPa := gb_Plt kd hk _ hLa.1
    have hPm := gb_Plt kd hk _ hx.1.1
    refine br_f (nI_nle (by omega) (by omega)) ?_
    rw [gb_ix32, show 32 * k + (a + 1) = 32 * k + a + 1 from rfl, nI_pred, nI_clamp (by omega), nI_clamp (by omega), hb1 a (by omega)]
    refine ⟨vp_in_nI (by omega) (by decide), gb_x_highest (gb_x_highest ?_)⟩
    rw [gb_hi_ld hk hLa, gb_hi_ld hk hx.1]
    refine pk_le (gb_P kd (md a)) (gb_P kd m) (fun hle => ?_) (fun hlt => ?_)
    · refine gb_x_k159 hk2 hs has hR hx (fun j hj => ?_) hhi hb1 hb2 hb3 hJ
      have h1 : gb_w kd (md a) < gb_w kd m := by
        refine (gb_Pw kd hk _ hLa.1 _ hx.1.1).mpr (Nat.lt_of_le_of_ne hle (fun e => hne a (by omega) ?_))
        rw [← gb_MP kd hk _ hLa.1, e, gb_MP kd hk _ hx.1.1]
      by_cases e : j = a
      · rw [e]; exact h1
      · exact Nat.lt_trans (hR.2 j a (by omega) (by omega)) h1
    · refine ⟨vp_in_nI (by omega) (by decide), vp_in_nI (by omega) (by decide), nm_e (nm_r (pk_m1 a) (ih (by omega) (fun j hj hjs => ?_) _ (fun j hj => ?_) (fun j hj hjs => ?_) (fun j hj => ?_)))⟩
      · by_cases e : j = a
        · rw [e]; exact (gb_Pw kd hk _ hx.1.1 _ hLa.1).mpr hlt
        · exact hhi j (by omega) hjs
      · rw [pk_un (by omega)]; exact hb1 j (by omega)
      · by_cases e : j = a + 1
        · rw [e, show 32 * k + (a + 1) = 32 * k + a + 1 from rfl, pk_us]; rfl
        · rw [pk_un (by omega)]; exact hb2 j (by omega) hjs
      · rw [pk_un (by omega)]; exact hb3 j hj
theorem gb_x_k18 (hn : n ≤ 32) (hW : gb_WK kd n aw al g ld) {k s i : Nat} (hi : i < n) {ba' : Nat → Int32}
    {post : SX → Prop} {J4 : Int32 → Int32 → (Nat → Int32) → (Nat → Int32) → (Nat → Int32) → (Nat → Int32) → (Nat → Int32) → (Nat → Int32) → (Nat → Int32) → (Nat → Int32) → (Nat → Int32) → Prop}
    (h0 : gb_lf ld i n = false → J4 (nI s) (nI (i + 1)) gv cs pl mo aw al ba' sz rd)
    (h1 : gb_lf ld i n = true → wpX_reduceTail (fun r => ∃ n97 : Nat, wX_keepLeast_97 post J4 (nI k) (nI s) (nI i) r fk (nI n) n97 (nI s) gv cs pl mo aw al ba' sz rd) (fk, nI n, gv, cs, pl, mo, aw, al, ba', sz, rd) (nI i)) :
    ∃ n18, wX_keepLeast_18 post J4 (nI k) (nI s) (nI i) fk (nI n) gv cs pl mo aw al ba' sz rd n18 1 0 := by
  refine ⟨n + 1, gb_det (fun f j => wX_keepLeast_18 post J4 (nI k) (nI s) (nI i) fk (nI n) gv cs pl mo aw al ba' sz rd f (gb_bI (gb_lf ld i j)) (nI j)) n (fun f => ?_) (fun f j hj h' => ?_) n 0 (by omega)⟩
  · refine br_t (nI_le (Nat.le_refl _) (by omega)) (gb_brn (gb_lf ld i n) gb_bI_0 (fun e => nm_r (nI_1 i) (h0 e)) h1)
  · refine br_f (nI_ge hj (by omega)) ?_
    obtain ⟨_, e2, hL⟩ := hW i hi
    obtain ⟨_, f2, hM⟩ := hW j hj
    rw [nI_clamp (by omega), nI_clamp (by omega), e2, f2]
    refine ⟨vp_in_nI (by omega) (by decide), vp_in_nI (by omega) (by decide), ?_⟩
    have h2 : gb_bI (gb_lf ld i (j + 1)) = gb_bI (gb_lf ld i j && (decide (j = i) || !(decide (ld j &&& ld i = ld j)))) := rfl
    rw [h2] at h'
    refine gb_brd (gb_tdiv _ hM.1 _ hL.1) (fun hd => ?_) (fun hd => ?_)
    · rw [decide_eq_true hd] at h'
      refine gb_brn (gb_lf ld i j) gb_bI_0 (fun e => nm_r (nI_1 j) ?_) (fun e => pk_eq j i (fun e3 => nm_r (nI_1 j) ?_) (fun e3 => br_f (by decide) (nm_r (nI_1 j) ?_)))
      · rw [e] at h'; exact h'
      · rw [e, decide_eq_true e3] at h'; exact h'
      · rw [e, decide_eq_false e3] at h'; exact h'
    · rw [decide_eq_false hd] at h'
      refine gb_brn (gb_lf ld i j) gb_bI_0 (fun e => nm_r (nI_1 j) ?_) (fun e => pk_eq j i (fun e3 => nm_r (nI_1 j) ?_) (fun e3 => br_t rfl (nm_r (nI_1 j) ?_)))
      · rw [e] at h'; exact h'
      · rw [e, decide_eq_true e3] at h'; exact h'
      · rw [e, decide_eq_false e3] at h'; exact h'
def gb_KM (n : Nat) (ld : Nat → Nat) (i s : Nat) (md : Nat → Nat) : Prop := s ≤ i ∧ (∀ i', i' < i → gb_lf ld i' n = true → ∃ j, j < s ∧ md j = ld i') ∧ (∀ j, j < s → ∃ i', i' < i ∧ md j = ld i')
theorem gb_KM_skip {i s : Nat} {md : Nat → Nat} (h : gb_KM n ld i s md) (hl : gb_lf ld i n = false) : gb_KM n ld (i + 1) s md := by
  refine ⟨Nat.le_succ_of_le h.1, fun i' hi' hl' => ?_, fun j hj => ?_⟩
  · by_cases e : i' = i
    · rw [e, hl] at hl'
      exact absurd hl' (by decide)
    · exact h.2.1 i' (by omega) hl'
  · obtain ⟨i', hi', e⟩ := h.2.2 j hj
    exact ⟨i', by omega, e⟩
theorem gb_KM_take {i s a : Nat} {md : Nat → Nat} (h : gb_KM n ld i s md) (ha : a ≤ s) : gb_KM n ld (i + 1) (s + 1) (gb_ins md a (ld i)) := by
  refine ⟨Nat.succ_le_succ h.1, fun i' hi' hl' => ?_, fun j hj => ?_⟩
  · by_cases e : i' = i
    · exact ⟨a, by omega, by rw [gb_ins_at, e]⟩
    · obtain ⟨j, hj, e2⟩ := h.2.1 i' (by omega) hl'
      by_cases c : j < a
      · exact ⟨j, by omega, by rw [gb_ins_lo c]; exact e2⟩
      · exact ⟨j + 1, by omega, by rw [gb_ins_hi (by omega)]; exact e2⟩
  · rcases Nat.lt_trichotomy j a with c | c | c
    · obtain ⟨i', hi', e⟩ := h.2.2 j (by omega)
      exact ⟨i', by omega, by rw [gb_ins_lo c]; exact e⟩
    · exact ⟨i, by omega, by rw [c, gb_ins_at]⟩
    · obtain ⟨i', hi', e⟩ := h.2.2 (j - 1) (by omega)
      exact ⟨i', by omega, by rw [gb_ins_hi c]; exact e⟩
theorem gb_x_k4 (hk : kd < 2) (hT : gb_PT kd pl mo) (hW : gb_WS kd z n aw al g ld) (hG : gb_GB kd z n g ld) {k : Nat} (hk2 : k < 2) {post : SX → Prop}
    (hJ : ∀ s b md ba', s ≤ 32 → gb_RB kd z s b md → gb_KB kd k s b ba ba' → post (fk, nI n, gv, cs, pl, mo, aw, al, ba', upd sz k (nI s), rd)) :
    ∀ d i, i + d = n → ∀ s b md ba', gb_RL kd z s b md → gb_KB kd k s b ba ba' → gb_KM n ld i s md → wX_keepLeast_4 post (nI k) fk (nI n) (d + 1) (nI s) (nI i) gv cs pl mo aw al ba' sz rd := by
  have hn := gb_WS_n hW
  intro d
  induction d with
  | zero =>
    intro i hi s b md ba' hR hB hM
    have e : i = n := by omega
    subst e
    refine br_t (nI_le (Nat.le_refl _) (by omega)) ⟨vp_in_nI hk2 (by decide), ?_⟩
    rw [nI_clamp (by omega)]
    refine nm_e (hJ s b md ba' (by have := hM.1; omega) ⟨hR, fun m hm => ?_⟩ hB)
    obtain ⟨i', hi', e1, e2⟩ := gb_mn_lf hG hW.2 hm
    obtain ⟨j, hj, e3⟩ := hM.2.1 i' hi' e2
    exact ⟨j, hj, e3.trans e1⟩
  | succ d ih =>
    intro i hi s b md ba' hR hB hM
    refine br_f (nI_ge (by omega) (by omega)) ?_
    refine gb_x_k18 hn hW.1 (by omega) (fun hl => ih (i + 1) (by omega) s b md ba' hR hB (gb_KM_skip hM hl)) (fun hl => ?_)
    refine gb_x_reduceTail hk hT hn hW.1 (by omega) ⟨s + 1, ?_⟩
    have hsn : s < 32 := by have := hM.1; omega
    refine gb_x_k97 hk hk2 hsn hR (gb_rt_El hk hG (by omega) hl) (fun j hj e => ?_) (fun a b' md' ba'' ha hR' e hB' => ?_) s (Nat.le_refl _) (fun j h1 h2 => by omega) ba' hB.1 (fun j h1 h2 => by omega) hB.2
    · obtain ⟨i', hi', e2⟩ := hM.2.2 j hj
      exact hW.2.2 i' i hi' (by omega) (by rw [← e2, e, Nat.and_self])
    · exact ih (i + 1) (by omega) (s + 1) b' md' ba'' hR' hB' (by rw [e]; exact gb_KM_take hM ha)
theorem gb_x_keepLeast (hk : kd < 2) (hT : gb_PT kd pl mo) (hW : gb_WS kd z n aw al g ld) (hG : gb_GB kd z n g ld) {k : Nat} (hk2 : k < 2) {post : SX → Prop}
    (hJ : ∀ s b md ba', s ≤ 32 → gb_RB kd z s b md → gb_KB kd k s b ba ba' → post (fk, nI n, gv, cs, pl, mo, aw, al, ba', upd sz k (nI s), rd)) : wpX_keepLeast post (fk, nI n, gv, cs, pl, mo, aw, al, ba, sz, rd) (nI k) :=
  ⟨n + 1, gb_x_k4 hk hT hW hG hk2 hJ n 0 (by omega) 0 (fun _ => 0) (fun _ => 0) ba ⟨fun i hi => absurd hi (Nat.not_lt_zero _), fun i j _ hj => absurd hj (Nat.not_lt_zero _)⟩ ⟨fun j hj => absurd hj (Nat.not_lt_zero _), fun _ _ => rfl⟩ ⟨Nat.le_refl _, fun i' hi' => absurd hi' (Nat.not_lt_zero _), fun j hj => absurd hj (Nat.not_lt_zero _)⟩⟩
end
end
section
/-! ===== complete ===== -/
def gb_zz (q : Nat → Int32) : Nat → Nat → Bool
  | 0, _ => true
  | c + 1, a => (gb_zz q c a && !(gb_ev (q c) a))
theorem gb_zz_t (q : Nat → Int32) (a : Nat) : ∀ c, gb_zz q c a = true ↔ ∀ i, i < c → gb_ev (q i) a = false := by
  intro c
  induction c with
  | zero => exact ⟨fun _ j hj => absurd hj (Nat.not_lt_zero _), fun _ => rfl⟩
  | succ c ih =>
    show (gb_zz q c a && !(gb_ev (q c) a)) = true ↔ _
    rw [Bool.and_eq_true, ih, Bool.not_eq_true']
    constructor
    · intro ⟨h1, h2⟩ j hj
      by_cases e : j = c
      · rw [e]; exact h2
      · exact h1 j (by omega)
    · intro h
      exact ⟨fun j hj => h j (by omega), h c (by omega)⟩
theorem gb_zz_V {q : Nat → Int32} {c i : Nat} (hi : i < c) : gb_V (gb_zz q c) (q i) := fun a _ hz => (gb_zz_t q a c).mp hz i hi
theorem gb_zz_ex {q : Nat → Int32} {a : Nat} : ∀ c, gb_zz q c a = false → ∃ i, i < c ∧ gb_ev (q i) a = true := by
  intro c h
  refine Classical.byContradiction fun hn => ?_
  have : gb_zz q c a = true := (gb_zz_t q a c).mpr (fun i hi => by
    cases e : gb_ev (q i) a
    · rfl
    · exact absurd ⟨i, hi, e⟩ hn)
  rw [this] at h
  exact absurd h (by decide)
def gb_Z (cs gv : Nat → Int32) (k : Nat) : Nat → Bool := gb_zz (fun i => gv (8 * k + i)) (cs k).toNatClampNeg
theorem gb_Z_eq {cs gv : Nat → Int32} {k c : Nat} (h : cs k = nI c) (hc : c ≤ 8) : gb_Z cs gv k = gb_zz (fun i => gv (8 * k + i)) c := by
  unfold gb_Z
  rw [h, nI_clamp (by omega)]
def gb_Rdy (kd : Nat) (z : Nat → Bool) (ba sz : Nat → Int32) (k : Nat) : Prop := ∃ s b md, s ≤ 32 ∧ gb_RB kd z s b md ∧ sz k = nI s ∧ ∀ i, i < s → ba (32 * k + i) = gb_in kd (b i)
def gb_XI (kd : Nat) (cs gv ba sz rd : Nat → Int32) : Prop := ∀ k, k < 2 → rd k ≠ 0 → gb_Rdy kd (gb_Z cs gv k) ba sz k
def gb_CS (cs : Nat → Int32) : Prop := ∀ k, k < 2 → ∃ c, c ≤ 8 ∧ cs k = nI c
theorem gb_fin_GB {kd : Nat} (hk : kd < 2) {q : Nat → Int32} {c n : Nat} {aw al g : Nat → Int32} {ld : Nat → Nat} (hW : gb_WS kd (gb_zz q c) n aw al g ld) (hV : gb_HV kd n g ld) (hP : gb_HP kd n g ld) (hS : ∀ i, i < c → gb_Sp n g (q i)) : gb_GB kd (gb_zz q c) n g ld := by
  have hG := gb_WK_G hW.1
  have hB : ∀ f i, f < 32 → i < n → gb_RD kd n g ld (gb_mt f (g i)) = 0 := fun f i hf hi => gb_buch hk hG hV hP _ f i hf hi rfl
  refine gb_GB_of hk hG hW.2.1 (fun x hx => gb_null hk hG hB (fun y => ∃ i, i < c ∧ y = q i) (fun y ⟨i, hi, e⟩ => ?_) (fun a _ hz => ?_) hx)
  · rw [e]
    exact hS i hi (fun y => gb_RD kd n g ld y = 0) gb_RD_0 (fun a b ha hb => by rw [gb_RD_xor, ha, hb, gb_xx]) (fun i hi f hf => hB f i hf hi)
  · obtain ⟨i, hi, e⟩ := gb_zz_ex c hz
    exact ⟨q i, ⟨i, hi, rfl⟩, e⟩
section
variable {kd : Nat} {fk ws : Int32} {gv cs pl mo ba sz rd : Nat → Int32} {z : Nat → Bool}
theorem gb_x_c66 (hk : kd < 2) (hT : gb_PT kd pl mo) {k : Nat} {post : SX → Prop} {n0 : Nat} {g0 : Nat → Int32}
    (hJ : ∀ n aw al g ld, gb_WS kd z n aw al g ld → gb_Ex n0 g0 n g → gb_HV kd n g ld → gb_HP kd n g ld → wX_complete_110 post (nI k) fk (nI n) gv cs pl mo aw al ba sz rd) :
    ∀ d r, r + d = 40 → ∀ ch n aw al g ld, gb_WS kd z n aw al g ld → gb_Ex n0 g0 n g → ((ch = 0 ∧ gb_HV kd n g ld ∧ gb_HP kd n g ld) ∨ (ch = 1 ∧ r ≤ n)) → wX_complete_66 post (nI k) (d + 1) ch (nI r) fk (nI n) gv cs pl mo aw al ba sz rd := by
  intro d
  induction d with
  | zero =>
    intro r hr ch n aw al g ld hW hE hc
    have hn := gb_WS_n hW
    have e : r = 40 := by omega
    subst e
    rcases hc with ⟨_, h1, h2⟩ | ⟨_, h1⟩
    · exact br_t (show (40 : Int32) ≤ nI 40 by decide) (hJ n aw al g ld hW hE h1 h2)
    · omega
  | succ d ih =>
    intro r hr ch n aw al g ld hW hE hc
    refine br_f (nI_ge (b := 40) (by omega) (by decide)) ?_
    rcases hc with ⟨h0, h1, h2⟩ | ⟨h0, h1⟩
    · exact br_t h0 (hJ n aw al g ld hW hE h1 h2)
    · refine br_f (by rw [h0]; decide) ?_
      refine gb_x_tryVariables hk hT hW (fun ch1 n1 aw1 al1 g1 ld1 W1 E1 T1 => ?_)
      refine gb_x_tryPairs hk hT W1 (fun ch2 n2 aw2 al2 g2 ld2 W2 E2 T2 => ?_)
      have hE2 := gb_Ex_tr hE (gb_Ex_tr E1 E2)
      have hgo : ∀ ch', ((ch' = 0 ∧ gb_HV kd n2 g2 ld2 ∧ gb_HP kd n2 g2 ld2) ∨ (ch' = 1 ∧ r + 1 ≤ n2)) → wX_complete_66 post (nI k) (d + 1) ch' (nI (r + 1)) fk (nI n2) gv cs pl mo aw2 al2 ba sz rd :=
        fun ch' h => ih (r + 1) (by omega) ch' n2 aw2 al2 g2 ld2 W2 hE2 h
      rcases T1 with ⟨a1, a2, _, _, a5, a6, a7⟩ | ⟨a1, a2⟩
      · rcases T2 with ⟨b1, b2, _, _, b5, b6, b7⟩ | ⟨b1, b2⟩
        · refine br_t a1 (br_t b1 (nm_r (nI_1 r) (hgo 0 (Or.inl ⟨rfl, ?_, ?_⟩))))
          · rw [b2, b5, b6, a2, a5, a6]; exact a7
          · rw [b2, b5, b6]; exact b7
        · exact br_t a1 (br_f (by rw [b1]; decide) (nm_r (nI_1 r) (hgo 1 (Or.inr ⟨rfl, by omega⟩))))
      · exact br_f (by rw [a1]; decide) (nm_r (nI_1 r) (hgo 1 (Or.inr ⟨rfl, by have := E2.1; omega⟩)))
theorem gb_x_c24 (hk : kd < 2) (hT : gb_PT kd pl mo) {k c : Nat} (hk2 : k < 2) (hc : cs k = nI c) (hc8 : c ≤ 8) {post : SX → Prop}
    (hJ : ∀ n aw al g ld, gb_WS kd (gb_zz (fun i => gv (8 * k + i)) c) n aw al g ld → (∀ i, i < c → gb_Sp n g (gv (8 * k + i))) → ∃ n66, wX_complete_66 post (nI k) n66 1 0 fk (nI n) gv cs pl mo aw al ba sz rd) :
    ∀ d i, i + d = c → ∀ n aw al g ld, gb_WS kd (gb_zz (fun i => gv (8 * k + i)) c) n aw al g ld → (∀ i', i' < i → gb_Sp n g (gv (8 * k + i'))) → wX_complete_24 post (nI k) (d + 1) (nI i) fk (nI n) gv cs pl mo aw al ba sz rd := by
  intro d
  induction d with
  | zero =>
    intro i hi n aw al g ld hW hS
    have e : i = c := by omega
    subst e
    refine And.intro (vp_in_nI hk2 (by decide)) ?_
    rw [nI_clamp (by omega), hc]
    exact br_t (nI_le (Nat.le_refl _) (by omega)) (hJ n aw al g ld hW hS)
  | succ d ih =>
    intro i hi n aw al g ld hW hS
    have hn := gb_WS_n hW
    have hG := gb_WK_G hW.1
    refine And.intro (vp_in_nI hk2 (by decide)) ?_
    rw [nI_clamp (by omega), hc]
    refine br_f (nI_ge (by omega) (by omega)) ?_
    rw [gb_ix8, nI_clamp (by omega)]
    refine ⟨vp_in_nI (by omega) (by decide), gb_x_inOrder hk hT ?_⟩
    have hSp := gb_RD_Sp hk hG (gv (8 * k + i))
    have hV : gb_V (gb_zz (fun i => gv (8 * k + i)) c) (gv (8 * k + i)) := gb_zz_V (q := fun i => gv (8 * k + i)) (show i < c by omega)
    refine gb_x_enter hk hT (by omega) hW.1 (fun h0 => ?_) (fun h1 => ?_)
    · refine nm_r (nI_1 i) (ih (i + 1) (by omega) n aw al g ld hW (fun i' hi' => ?_))
      by_cases e : i' = i
      · rw [h0, gb_x0] at hSp
        rw [e]; exact hSp
      · exact hS i' (by omega)
    · refine nm_r (nI_1 i) (ih (i + 1) (by omega) _ _ _ _ _ (gb_WS_app hk hW hV h1) (fun i' hi' => ?_))
      by_cases e : i' = i
      · have h2 := gb_Sp_xor (gb_Ex_Sp (gb_Ex_app (c := gb_RD kd n g ld (gv (8 * k + i)))) hSp) (gb_Sp_mem (i := n) (Nat.lt_succ_self n))
        rw [pk_us, gb_xa, gb_xx, gb_x0] at h2
        rw [e]; exact h2
      · exact gb_Ex_Sp gb_Ex_app (hS i' (by omega))
theorem gb_x_complete (hk : kd < 2) (hT : gb_PT kd pl mo) (hC : gb_CS cs) {rd aw al : Nat → Int32} (hX : gb_XI kd cs gv ba sz rd) {k : Nat} (hk2 : k < 2) {post : SX → Prop}
    (hJ : ∀ ws' aw' al' ba' sz' rd', gb_XI kd cs gv ba' sz' rd' → gb_Rdy kd (gb_Z cs gv k) ba' sz' k → post (fk, ws', gv, cs, pl, mo, aw', al', ba', sz', rd')) : wpX_complete post (fk, ws, gv, cs, pl, mo, aw, al, ba, sz, rd) (nI k) := by
  obtain ⟨c, hc8, hc⟩ := hC k hk2
  refine And.intro (vp_in_nI hk2 (by decide)) ?_
  rw [nI_clamp (by omega)]
  refine br_c (fun _ => ⟨vp_in_nI hk2 (by decide), nm_e ⟨c + 1, ?_⟩⟩) (fun h1 => hJ _ _ _ _ _ _ hX (hX k hk2 h1))
  refine gb_x_c24 hk hT hk2 hc hc8 (fun n aw al g ld hW hS => ⟨41, ?_⟩) c 0 (by omega) 0 aw al (fun _ => 0) (fun _ => 0) ⟨fun i hi => absurd hi (Nat.not_lt_zero _), fun i hi => absurd hi (Nat.not_lt_zero _), fun i j _ hj => absurd hj (Nat.not_lt_zero _)⟩ (fun i' hi' => absurd hi' (Nat.not_lt_zero _))
  refine gb_x_c66 hk hT (n0 := n) (g0 := g) (fun n' aw' al' g' ld' hW' hE hV hP => ?_) 40 0 rfl 1 n aw al g ld hW gb_Ex_rf (Or.inr ⟨rfl, Nat.zero_le _⟩)
  have hG := gb_fin_GB hk hW' hV hP (fun i hi => gb_Ex_Sp hE (hS i hi))
  unfold wX_complete_110
  refine gb_x_keepLeast hk hT hW' hG hk2 (fun s b md ba' hs hR hB => ?_)
  have hRdy : gb_Rdy kd (gb_Z cs gv k) ba' (upd sz k (nI s)) k := by
    rw [gb_Z_eq hc hc8]
    exact ⟨s, b, md, hs, hR, pk_us, hB.1⟩
  refine hJ _ _ _ _ _ _ (fun k' hk' hr => ?_) hRdy
  by_cases e : k' = k
  · rw [e]; exact hRdy
  · rw [pk_un e] at hr
    obtain ⟨s', b', md', h1, h2, h3, h4⟩ := hX k' hk' hr
    exact ⟨s', b', md', h1, h2, by rw [pk_un e]; exact h3, fun i hi => by rw [hB.2 _ (by omega)]; exact h4 i hi⟩
/-! ===== normalOf, freeMonomials, isZero ===== -/
theorem gb_x_n17 (hk : kd < 2) (hT : gb_PT kd pl mo) {k s : Nat} (hk2 : k < 2) (hs : s ≤ 32) {b : Nat → Int32} {md : Nat → Nat} (hR : gb_RB kd z s b md) (hb : ∀ i, i < s → ba (32 * k + i) = gb_in kd (b i)) {p : Int32} {post : Int32 → SX → Prop}
    (hJ : ∀ aw al r, gb_NF kd z p r → post r (fk, nI s, gv, cs, pl, mo, aw, al, ba, sz, rd)) :
    ∀ d i, i + d = s → ∀ aw al : Nat → Int32, (∀ i', i' < i → aw i' = gb_in kd (b i') ∧ al i' = nI (md i')) → wX_normalOf_17 post (nI k) p fk (nI s) (d + 1) (nI i) gv cs pl mo aw al ba sz rd := by
  intro d
  induction d with
  | zero =>
    intro i hi aw al hA
    have e : i = s := by omega
    subst e
    have hW : gb_WK kd i aw al b md := fun i' hi' => ⟨(hA i' hi').1, (hA i' hi').2, (hR.1.1 i' hi').1⟩
    refine br_t (nI_le (Nat.le_refl _) (by omega)) (gb_x_inOrder hk hT (gb_x_reduce hk hT (by omega) hW (gb_x_outOfOrder hk hT ?_)))
    rw [gb_ou_in hk]
    exact hJ aw al _ (gb_GB_NF hk (gb_RB_GB hR) p)
  | succ d ih =>
    intro i hi aw al hA
    have hL := (hR.1.1 i (by omega)).1
    have hP := gb_Plt kd hk _ hL.1
    refine br_f (nI_ge (by omega) (by omega)) ?_
    rw [gb_ix32, nI_clamp (by omega), nI_clamp (by omega), hb i (by omega)]
    refine ⟨vp_in_nI (by omega) (by decide), vp_in_nI (by omega) (by decide), nm_e ⟨vp_in_nI (by omega) (by decide), ?_⟩⟩
    rw [pk_us]
    refine gb_x_highest ?_
    rw [gb_hi_ld hk hL, nI_clamp (by omega), (hT _ hP).2, gb_MP kd hk _ hL.1]
    refine ⟨vp_in_nI hP (by decide), vp_in_nI (by omega) (by decide), nm_e (nm_r (nI_1 i) (ih (i + 1) (by omega) _ _ (fun i' hi' => ?_)))⟩
    by_cases e : i' = i
    · rw [e, pk_us, pk_us]; exact ⟨rfl, rfl⟩
    · rw [pk_un e, pk_un e]; exact hA i' (by omega)
theorem gb_x_normalOf (hk : kd < 2) (hT : gb_PT kd pl mo) (hC : gb_CS cs) {rd aw al : Nat → Int32} (hX : gb_XI kd cs gv ba sz rd) {k : Nat} (hk2 : k < 2) {p : Int32} {post : Int32 → SX → Prop}
    (hJ : ∀ r ws' aw' al' ba' sz' rd', gb_XI kd cs gv ba' sz' rd' → gb_NF kd (gb_Z cs gv k) p r → post r (fk, ws', gv, cs, pl, mo, aw', al', ba', sz', rd')) : wpX_normalOf post (fk, ws, gv, cs, pl, mo, aw, al, ba, sz, rd) (nI k) p := by
  refine gb_x_complete (ws := ws) hk hT hC hX hk2 (fun ws' aw' al' ba' sz' rd' hX' hR => ?_)
  obtain ⟨s, b, md, hs, hRB, es, hb⟩ := hR
  refine And.intro (vp_in_nI hk2 (by decide)) ?_
  refine nm_r (e' := nI s) (by rw [nI_clamp (by omega), es]) ⟨s + 1, ?_⟩
  exact gb_x_n17 hk hT hk2 hs hRB hb (fun aw'' al'' r hN => hJ r _ _ _ _ _ _ hX' hN) s 0 (by omega) aw' al' (fun i' hi' => absurd hi' (Nat.not_lt_zero _))
def gb_dv (md : Nat → Nat) (m : Nat) : Nat → Bool
  | 0 => false
  | i + 1 => (gb_dv md m i || decide (md i &&& m = md i))
theorem gb_dv_spec (md : Nat → Nat) (m : Nat) : ∀ s, gb_dv md m s = true ↔ ∃ i, i < s ∧ md i &&& m = md i := by
  intro s
  induction s with
  | zero => exact ⟨fun h => absurd h (by show ¬ false = true; decide), fun ⟨i, hi, _⟩ => absurd hi (Nat.not_lt_zero _)⟩
  | succ s ih =>
    show (gb_dv md m s || decide (md s &&& m = md s)) = true ↔ _
    rw [Bool.or_eq_true, ih, decide_eq_true_eq]
    constructor
    · rintro (⟨i, hi, h⟩ | h)
      · exact ⟨i, by omega, h⟩
      · exact ⟨s, by omega, h⟩
    · intro ⟨i, hi, h⟩
      by_cases e : i = s
      · rw [e] at h; exact Or.inr h
      · exact Or.inl ⟨i, by omega, h⟩
theorem gb_dv_lm (hk : kd < 2) {s : Nat} {b : Nat → Int32} {md : Nat → Nat} (hR : gb_RB kd z s b md) {m : Nat} (hm : m < 32) : gb_dv md m s = gb_lm kd z m := by
  have h := gb_GB_LM hk (gb_RB_GB hR) hm
  cases e : gb_dv md m s
  · refine (gb_lm_f (fun hl => ?_)).symm
    have := (gb_dv_spec md m s).mpr (h.mp hl)
    rw [this] at e
    exact absurd e (by decide)
  · exact (gb_lm_t (h.mpr ((gb_dv_spec md m s).mp e))).symm
theorem gb_x_free (hk : kd < 2) (hT : gb_PT kd pl mo) {k s : Nat} (hk2 : k < 2) (hs : s ≤ 32) {aw al b : Nat → Int32} {md : Nat → Nat} (hR : gb_RB kd z s b md) (es : sz k = nI s) (hb : ∀ i, i < s → ba (32 * k + i) = gb_in kd (b i)) {post : Int32 → SX → Prop}
    (hJ : post (nI (gb_cn 32 (fun m => !(gb_lm kd z m)))) (fk, ws, gv, cs, pl, mo, aw, al, ba, sz, rd)) : ∃ n9, wX_freeMonomials_9 post (nI k) fk ws gv cs pl mo aw al ba sz rd n9 0 0 := by
  refine ⟨33, gb_det (fun n j => wX_freeMonomials_9 post (nI k) fk ws gv cs pl mo aw al ba sz rd n (nI (gb_cn j (fun m => !(gb_lm kd z m)))) (nI j)) 32 (fun n => ?_) (fun n j hj h' => ?_) 32 0 rfl⟩
  · exact br_t (show (32 : Int32) ≤ nI 32 by decide) hJ
  · refine br_f (nI_ge (b := 32) hj (by decide)) ⟨s + 1, ?_⟩
    refine gb_det (fun f i => wX_freeMonomials_21 post (wX_freeMonomials_9 post (nI k) fk ws gv cs pl mo aw al ba sz rd n) (nI k) (nI (gb_cn j (fun m => !(gb_lm kd z m)))) (nI j) fk ws gv cs pl mo aw al ba sz rd f (gb_bI (gb_dv md j i)) (nI i)) s (fun f => ?_) (fun f i hi h2 => ?_) s 0 (by omega)
    · refine And.intro (vp_in_nI hk2 (by decide)) ?_
      rw [nI_clamp (by omega), es]
      refine br_t (nI_le (Nat.le_refl _) (by omega)) ?_
      rw [gb_dv_lm hk hR hj]
      refine gb_brn (gb_lm kd z j) gb_bI_0 (fun e => ?_) (fun e => ?_)
      · rw [gb_cn_t (p := fun m => !(gb_lm kd z m)) (j := j) (by rw [e]; rfl)] at h'
        exact nm_r (nI_1 _) (nm_r (nI_1 j) h')
      · rw [gb_cn_f (p := fun m => !(gb_lm kd z m)) (j := j) (by rw [e]; rfl)] at h'
        exact nm_r (Int32.add_zero _) (nm_r (nI_1 j) h')
    · have hL := (hR.1.1 i hi).1
      have hP := gb_Plt kd hk _ hL.1
      have h3 : gb_bI (gb_dv md j (i + 1)) = gb_bI (gb_dv md j i || decide (md i &&& j = md i)) := rfl
      rw [h3] at h2
      refine And.intro (vp_in_nI hk2 (by decide)) ?_
      rw [nI_clamp (by omega), es]
      refine br_f (nI_ge hi (by omega)) ?_
      rw [gb_ix32, nI_clamp (by omega), hb i hi]
      refine ⟨vp_in_nI (by omega) (by decide), gb_x_highest ?_⟩
      rw [gb_hi_ld hk hL, nI_clamp (by omega), (hT _ hP).2, gb_MP kd hk _ hL.1]
      refine ⟨vp_in_nI hP (by decide), nm_e (gb_brn (gb_dv md j i) gb_bI_0 (fun e => gb_brd (gb_tdiv _ hL.1 j hj) (fun hd => nm_r (nI_1 i) ?_) (fun hd => nm_r (nI_1 i) ?_)) (fun e => nm_r (nI_1 i) ?_))⟩
      · rw [e, decide_eq_true hd] at h2; exact h2
      · rw [e, decide_eq_false hd] at h2; exact h2
      · rw [e, Bool.true_or] at h2; exact h2
theorem gb_x_freeMonomials (hk : kd < 2) (hT : gb_PT kd pl mo) (hC : gb_CS cs) {rd aw al : Nat → Int32} (hX : gb_XI kd cs gv ba sz rd) {k : Nat} (hk2 : k < 2) {post : Int32 → SX → Prop}
    (hJ : ∀ ws' aw' al' ba' sz' rd', gb_XI kd cs gv ba' sz' rd' → post (nI (gb_cn 32 (fun m => !(gb_lm kd (gb_Z cs gv k) m)))) (fk, ws', gv, cs, pl, mo, aw', al', ba', sz', rd')) : wpX_freeMonomials post (fk, ws, gv, cs, pl, mo, aw, al, ba, sz, rd) (nI k) := by
  refine gb_x_complete (ws := ws) hk hT hC hX hk2 (fun ws' aw' al' ba' sz' rd' hX' hR => ?_)
  obtain ⟨s, b, md, hs, hRB, es, hb⟩ := hR
  exact gb_x_free hk hT hk2 hs hRB es hb (hJ _ _ _ _ _ _ hX')
theorem gb_x_isZero (hC : gb_CS cs) {aw al : Nat → Int32} {k a : Nat} (hk2 : k < 2) (ha : a < 32) {post : Int32 → Prop} (h : post (gb_bI (gb_Z cs gv k a))) : wpX_isZero post (fk, ws, gv, cs, pl, mo, aw, al, ba, sz, rd) (nI k) (nI a) := by
  obtain ⟨c, hc8, hc⟩ := hC k hk2
  rw [gb_Z_eq hc hc8] at h
  have key : ∀ d i, i + d = c → (∀ i', i' < i → gb_ev (gv (8 * k + i')) a = false) → wX_isZero_2 post (nI k) (nI a) fk ws gv cs pl mo aw al ba sz rd (d + 1) (nI i) := by
    intro d
    induction d with
    | zero =>
      intro i hi hA
      have e : i = c := by omega
      subst e
      refine And.intro (vp_in_nI hk2 (by decide)) ?_
      rw [nI_clamp (by omega), hc]
      refine br_t (nI_le (Nat.le_refl _) (by omega)) ?_
      rw [(gb_zz_t (fun i => gv (8 * k + i)) a i).mpr hA] at h
      exact h
    | succ d ih =>
      intro i hi hA
      refine And.intro (vp_in_nI hk2 (by decide)) ?_
      rw [nI_clamp (by omega), hc]
      refine br_f (nI_ge (by omega) (by omega)) ?_
      rw [gb_ix8, nI_clamp (by omega)]
      refine ⟨vp_in_nI (by omega) (by decide), gb_x_valueAt ha (gb_brb (gb_ev (gv (8 * k + i)) a) gb_bI_1 (fun e => ?_) (fun e => nm_r (nI_1 i) (ih (i + 1) (by omega) (fun i' hi' => ?_))))⟩
      · have h0 : gb_zz (fun i => gv (8 * k + i)) c a = false := by
          cases e2 : gb_zz (fun i => gv (8 * k + i)) c a
          · rfl
          · have := (gb_zz_t (fun i => gv (8 * k + i)) a c).mp e2 i (by omega)
            rw [show gb_ev (gv (8 * k + i)) a = true from e] at this
            exact absurd this (by decide)
        rw [h0] at h
        exact h
      · by_cases e3 : i' = i
        · rw [e3]; exact e
        · exact hA i' (by omega)
  exact ⟨c + 1, key c 0 (by omega) (fun i' hi' => absurd hi' (Nat.not_lt_zero _))⟩
end
end
section
/-! ===== arrange ===== -/
def gb_tk (kd d m : Nat) : Bool := if kd = 1 then decide (d = 0) else decide (gb_on m = d)
def gb_R0 (kd : Nat) : Nat → Nat
  | 0 => 0
  | d + 1 => gb_R0 kd d + gb_cn 32 (gb_tk kd d)
theorem gb_R_tab : ∀ kd, kd < 2 → ∀ d, d < 6 → ∀ m, m < 32 → gb_tk kd d m = true → gb_R0 kd d + gb_cn m (gb_tk kd d) = gb_P kd m := by decide +kernel
theorem gb_tk_all : ∀ kd, kd < 2 → ∀ m, m < 32 → ∃ d, d < 6 ∧ gb_tk kd d m = true := by decide +kernel
def gb_AG (kd : Nat) (pl mo : Nat → Int32) (l : Nat) : Prop := pl l = nI (gb_P kd l) ∧ mo (gb_P kd l) = nI l
def gb_AI (kd d m : Nat) (pl mo : Nat → Int32) : Prop := (∀ d', d' < d → ∀ l, l < 32 → gb_tk kd d' l = true → gb_AG kd pl mo l) ∧ (∀ l, l < m → gb_tk kd d l = true → gb_AG kd pl mo l)
theorem gb_AG_upd {kd : Nat} (hk : kd < 2) {pl mo : Nat → Int32} {l m : Nat} (hl : l < 32) (hm : m < 32) (h : l ≠ m → gb_AG kd pl mo l) : gb_AG kd (upd pl m (nI (gb_P kd m))) (upd mo (gb_P kd m) (nI m)) l := by
  by_cases e : l = m
  · rw [e]
    exact ⟨pk_us, pk_us⟩
  · refine ⟨(pk_un e).trans (h e).1, (pk_un (fun e2 => e ?_)).trans (h e).2⟩
    rw [← gb_MP kd hk l hl, e2, gb_MP kd hk m hm]
theorem gb_AI_s {kd : Nat} {d m : Nat} {pl mo : Nat → Int32} (h : gb_AI kd d m pl mo) (hf : gb_tk kd d m = false) : gb_AI kd d (m + 1) pl mo :=
  ⟨h.1, fun l hl ht => by
    by_cases e : l = m
    · rw [e, hf] at ht; exact absurd ht (by decide)
    · exact h.2 l (by omega) ht⟩
theorem gb_AI_t {kd : Nat} (hk : kd < 2) {d m : Nat} (hm : m < 32) {pl mo : Nat → Int32} (h : gb_AI kd d m pl mo) : gb_AI kd d (m + 1) (upd pl m (nI (gb_P kd m))) (upd mo (gb_P kd m) (nI m)) :=
  ⟨fun d' hd' l hl ht => gb_AG_upd hk hl hm (fun _ => h.1 d' hd' l hl ht), fun l hl ht => gb_AG_upd hk (by omega) hm (fun e => h.2 l (by omega) ht)⟩
theorem gb_AI_32 {kd : Nat} {d : Nat} {pl mo : Nat → Int32} (h : gb_AI kd d 32 pl mo) : gb_AI kd (d + 1) 0 pl mo :=
  ⟨fun d' hd' l hl ht => by
    by_cases e : d' = d
    · rw [e] at ht; exact h.2 l hl ht
    · exact h.1 d' (by omega) l hl ht, fun l hl => absurd hl (Nat.not_lt_zero _)⟩
theorem gb_AI_PT {kd : Nat} (hk : kd < 2) {pl mo : Nat → Int32} (h : gb_AI kd 6 0 pl mo) : gb_PT kd pl mo := fun j hj => by
  obtain ⟨d, hd, ht⟩ := gb_tk_all kd hk j hj
  have hM := gb_Mlt kd hk j hj
  obtain ⟨d2, hd2, ht2⟩ := gb_tk_all kd hk _ hM
  refine ⟨(h.1 d hd j hj ht).1, ?_⟩
  have := (h.1 d2 hd2 _ hM ht2).2
  rw [gb_PM kd hk j hj] at this
  exact this
section
variable {kd : Nat} {ws : Int32} {gv cs aw al ba sz rd : Nat → Int32}
theorem gb_x_ar11 (hk : kd < 2) {d : Nat} (hd : d < 6) {post : SX → Prop} {J4 : Int32 → Int32 → (Nat → Int32) → (Nat → Int32) → (Nat → Int32) → (Nat → Int32) → (Nat → Int32) → (Nat → Int32) → (Nat → Int32) → (Nat → Int32) → (Nat → Int32) → Prop}
    (hJ : ∀ pl mo, gb_AI kd (d + 1) 0 pl mo → J4 (nI (gb_R0 kd (d + 1))) (nI (d + 1)) gv cs pl mo aw al ba sz rd) :
    ∀ e m, m + e = 32 → ∀ pl mo, gb_AI kd d m pl mo → wX_arrange_11 post J4 (nI d) (nI kd) ws (e + 1) (nI (gb_R0 kd d + gb_cn m (gb_tk kd d))) (nI m) gv cs pl mo aw al ba sz rd := by
  intro e
  induction e with
  | zero =>
    intro m hm pl mo hA
    have e : m = 32 := by omega
    subst e
    exact br_t (show (32 : Int32) ≤ nI 32 by decide) (nm_r (nI_1 d) (hJ pl mo (gb_AI_32 hA)))
  | succ e ih =>
    intro m hm pl mo hA
    have hm2 : m < 32 := by omega
    have htake : gb_tk kd d m = true → wX_arrange_40 post J4 (wX_arrange_11 post J4 (nI d) (nI kd) ws (e + 1)) (nI (gb_R0 kd d + gb_cn m (gb_tk kd d))) (nI d) (nI m) (nI kd) ws gv cs pl mo aw al ba sz rd := fun ht => by
      have hR := gb_R_tab kd hk d hd m hm2 ht
      have hP := gb_Plt kd hk m hm2
      have h2 := ih (m + 1) (by omega) _ _ (gb_AI_t hk hm2 hA)
      rw [gb_cn_t ht, ← Nat.add_assoc, hR] at h2
      unfold wX_arrange_40
      rw [hR, nI_clamp (by omega), nI_clamp (by omega)]
      exact ⟨vp_in_nI hm2 (by decide), nm_e ⟨vp_in_nI hP (by decide), nm_e (nm_r (nI_1 _) (nm_r (nI_1 m) h2))⟩⟩
    have hskip : gb_tk kd d m = false → wX_arrange_11 post J4 (nI d) (nI kd) ws (e + 1) (nI (gb_R0 kd d + gb_cn m (gb_tk kd d))) (nI (m + 1)) gv cs pl mo aw al ba sz rd := fun hf => by
      have h2 := ih (m + 1) (by omega) _ _ (gb_AI_s hA hf)
      rw [gb_cn_f hf] at h2
      exact h2
    refine br_f (nI_ge (b := 32) hm2 (by decide)) (pk_eq kd 1 (fun hk1 => ?_) (fun hk1 => ?_))
    · refine pk_eq d 0 (fun h0 => htake ?_) (fun h0 => nm_r (nI_1 m) (hskip ?_))
      · unfold gb_tk; rw [if_pos hk1, decide_eq_true h0]
      · unfold gb_tk; rw [if_pos hk1, decide_eq_false h0]
    · have hon : ∀ m, m < 32 → gb_on m < 6 := by decide +kernel
      have := hon m hm2
      refine gb_x_ones hm2 (pk_eq (gb_on m) d (fun h0 => htake ?_) (fun h0 => nm_r (nI_1 m) (hskip ?_)))
      · unfold gb_tk; rw [if_neg hk1, decide_eq_true h0]
      · unfold gb_tk; rw [if_neg hk1, decide_eq_false h0]
theorem gb_x_arrange (hk : kd < 2) {pl mo : Nat → Int32} {post : SX → Prop} (hJ : ∀ pl mo, gb_PT kd pl mo → post (nI kd, ws, gv, cs, pl, mo, aw, al, ba, sz, rd)) : wpX_arrange post (nI kd, ws, gv, cs, pl, mo, aw, al, ba, sz, rd) := by
  have key : ∀ e d, d + e = 6 → ∀ pl mo, gb_AI kd d 0 pl mo → wX_arrange_4 post (nI kd) ws (e + 1) (nI (gb_R0 kd d)) (nI d) gv cs pl mo aw al ba sz rd := by
    intro e
    induction e with
    | zero =>
      intro d hd pl mo hA
      have e : d = 6 := by omega
      subst e
      exact br_t (show (5 : Int32) < nI 6 by decide) (hJ pl mo (gb_AI_PT hk hA))
    | succ e ih =>
      intro d hd pl mo hA
      refine br_f (nI_nlt (a := 5) (by omega) (by decide)) ⟨33, ?_⟩
      exact gb_x_ar11 hk (by omega) (fun pl mo hA => ih (d + 1) (by omega) pl mo hA) 32 0 rfl pl mo hA
  exact ⟨7, key 6 0 rfl pl mo ⟨fun d' hd' => absurd hd' (Nat.not_lt_zero _), fun l hl => absurd hl (Nat.not_lt_zero _)⟩⟩
end
end
section
/-! ===== the reference ===== -/
theorem gb_os_f {b : Nat → Bool} {j : Nat} (h : b j = false) : gb_os (fun i => i) b j = gb_os (fun i => i) b (j + 1) := b_ext (fun i hi => by
  unfold gb_os
  rw [gb_bt_of _ hi, gb_bt_of _ hi]
  by_cases e : i = j
  · rw [e, h, Bool.and_false, Bool.and_false]
  · by_cases c : i < j
    · rw [decide_eq_true c, decide_eq_true (show i < j + 1 by omega)]
    · rw [decide_eq_false c, decide_eq_false (show ¬ i < j + 1 by omega)])
theorem gb_os_i (b : Nat → Bool) {j : Nat} (hj : j < 32) : gb_os (fun i => i) b j ||| (gb_bI (b j) <<< (nI j &&& 31)) = gb_os (fun i => i) b (j + 1) :=
  gb_os_s (si := fun i => i) (pi := fun i => i) hj rfl (fun _ _ => rfl) b
def gb_av (p : Int32) : Int32 := gb_sum 32 gb_e (gb_ev p)
theorem gb_bt_av (p : Int32) {a : Nat} (ha : a < 32) : bt (gb_av p) a = gb_ev p a := gb_bt_of _ ha
def gb_zs (z : Nat → Bool) : Int32 := gb_sum 32 gb_e z
theorem gb_bt_zs (z : Nat → Bool) {a : Nat} (ha : a < 32) : bt (gb_zs z) a = z a := gb_bt_of _ ha
theorem gb_av_zs (z : Nat → Bool) (p : Int32) : gb_av p &&& gb_zs z = gb_vz z p := b_ext (fun i hi => by
  rw [b_and, gb_bt_av p hi, gb_bt_zs z hi, gb_bt_vz z p hi, Bool.and_comm])
theorem gb_mul_fv (p q : Int32) : gb_fv (bt (gb_av p &&& gb_av q)) = gb_mul p q := gb_ev_inj (fun a ha => by
  rw [gb_ev_fv _ ha, b_and, gb_bt_av p ha, gb_bt_av q ha, gb_ev_mul])
theorem gb_Ld_uniq {kd : Nat} {p : Int32} {l m : Nat} (h : gb_Ld kd p l) (h' : gb_Ld kd p m) : l = m := by
  refine Classical.byContradiction fun hn => ?_
  have h1 := h.2.2 m h'.1 h'.2.1 (fun e => hn e.symm)
  have h2 := h'.2.2 l h.1 h.2.1 hn
  omega
section
variable {fk zf rf : Int32} {cs gv od ro mk le : Nat → Int32}
theorem gb_y_at {post : Int32 → Prop} {p : Int32} {a : Nat} (ha : a < 32) (h : post (gb_bI (gb_ev p a))) : wpY_at post (fk, zf, rf, cs, gv, od, ro, mk, le) p (nI a) := by
  refine ⟨33, gb_det (fun n j => wY_at_5 post p (nI a) fk zf rf cs gv od ro mk le n (gb_bI (gb_xs j (fun m => (bt p m && decide (m &&& a = m))))) (nI j)) 32 (fun n => ?_) (fun n j hj h' => ?_) 32 0 rfl⟩
  · exact br_t (show (32 : Int32) ≤ nI 32 by decide) h
  · refine br_f (nI_ge (b := 32) hj (by decide)) (gb_brb (bt p j) (by rw [gb_it p hj, gb_bI_1]) (fun hb => ?_) (fun hb => ?_))
    · refine gb_brd (gb_tsub j hj a ha) (fun hd => ?_) (fun hd => ?_)
      · refine nm_r (gb_xs_t ?_) (nm_r (nI_1 j) h')
        rw [hb, decide_eq_true hd]; rfl
      · rw [← gb_xs_f (by rw [decide_eq_false hd, Bool.and_false])] at h'
        exact nm_r (nI_1 j) h'
    · rw [← gb_xs_f (by rw [hb, Bool.false_and])] at h'
      exact nm_r (nI_1 j) h'
theorem gb_y_allValues {post : Int32 → Prop} {p : Int32} (h : post (gb_av p)) : wpY_allValues post (fk, zf, rf, cs, gv, od, ro, mk, le) p := by
  have h0 := gb_os_0 (fun i => i) (gb_ev p)
  have key := gb_det (fun n j => wY_allValues_4 post p fk zf rf cs gv od ro mk le n (gb_os (fun i => i) (gb_ev p) j) (nI j)) 32 (fun n => ?_) (fun n j hj h' => ?_) 32 0 rfl
  · exact ⟨33, by rw [h0] at key; exact key⟩
  · refine br_t (show (32 : Int32) ≤ nI 32 by decide) ?_
    rw [gb_os_32 (fun _ hi => hi)]
    exact h
  · exact br_f (nI_ge (b := 32) hj (by decide)) (gb_y_at hj (nm_r (gb_os_i (gb_ev p) hj) (nm_r (nI_1 j) h')))
theorem gb_y_fromValues {post : Int32 → Prop} {v : Int32} (h : post (gb_fv (bt v))) : wpY_fromValues post (fk, zf, rf, cs, gv, od, ro, mk, le) v := by
  have h0 := gb_os_0 (fun i => i) (fun m => gb_xs 32 (fun x => (decide (x &&& m = x) && bt v x)))
  have key := gb_det (fun n j => wY_fromValues_4 post v fk zf rf cs gv od ro mk le n (gb_os (fun i => i) (fun m => gb_xs 32 (fun x => (decide (x &&& m = x) && bt v x))) j) (nI j)) 32 (fun n => ?_) (fun n j hj h' => ?_) 32 0 rfl
  · exact ⟨33, by rw [h0] at key; exact key⟩
  · refine br_t (show (32 : Int32) ≤ nI 32 by decide) ?_
    rw [gb_os_32 (fun _ hi => hi)]
    exact h
  · refine br_f (nI_ge (b := 32) hj (by decide)) ⟨33, ?_⟩
    refine gb_det (fun f x => wY_fromValues_16 post (wY_fromValues_4 post v fk zf rf cs gv od ro mk le n) v (gb_os (fun i => i) (fun m => gb_xs 32 (fun x => (decide (x &&& m = x) && bt v x))) j) (nI j) fk zf rf cs gv od ro mk le f (gb_bI (gb_xs x (fun x => (decide (x &&& j = x) && bt v x)))) (nI x)) 32 (fun f => ?_) (fun f x hx h2 => ?_) 32 0 rfl
    · exact br_t (show (32 : Int32) ≤ nI 32 by decide) (nm_r (gb_os_i (fun m => gb_xs 32 (fun x => (decide (x &&& m = x) && bt v x))) hj) (nm_r (nI_1 j) h'))
    · refine br_f (nI_ge (b := 32) hx (by decide)) (gb_brd (gb_tsub x hx j hj) (fun hd => ?_) (fun hd => ?_))
      · refine nm_r (e' := gb_bI (gb_xs (x + 1) (fun x => (decide (x &&& j = x) && bt v x)))) ?_ (nm_r (nI_1 x) h2)
        rw [gb_it v hx, gb_bI_x]
        show _ = gb_bI (gb_xs x (fun x => (decide (x &&& j = x) && bt v x)) ^^ (decide (x &&& j = x) && bt v x))
        rw [decide_eq_true hd, Bool.true_and]
      · rw [← gb_xs_f (by rw [decide_eq_false hd, Bool.false_and])] at h2
        exact nm_r (nI_1 x) h2
theorem gb_y_product {post : Int32 → Prop} {p q : Int32} (h : post (gb_mul p q)) : wpY_product post (fk, zf, rf, cs, gv, od, ro, mk, le) p q := by
  refine gb_y_allValues (gb_y_allValues (gb_y_fromValues ?_))
  rw [gb_mul_fv]
  exact h
theorem gb_y_size {post : Int32 → Prop} {m : Nat} (hm : m < 32) (h : post (nI (gb_on m))) : wpY_size post (fk, zf, rf, cs, gv, od, ro, mk, le) (nI m) := by
  refine ⟨6, gb_det (fun n j => wY_size_4 post (nI m) fk zf rf cs gv od ro mk le n (nI (gb_ons m j)) (nI j)) 5 (fun n => ?_) (fun n j hj h' => ?_) 5 0 rfl⟩
  · exact br_t (show (5 : Int32) ≤ nI 5 by decide) (by rw [gb_ons_5 m hm]; exact h)
  · refine br_f (nI_ge (b := 5) hj (by decide)) (nm_r (e' := nI (gb_ons m (j + 1))) ?_ (nm_r (nI_1 j) h'))
    rw [gb_tvar m hm j hj, nI_add]; rfl
theorem gb_on6 : ∀ m, m < 32 → gb_on m < 6 := by decide +kernel
theorem gb_y_lower {kd : Nat} (hk : kd < 2) {post : Int32 → Prop} {a b : Nat} (ha : a < 32) (hb : b < 32) (h : post (gb_bI (decide (gb_w kd a < gb_w kd b)))) : wpY_lower post (nI kd, zf, rf, cs, gv, od, ro, mk, le) (nI a) (nI b) := by
  have h1 := gb_on6 a ha
  have h2 := gb_on6 b hb
  have hlow : (gb_w kd a < gb_w kd b ↔ a < b) → wY_lower_38 post (nI a) (nI b) (nI kd) zf rf cs gv od ro mk le := fun he => by
    refine pk_le b a (fun hle => ?_) (fun hlt => ?_)
    · rw [decide_eq_false (by rw [he]; omega)] at h
      exact h
    · rw [decide_eq_true (he.mpr hlt)] at h
      exact h
  refine gb_y_size ha (gb_y_size hb (pk_eq kd 0 (fun h0 => pk_eq (gb_on a) (gb_on b) (fun e => hlow ?_) (fun e => pk_le (gb_on b) (gb_on a) (fun hle => ?_) (fun hlt => ?_))) (fun h0 => hlow ?_)))
  · unfold gb_w
    rw [if_pos h0, if_pos h0]
    omega
  · rw [decide_eq_false (by unfold gb_w; rw [if_pos h0, if_pos h0]; omega)] at h
    exact h
  · rw [decide_eq_true (by unfold gb_w; rw [if_pos h0, if_pos h0]; omega)] at h
    exact h
  · unfold gb_w
    rw [if_neg h0, if_neg h0]
theorem gb_y_leading {kd : Nat} (hk : kd < 2) {post : Int32 → Prop} {p : Int32} (h0 : p = 0 → post (-1)) (h : ∀ l, gb_Ld kd p l → post (nI l)) : wpY_leading post (nI kd, zf, rf, cs, gv, od, ro, mk, le) p := by
  have key : ∀ d j, j + d = 32 → ∀ x, ((x = -1 ∧ ∀ t, t < j → bt p t = false) ∨ ∃ l, l < j ∧ x = nI l ∧ bt p l = true ∧ ∀ t, t < j → bt p t = true → t ≠ l → gb_w kd t < gb_w kd l) → wY_leading_4 post p (nI kd) zf rf cs gv od ro mk le (d + 1) x (nI j) := by
    intro d
    induction d with
    | zero =>
      intro j hj x hx
      have e : j = 32 := by omega
      subst e
      refine br_t (show (32 : Int32) ≤ nI 32 by decide) ?_
      rcases hx with ⟨e, hz⟩ | ⟨l, hl, e, hb, hm⟩
      · rw [e]; exact h0 (b_ext (fun i hi => by rw [hz i hi, b_0]))
      · rw [e]; exact h l ⟨hl, hb, hm⟩
    | succ d ih =>
      intro j hj x hx
      have hj2 : j < 32 := by omega
      refine br_f (nI_ge (b := 32) hj2 (by decide)) (gb_brb (bt p j) (by rw [gb_it p hj2, gb_bI_1]) (fun hb => ?_) (fun hb => ?_))
      · rcases hx with ⟨e, hz⟩ | ⟨l, hl, e, hbl, hm⟩
        · refine br_t (by rw [e]; decide) (nm_r (nI_1 j) (ih (j + 1) (by omega) _ (Or.inr ⟨j, by omega, rfl, hb, fun t ht hbt hn => ?_⟩)))
          rw [hz t (by omega)] at hbt
          exact absurd hbt (by decide)
        · rw [e]
          refine br_f (nI_pos (by omega)) (gb_y_lower hk (by omega) hj2 (gb_brn (decide (gb_w kd l < gb_w kd j)) gb_bI_0 (fun hw => nm_r (nI_1 j) (ih (j + 1) (by omega) _ (Or.inr ⟨l, by omega, rfl, hbl, fun t ht hbt hn => ?_⟩))) (fun hw => nm_r (nI_1 j) (ih (j + 1) (by omega) _ (Or.inr ⟨j, by omega, rfl, hb, fun t ht hbt hn => ?_⟩)))))
          · by_cases et : t = j
            · have h1 := of_decide_eq_false hw
              have h2 : gb_w kd j ≠ gb_w kd l := fun e2 => by have := gb_wi kd hk j hj2 l (by omega) e2; omega
              rw [et]; omega
            · exact hm t (by omega) hbt hn
          · have h1 := of_decide_eq_true hw
            by_cases et : t = l
            · rw [et]; exact h1
            · exact Nat.lt_trans (hm t (by omega) hbt et) h1
      · refine nm_r (nI_1 j) (ih (j + 1) (by omega) x ?_)
        rcases hx with ⟨e, hz⟩ | ⟨l, hl, e, hbl, hm⟩
        · refine Or.inl ⟨e, fun t ht => ?_⟩
          by_cases et : t = j
          · rw [et]; exact hb
          · exact hz t (by omega)
        · refine Or.inr ⟨l, by omega, e, hbl, fun t ht hbt hn => ?_⟩
          by_cases et : t = j
          · rw [et, hb] at hbt; exact absurd hbt (by decide)
          · exact hm t (by omega) hbt hn
  exact ⟨33, key 32 0 rfl (-1) (Or.inl ⟨rfl, fun t ht => absurd ht (Nat.not_lt_zero _)⟩)⟩
theorem gb_y_zerosOf (hC : gb_CS cs) {k : Nat} (hk2 : k < 2) {post : Int32 → Prop} (h : post (gb_zs (gb_Z cs gv k))) : wpY_zerosOf post (fk, zf, rf, cs, gv, od, ro, mk, le) (nI k) := by
  obtain ⟨c, hc8, hc⟩ := hC k hk2
  rw [gb_Z_eq hc hc8] at h
  have h0 := gb_os_0 (fun i => i) (gb_zz (fun i => gv (8 * k + i)) c)
  have key := gb_det (fun n j => wY_zerosOf_4 post (nI k) fk zf rf cs gv od ro mk le n (gb_os (fun i => i) (gb_zz (fun i => gv (8 * k + i)) c) j) (nI j)) 32 (fun n => ?_) (fun n j hj h' => ?_) 32 0 rfl
  · exact ⟨33, by rw [h0] at key; exact key⟩
  · refine br_t (show (32 : Int32) ≤ nI 32 by decide) ?_
    rw [gb_os_32 (fun _ hi => hi)]
    exact h
  · refine br_f (nI_ge (b := 32) hj (by decide)) ⟨c + 1, ?_⟩
    refine gb_det (fun f i => wY_zerosOf_16 post (wY_zerosOf_4 post (nI k) fk zf rf cs gv od ro mk le n) (nI k) (gb_os (fun i => i) (gb_zz (fun i => gv (8 * k + i)) c) j) (nI j) fk zf rf cs gv od ro mk le f (gb_bI (gb_zz (fun i => gv (8 * k + i)) i j)) (nI i)) c (fun f => ?_) (fun f i hi h2 => ?_) c 0 (by omega)
    · refine And.intro (vp_in_nI hk2 (by decide)) ?_
      rw [nI_clamp (by omega), hc]
      refine br_t (nI_le (Nat.le_refl _) (by omega)) ?_
      have hs := gb_os_i (gb_zz (fun i => gv (8 * k + i)) c) hj
      refine gb_brn (gb_zz (fun i => gv (8 * k + i)) c j) gb_bI_0 (fun e => ?_) (fun e => ?_)
      · rw [← gb_os_f e] at h'
        exact nm_r (nI_1 j) h'
      · rw [e] at hs
        exact nm_r hs (nm_r (nI_1 j) h')
    · have h3 : gb_bI (gb_zz (fun i => gv (8 * k + i)) (i + 1) j) = gb_bI (gb_zz (fun i => gv (8 * k + i)) i j && !(gb_ev (gv (8 * k + i)) j)) := rfl
      rw [h3] at h2
      refine And.intro (vp_in_nI hk2 (by decide)) ?_
      rw [nI_clamp (by omega), hc]
      refine br_f (nI_ge hi (by omega)) (br_f (nI_ge (b := 8) (by omega) (by decide)) ?_)
      rw [gb_ix8, nI_clamp (by omega)]
      refine ⟨vp_in_nI (by omega) (by decide), gb_y_at hj (gb_brb (gb_ev (gv (8 * k + i)) j) gb_bI_1 (fun e => nm_r (nI_1 i) ?_) (fun e => nm_r (nI_1 i) ?_))⟩
      · rw [e, Bool.not_true, Bool.and_false] at h2; exact h2
      · rw [e, Bool.not_false, Bool.and_true] at h2; exact h2
theorem gb_y_sort {kd : Nat} (hk : kd < 2) {post : SY → Prop} (hJ : ∀ od', (∀ j, j < 32 → od' j = nI (gb_M kd j)) → post (nI kd, zf, rf, cs, gv, od', ro, mk, le)) : wpY_sort post (nI kd, zf, rf, cs, gv, od, ro, mk, le) := by
  have key : ∀ d m, m + d = 32 → ∀ od : Nat → Int32, (∀ l, l < m → od (gb_P kd l) = nI l) → wY_sort_2 post (nI kd) zf rf (d + 1) (nI m) cs gv od ro mk le := by
    intro d
    induction d with
    | zero =>
      intro m hm od hA
      have e : m = 32 := by omega
      subst e
      refine br_t (show (32 : Int32) ≤ nI 32 by decide) (hJ od (fun j hj => ?_))
      have := hA _ (gb_Mlt kd hk j hj)
      rw [gb_PM kd hk j hj] at this
      exact this
    | succ d ih =>
      intro m hm od hA
      have hm2 : m < 32 := by omega
      have hP := gb_Plt kd hk m hm2
      refine br_f (nI_ge (b := 32) hm2 (by decide)) ⟨33, ?_⟩
      refine gb_det (fun f l => wY_sort_12 post (wY_sort_2 post (nI kd) zf rf (d + 1)) (nI m) (nI kd) zf rf cs gv od ro mk le f (nI (gb_cn l (fun l => decide (gb_w kd l < gb_w kd m)))) (nI l)) 32 (fun f => ?_) (fun f l hl h2 => ?_) 32 0 rfl
      · refine br_t (show (32 : Int32) ≤ nI 32 by decide) ?_
        rw [gb_Pcn kd hk m hm2, nI_clamp (by omega)]
        refine ⟨vp_in_nI hP (by decide), nm_e (nm_r (nI_1 m) (ih (m + 1) (by omega) _ (fun l hl => ?_)))⟩
        by_cases e : l = m
        · rw [e, pk_us]
        · rw [pk_un]
          · exact hA l (by omega)
          · intro e2
            apply e
            rw [← gb_MP kd hk l (by omega), e2, gb_MP kd hk m hm2]
      · refine br_f (nI_ge (b := 32) hl (by decide)) (gb_y_lower hk hl hm2 (gb_brn (decide (gb_w kd l < gb_w kd m)) gb_bI_0 (fun e => ?_) (fun e => ?_)))
        · rw [gb_cn_f (p := fun l => decide (gb_w kd l < gb_w kd m)) (j := l) e] at h2
          exact nm_r (nI_1 l) h2
        · rw [gb_cn_t (p := fun l => decide (gb_w kd l < gb_w kd m)) (j := l) e] at h2
          exact nm_r (nI_1 _) (nm_r (nI_1 l) h2)
  exact ⟨33, key 32 0 rfl od (fun l hl => absurd hl (Nat.not_lt_zero _))⟩
end
end
section
/-! ===== the reference: work, reduced, least ===== -/
theorem gb_lowt {v x : Int32} (hx : x ≠ 0) : (v &&& (x &&& (-x))) = 0 ↔ bt v (gb_lo 32 x) = false := by
  rw [gb_low hx]
  exact gb_and_e (gb_lo_nz hx).1
theorem gb_el_t {ro : Nat → Int32} {r : Nat} {v : Int32} (h : bt (gb_el ro r v) (gb_lo 32 (ro r)) = true) : gb_el ro r v ^^^ ro r = gb_el ro (r + 1) v := by
  show _ = (if bt (gb_el ro r v) (gb_lo 32 (ro r)) = true then gb_el ro r v ^^^ ro r else gb_el ro r v)
  rw [if_pos h]
theorem gb_el_f {ro : Nat → Int32} {r : Nat} {v : Int32} (h : bt (gb_el ro r v) (gb_lo 32 (ro r)) = false) : gb_el ro r v = gb_el ro (r + 1) v := by
  show _ = (if bt (gb_el ro r v) (gb_lo 32 (ro r)) = true then gb_el ro r v ^^^ ro r else gb_el ro r v)
  rw [if_neg (by rw [h]; decide)]
theorem gb_ec_t {ro mk : Nat → Int32} {r : Nat} {v c : Int32} (h : bt (gb_el ro r v) (gb_lo 32 (ro r)) = true) : gb_ec ro mk r v c ^^^ mk r = gb_ec ro mk (r + 1) v c := by
  show _ = (if bt (gb_el ro r v) (gb_lo 32 (ro r)) = true then gb_ec ro mk r v c ^^^ mk r else gb_ec ro mk r v c)
  rw [if_pos h]
theorem gb_ec_f {ro mk : Nat → Int32} {r : Nat} {v c : Int32} (h : bt (gb_el ro r v) (gb_lo 32 (ro r)) = false) : gb_ec ro mk r v c = gb_ec ro mk (r + 1) v c := by
  show _ = (if bt (gb_el ro r v) (gb_lo 32 (ro r)) = true then gb_ec ro mk r v c ^^^ mk r else gb_ec ro mk r v c)
  rw [if_neg (by rw [h]; decide)]
section
variable {kd : Nat} {z : Nat → Bool} {zf : Int32} {cs gv od : Nat → Int32}
theorem gb_y_w55 {R i m : Nat} (hR : R ≤ 32) {ro mk le : Nat → Int32} (hTr : gb_Tr R ro) {v c : Int32} {post : SY → Prop} {J20 : Int32 → Int32 → (Nat → Int32) → (Nat → Int32) → (Nat → Int32) → (Nat → Int32) → (Nat → Int32) → (Nat → Int32) → Prop}
    (h0 : gb_el ro R v = 0 → wY_work_135 post J20 (nI i) (gb_el ro R v) (gb_ec ro mk R v c) 1 (nI m) (nI kd) zf (nI R) cs gv od ro mk le)
    (h1 : gb_el ro R v ≠ 0 → wY_work_135 post J20 (nI i) (gb_el ro R v) (gb_ec ro mk R v c) 0 (nI m) (nI kd) zf (nI R) cs gv od ro mk le) :
    ∃ n55, wY_work_55 post J20 (nI i) (nI m) (nI kd) zf (nI R) cs gv od ro mk le n55 v c 0 := by
  refine ⟨R + 1, gb_det (fun f r => wY_work_55 post J20 (nI i) (nI m) (nI kd) zf (nI R) cs gv od ro mk le f (gb_el ro r v) (gb_ec ro mk r v c) (nI r)) R (fun f => ?_) (fun f r hr h' => ?_) R 0 (by omega)⟩
  · exact br_t (nI_le (Nat.le_refl _) (by omega)) (br_c h0 h1)
  · refine br_f (nI_ge hr (by omega)) ?_
    rw [nI_clamp (by omega)]
    refine ⟨vp_in_nI (by omega) (by decide), vp_in_nI (by omega) (by decide), nm_e (gb_brn (bt (gb_el ro r v) (gb_lo 32 (ro r))) (gb_lowt (hTr r hr).1) (fun e => ?_) (fun e => ?_))⟩
    · rw [← gb_el_f e, ← gb_ec_f e] at h'
      exact nm_r (nI_1 r) h'
    · exact ⟨vp_in_nI (by omega) (by decide), nm_r (gb_el_t e) ⟨vp_in_nI (by omega) (by decide), nm_r (gb_ec_t e) (nm_r (nI_1 r) h')⟩⟩
theorem gb_y_work (hk : kd < 2) (hC : gb_CS cs) {rf : Int32} {ro mk le : Nat → Int32} {k : Nat} (hk2 : k < 2) {post : SY → Prop}
    (hJ : ∀ R od' ro' mk' le', R ≤ 32 → gb_EI kd (gb_Z cs gv k) 32 R ro' mk' → (∀ j, j < 32 → od' j = nI (gb_M kd j)) → (∀ t, t < 32 → le' t = gb_bI (gb_lm kd (gb_Z cs gv k) t)) → post (nI kd, gb_zs (gb_Z cs gv k), nI R, cs, gv, od', ro', mk', le')) :
    wpY_work post (nI kd, zf, rf, cs, gv, od, ro, mk, le) (nI k) := by
  refine gb_y_zerosOf hC hk2 (gb_y_sort hk (fun od' hod => ?_))
  revert hJ
  generalize gb_Z cs gv k = z
  intro hJ
  have key : ∀ d i, i + d = 32 → ∀ R (ro mk le : Nat → Int32), R ≤ i → gb_EI kd z i R ro mk → (∀ t, t < 32 → gb_P kd t < i → le t = gb_bI (gb_lm kd z t)) → wY_work_20 post (nI kd) (gb_zs z) (d + 1) (nI i) (nI R) cs gv od' ro mk le := by
    intro d
    induction d with
    | zero =>
      intro i hi R ro mk le hR hE hl
      have e : i = 32 := by omega
      subst e
      exact br_t (show (32 : Int32) ≤ nI 32 by decide) (hJ R od' ro mk le hR hE hod (fun t ht => hl t ht (gb_Plt kd hk t ht)))
    | succ d ih =>
      intro i hi R ro mk le hR hE hl
      have hi2 : i < 32 := by omega
      have hM := gb_Mlt kd hk i hi2
      refine br_f (nI_ge (b := 32) hi2 (by decide)) ⟨vp_in_nI hi2 (by decide), nm_r (e' := nI (gb_M kd i)) (by rw [nI_clamp (by omega)]; exact hod i hi2) (gb_y_allValues (nm_r (e' := gb_vz z (gb_e (gb_M kd i))) (gb_av_zs z _) (nm_e ?_)))⟩
      refine gb_y_w55 (by omega) hE.1.1 (fun h0 => ?_) (fun h1 => ?_)
      · obtain ⟨hLM, hE2⟩ := gb_EI_led hk hi2 hE h0
        unfold wY_work_135
        refine ⟨vp_in_nI hM (by decide), nm_e (br_t h0 (nm_r (nI_1 i) (ih (i + 1) (by omega) R ro mk _ (by omega) hE2 (fun t ht hp => ?_))))⟩
        rw [nI_clamp (by omega)]
        by_cases e : t = gb_M kd i
        · rw [e, pk_us, gb_lm_t hLM]; rfl
        · rw [pk_un e]
          rcases gb_P_last hk hi2 ht hp with c | c
          · exact hl t ht c
          · exact absurd c e
      · obtain ⟨hLM, hE2⟩ := gb_EI_free hk hi2 hE h1
        unfold wY_work_135
        refine ⟨vp_in_nI hM (by decide), nm_e (br_f h1 ⟨vp_in_nI (by omega) (by decide), nm_e ⟨vp_in_nI (by omega) (by decide), nm_e (nm_r (nI_1 R) (nm_r (nI_1 i) ?_))⟩⟩)⟩
        rw [nI_clamp (show R < 2 ^ 31 by omega)]
        refine ih (i + 1) (by omega) (R + 1) _ _ _ (by omega) hE2 (fun t ht hp => ?_)
        rw [nI_clamp (by omega)]
        by_cases e : t = gb_M kd i
        · rw [e, pk_us, gb_lm_f hLM]; rfl
        · rw [pk_un e]
          rcases gb_P_last hk hi2 ht hp with c | c
          · exact hl t ht c
          · exact absurd c e
  exact ⟨33, key 32 0 rfl 0 ro mk le (Nat.le_refl _) (gb_EI_0 kd z ro mk) (fun t _ hp => absurd hp (Nat.not_lt_zero _))⟩
theorem gb_y_reduced (hk : kd < 2) {fk : Int32} {R : Nat} (hR : R ≤ 32) {ro mk le : Nat → Int32} (hE : gb_EA kd z 32 R ro mk) {p : Int32} {post : Int32 → Prop} (hJ : ∀ c, gb_NF kd z p c → post c) : wpY_reduced post (fk, gb_zs z, nI R, cs, gv, od, ro, mk, le) p := by
  refine gb_y_allValues (nm_r (gb_av_zs z p) ?_)
  refine ⟨R + 1, gb_det (fun f r => wY_reduced_16 post fk (gb_zs z) (nI R) cs gv od ro mk le f (gb_el ro r (gb_vz z p)) (gb_ec ro mk r (gb_vz z p) 0) (nI r)) R (fun f => ?_) (fun f r hr h' => ?_) R 0 (by omega)⟩
  · exact br_t (nI_le (Nat.le_refl _) (by omega)) (hJ _ (gb_EI_NF hk hE p))
  · refine br_f (nI_ge hr (by omega)) ?_
    rw [nI_clamp (by omega)]
    refine ⟨vp_in_nI (by omega) (by decide), vp_in_nI (by omega) (by decide), nm_e (gb_brn (bt (gb_el ro r (gb_vz z p)) (gb_lo 32 (ro r))) (gb_lowt (hE.1 r hr).1) (fun e => ?_) (fun e => ?_))⟩
    · rw [← gb_el_f e, ← gb_ec_f e] at h'
      exact nm_r (nI_1 r) h'
    · exact ⟨vp_in_nI (by omega) (by decide), nm_r (gb_el_t e) ⟨vp_in_nI (by omega) (by decide), nm_r (gb_ec_t e) (nm_r (nI_1 r) h')⟩⟩
noncomputable def gb_mb (kd : Nat) (z : Nat → Bool) (m : Nat) : Bool := @decide (gb_mn kd z m) (Classical.propDecidable _)
theorem gb_mb_t {m : Nat} (h : gb_mn kd z m) : gb_mb kd z m = true := @decide_eq_true _ (Classical.propDecidable _) h
theorem gb_mb_f {m : Nat} (h : ¬ gb_mn kd z m) : gb_mb kd z m = false := @decide_eq_false _ (Classical.propDecidable _) h
theorem gb_mb_of {m : Nat} (h : gb_mb kd z m = true) : gb_mn kd z m := @of_decide_eq_true _ (Classical.propDecidable _) h
theorem gb_mb_nof {m : Nat} (h : gb_mb kd z m = false) : ¬ gb_mn kd z m := @of_decide_eq_false _ (Classical.propDecidable _) h
theorem gb_y_least {fk zf rf : Int32} {ro mk le : Nat → Int32} (hl : ∀ t, t < 32 → le t = gb_bI (gb_lm kd z t)) {m : Nat} (hm : m < 32) {post : Int32 → Prop} (h : post (gb_bI (gb_mb kd z m))) : wpY_least post (fk, zf, rf, cs, gv, od, ro, mk, le) (nI m) := by
  refine And.intro (vp_in_nI hm (by decide)) ?_
  rw [nI_clamp (by omega), hl m hm]
  refine gb_brn (gb_lm kd z m) gb_bI_0 (fun e => ?_) (fun e => ?_)
  · rw [gb_mb_f (fun hmn => gb_lm_nof e hmn.1)] at h
    exact h
  · have key : ∀ d l, l + d = m → (∀ l', l' < l → l' &&& m = l' → ¬ gb_LM kd z l') → wY_least_13 post (nI m) fk zf rf cs gv od ro mk le (d + 1) (nI l) := by
      intro d
      induction d with
      | zero =>
        intro l hlm hA
        have e2 : l = m := by omega
        subst e2
        refine br_t (nI_le (Nat.le_refl _) (by omega)) ?_
        have hmn : gb_mn kd z l := ⟨gb_lm_of e, fun l' hl' hs => by
          have hle : l' ≤ l := by rw [← hs]; exact Nat.and_le_right
          refine Classical.byContradiction fun hn => hA l' (by omega) hs hl'⟩
        rw [gb_mb_t hmn] at h
        exact h
      | succ d ih =>
        intro l hlm hA
        have hl2 : l < 32 := by omega
        refine br_f (nI_ge (by omega) (by omega)) (gb_brd (gb_tsub l hl2 m hm) (fun hd => ⟨vp_in_nI hl2 (by decide), ?_⟩) (fun hd => nm_r (nI_1 l) (ih (l + 1) (by omega) (fun l' hl' hs => ?_))))
        · rw [nI_clamp (by omega), hl l hl2]
          refine gb_brn (gb_lm kd z l) gb_bI_0 (fun e2 => nm_r (nI_1 l) (ih (l + 1) (by omega) (fun l' hl' hs => ?_))) (fun e2 => ?_)
          · by_cases e3 : l' = l
            · rw [e3]; exact gb_lm_nof e2
            · exact hA l' (by omega) hs
          · rw [gb_mb_f (fun hmn => by have := hmn.2 l (gb_lm_of e2) hd; omega)] at h
            exact h
        · by_cases e3 : l' = l
          · rw [e3] at hs; exact absurd hs hd
          · exact hA l' (by omega) hs
    exact ⟨m + 1, key m 0 (by omega) (fun l' hl' => absurd hl' (Nat.not_lt_zero _))⟩
theorem gb_y_ones {fk zf rf : Int32} {ro mk le : Nat → Int32} {post : Int32 → Prop} {x : Int32} (h : post (nI (gb_cn 32 (bt x)))) : wpY_ones post (fk, zf, rf, cs, gv, od, ro, mk, le) x := by
  refine ⟨33, gb_det (fun n j => wY_ones_4 post x fk zf rf cs gv od ro mk le n (nI (gb_cn j (bt x))) (nI j)) 32 (fun n => ?_) (fun n j hj h' => ?_) 32 0 rfl⟩
  · exact br_t (show (32 : Int32) ≤ nI 32 by decide) h
  · refine br_f (nI_ge (b := 32) hj (by decide)) (nm_r (e' := nI (gb_cn (j + 1) (bt x))) ?_ (nm_r (nI_1 j) h'))
    rw [gb_it x hj]
    cases e : bt x j
    · rw [gb_cn_f e]; exact Int32.add_zero _
    · rw [gb_cn_t e]; exact nI_1 _
theorem gb_y_bs {fk zf rf : Int32} {ro mk le : Nat → Int32} (hl : ∀ t, t < 32 → le t = gb_bI (gb_lm kd z t)) {post : Int32 → SY → Prop} (h : post (nI (gb_cn 32 (gb_mb kd z))) (fk, zf, rf, cs, gv, od, ro, mk, le)) : ∃ n19, wY_basisSize_19 post fk zf rf cs gv od ro mk le n19 0 0 := by
  refine ⟨33, gb_det (fun n j => wY_basisSize_19 post fk zf rf cs gv od ro mk le n (nI (gb_cn j (gb_mb kd z))) (nI j)) 32 (fun n => ?_) (fun n j hj h' => ?_) 32 0 rfl⟩
  · exact br_t (show (32 : Int32) ≤ nI 32 by decide) h
  · refine br_f (nI_ge (b := 32) hj (by decide)) (gb_y_least hl hj (gb_brn (gb_mb kd z j) gb_bI_0 (fun e => ?_) (fun e => ?_)))
    · rw [gb_cn_f e] at h'
      exact nm_r (nI_1 j) h'
    · rw [gb_cn_t e] at h'
      exact nm_r (nI_1 _) (nm_r (nI_1 j) h')
theorem gb_y_std {fk zf rf : Int32} {ro mk le : Nat → Int32} (hl : ∀ t, t < 32 → le t = gb_bI (gb_lm kd z t)) {post : Int32 → SY → Prop} (h : post (nI (gb_cn 32 (fun m => !(gb_lm kd z m)))) (fk, zf, rf, cs, gv, od, ro, mk, le)) : ∃ n19, wY_standard_19 post fk zf rf cs gv od ro mk le n19 0 0 := by
  refine ⟨33, gb_det (fun n j => wY_standard_19 post fk zf rf cs gv od ro mk le n (nI (gb_cn j (fun m => !(gb_lm kd z m)))) (nI j)) 32 (fun n => ?_) (fun n j hj h' => ?_) 32 0 rfl⟩
  · exact br_t (show (32 : Int32) ≤ nI 32 by decide) h
  · refine br_f (nI_ge (b := 32) hj (by decide)) ⟨vp_in_nI hj (by decide), ?_⟩
    rw [nI_clamp (by omega), hl j hj]
    refine gb_brn (gb_lm kd z j) gb_bI_0 (fun e => ?_) (fun e => ?_)
    · rw [gb_cn_t (p := fun m => !(gb_lm kd z m)) (j := j) (by rw [e]; rfl)] at h'
      exact nm_r (nI_1 _) (nm_r (nI_1 j) h')
    · rw [gb_cn_f (p := fun m => !(gb_lm kd z m)) (j := j) (by rw [e]; rfl)] at h'
      exact nm_r (nI_1 j) h'
/-- the minimal monomials in the order are the leading ones of the sorted basis -/
theorem gb_y_basis20 (hk : kd < 2) {R : Nat} (hR : R ≤ 32) {ro mk le : Nat → Int32} (hE : gb_EA kd z 32 R ro mk) (hod : ∀ j, j < 32 → od j = nI (gb_M kd j)) (hl : ∀ t, t < 32 → le t = gb_bI (gb_lm kd z t))
    {s : Nat} {b : Nat → Int32} {md : Nat → Nat} (hs : s ≤ 32) (hB : gb_RB kd z s b md) {x : Int32} {post : Int32 → SY → Prop}
    (h1 : ∀ i, i < s → x = nI i → post (b i) (nI kd, gb_zs z, nI R, cs, gv, od, ro, mk, le)) (h0 : (∀ i, i < s → x ≠ nI i) → post 0 (nI kd, gb_zs z, nI R, cs, gv, od, ro, mk, le)) :
    ∃ n20, wY_basis_20 post x (nI kd) (gb_zs z) (nI R) cs gv od ro mk le n20 0 0 := by
  have key : ∀ d j, j + d = 32 → ∀ i, i ≤ s → (∀ i', i ≤ i' → i' < s → j ≤ gb_P kd (md i')) → (∀ i', i' < i → x ≠ nI i' ∧ gb_P kd (md i') < j) → wY_basis_20 post x (nI kd) (gb_zs z) (nI R) cs gv od ro mk le (d + 1) (nI i) (nI j) := by
    intro d
    induction d with
    | zero =>
      intro j hj i hi hA hx
      have e : j = 32 := by omega
      subst e
      refine br_t (show (32 : Int32) ≤ nI 32 by decide) (h0 (fun i' hi' => ?_))
      by_cases c : i' < i
      · exact (hx i' c).1
      · have h2 := hA i' (by omega) hi'
        have h3 := gb_Plt kd hk _ (hB.1.1 i' hi').1.1
        omega
    | succ d ih =>
      intro j hj i hi hA hx
      have hj2 : j < 32 := by omega
      have hM := gb_Mlt kd hk j hj2
      refine br_f (nI_ge (b := 32) hj2 (by decide)) ⟨vp_in_nI hj2 (by decide), nm_r (e' := nI (gb_M kd j)) (by rw [nI_clamp (by omega)]; exact hod j hj2) (gb_y_least hl hM (gb_brn (gb_mb kd z (gb_M kd j)) gb_bI_0 (fun e => ?_) (fun e => ?_)))⟩
      · refine nm_r (nI_1 j) (ih (j + 1) (by omega) i hi (fun i' h2 h3 => ?_) (fun i' h2 => ⟨(hx i' h2).1, Nat.lt_succ_of_lt (hx i' h2).2⟩))
        have h4 := hA i' h2 h3
        have h5 : gb_P kd (md i') ≠ j := fun e2 => gb_mb_nof e (by
          have h6 := (hB.1.1 i' h3).2.2.1
          rw [← gb_MP kd hk _ (hB.1.1 i' h3).1.1, e2] at h6
          exact h6)
        omega
      · obtain ⟨i', hi', e2⟩ := hB.2 _ (gb_mb_of e)
        have hPj : gb_P kd (md i') = j := by rw [e2, gb_PM kd hk j hj2]
        have hge : ¬ i' < i := fun hlt => by
          have := (hx i' hlt).2
          omega
        have hle : ¬ i < i' := fun hlt => by
          have h2 := hA i (Nat.le_refl _) (by omega)
          have h3 := (gb_Pw kd hk _ (hB.1.1 i (by omega)).1.1 _ (hB.1.1 i' hi').1.1).mp (hB.1.2 i i' hlt hi')
          omega
        have e3 : i' = i := by omega
        subst e3
        refine br_c (fun ex => ?_) (fun ex => nm_r (nI_1 i') (nm_r (nI_1 j) (ih (j + 1) (by omega) (i' + 1) (by omega) (fun i2 h2 h3 => ?_) (fun i2 h2 => ?_))))
        · refine gb_y_reduced hk hR hE (fun c hc => ?_)
          have hN := gb_RB_NF hB hi'
          rw [e2] at hN
          have e4 := gb_NF_uniq hk hc hN
          have e5 : gb_e (gb_M kd j) ^^^ c = b i' := by rw [e4, ← gb_xa, gb_xx, gb_0x]
          have h2 := h1 i' hi' ex.symm
          rw [← e5] at h2
          exact h2
        · have h4 := (gb_Pw kd hk _ (hB.1.1 i' hi').1.1 _ (hB.1.1 i2 h3).1.1).mp (hB.1.2 i' i2 (by omega) h3)
          omega
        · by_cases c : i2 = i'
          · rw [c]
            exact ⟨fun e6 => ex e6.symm, by omega⟩
          · exact ⟨(hx i2 (by omega)).1, Nat.lt_succ_of_lt (hx i2 (by omega)).2⟩
  exact ⟨33, key 32 0 rfl 0 (Nat.zero_le _) (fun i' _ _ => Nat.zero_le _) (fun i' hi' => absurd hi' (Nat.not_lt_zero _))⟩
end
end
section
/-! ===== what the calls need beside ===== -/
theorem gb_cases (v : Int32) : (∃ k, k < 2 ∧ v = nI k) ∨ (v ≠ 0 ∧ v ≠ 1) := by
  by_cases h0 : v = 0
  · exact Or.inl ⟨0, by decide, h0⟩
  · by_cases h1 : v = 1
    · exact Or.inl ⟨1, by decide, h1⟩
    · exact Or.inr ⟨h0, h1⟩
theorem gb_01 {v : Int32} (h0 : ¬ v < 0) (h1 : v ≤ 1) : v = 0 ∨ v = 1 := by
  obtain ⟨j, hj, e⟩ := nI_of2 (n := 1) (by decide) h0 h1
  have : j = 0 ∨ j = 1 := by omega
  rcases this with h | h
  · exact Or.inl (by rw [e, h]; rfl)
  · exact Or.inr (by rw [e, h]; rfl)
theorem gb_x_ideal {k : Nat} (hk2 : k < 2) {post : Int32 → Prop} (h : post 1) : wpX_isIdeal post (nI k) := by
  refine br_c (fun _ => h) (fun h0 => br_t ?_ h)
  have : k = 1 := by
    have : k ≠ 0 := fun e => h0 (by rw [e]; rfl)
    omega
  rw [this]; rfl
theorem gb_x_nideal {v : Int32} (h0 : v ≠ 0) (h1 : v ≠ 1) {post : Int32 → Prop} (h : post 0) : wpX_isIdeal post v := br_f h0 (br_f h1 h)
theorem gb_y_good {k : Nat} (hk2 : k < 2) {u : SY} {post : Int32 → Prop} (h : post 0) : wpY_bad post u (nI k) :=
  br_f (nI_pos (by omega)) (br_t (nI_le (b := 1) (by omega) (by decide)) h)
theorem gb_y_bad {v : Int32} (h0 : v ≠ 0) (h1 : v ≠ 1) {u : SY} {post : Int32 → Prop} (h : post 1) : wpY_bad post u v :=
  br_c (fun _ => h) (fun hn => br_f (fun hle => by rcases gb_01 hn hle with e | e; exact h0 e; exact h1 e) h)
theorem gb_zz_cong {q q' : Nat → Int32} : ∀ c, (∀ i, i < c → q' i = q i) → gb_zz q' c = gb_zz q c := by
  intro c
  induction c with
  | zero => intro _; rfl
  | succ c ih =>
    intro h
    funext a
    show (gb_zz q' c a && !(gb_ev (q' c) a)) = (gb_zz q c a && !(gb_ev (q c) a))
    rw [ih (fun i hi => h i (by omega)), h c (by omega)]
theorem gb_Z_cong {cs cs' gv gv' : Nat → Int32} (hC : gb_CS cs) {k : Nat} (hk2 : k < 2) (h1 : cs' k = cs k) (h2 : ∀ i, i < 8 → gv' (8 * k + i) = gv (8 * k + i)) : gb_Z cs' gv' k = gb_Z cs gv k := by
  obtain ⟨c, hc8, hc⟩ := hC k hk2
  unfold gb_Z
  rw [h1, hc, nI_clamp (by omega)]
  exact gb_zz_cong (q := fun i => gv (8 * k + i)) (q' := fun i => gv' (8 * k + i)) c (fun i hi => h2 i (by omega))
/-- a change of the ideal k alone keeps what is known of the other one -/
theorem gb_XI_chg {kd : Nat} {cs cs' gv gv' ba sz rd : Nat → Int32} (hC : gb_CS cs) (hX : gb_XI kd cs gv ba sz rd) {k : Nat} (h1 : ∀ k', k' < 2 → k' ≠ k → cs' k' = cs k') (h2 : ∀ k', k' < 2 → k' ≠ k → ∀ i, i < 8 → gv' (8 * k' + i) = gv (8 * k' + i)) : gb_XI kd cs' gv' ba sz (upd rd k (vp_nar .boolean 0)) := by
  intro k' hk' hr
  by_cases e : k' = k
  · rw [e, pk_us] at hr
    exact absurd gb_narb0 hr
  · rw [pk_un e] at hr
    rw [gb_Z_cong hC hk' (h1 k' hk' e) (h2 k' hk' e)]
    exact hX k' hk' hr
theorem gb_CS_upd {cs : Nat → Int32} (hC : gb_CS cs) {k c : Nat} (hc : c ≤ 8) : gb_CS (upd cs k (nI c)) := by
  intro k' hk'
  by_cases e : k' = k
  · exact ⟨c, hc, by rw [e, pk_us]⟩
  · obtain ⟨c', h1, h2⟩ := hC k' hk'
    exact ⟨c', h1, by rw [pk_un e]; exact h2⟩
/-- the list behind the retracted place moved down by t -/
def gb_sh (gv : Nat → Int32) (b : Nat) : Nat → Nat → Int32
  | 0 => gv
  | t + 1 => upd (gb_sh gv b t) (b + t) (gb_sh gv b t (b + t + 1))
theorem gb_sh_out {gv : Nat → Int32} {b j : Nat} : ∀ t, (j < b ∨ b + t ≤ j) → gb_sh gv b t j = gv j := by
  intro t
  induction t with
  | zero => intro _; rfl
  | succ t ih =>
    intro h
    show upd (gb_sh gv b t) (b + t) (gb_sh gv b t (b + t + 1)) j = gv j
    rw [pk_un (by omega), ih (by omega)]
section
variable {kd : Nat} {fk ws : Int32} {gv cs pl mo aw al ba sz rd : Nat → Int32}
theorem gb_x_r30 {k c q : Nat} (hk2 : k < 2) (hc8 : c ≤ 8) (hc : cs k = nI c) (hq : q < c) {post : Int32 → SX → Prop}
    (h : post (nI (c - 1)) (fk, ws, gb_sh gv (8 * k + q) (c - 1 - q), upd cs k (nI (c - 1)), pl, mo, aw, al, ba, sz, upd rd k (vp_nar .boolean 0))) :
    ∃ n30, wX_retract_30 post (nI k) fk ws n30 (nI (q + 1)) gv cs pl mo aw al ba sz rd := by
  refine ⟨c - 1 - q + 1, gb_det (fun n t => wX_retract_30 post (nI k) fk ws n (nI (q + 1 + t)) (gb_sh gv (8 * k + q) t) cs pl mo aw al ba sz rd) (c - 1 - q) (fun n => ?_) (fun n t ht h' => ?_) (c - 1 - q) 0 (by omega)⟩
  · refine And.intro (vp_in_nI hk2 (by decide)) ?_
    rw [nI_clamp (by omega), hc]
    refine br_t (nI_le (by omega) (by omega)) ⟨vp_in_nI hk2 (by decide), vp_in_nI hk2 (by decide), nm_r (e' := upd cs k (nI (c - 1))) ?_ ⟨vp_in_nI hk2 (by decide), nm_e ⟨vp_in_nI hk2 (by decide), ?_⟩⟩⟩
    · rw [show nI c - 1 = nI (c - 1) from by
        have := nI_pred (c - 1)
        rw [show c - 1 + 1 = c by omega] at this
        exact this]
    · rw [pk_us]; exact h
  · refine And.intro (vp_in_nI hk2 (by decide)) ?_
    rw [nI_clamp (by omega), hc]
    refine br_f (nI_ge (by omega) (by omega)) ?_
    rw [gb_ix8, show 8 * k + (q + 1 + t) = 8 * k + q + t + 1 by omega, nI_pred, nI_clamp (by omega), nI_clamp (by omega)]
    refine ⟨vp_in_nI (by omega) (by decide), vp_in_nI (by omega) (by decide), nm_e (nm_r (nI_1 _) h')⟩
theorem gb_x_w11 (hk : kd < 2) (hT : gb_PT kd pl mo) (hC : gb_CS cs) {k c : Nat} (hk2 : k < 2) (hc8 : c ≤ 8) (hc : cs k = nI c) {post : Int32 → SX → Prop}
    (h1 : (∀ i, i < c → gb_V (gb_Z cs gv (1 - k)) (gv (8 * k + i))) → ∀ ws aw al ba sz rd, gb_XI kd cs gv ba sz rd → post 1 (fk, ws, gv, cs, pl, mo, aw, al, ba, sz, rd))
    (h0 : (∃ i, i < c ∧ ¬ gb_V (gb_Z cs gv (1 - k)) (gv (8 * k + i))) → ∀ ws aw al ba sz rd, gb_XI kd cs gv ba sz rd → post 0 (fk, ws, gv, cs, pl, mo, aw, al, ba, sz, rd)) :
    ∀ d i, i + d = c → (∀ i', i' < i → gb_V (gb_Z cs gv (1 - k)) (gv (8 * k + i'))) → ∀ ws aw al ba sz rd, gb_XI kd cs gv ba sz rd → wX_within_11 post (nI k) (d + 1) (nI i) fk ws gv cs pl mo aw al ba sz rd := by
  intro d
  induction d with
  | zero =>
    intro i hi hA ws aw al ba sz rd hX
    have e : i = c := by omega
    subst e
    refine And.intro (vp_in_nI hk2 (by decide)) ?_
    rw [nI_clamp (by omega), hc]
    exact br_t (nI_le (Nat.le_refl _) (by omega)) (h1 hA ws aw al ba sz rd hX)
  | succ d ih =>
    intro i hi hA ws aw al ba sz rd hX
    refine And.intro (vp_in_nI hk2 (by decide)) ?_
    rw [nI_clamp (by omega), hc]
    refine br_f (nI_ge (by omega) (by omega)) ?_
    rw [gb_ix8, nI_clamp (by omega), show (1 : Int32) - nI k = nI (1 - k) from pk_sub (a := 1) (by omega)]
    refine ⟨vp_in_nI (by omega) (by decide), gb_x_normalOf (ws := ws) hk hT hC hX (by omega) (fun r ws' aw' al' ba' sz' rd' hX' hN => ?_)⟩
    refine br_c (fun e => nm_r (nI_1 i) (ih (i + 1) (by omega) (fun i' hi' => ?_) ws' aw' al' ba' sz' rd' hX')) (fun e => h0 ⟨i, by omega, fun hV => e ?_⟩ ws' aw' al' ba' sz' rd' hX')
    · by_cases e2 : i' = i
      · rw [e2]
        have := hN.1
        rw [e, gb_x0] at this
        exact this
      · exact hA i' (by omega)
    · exact gb_NF_uniq hk hN ⟨by rw [gb_x0]; exact hV, fun t _ hb => by rw [b_0] at hb; exact absurd hb (by decide)⟩
end
theorem gb_NF_0 {kd : Nat} (hk : kd < 2) {z : Nat → Bool} {p r : Int32} (h : gb_NF kd z p r) : r = 0 ↔ gb_V z p := by
  constructor
  · intro e
    have := h.1
    rw [e, gb_x0] at this
    exact this
  · intro hV
    exact gb_NF_uniq hk h ⟨by rw [gb_x0]; exact hV, fun t _ hb => by rw [b_0] at hb; exact absurd hb (by decide)⟩
theorem gb_RB_cn {kd : Nat} {z : Nat → Bool} {s : Nat} {b : Nat → Int32} {md : Nat → Nat} (h : gb_RB kd z s b md) : gb_cn 32 (gb_mb kd z) = s :=
  gb_cn_enum s md _ (fun r hr => ⟨(h.1.1 r hr).1.1, gb_mb_t (h.1.1 r hr).2.2.1⟩) (fun r r' hr hr' e => by have := h.1.2 r r' hr hr'; rw [e] at this; omega)
    (fun m _ hp => h.2 m (gb_mb_of hp))
/-! ===== retract in the reference ===== -/
section
variable {fk zf rf : Int32} {cs gv od ro mk le : Nat → Int32}
theorem gb_y_r29 {k c q : Nat} (hk2 : k < 2) (hc8 : c ≤ 8) (hc : cs k = nI c) (hq : q < c) {post : Int32 → SY → Prop}
    (h : post (nI (c - 1)) (fk, zf, rf, upd cs k (nI (c - 1)), gb_sh gv (8 * k + q) (c - 1 - q), od, ro, mk, le)) :
    ∃ n29, wY_retract_29 post (nI k) fk zf rf n29 (nI q) cs gv od ro mk le := by
  have hp : nI c - 1 = nI (c - 1) := by
    have := nI_pred (c - 1)
    rw [show c - 1 + 1 = c by omega] at this
    exact this
  refine ⟨c - 1 - q + 1, gb_det (fun n t => wY_retract_29 post (nI k) fk zf rf n (nI (q + t)) cs (gb_sh gv (8 * k + q) t) od ro mk le) (c - 1 - q) (fun n => ?_) (fun n t ht h' => ?_) (c - 1 - q) 0 (by omega)⟩
  · refine And.intro (vp_in_nI hk2 (by decide)) ?_
    rw [nI_clamp (by omega), hc, hp]
    refine br_t (nI_le (by omega) (by omega)) ?_
    unfold wY_retract_77
    rw [nI_clamp (by omega), hc, hp]
    refine ⟨vp_in_nI hk2 (by decide), vp_in_nI hk2 (by decide), nm_e ⟨vp_in_nI hk2 (by decide), ?_⟩⟩
    rw [pk_us]; exact h
  · refine And.intro (vp_in_nI hk2 (by decide)) ?_
    rw [nI_clamp (by omega), hc, hp]
    refine br_f (nI_ge (by omega) (by omega)) (br_f (nI_ge (b := 7) (by omega) (by decide)) ?_)
    rw [gb_ix8, show 8 * k + (q + t) = 8 * k + q + t by omega, nI_1, nI_clamp (by omega), nI_clamp (by omega)]
    refine ⟨vp_in_nI (by omega) (by decide), vp_in_nI (by omega) (by decide), nm_e (nm_r (nI_1 _) h')⟩
end
/-! ===== nextZero ===== -/
def gb_fz (z : Nat → Bool) : Nat → Nat → Int32
  | 0, _ => -2
  | d + 1, j => if z j = true then nI j else gb_fz z d (j + 1)
theorem gb_fz_t {z : Nat → Bool} {d j : Nat} (h : z j = true) : gb_fz z (d + 1) j = nI j := if_pos h
theorem gb_fz_f {z : Nat → Bool} {d j : Nat} (h : z j = false) : gb_fz z (d + 1) j = gb_fz z d (j + 1) := if_neg (by rw [h]; decide)
theorem gb_x_nz30 {fk ws : Int32} {gv cs pl mo aw al ba sz rd : Nat → Int32} (hC : gb_CS cs) {k : Nat} (hk2 : k < 2) {post : Int32 → Prop} : ∀ d j, j + d = 32 → post (gb_fz (gb_Z cs gv k) d j) → wX_nextZero_30 post (nI k) fk ws gv cs pl mo aw al ba sz rd (d + 1) (nI j) := by
  intro d
  induction d with
  | zero =>
    intro j hj h
    have e : j = 32 := by omega
    subst e
    exact br_t (show (32 : Int32) ≤ nI 32 by decide) h
  | succ d ih =>
    intro j hj h
    refine br_f (nI_ge (b := 32) (by omega) (by decide)) (gb_x_isZero hC hk2 (by omega) (gb_brn (gb_Z cs gv k j) gb_bI_0 (fun e => nm_r (nI_1 j) (ih (j + 1) (by omega) ?_)) (fun e => ?_)))
    · rw [gb_fz_f e] at h; exact h
    · rw [gb_fz_t e] at h; exact h
theorem gb_y_nz19 {fk zf rf : Int32} {cs gv od ro mk le : Nat → Int32} {z : Nat → Bool} {x : Int32} {j0 : Nat} (hj0 : j0 ≤ 32) (hx : ∀ i, i < 32 → (nI i ≤ x ↔ i < j0)) {post : Int32 → Prop} (h : post (gb_fz z (32 - j0) j0)) : ∃ n19, wY_nextZero_19 post x (gb_zs z) fk zf rf cs gv od ro mk le n19 0 := by
  have key : ∀ d j, j + d = 32 → j0 ≤ j → post (gb_fz z d j) → wY_nextZero_19 post x (gb_zs z) fk zf rf cs gv od ro mk le (d + 1) (nI j) := by
    intro d
    induction d with
    | zero =>
      intro j hj _ h
      have e : j = 32 := by omega
      subst e
      exact br_t (show (32 : Int32) ≤ nI 32 by decide) h
    | succ d ih =>
      intro j hj hge h
      refine br_f (nI_ge (b := 32) (by omega) (by decide)) (br_f (by rw [hx j (by omega)]; omega) (gb_brb (z j) (by rw [gb_it _ (by omega), gb_bI_1, gb_bt_zs z (by omega)]) (fun e => ?_) (fun e => nm_r (nI_1 j) (ih (j + 1) (by omega) (by omega) ?_))))
      · rw [gb_fz_t e] at h; exact h
      · rw [gb_fz_f e] at h; exact h
  have key2 : ∀ t j, j + t = j0 → wY_nextZero_19 post x (gb_zs z) fk zf rf cs gv od ro mk le (t + (32 - j0) + 1) (nI j) := by
    intro t
    induction t with
    | zero =>
      intro j hj
      have e : j = j0 := by omega
      rw [e, Nat.zero_add]
      exact key (32 - j0) j0 (by omega) (Nat.le_refl _) h
    | succ t ih =>
      intro j hj
      have := ih (j + 1) (by omega)
      rw [show t + 1 + (32 - j0) + 1 = (t + (32 - j0) + 1) + 1 by omega]
      exact br_f (nI_ge (b := 32) (by omega) (by decide)) (br_t ((hx j (by omega)).mpr (by omega)) (nm_r (nI_1 j) this))
  exact ⟨_, key2 j0 0 (by omega)⟩
/-! ===== fixed ===== -/
theorem gb_e0 : gb_e 0 = 1 := by decide
theorem gb_fx_ev {v : Nat} (hv : v < 5) (bb : Bool) (a : Nat) : gb_ev (gb_e (2 ^ v) ^^^ gb_bI bb) a = (decide (2 ^ v &&& a = 2 ^ v) ^^ bb) := by
  have h2 : ∀ v, v < 5 → 2 ^ v < 32 := by decide
  rw [gb_ev_xor, gb_ev_e (h2 v hv)]
  cases bb
  · rw [show gb_bI false = 0 from rfl, gb_ev_0]
  · rw [show gb_bI true = gb_e 0 from gb_e0.symm, gb_ev_e (by decide), decide_eq_true (Nat.zero_and a)]
theorem gb_fx_tab : ∀ v, v < 5 → ∀ a, a < 32 → nI (a / 2 ^ v % 2) = gb_bI (decide (2 ^ v &&& a = 2 ^ v)) := by decide +kernel
theorem gb_bI_inj {a b : Bool} (h : gb_bI a = gb_bI b) : a = b := by
  cases a <;> cases b <;> first | rfl | exact absurd h (by decide)
theorem gb_y_fx44 {fk zf rf : Int32} {cs gv od ro mk le : Nat → Int32} {z : Nat → Bool} {v : Nat} (hv : v < 5) {bb : Bool} {post : Int32 → Prop} (h1 : gb_V z (gb_e (2 ^ v) ^^^ gb_bI bb) → post 1) (h0 : ¬ gb_V z (gb_e (2 ^ v) ^^^ gb_bI bb) → post 0) : ∃ n44, wY_fixed_44 post (nI v) (gb_bI bb) (gb_zs z) fk zf rf cs gv od ro mk le n44 0 := by
  have key : ∀ d j, j + d = 32 → (∀ a, a < j → z a = true → gb_ev (gb_e (2 ^ v) ^^^ gb_bI bb) a = false) → wY_fixed_44 post (nI v) (gb_bI bb) (gb_zs z) fk zf rf cs gv od ro mk le (d + 1) (nI j) := by
    intro d
    induction d with
    | zero =>
      intro j hj hA
      have e : j = 32 := by omega
      subst e
      exact br_t (show (32 : Int32) ≤ nI 32 by decide) (h1 hA)
    | succ d ih =>
      intro j hj hA
      have hj2 : j < 32 := by omega
      refine br_f (nI_ge (b := 32) hj2 (by decide)) (gb_brb (z j) (by rw [gb_it _ hj2, gb_bI_1, gb_bt_zs z hj2]) (fun e => ?_) (fun e => nm_r (nI_1 j) (ih (j + 1) (by omega) (fun a ha hz => ?_))))
      · rw [gb_tvar j hj2 v hv, gb_fx_tab v hv j hj2]
        refine br_c (fun e2 => nm_r (nI_1 j) (ih (j + 1) (by omega) (fun a ha hz => ?_))) (fun e2 => h0 (fun hV => e2 ?_))
        · by_cases e3 : a = j
          · rw [e3, gb_fx_ev hv, gb_bI_inj e2, Bool.xor_self]
          · exact hA a (by omega) hz
        · have := hV j hj2 e
          rw [gb_fx_ev hv] at this
          revert this
          cases decide (2 ^ v &&& j = 2 ^ v) <;> cases bb <;> decide
      · by_cases e3 : a = j
        · rw [e3, e] at hz; exact absurd hz (by decide)
        · exact hA a (by omega) hz
  exact ⟨33, key 32 0 rfl (fun a ha => absurd ha (Nat.not_lt_zero _))⟩
/-! ===== within ===== -/
theorem gb_wi_iff {cs gv : Nat → Int32} (hC : gb_CS cs) {k c : Nat} (hk2 : k < 2) (hc8 : c ≤ 8) (hc : cs k = nI c) (z : Nat → Bool) : (gb_zs z &&& gb_zs (gb_Z cs gv k)) = gb_zs z ↔ ∀ i, i < c → gb_V z (gv (8 * k + i)) := by
  rw [gb_Z_eq hc hc8]
  constructor
  · intro h i hi a ha hz
    have h1 : bt (gb_zs z &&& gb_zs (gb_zz (fun i => gv (8 * k + i)) c)) a = bt (gb_zs z) a := by rw [h]
    rw [b_and, gb_bt_zs z ha, gb_bt_zs _ ha, hz, Bool.true_and] at h1
    exact (gb_zz_t (fun i => gv (8 * k + i)) a c).mp h1 i hi
  · intro h
    apply b_ext
    intro a ha
    rw [b_and, gb_bt_zs z ha, gb_bt_zs _ ha]
    cases e : z a
    · rfl
    · rw [(gb_zz_t (fun i => gv (8 * k + i)) a c).mpr (fun i hi => h i hi a ha e)]; rfl
end
section
/-! ===== the relation, and the calls ===== -/
/-- the two lists are one; the places are those of the kind; a basis that is marked as ready is the reduced basis of the zeros -/
def i_Rel (k : Nat) (u : SX) (v : SY) : Prop := ∃ (kd : Nat) (ws : Int32) (gv cs pl mo aw al ba sz rd : Nat → Int32) (zf rf : Int32) (od ro mk le : Nat → Int32),
  u = (nI kd, ws, gv, cs, pl, mo, aw, al, ba, sz, rd) ∧ v = (nI kd, zf, rf, cs, gv, od, ro, mk, le) ∧ kd < 2 ∧ gb_PT kd pl mo ∧ gb_CS cs ∧ gb_XI kd cs gv ba sz rd
theorem gb_rel_mk {k kd : Nat} {ws : Int32} {gv cs pl mo aw al ba sz rd : Nat → Int32} {zf rf : Int32} {od ro mk le : Nat → Int32} (hk : kd < 2) (hT : gb_PT kd pl mo) (hC : gb_CS cs) (hX : gb_XI kd cs gv ba sz rd) :
    i_Rel k (nI kd, ws, gv, cs, pl, mo, aw, al, ba, sz, rd) (nI kd, zf, rf, cs, gv, od, ro, mk, le) :=
  ⟨kd, ws, gv, cs, pl, mo, aw, al, ba, sz, rd, zf, rf, od, ro, mk, le, rfl, rfl, hk, hT, hC, hX⟩
theorem gb_rel_el {P : SX → SY → Prop} {k : Nat} {u : SX} {v : SY} (I : i_Rel k u v)
    (h : ∀ (kd : Nat) (ws : Int32) (gv cs pl mo aw al ba sz rd : Nat → Int32) (zf rf : Int32) (od ro mk le : Nat → Int32), kd < 2 → gb_PT kd pl mo → gb_CS cs → gb_XI kd cs gv ba sz rd → P (nI kd, ws, gv, cs, pl, mo, aw, al, ba, sz, rd) (nI kd, zf, rf, cs, gv, od, ro, mk, le)) : P u v := by
  obtain ⟨kd, ws, gv, cs, pl, mo, aw, al, ba, sz, rd, zf, rf, od, ro, mk, le, rfl, rfl, hk, hT, hC, hX⟩ := I
  exact h kd ws gv cs pl mo aw al ba sz rd zf rf od ro mk le hk hT hC hX
theorem i_up {k : Nat} {u : SX} {v : SY} (h : i_Rel k u v) : i_Rel (k + 4) u v := h
theorem i_vc0 : wpX_init (fun u => wpY_init (fun v => i_Rel 0 u v)) := by
  unfold wpX_init wpY_init
  refine gb_x_arrange (kd := 0) (by decide) (fun pl mo hT => ?_)
  exact gb_rel_mk (k := 0) (kd := 0) (by decide) hT (fun k _ => ⟨0, by decide, rfl⟩) (fun k _ hr => absurd rfl hr)
theorem i_vc_generate {k : Nat} {u : SX} {v : SY} (I : i_Rel k u v) (hk : k + 4 ≤ 2048) (v1 : Int32) (v2 : Int32) : wpX_generate (fun r u' => wpY_generate (fun r' v' => r' = r ∧ i_Rel (k + 4) u' v') v v1 v2) u v1 v2 := by
  refine gb_rel_el (P := fun u v => wpX_generate (fun r u' => wpY_generate (fun r' v' => r' = r ∧ i_Rel (k + 4) u' v') v v1 v2) u v1 v2) I ?_
  intro kd ws gv cs pl mo aw al ba sz rd zf rf od ro mk le hkd hT hC hX
  unfold wpX_generate wpY_generate
  dsimp only
  rcases gb_cases v1 with ⟨q, hq, e⟩ | ⟨h0, h1⟩
  · subst e
    obtain ⟨c, hc8, hc⟩ := hC q hq
    refine gb_x_ideal hq (br_f (by decide) ⟨vp_in_nI hq (by decide), ?_⟩)
    rw [nI_clamp (by omega), hc]
    refine pk_eq c 8 (fun e8 => ?_) (fun e8 => ?_)
    · refine gb_y_good hq (br_t rfl ⟨vp_in_nI hq (by decide), ?_⟩)
      exact nm_e (br_f (nI_nlt (b := 8) (by omega) (by omega)) ⟨rfl, gb_rel_mk hkd hT hC hX⟩)
    · rw [gb_ix8, nI_clamp (by omega), nI_1]
      have hX2 : gb_XI kd (upd cs q (nI (c + 1))) (upd gv (8 * q + c) v2) ba sz (upd rd q (vp_nar .boolean 0)) :=
        gb_XI_chg hC hX (fun k' _ hn => pk_un hn) (fun k' _ hn i hi => pk_un (by omega))
      refine ⟨vp_in_nI hq (by decide), vp_in_nI (by omega) (by decide), nm_e ⟨vp_in_nI hq (by decide), vp_in_nI hq (by decide), nm_e ⟨vp_in_nI hq (by decide), nm_e ⟨vp_in_nI hq (by decide), ?_⟩⟩⟩⟩
      rw [pk_us]
      refine gb_y_good hq (br_t rfl ⟨vp_in_nI hq (by decide), ?_⟩)
      refine nm_e (br_t (nI_lt (b := 8) (by omega) (by decide)) ?_)
      rw [gb_ix8, nI_clamp (by omega), nI_1]
      exact ⟨vp_in_nI (by omega) (by decide), nm_e ⟨vp_in_nI hq (by decide), nm_e ⟨rfl, gb_rel_mk hkd hT (gb_CS_upd hC (by omega)) hX2⟩⟩⟩
  · exact gb_x_nideal h0 h1 (br_t rfl (gb_y_bad h0 h1 (br_f (by decide) ⟨rfl, gb_rel_mk hkd hT hC hX⟩)))
theorem i_vc_retract {k : Nat} {u : SX} {v : SY} (I : i_Rel k u v) (hk : k + 4 ≤ 2048) (v1 : Int32) (v2 : Int32) : wpX_retract (fun r u' => wpY_retract (fun r' v' => r' = r ∧ i_Rel (k + 4) u' v') v v1 v2) u v1 v2 := by
  refine gb_rel_el (P := fun u v => wpX_retract (fun r u' => wpY_retract (fun r' v' => r' = r ∧ i_Rel (k + 4) u' v') v v1 v2) u v1 v2) I ?_
  intro kd ws gv cs pl mo aw al ba sz rd zf rf od ro mk le hkd hT hC hX
  unfold wpX_retract wpY_retract
  dsimp only
  rcases gb_cases v1 with ⟨q, hq, e⟩ | ⟨h0, h1⟩
  · subst e
    obtain ⟨c, hc8, hc⟩ := hC q hq
    refine gb_x_ideal hq (br_f (by decide) ?_)
    by_cases hn : v2 < 0
    · exact br_t hn (gb_y_good hq (br_t rfl (br_t hn ⟨rfl, gb_rel_mk hkd hT hC hX⟩)))
    · obtain ⟨p, hp, e⟩ := nI_of hn
      subst e
      refine br_f hn ⟨vp_in_nI hq (by decide), ?_⟩
      rw [nI_clamp (by omega), hc]
      by_cases hlt : nI p < nI c
      · have hpc : p < c := (nI_ltI hp (by omega)).mp hlt
        have hX2 : gb_XI kd (upd cs q (nI (c - 1))) (gb_sh gv (8 * q + p) (c - 1 - p)) ba sz (upd rd q (vp_nar .boolean 0)) :=
          gb_XI_chg hC hX (fun k' _ hn => pk_un hn) (fun k' _ hn i hi => gb_sh_out _ (by omega))
        refine br_t hlt (nm_r (nI_1 p) (gb_x_r30 hq hc8 hc hpc ?_))
        refine gb_y_good hq (br_t rfl (br_f hn ⟨vp_in_nI hq (by decide), ?_⟩))
        exact br_t hlt (gb_y_r29 hq hc8 hc hpc ⟨rfl, gb_rel_mk hkd hT (gb_CS_upd hC (by omega)) hX2⟩)
      · refine br_f hlt (gb_y_good hq (br_t rfl (br_f hn ⟨vp_in_nI hq (by decide), ?_⟩)))
        exact br_f hlt ⟨rfl, gb_rel_mk hkd hT hC hX⟩
  · exact gb_x_nideal h0 h1 (br_t rfl (gb_y_bad h0 h1 (br_f (by decide) ⟨rfl, gb_rel_mk hkd hT hC hX⟩)))
theorem i_vc_clear {k : Nat} {u : SX} {v : SY} (I : i_Rel k u v) (hk : k + 4 ≤ 2048) (v1 : Int32) : wpX_clear (fun r u' => wpY_clear (fun r' v' => r' = r ∧ i_Rel (k + 4) u' v') v v1) u v1 := by
  refine gb_rel_el (P := fun u v => wpX_clear (fun r u' => wpY_clear (fun r' v' => r' = r ∧ i_Rel (k + 4) u' v') v v1) u v1) I ?_
  intro kd ws gv cs pl mo aw al ba sz rd zf rf od ro mk le hkd hT hC hX
  unfold wpX_clear wpY_clear
  dsimp only
  rcases gb_cases v1 with ⟨q, hq, e⟩ | ⟨h0, h1⟩
  · subst e
    have hX2 : gb_XI kd (upd cs q (nI 0)) gv ba sz (upd rd q (vp_nar .boolean 0)) :=
      gb_XI_chg hC hX (fun k' _ hn => pk_un hn) (fun k' _ hn i hi => rfl)
    refine gb_x_ideal hq (br_f (by decide) ⟨vp_in_nI hq (by decide), ?_⟩)
    rw [nI_clamp (by omega)]
    refine nm_e ⟨vp_in_nI hq (by decide), nm_e ⟨vp_in_nI hq (by decide), nm_e ?_⟩⟩
    refine gb_y_good hq (br_t rfl ⟨vp_in_nI hq (by decide), ?_⟩)
    exact nm_e ⟨vp_in_nI hq (by decide), nm_e ⟨rfl, gb_rel_mk hkd hT (gb_CS_upd (c := 0) hC (by decide)) hX2⟩⟩
  · exact gb_x_nideal h0 h1 (br_t rfl (gb_y_bad h0 h1 (br_f (by decide) ⟨rfl, gb_rel_mk hkd hT hC hX⟩)))
theorem i_vc_order {k : Nat} {u : SX} {v : SY} (I : i_Rel k u v) (hk : k + 4 ≤ 2048) (v1 : Int32) : wpX_order (fun r u' => wpY_order (fun r' v' => r' = r ∧ i_Rel (k + 4) u' v') v v1) u v1 := by
  refine gb_rel_el (P := fun u v => wpX_order (fun r u' => wpY_order (fun r' v' => r' = r ∧ i_Rel (k + 4) u' v') v v1) u v1) I ?_
  intro kd ws gv cs pl mo aw al ba sz rd zf rf od ro mk le hkd hT hC hX
  unfold wpX_order wpY_order
  dsimp only
  rcases gb_cases v1 with ⟨q, hq, e⟩ | ⟨h0, h1⟩
  · subst e
    have key : wX_order_11 (fun r u' => wpY_order (fun r' v' => r' = r ∧ i_Rel (k + 4) u' v') (nI kd, zf, rf, cs, gv, od, ro, mk, le) (nI q)) (nI q) (nI kd) ws gv cs pl mo aw al ba sz rd := by
      unfold wX_order_11
      refine gb_x_arrange hq (fun pl' mo' hT' => ?_)
      refine nm_e (nm_e ?_)
      refine br_f (nI_pos (by omega)) (br_t (nI_le (b := 1) (by omega) (by decide)) ⟨rfl, gb_rel_mk hq hT' hC (fun k' hk' hr => ?_)⟩)
      have : k' = 0 ∨ k' = 1 := by omega
      rcases this with e | e
      · rw [e, pk_un (by decide), pk_us] at hr
        exact absurd gb_narb0 hr
      · rw [e, pk_us] at hr
        exact absurd gb_narb0 hr
    refine br_c (fun _ => key) (fun h0 => br_t ?_ key)
    have : q = 1 := by
      have : q ≠ 0 := fun e => h0 (by rw [e]; rfl)
      omega
    rw [this]; rfl
  · refine br_f h0 (br_f h1 ?_)
    exact br_c (fun _ => ⟨rfl, gb_rel_mk hkd hT hC hX⟩) (fun hn => br_f (fun hle => by rcases gb_01 hn hle with e | e; exact h0 e; exact h1 e) ⟨rfl, gb_rel_mk hkd hT hC hX⟩)
theorem i_vc_generators {k : Nat} {u : SX} {v : SY} (I : i_Rel k u v) (hk : k + 4 ≤ 2048) (v1 : Int32) : wpX_generators (fun r => wpY_generators (fun r' => r' = r ∧ i_Rel (k + 4) u v) v v1) u v1 := by
  refine gb_rel_el (P := fun u v => wpX_generators (fun r => wpY_generators (fun r' => r' = r ∧ i_Rel (k + 4) u v) v v1) u v1) I ?_
  intro kd ws gv cs pl mo aw al ba sz rd zf rf od ro mk le hkd hT hC hX
  unfold wpX_generators wpY_generators
  dsimp only
  rcases gb_cases v1 with ⟨q, hq, e⟩ | ⟨h0, h1⟩
  · subst e
    exact gb_x_ideal hq (br_f (by decide) ⟨vp_in_nI hq (by decide), gb_y_good hq (br_t rfl ⟨vp_in_nI hq (by decide), rfl, gb_rel_mk hkd hT hC hX⟩)⟩)
  · exact gb_x_nideal h0 h1 (br_t rfl (gb_y_bad h0 h1 (br_f (by decide) ⟨rfl, gb_rel_mk hkd hT hC hX⟩)))
theorem i_vc_value {k : Nat} {u : SX} {v : SY} (I : i_Rel k u v) (hk : k + 4 ≤ 2048) (v1 : Int32) (v2 : Int32) : wpX_value (fun r => wpY_value (fun r' => r' = r ∧ i_Rel (k + 4) u v) v v1 v2) u v1 v2 := by
  refine gb_rel_el (P := fun u v => wpX_value (fun r => wpY_value (fun r' => r' = r ∧ i_Rel (k + 4) u v) v v1 v2) u v1 v2) I ?_
  intro kd ws gv cs pl mo aw al ba sz rd zf rf od ro mk le hkd hT hC hX
  unfold wpX_value wpY_value
  dsimp only
  rcases pk_ix v2 (n := 32) (by decide) with hn | hn | ⟨a, ha, e⟩
  · exact br_t hn (br_t hn ⟨rfl, gb_rel_mk hkd hT hC hX⟩)
  · have h1 : ¬ v2 < 0 := fun h => by
      have h2 := Int32.lt_of_le_of_lt hn h
      exact absurd h2 (by decide)
    have h2 : ¬ v2 ≤ 31 := fun h => by
      have h3 := Int32.le_trans hn h
      exact absurd h3 (by decide)
    exact br_f h1 (br_t hn (br_f h1 (br_f h2 ⟨rfl, gb_rel_mk hkd hT hC hX⟩)))
  · subst e
    refine br_f (nI_pos (by omega)) (br_f (nI_ge (b := 32) ha (by decide)) (gb_x_valueAt ha ?_))
    exact br_f (nI_pos (by omega)) (br_t (nI_le (b := 31) (by omega) (by decide)) (gb_y_at ha ⟨rfl, gb_rel_mk hkd hT hC hX⟩))
theorem i_vc_product {k : Nat} {u : SX} {v : SY} (I : i_Rel k u v) (hk : k + 4 ≤ 2048) (v1 : Int32) (v2 : Int32) : wpX_product (fun r => wpY_product (fun r' => r' = r ∧ i_Rel (k + 4) u v) v v1 v2) u v1 v2 := by
  refine gb_rel_el (P := fun u v => wpX_product (fun r => wpY_product (fun r' => r' = r ∧ i_Rel (k + 4) u v) v v1 v2) u v1 v2) I ?_
  intro kd ws gv cs pl mo aw al ba sz rd zf rf od ro mk le hkd hT hC hX
  exact gb_x_product hkd hT (gb_y_product ⟨rfl, gb_rel_mk hkd hT hC hX⟩)
theorem i_vc_leading {k : Nat} {u : SX} {v : SY} (I : i_Rel k u v) (hk : k + 4 ≤ 2048) (v1 : Int32) : wpX_leading (fun r => wpY_leading (fun r' => r' = r ∧ i_Rel (k + 4) u v) v v1) u v1 := by
  refine gb_rel_el (P := fun u v => wpX_leading (fun r => wpY_leading (fun r' => r' = r ∧ i_Rel (k + 4) u v) v v1) u v1) I ?_
  intro kd ws gv cs pl mo aw al ba sz rd zf rf od ro mk le hkd hT hC hX
  refine gb_x_leading hkd hT (fun e => ?_) (fun e => ?_)
  · refine gb_y_leading hkd (fun _ => ⟨rfl, gb_rel_mk hkd hT hC hX⟩) (fun l hL => ?_)
    have := hL.2.1
    rw [e, b_0] at this
    exact absurd this (by decide)
  · exact gb_y_leading hkd (fun e2 => absurd e2 e) (fun l hL => ⟨congrArg nI (gb_Ld_uniq hL (gb_has_ld hkd e)), gb_rel_mk hkd hT hC hX⟩)
theorem i_vc_contains {k : Nat} {u : SX} {v : SY} (I : i_Rel k u v) (hk : k + 4 ≤ 2048) (v1 : Int32) (v2 : Int32) : wpX_contains (fun r u' => wpY_contains (fun r' => r' = r ∧ i_Rel (k + 4) u' v) v v1 v2) u v1 v2 := by
  refine gb_rel_el (P := fun u v => wpX_contains (fun r u' => wpY_contains (fun r' => r' = r ∧ i_Rel (k + 4) u' v) v v1 v2) u v1 v2) I ?_
  intro kd ws gv cs pl mo aw al ba sz rd zf rf od ro mk le hkd hT hC hX
  unfold wpX_contains wpY_contains
  dsimp only
  rcases gb_cases v1 with ⟨q, hq, e⟩ | ⟨h0, h1⟩
  · subst e
    refine gb_x_ideal hq (br_f (by decide) (gb_x_normalOf (ws := ws) hkd hT hC hX hq (fun r ws' aw' al' ba' sz' rd' hX' hN => ?_)))
    have hiff := gb_NF_0 hkd hN
    refine br_c (fun e => ?_) (fun e => ?_)
    · refine gb_y_good hq (br_t rfl (gb_y_zerosOf hC hq (gb_y_allValues (br_t ?_ ⟨rfl, gb_rel_mk hkd hT hC hX'⟩))))
      rw [gb_av_zs]
      exact gb_vz_0.mpr (hiff.mp e)
    · refine gb_y_good hq (br_t rfl (gb_y_zerosOf hC hq (gb_y_allValues (br_f (fun e2 => e (hiff.mpr ?_)) ⟨rfl, gb_rel_mk hkd hT hC hX'⟩))))
      rw [gb_av_zs] at e2
      exact gb_vz_0.mp e2
  · exact gb_x_nideal h0 h1 (br_t rfl (gb_y_bad h0 h1 (br_f (by decide) ⟨rfl, gb_rel_mk hkd hT hC hX⟩)))
theorem i_vc_normal {k : Nat} {u : SX} {v : SY} (I : i_Rel k u v) (hk : k + 4 ≤ 2048) (v1 : Int32) (v2 : Int32) : wpX_normal (fun r u' => wpY_normal (fun r' v' => r' = r ∧ i_Rel (k + 4) u' v') v v1 v2) u v1 v2 := by
  refine gb_rel_el (P := fun u v => wpX_normal (fun r u' => wpY_normal (fun r' v' => r' = r ∧ i_Rel (k + 4) u' v') v v1 v2) u v1 v2) I ?_
  intro kd ws gv cs pl mo aw al ba sz rd zf rf od ro mk le hkd hT hC hX
  unfold wpX_normal wpY_normal
  dsimp only
  rcases gb_cases v1 with ⟨q, hq, e⟩ | ⟨h0, h1⟩
  · subst e
    refine gb_x_ideal hq (br_f (by decide) (gb_x_normalOf (ws := ws) hkd hT hC hX hq (fun r ws' aw' al' ba' sz' rd' hX' hN => ?_)))
    refine gb_y_good hq (br_t rfl (gb_y_work hkd hC hq (fun R od' ro' mk' le' hR hE hod hl => ?_)))
    exact gb_y_reduced hkd hR hE.1 (fun c hc => ⟨gb_NF_uniq hkd hc hN, gb_rel_mk hkd hT hC hX'⟩)
  · exact gb_x_nideal h0 h1 (br_t rfl (gb_y_bad h0 h1 (br_f (by decide) ⟨rfl, gb_rel_mk hkd hT hC hX⟩)))
theorem i_vc_basisSize {k : Nat} {u : SX} {v : SY} (I : i_Rel k u v) (hk : k + 4 ≤ 2048) (v1 : Int32) : wpX_basisSize (fun r u' => wpY_basisSize (fun r' v' => r' = r ∧ i_Rel (k + 4) u' v') v v1) u v1 := by
  refine gb_rel_el (P := fun u v => wpX_basisSize (fun r u' => wpY_basisSize (fun r' v' => r' = r ∧ i_Rel (k + 4) u' v') v v1) u v1) I ?_
  intro kd ws gv cs pl mo aw al ba sz rd zf rf od ro mk le hkd hT hC hX
  unfold wpX_basisSize wpY_basisSize
  dsimp only
  rcases gb_cases v1 with ⟨q, hq, e⟩ | ⟨h0, h1⟩
  · subst e
    refine gb_x_ideal hq (br_f (by decide) (gb_x_complete (ws := ws) hkd hT hC hX hq (fun ws' aw' al' ba' sz' rd' hX' hR => ?_)))
    obtain ⟨s, b, md, hs, hRB, es, hb⟩ := hR
    refine And.intro (vp_in_nI hq (by decide)) ?_
    refine gb_y_good hq (br_t rfl (gb_y_work hkd hC hq (fun R od' ro' mk' le' hR hE hod hl => ?_)))
    refine gb_y_bs hl ⟨?_, gb_rel_mk hkd hT hC hX'⟩
    dsimp only
    rw [nI_clamp (by omega), es, gb_RB_cn hRB]
  · exact gb_x_nideal h0 h1 (br_t rfl (gb_y_bad h0 h1 (br_f (by decide) ⟨rfl, gb_rel_mk hkd hT hC hX⟩)))
theorem i_vc_basis {k : Nat} {u : SX} {v : SY} (I : i_Rel k u v) (hk : k + 4 ≤ 2048) (v1 : Int32) (v2 : Int32) : wpX_basis (fun r u' => wpY_basis (fun r' v' => r' = r ∧ i_Rel (k + 4) u' v') v v1 v2) u v1 v2 := by
  refine gb_rel_el (P := fun u v => wpX_basis (fun r u' => wpY_basis (fun r' v' => r' = r ∧ i_Rel (k + 4) u' v') v v1 v2) u v1 v2) I ?_
  intro kd ws gv cs pl mo aw al ba sz rd zf rf od ro mk le hkd hT hC hX
  unfold wpX_basis
  dsimp only
  rcases gb_cases v1 with ⟨q, hq, e⟩ | ⟨h0, h1⟩
  · subst e
    refine gb_x_ideal hq (br_f (by decide) (gb_x_complete (ws := ws) hkd hT hC hX hq (fun ws' aw' al' ba' sz' rd' hX' hR => ?_)))
    obtain ⟨s, b, md, hs, hRB, es, hb⟩ := hR
    have hY : ∀ r : Int32, (∀ i, i < s → v2 = nI i → b i = r) → ((∀ i, i < s → v2 ≠ nI i) → 0 = r) → wpY_basis (fun r' v' => r' = r ∧ i_Rel (k + 4) (nI kd, ws', gv, cs, pl, mo, aw', al', ba', sz', rd') v') (nI kd, zf, rf, cs, gv, od, ro, mk, le) (nI q) v2 := fun r h1 h0 => by
      unfold wpY_basis
      dsimp only
      refine gb_y_good hq (br_t rfl (gb_y_work hkd hC hq (fun R od' ro' mk' le' hR hE hod hl => ?_)))
      exact gb_y_basis20 hkd hR hE.1 hod hl hs hRB (fun i hi e => ⟨h1 i hi e, gb_rel_mk hkd hT hC hX'⟩) (fun hn => ⟨h0 hn, gb_rel_mk hkd hT hC hX'⟩)
    rcases pk_ix v2 (n := s) (by omega) with hn | hn | ⟨i, hi, e⟩
    · refine br_t hn (hY 0 (fun i hi e => ?_) (fun _ => rfl))
      rw [e] at hn
      exact absurd hn (nI_pos (by omega))
    · have h1 : ¬ v2 < 0 := fun h => by
        have h2 := Int32.lt_of_le_of_lt hn h
        exact nI_pos (by omega) h2
      refine br_f h1 ⟨vp_in_nI hq (by decide), ?_⟩
      dsimp only
      rw [nI_clamp (by omega), es]
      refine br_t hn (hY 0 (fun i hi e => ?_) (fun _ => rfl))
      rw [e] at hn
      exact absurd hn (nI_ge hi (by omega))
    · subst e
      refine br_f (nI_pos (by omega)) ⟨vp_in_nI hq (by decide), ?_⟩
      dsimp only
      rw [nI_clamp (by omega), es]
      refine br_f (nI_ge hi (by omega)) ?_
      rw [gb_ix32, nI_clamp (by omega), hb i hi]
      refine ⟨vp_in_nI (by omega) (by decide), gb_x_outOfOrder hkd hT ?_⟩
      rw [gb_ou_in hkd]
      refine hY (b i) (fun i' hi' e => ?_) (fun hn => absurd rfl (hn i hi))
      rw [(nI_eq (by omega) (by omega)).mp e]
  · unfold wpY_basis
    dsimp only
    exact gb_x_nideal h0 h1 (br_t rfl (gb_y_bad h0 h1 (br_f (by decide) ⟨rfl, gb_rel_mk hkd hT hC hX⟩)))
theorem i_vc_standard {k : Nat} {u : SX} {v : SY} (I : i_Rel k u v) (hk : k + 4 ≤ 2048) (v1 : Int32) : wpX_standard (fun r u' => wpY_standard (fun r' v' => r' = r ∧ i_Rel (k + 4) u' v') v v1) u v1 := by
  refine gb_rel_el (P := fun u v => wpX_standard (fun r u' => wpY_standard (fun r' v' => r' = r ∧ i_Rel (k + 4) u' v') v v1) u v1) I ?_
  intro kd ws gv cs pl mo aw al ba sz rd zf rf od ro mk le hkd hT hC hX
  unfold wpX_standard wpY_standard
  dsimp only
  rcases gb_cases v1 with ⟨q, hq, e⟩ | ⟨h0, h1⟩
  · subst e
    refine gb_x_ideal hq (br_f (by decide) (gb_x_freeMonomials (ws := ws) hkd hT hC hX hq (fun ws' aw' al' ba' sz' rd' hX' => ?_)))
    refine gb_y_good hq (br_t rfl (gb_y_work hkd hC hq (fun R od' ro' mk' le' hR hE hod hl => ?_)))
    exact gb_y_std hl ⟨rfl, gb_rel_mk hkd hT hC hX'⟩
  · exact gb_x_nideal h0 h1 (br_t rfl (gb_y_bad h0 h1 (br_f (by decide) ⟨rfl, gb_rel_mk hkd hT hC hX⟩)))
theorem i_vc_zeros {k : Nat} {u : SX} {v : SY} (I : i_Rel k u v) (hk : k + 4 ≤ 2048) (v1 : Int32) : wpX_zeros (fun r u' => wpY_zeros (fun r' => r' = r ∧ i_Rel (k + 4) u' v) v v1) u v1 := by
  refine gb_rel_el (P := fun u v => wpX_zeros (fun r u' => wpY_zeros (fun r' => r' = r ∧ i_Rel (k + 4) u' v) v v1) u v1) I ?_
  intro kd ws gv cs pl mo aw al ba sz rd zf rf od ro mk le hkd hT hC hX
  unfold wpX_zeros wpY_zeros
  dsimp only
  rcases gb_cases v1 with ⟨q, hq, e⟩ | ⟨h0, h1⟩
  · subst e
    refine gb_x_ideal hq (br_f (by decide) (gb_x_freeMonomials (ws := ws) hkd hT hC hX hq (fun ws' aw' al' ba' sz' rd' hX' => ?_)))
    refine gb_y_good hq (br_t rfl (gb_y_zerosOf hC hq (gb_y_ones ⟨?_, gb_rel_mk hkd hT hC hX'⟩)))
    rw [gb_dim hkd, gb_cn_cong 32 (fun i hi => gb_bt_zs (gb_Z cs gv q) hi)]
  · exact gb_x_nideal h0 h1 (br_t rfl (gb_y_bad h0 h1 (br_f (by decide) ⟨rfl, gb_rel_mk hkd hT hC hX⟩)))
theorem i_vc_nextZero {k : Nat} {u : SX} {v : SY} (I : i_Rel k u v) (hk : k + 4 ≤ 2048) (v1 : Int32) (v2 : Int32) : wpX_nextZero (fun r => wpY_nextZero (fun r' => r' = r ∧ i_Rel (k + 4) u v) v v1 v2) u v1 v2 := by
  refine gb_rel_el (P := fun u v => wpX_nextZero (fun r => wpY_nextZero (fun r' => r' = r ∧ i_Rel (k + 4) u v) v v1 v2) u v1 v2) I ?_
  intro kd ws gv cs pl mo aw al ba sz rd zf rf od ro mk le hkd hT hC hX
  unfold wpX_nextZero
  dsimp only
  rcases gb_cases v1 with ⟨q, hq, e⟩ | ⟨h0, h1⟩
  · subst e
    have hY : ∀ j0, j0 ≤ 32 → (∀ i, i < 32 → (nI i ≤ v2 ↔ i < j0)) → ∀ r : Int32, r = gb_fz (gb_Z cs gv q) (32 - j0) j0 → wpY_nextZero (fun r' => r' = r ∧ i_Rel (k + 4) (nI kd, ws, gv, cs, pl, mo, aw, al, ba, sz, rd) (nI kd, zf, rf, cs, gv, od, ro, mk, le)) (nI kd, zf, rf, cs, gv, od, ro, mk, le) (nI q) v2 := fun j0 hj0 hx r hr => by
      unfold wpY_nextZero
      dsimp only
      exact gb_y_good hq (br_t rfl (gb_y_zerosOf hC hq (gb_y_nz19 hj0 hx ⟨hr.symm, gb_rel_mk hkd hT hC hX⟩)))
    refine gb_x_ideal hq (br_f (by decide) ?_)
    rcases pk_ix v2 (n := 31) (by decide) with hn | hn | ⟨a, ha, e⟩
    · have h31 : v2 < 31 := Int32.lt_trans hn (by decide)
      have h0 : ¬ 0 ≤ v2 := fun h => Int32.not_lt.mpr h hn
      refine br_t h31 (br_f h0 ⟨33, gb_x_nz30 hC hq 32 0 rfl (hY 0 (by decide) (fun i hi => ⟨fun h => ?_, fun h => absurd h (Nat.not_lt_zero _)⟩) _ rfl)⟩)
      exact absurd (Int32.le_trans (nI_pos' (by omega)) h) h0
    · refine br_f (Int32.not_lt.mpr hn) (hY 32 (Nat.le_refl _) (fun i hi => ⟨fun _ => hi, fun _ => ?_⟩) _ rfl)
      exact Int32.le_trans (nI_le (b := 31) (by omega) (by decide)) hn
    · subst e
      refine br_t (nI_lt (b := 31) ha (by decide)) (br_t (nI_pos' (by omega)) (nm_r (nI_1 a) ⟨32 - (a + 1) + 1, gb_x_nz30 hC hq (32 - (a + 1)) (a + 1) (by omega) (hY (a + 1) (by omega) (fun i hi => ?_) _ rfl)⟩))
      rw [nI_leI (by omega) (by omega)]
      omega
  · unfold wpY_nextZero
    dsimp only
    exact gb_x_nideal h0 h1 (br_t rfl (gb_y_bad h0 h1 (br_f (by decide) ⟨rfl, gb_rel_mk hkd hT hC hX⟩)))
theorem i_vc_within {k : Nat} {u : SX} {v : SY} (I : i_Rel k u v) (hk : k + 4 ≤ 2048) (v1 : Int32) : wpX_within (fun r u' => wpY_within (fun r' => r' = r ∧ i_Rel (k + 4) u' v) v v1) u v1 := by
  refine gb_rel_el (P := fun u v => wpX_within (fun r u' => wpY_within (fun r' => r' = r ∧ i_Rel (k + 4) u' v) v v1) u v1) I ?_
  intro kd ws gv cs pl mo aw al ba sz rd zf rf od ro mk le hkd hT hC hX
  unfold wpX_within wpY_within
  dsimp only
  rcases gb_cases v1 with ⟨q, hq, e⟩ | ⟨h0, h1⟩
  · subst e
    obtain ⟨c, hc8, hc⟩ := hC q hq
    have hiff := gb_wi_iff (gv := gv) hC hq hc8 hc (gb_Z cs gv (1 - q))
    have e1 : (1 : Int32) - nI q = nI (1 - q) := pk_sub (a := 1) (by omega)
    refine gb_x_ideal hq (br_f (by decide) ⟨c + 1, gb_x_w11 hkd hT hC hq hc8 hc (fun hA ws aw al ba sz rd hX => ?_) (fun hA ws aw al ba sz rd hX => ?_) c 0 (by omega) (fun i' hi' => absurd hi' (Nat.not_lt_zero _)) ws aw al ba sz rd hX⟩)
    · refine gb_y_good hq (br_t rfl (gb_y_zerosOf hC hq ?_))
      rw [e1]
      exact gb_y_zerosOf hC (by omega) (br_t (hiff.mpr hA) ⟨rfl, gb_rel_mk hkd hT hC hX⟩)
    · refine gb_y_good hq (br_t rfl (gb_y_zerosOf hC hq ?_))
      rw [e1]
      refine gb_y_zerosOf hC (by omega) (br_f (fun h => ?_) ⟨rfl, gb_rel_mk hkd hT hC hX⟩)
      obtain ⟨i, hi, hn⟩ := hA
      exact hn (hiff.mp h i hi)
  · exact gb_x_nideal h0 h1 (br_t rfl (gb_y_bad h0 h1 (br_f (by decide) ⟨rfl, gb_rel_mk hkd hT hC hX⟩)))
theorem i_vc_commonZeros {k : Nat} {u : SX} {v : SY} (I : i_Rel k u v) (hk : k + 4 ≤ 2048) : wpX_commonZeros (fun r => wpY_commonZeros (fun r' => r' = r ∧ i_Rel (k + 4) u v) v) u := by
  refine gb_rel_el (P := fun u v => wpX_commonZeros (fun r => wpY_commonZeros (fun r' => r' = r ∧ i_Rel (k + 4) u v) v) u) I ?_
  intro kd ws gv cs pl mo aw al ba sz rd zf rf od ro mk le hkd hT hC hX
  unfold wpX_commonZeros wpY_commonZeros
  dsimp only
  refine ⟨33, gb_det (fun n j => wX_commonZeros_4 (fun r => wpY_commonZeros (fun r' => r' = r ∧ i_Rel (k + 4) (nI kd, ws, gv, cs, pl, mo, aw, al, ba, sz, rd) (nI kd, zf, rf, cs, gv, od, ro, mk, le)) (nI kd, zf, rf, cs, gv, od, ro, mk, le)) (nI kd) ws gv cs pl mo aw al ba sz rd n (nI (gb_cn j (fun a => (gb_Z cs gv 0 a && gb_Z cs gv 1 a)))) (nI j)) 32 (fun n => ?_) (fun n j hj h' => ?_) 32 0 rfl⟩
  · refine br_t (show (32 : Int32) ≤ nI 32 by decide) ?_
    refine gb_y_zerosOf (k := 0) hC (by decide) (gb_y_zerosOf (k := 1) hC (by decide) (gb_y_ones ⟨?_, gb_rel_mk hkd hT hC hX⟩))
    rw [gb_cn_cong 32 (fun i hi => by rw [b_and, gb_bt_zs (gb_Z cs gv 0) hi, gb_bt_zs (gb_Z cs gv 1) hi])]
  · refine br_f (nI_ge (b := 32) hj (by decide)) (gb_x_isZero (k := 0) hC (by decide) hj (gb_brn (gb_Z cs gv 0 j) gb_bI_0 (fun e => ?_) (fun e => gb_x_isZero (k := 1) hC (by decide) hj (gb_brn (gb_Z cs gv 1 j) gb_bI_0 (fun e2 => ?_) (fun e2 => ?_)))))
    · rw [gb_cn_f (p := fun a => (gb_Z cs gv 0 a && gb_Z cs gv 1 a)) (j := j) (by rw [e]; rfl)] at h'
      exact nm_r (Int32.add_zero _) (nm_r (nI_1 j) h')
    · rw [gb_cn_f (p := fun a => (gb_Z cs gv 0 a && gb_Z cs gv 1 a)) (j := j) (by rw [e2, Bool.and_false])] at h'
      exact nm_r (Int32.add_zero _) (nm_r (nI_1 j) h')
    · rw [gb_cn_t (p := fun a => (gb_Z cs gv 0 a && gb_Z cs gv 1 a)) (j := j) (by rw [e, e2]; rfl)] at h'
      exact nm_r (nI_1 _) (nm_r (nI_1 j) h')
theorem i_vc_fixed {k : Nat} {u : SX} {v : SY} (I : i_Rel k u v) (hk : k + 4 ≤ 2048) (v1 : Int32) (v2 : Int32) (v3 : Int32) : wpX_fixed (fun r u' => wpY_fixed (fun r' => r' = r ∧ i_Rel (k + 4) u' v) v v1 v2 v3) u v1 v2 v3 := by
  refine gb_rel_el (P := fun u v => wpX_fixed (fun r u' => wpY_fixed (fun r' => r' = r ∧ i_Rel (k + 4) u' v) v v1 v2 v3) u v1 v2 v3) I ?_
  intro kd ws gv cs pl mo aw al ba sz rd zf rf od ro mk le hkd hT hC hX
  unfold wpX_fixed
  dsimp only
  rcases gb_cases v1 with ⟨q, hq, e⟩ | ⟨h0, h1⟩
  · subst e
    refine gb_x_ideal hq (br_f (by decide) ?_)
    rcases pk_ix v2 (n := 5) (by decide) with hn | hn | ⟨w, hw, e⟩
    · unfold wpY_fixed
      dsimp only
      exact br_t hn (gb_y_good hq (br_t rfl (br_t hn ⟨rfl, gb_rel_mk hkd hT hC hX⟩)))
    · have h1 : ¬ v2 < 0 := fun h => by
        have h2 := Int32.lt_of_le_of_lt hn h
        exact absurd h2 (by decide)
      have h2 : ¬ v2 ≤ 4 := fun h => by
        have h3 := Int32.le_trans hn h
        exact absurd h3 (by decide)
      unfold wpY_fixed
      dsimp only
      exact br_f h1 (br_f (Int32.not_lt.mpr hn) (gb_y_good hq (br_t rfl (br_f h1 (br_f h2 ⟨rfl, gb_rel_mk hkd hT hC hX⟩)))))
    · subst e
      refine br_f (nI_pos (by omega)) (br_t (nI_lt (b := 5) hw (by decide)) ?_)
      have hY : ∀ (bb : Bool) (ws' : Int32) (aw' al' ba' sz' rd' : Nat → Int32), gb_XI kd cs gv ba' sz' rd' → ∀ r : Int32, (gb_V (gb_Z cs gv q) (gb_e (2 ^ w) ^^^ gb_bI bb) → 1 = r) → (¬ gb_V (gb_Z cs gv q) (gb_e (2 ^ w) ^^^ gb_bI bb) → 0 = r) →
          wpY_fixed (fun r' => r' = r ∧ i_Rel (k + 4) (nI kd, ws', gv, cs, pl, mo, aw', al', ba', sz', rd') (nI kd, zf, rf, cs, gv, od, ro, mk, le)) (nI kd, zf, rf, cs, gv, od, ro, mk, le) (nI q) (nI w) (gb_bI bb) := fun bb ws' aw' al' ba' sz' rd' hX' r hr1 hr0 => by
        unfold wpY_fixed
        dsimp only
        refine gb_y_good hq (br_t rfl (br_f (nI_pos (by omega)) (br_t (nI_le (b := 4) (by omega) (by decide)) (br_f ?_ (br_t ?_ (gb_y_zerosOf hC hq (gb_y_fx44 hw (fun h => ⟨hr1 h, gb_rel_mk hkd hT hC hX'⟩) (fun h => ⟨hr0 h, gb_rel_mk hkd hT hC hX'⟩))))))))
        · cases bb <;> decide
        · cases bb <;> decide
      have key : ∀ bb : Bool, wX_fixed_33 (fun r u' => wpY_fixed (fun r' => r' = r ∧ i_Rel (k + 4) u' (nI kd, zf, rf, cs, gv, od, ro, mk, le)) (nI kd, zf, rf, cs, gv, od, ro, mk, le) (nI q) (nI w) (gb_bI bb)) (nI q) (nI w) (gb_bI bb) (nI kd) ws gv cs pl mo aw al ba sz rd := fun bb => by
        unfold wX_fixed_33
        rw [gb_tpow w hw]
        refine nm_e (gb_x_normalOf (ws := ws) hkd hT hC hX hq (fun r ws' aw' al' ba' sz' rd' hX' hN => ?_))
        have hiff := gb_NF_0 hkd hN
        refine br_c (fun e => ?_) (fun e => ?_)
        · exact hY bb ws' aw' al' ba' sz' rd' hX' 1 (fun _ => rfl) (fun hn => absurd (hiff.mp e) hn)
        · exact hY bb ws' aw' al' ba' sz' rd' hX' 0 (fun h => absurd (hiff.mpr h) e) (fun _ => rfl)
      by_cases b0 : v3 = 0
      · refine br_t b0 ?_
        rw [b0]
        exact key false
      · by_cases b1 : v3 = 1
        · refine br_f b0 (br_t b1 ?_)
          rw [b1]
          exact key true
        · unfold wpY_fixed
          dsimp only
          refine br_f b0 (br_f b1 (gb_y_good hq (br_t rfl (br_f (nI_pos (by omega)) (br_t (nI_le (b := 4) (by omega) (by decide)) ?_)))))
          exact br_c (fun _ => ⟨rfl, gb_rel_mk hkd hT hC hX⟩) (fun hn => br_f (fun hle => by rcases gb_01 hn hle with e | e; exact b0 e; exact b1 e) ⟨rfl, gb_rel_mk hkd hT hC hX⟩)
  · unfold wpY_fixed
    dsimp only
    exact gb_x_nideal h0 h1 (br_t rfl (gb_y_bad h0 h1 (br_f (by decide) ⟨rfl, gb_rel_mk hkd hT hC hX⟩)))
end
