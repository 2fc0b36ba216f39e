section
/-! pure rows to paste: stores, nI and lN arithmetic, masks, shifts, narrowing, branches by naturals (pk_le, pk_lt, pk_eq), loops (lp1 .. lp16: the measure of the state; rp1 ..: recursion), negatives. Take what you need -/
theorem pk_us {f : Nat → Int32} {k : Nat} {x : Int32} : upd f k x k = x := if_pos rfl
theorem pk_un {f : Nat → Int32} {k j : Nat} {x : Int32} (h : j ≠ k) : upd f k x j = f j := if_neg h
theorem pk_uLs {f : Nat → Int64} {k : Nat} {x : Int64} : vp_updL f k x k = x := if_pos rfl
theorem pk_uLn {f : Nat → Int64} {k j : Nat} {x : Int64} (h : j ≠ k) : vp_updL f k x j = f j := if_neg h
theorem pk_sub {a b : Nat} (h : b ≤ a) : nI a - nI b = nI (a - b) := by
  obtain ⟨c, rfl⟩ : ∃ c, a = c + b := ⟨a - b, by omega⟩
  rw [← nI_add, Int32.add_sub_cancel, Nat.add_sub_cancel]
theorem pk_m1 (n : Nat) : nI (n + 1) + (-1) = nI n := by
  rw [← nI_1, Int32.add_assoc, show (1 : Int32) + (-1) = 0 from rfl, Int32.add_zero]
theorem pk_mul (a b : Nat) : nI a * nI b = nI (a * b) := (Int32.ofNat_mul a b).symm
theorem pk_div {a d : Nat} (ha : a < 2 ^ 31) (h0 : 0 < d) (hd : d < 2 ^ 31) : nI a / nI d = nI (a / d) := by
  apply Int32.toInt_inj.mp
  rw [lg_idiv_nonneg (by rw [nI_toInt ha]; omega) (by rw [nI_toInt hd]; omega), nI_toInt ha, nI_toInt hd, nI_toInt (Nat.lt_of_le_of_lt (Nat.div_le_self a d) ha)]
  first | rfl | exact (Int.natCast_ediv _ _).symm
theorem pk_rem {a d : Nat} (ha : a < 2 ^ 31) (h0 : 0 < d) (hd : d < 2 ^ 31) : nI a - nI a / nI d * nI d = nI (a % d) := by
  rw [pk_div ha h0 hd, pk_mul, pk_sub (Nat.div_mul_le_self a d)]
  exact congrArg nI (by have := Nat.div_add_mod' a d; omega)
theorem pk_sub_toInt {a b : Nat} (ha : a < 2 ^ 30) (hb : b < 2 ^ 30) : (nI a - nI b).toInt = (a : Int) - b := by
  rw [Int32.toInt_sub, nI_toInt (by omega), nI_toInt (by omega)]
  exact Int.bmod_eq_of_le (by omega) (by omega)
theorem pk_sneg {a b : Nat} (hb : b < 2 ^ 30) (h : a < b) : nI a - nI b < 0 := by
  rw [Int32.lt_iff_toInt_lt, pk_sub_toInt (by omega) hb, show (0 : Int32).toInt = 0 from by decide]
  omega
theorem pk_ix (x : Int32) {n : Nat} (hn : n < 2 ^ 31) : x < 0 ∨ nI n ≤ x ∨ ∃ j : Nat, j < n ∧ x = nI j := by
  by_cases h : x < 0
  · exact Or.inl h
  · obtain ⟨j, hj, rfl⟩ := nI_of h
    by_cases h2 : j < n
    · exact Or.inr (Or.inr ⟨j, h2, rfl⟩)
    · exact Or.inr (Or.inl (nI_le (by omega) hj))
theorem pk_le {x y : Int32} {A B : Prop} (a b : Nat) (f : a ≤ b → A) (g : b < a → B) (hx : x = nI a := by rfl) (hy : y = nI b := by rfl) (ha : a < 2 ^ 31 := by omega) (hb : b < 2 ^ 31 := by omega) : (x ≤ y → A) ∧ (¬ x ≤ y → B) := by
  subst hx hy
  rw [nI_leI ha hb]
  exact ⟨f, fun z => g (by omega)⟩
theorem pk_lt {x y : Int32} {A B : Prop} (a b : Nat) (f : a < b → A) (g : b ≤ a → B) (hx : x = nI a := by rfl) (hy : y = nI b := by rfl) (ha : a < 2 ^ 31 := by omega) (hb : b < 2 ^ 31 := by omega) : (x < y → A) ∧ (¬ x < y → B) := by
  subst hx hy
  rw [nI_ltI ha hb]
  exact ⟨f, fun z => g (by omega)⟩
theorem pk_eq {x y : Int32} {A B : Prop} (a b : Nat) (f : a = b → A) (g : a ≠ b → B) (hx : x = nI a := by rfl) (hy : y = nI b := by rfl) (ha : a < 2 ^ 31 := by omega) (hb : b < 2 ^ 31 := by omega) : (x = y → A) ∧ (¬ x = y → B) := by
  subst hx hy
  rw [nI_eq ha hb]
  exact ⟨f, g⟩
theorem pk_in {x : Int32} (n N : Nat) (h : n < N) (hx : x = nI n := by rfl) (hN : N < 2 ^ 31 := by omega) : vp_in x N := by
  subst hx
  exact vp_in_nI h hN
theorem pk_cl {x : Int32} (n : Nat) (hx : x = nI n := by rfl) (h : n < 2 ^ 31 := by omega) : x.toNatClampNeg = n := by
  subst hx
  exact nI_clamp h
theorem pk_tn {n : Nat} (h : n < 2 ^ 32) : (nI n).toBitVec.toNat = n := Nat.mod_eq_of_lt h
theorem pk_and (x : Int32) {m : Int32} (k : Nat) (hm : m.toBitVec.toNat = 2 ^ k - 1) : x &&& m = nI (x.toBitVec.toNat % 2 ^ k) := by
  apply Int32.toBitVec_inj.mp
  apply BitVec.eq_of_toNat_eq
  rw [Int32.toBitVec_and, BitVec.toNat_and, hm, Nat.and_two_pow_sub_one_eq_mod]
  show _ = (BitVec.ofNat 32 _).toNat
  rw [BitVec.toNat_ofNat]
  exact (Nat.mod_eq_of_lt (Nat.lt_of_le_of_lt (Nat.mod_le _ _) x.toBitVec.isLt)).symm
theorem pk_andN {n : Nat} (h : n < 2 ^ 32) {m : Int32} (k : Nat) (hm : m.toBitVec.toNat = 2 ^ k - 1) : nI n &&& m = nI (n % 2 ^ k) := by
  rw [pk_and _ k hm, pk_tn h]
theorem pk_andE (x : Int32) {m : Int32} (k : Nat) (hm : m.toBitVec.toNat = 2 ^ k - 1) : ∃ j : Nat, j < 2 ^ k ∧ x &&& m = nI j := ⟨_, Nat.mod_lt _ (Nat.two_pow_pos k), pk_and x k hm⟩
theorem pk_andIn (x : Int32) {m : Int32} (k : Nat) (hm : m.toBitVec.toNat = 2 ^ k - 1) (hk : k ≤ 30) : vp_in (x &&& m) (2 ^ k) := by
  obtain ⟨j, hj, e⟩ := pk_andE x k hm
  rw [e]
  exact vp_in_nI hj (Nat.lt_of_le_of_lt (Nat.pow_le_pow_right (by decide) hk) (by decide))
theorem pk_shl (a s : Int32) (k : Nat) (hs : (s.toBitVec.smod 32).toNat = k) : (a <<< s).toBitVec.toNat = a.toBitVec.toNat * 2 ^ k % 2 ^ 32 := by
  show (a.toBitVec <<< (s.toBitVec.smod 32).toNat).toNat = _
  rw [hs, BitVec.toNat_shiftLeft, Nat.shiftLeft_eq]
theorem pk_shlN {n : Nat} (s : Int32) (k : Nat) (hs : (s.toBitVec.smod 32).toNat = k) (h : n * 2 ^ k < 2 ^ 32) : nI n <<< s = nI (n * 2 ^ k) := by
  apply Int32.toBitVec_inj.mp
  apply BitVec.eq_of_toNat_eq
  have hn : n < 2 ^ 32 := Nat.lt_of_le_of_lt (Nat.le_mul_of_pos_right n (Nat.two_pow_pos k)) h
  rw [pk_shl _ _ k hs, pk_tn hn, pk_tn h, Nat.mod_eq_of_lt h]
theorem pk_shr (a s : Int32) (k : Nat) (hs : (s.toBitVec.smod 32).toNat = k) : (a >>> s).toInt = a.toInt >>> k := by
  show (a.toBitVec.sshiftRight (s.toBitVec.smod 32).toNat).toInt = _
  rw [hs, BitVec.toInt_sshiftRight]
  rfl
theorem pk_shrN {n : Nat} (h : n < 2 ^ 31) (s : Int32) (k : Nat) (hs : (s.toBitVec.smod 32).toNat = k) : nI n >>> s = nI (n / 2 ^ k) := by
  apply Int32.toInt_inj.mp
  have h2 : n / 2 ^ k ≤ n := Nat.div_le_self _ _
  rw [pk_shr _ _ k hs, nI_toInt h, nI_toInt (by omega), Int.shiftRight_eq_div_pow]
  rfl
theorem pk_ushr (x s : Int32) (k : Nat) (hs : ((s.toUInt32 &&& Int32.toUInt32 31).toBitVec % 32).toNat = k) : (x.toUInt32 >>> (s.toUInt32 &&& Int32.toUInt32 31)).toInt32.toBitVec.toNat = x.toBitVec.toNat / 2 ^ k := by
  have e : (x.toUInt32 >>> (s.toUInt32 &&& Int32.toUInt32 31)).toInt32.toBitVec = x.toBitVec >>> k := by
    rw [← hs]
    exact UInt32.toBitVec_shiftRight _ _
  rw [e, BitVec.toNat_ushiftRight, Nat.shiftRight_eq_div_pow]
theorem pk_ushrN {n : Nat} (hn : n < 2 ^ 32) (s : Int32) (k : Nat) (hs : ((s.toUInt32 &&& Int32.toUInt32 31).toBitVec % 32).toNat = k) : ((nI n).toUInt32 >>> (s.toUInt32 &&& Int32.toUInt32 31)).toInt32 = nI (n / 2 ^ k) := by
  apply Int32.toBitVec_inj.mp
  apply BitVec.eq_of_toNat_eq
  rw [pk_ushr _ s k hs, pk_tn hn, pk_tn (Nat.lt_of_le_of_lt (Nat.div_le_self _ _) hn)]
theorem pk_nb (z : Int32) : narrow .byte (.int z.toInt8.toInt32) = .int z.toInt8.toInt32 := congrArg Value.int (by simp)
theorem pk_ns (z : Int32) : narrow .short (.int z.toInt16.toInt32) = .int z.toInt16.toInt32 := congrArg Value.int (by simp)
theorem pk_fb (r : Int32) : fits .byte (.int r.toInt8.toInt32) = true := by
  have ⟨a, b⟩ := lg_i2b_range r
  have h1 : (-128 : Int32).toInt = -128 := by decide
  have h2 : (127 : Int32).toInt = 127 := by decide
  simp only [fits, Bool.and_eq_true, decide_eq_true_eq, Int32.le_iff_toInt_le, h1, h2]
  omega
theorem pk_fs (r : Int32) : fits .short (.int r.toInt16.toInt32) = true := by
  have ⟨a, b⟩ := lg_i2s_range r
  have h1 : (-32768 : Int32).toInt = -32768 := by decide
  have h2 : (32767 : Int32).toInt = 32767 := by decide
  simp only [fits, Bool.and_eq_true, decide_eq_true_eq, Int32.le_iff_toInt_le, h1, h2]
  omega
theorem pk_charN {q : Nat} (hq : q < 65536) : narrow .char (.int (nI q)) = .int (nI q) ∧ fits .char (.int (nI q)) = true := by
  constructor
  · have e : (nI q).toUInt32.toUInt16.toUInt32.toInt32 = nI q := by
      apply Int32.toBitVec_inj.mp
      apply BitVec.eq_of_toNat_eq
      show (nI q).toUInt32.toUInt16.toUInt32.toNat = q % 2 ^ 32
      rw [UInt16.toNat_toUInt32, UInt32.toNat_toUInt16, show (nI q).toUInt32.toNat = q % 2 ^ 32 from rfl]
      omega
    exact congrArg Value.int e
  · have a : (0 : Int32) ≤ nI q := nI_pos' (by omega)
    have b : nI q ≤ 65535 := nI_le (b := 65535) (by omega) (by decide)
    show (decide ((0 : Int32) ≤ nI q) && decide (nI q ≤ 65535)) = true
    rw [decide_eq_true a, decide_eq_true b]
    rfl
theorem pk_char (x : Int32) : (x.toUInt32 % 65536).toInt32 = nI (x.toBitVec.toNat % 65536) := by
  apply Int32.toBitVec_inj.mp
  apply BitVec.eq_of_toNat_eq
  rw [pk_tn (by omega)]
  show (x.toUInt32 % 65536).toNat = _
  rw [UInt32.toNat_mod]
  rfl
theorem pk_nc (x : Int32) : narrow .char (.int (x.toUInt32 % 65536).toInt32) = .int (x.toUInt32 % 65536).toInt32 := by
  rw [pk_char]
  exact (pk_charN (Nat.mod_lt _ (by decide))).1
theorem pk_fc (x : Int32) : fits .char (.int (x.toUInt32 % 65536).toInt32) = true := by
  rw [pk_char]
  exact (pk_charN (Nat.mod_lt _ (by decide))).2
theorem pk_vb (z : Int32) : vp_nar .byte z.toInt8.toInt32 = z.toInt8.toInt32 := by rw [vp_nar_byte]; simp
theorem pk_vs (z : Int32) : vp_nar .short z.toInt16.toInt32 = z.toInt16.toInt32 := by rw [vp_nar_short]; simp
theorem pk_vc (z : Int32) : vp_nar .char (z.toUInt32 % 65536).toInt32 = (z.toUInt32 % 65536).toInt32 := Value.int.inj (pk_nc z)
theorem pk_lT {n : Nat} (h : n < 2 ^ 63) : (lN n).toInt = (n : Int) := lg_ofNat_toInt h
theorem pk_lLT {a b : Nat} (ha : a < 2 ^ 63) (hb : b < 2 ^ 63) : lN a < lN b ↔ a < b := by
  rw [Int64.lt_iff_toInt_lt, pk_lT ha, pk_lT hb]; omega
theorem pk_lLE {a b : Nat} (ha : a < 2 ^ 63) (hb : b < 2 ^ 63) : lN a ≤ lN b ↔ a ≤ b := by
  rw [Int64.le_iff_toInt_le, pk_lT ha, pk_lT hb]; omega
theorem pk_lEQ {a b : Nat} (ha : a < 2 ^ 63) (hb : b < 2 ^ 63) : lN a = lN b ↔ a = b := by
  rw [← Int64.toInt_inj, pk_lT ha, pk_lT hb]; omega
theorem pk_lOf {x : Int64} (h : ¬ x < 0) : ∃ k : Nat, k < 2 ^ 63 ∧ x = lN k := by
  rw [Int64.lt_iff_toInt_lt] at h
  have h0 : (0 : Int64).toInt = 0 := by decide
  have hx := Int64.toInt_lt x
  refine ⟨x.toInt.toNat, by omega, Int64.toInt_inj.mp ?_⟩
  rw [pk_lT (by omega)]
  omega
theorem pk_lDiv {a b : Nat} (ha : a < 2 ^ 63) (h0 : 0 < b) (hb : b < 2 ^ 63) : lN a / lN b = lN (a / b) := by
  apply Int64.toInt_inj.mp
  rw [lg_ldiv_nonneg (by rw [pk_lT ha]; omega) (by rw [pk_lT hb]; omega), pk_lT ha, pk_lT hb, pk_lT (Nat.lt_of_le_of_lt (Nat.div_le_self a b) ha)]
  rfl
theorem pk_lRem {a b : Nat} (ha : a < 2 ^ 63) (h0 : 0 < b) (hb : b < 2 ^ 63) : lN a - lN a / lN b * lN b = lN (a % b) := by
  rw [pk_lDiv ha h0 hb, lN_mul, lN_sub (Nat.div_mul_le_self a b)]
  exact congrArg lN (by have := Nat.div_add_mod' a b; omega)
theorem pk_loop {σ : Type} (W : Nat → Nat → σ → Prop) (I : Nat → σ → Prop) (e i0 : Nat) (s : σ) (hi : i0 ≤ e) (h0 : I i0 s) (hx : ∀ n s, I e s → W (n + 1) e s)
    (hs : ∀ n i s, i < e → I i s → (∀ s', I (i + 1) s' → W n (i + 1) s') → W (n + 1) i s) : ∃ n, W n i0 s :=
  ⟨e + 1, loop_i W I e hx hs (e + 1) i0 s hi (by omega) h0⟩
theorem pk_loopD {σ : Type} (W : Nat → Nat → σ → Prop) (I : Nat → σ → Prop) (hx : ∀ n s, I 0 s → W (n + 1) 0 s)
    (hs : ∀ n i s, I (i + 1) s → (∀ s', I i s' → W n i s') → W (n + 1) (i + 1) s) : ∀ (e : Nat) (s : σ), I e s → W (e + 1) e s := by
  intro e
  induction e with
  | zero => exact fun s h => hx 0 s h
  | succ e ih => exact fun s h => hs (e + 1) e s h (fun s' h' => ih s' h')
theorem lp1 {A1 : Type} (W : Nat → A1 → Prop) (I : A1 → Prop) (μ : A1 → Nat) (hs : ∀ (n : Nat) (a1 : A1), I a1 → (∀ (b1 : A1), I b1 → μ b1 < μ a1 → W n b1) → W (n + 1) a1) (a1 : A1) (h : I a1) : ∃ n, W n a1 :=
  loop_m (σ := A1) (fun n s => W n s) (fun s => I s) (fun s => μ s) (fun n s hI hk => hs n s hI (fun b1 h9 hm => hk b1 h9 hm)) a1 h
theorem lp2 {A1 A2 : Type} (W : Nat → A1 → A2 → Prop) (I : A1 → A2 → Prop) (μ : A1 → A2 → Nat) (hs : ∀ (n : Nat) (a1 : A1) (a2 : A2), I a1 a2 → (∀ (b1 : A1) (b2 : A2), I b1 b2 → μ b1 b2 < μ a1 a2 → W n b1 b2) → W (n + 1) a1 a2) (a1 : A1) (a2 : A2) (h : I a1 a2) : ∃ n, W n a1 a2 :=
  loop_m (σ := A1 × A2) (fun n s => W n s.1 s.2) (fun s => I s.1 s.2) (fun s => μ s.1 s.2) (fun n s hI hk => hs n s.1 s.2 hI (fun b1 b2 h9 hm => hk (b1, b2) h9 hm)) (a1, a2) h
theorem lp3 {A1 A2 A3 : Type} (W : Nat → A1 → A2 → A3 → Prop) (I : A1 → A2 → A3 → Prop) (μ : A1 → A2 → A3 → Nat) (hs : ∀ (n : Nat) (a1 : A1) (a2 : A2) (a3 : A3), I a1 a2 a3 → (∀ (b1 : A1) (b2 : A2) (b3 : A3), I b1 b2 b3 → μ b1 b2 b3 < μ a1 a2 a3 → W n b1 b2 b3) → W (n + 1) a1 a2 a3) (a1 : A1) (a2 : A2) (a3 : A3) (h : I a1 a2 a3) : ∃ n, W n a1 a2 a3 :=
  loop_m (σ := A1 × A2 × A3) (fun n s => W n s.1 s.2.1 s.2.2) (fun s => I s.1 s.2.1 s.2.2) (fun s => μ s.1 s.2.1 s.2.2) (fun n s hI hk => hs n s.1 s.2.1 s.2.2 hI (fun b1 b2 b3 h9 hm => hk (b1, b2, b3) h9 hm)) (a1, a2, a3) h
theorem lp4 {A1 A2 A3 A4 : Type} (W : Nat → A1 → A2 → A3 → A4 → Prop) (I : A1 → A2 → A3 → A4 → Prop) (μ : A1 → A2 → A3 → A4 → Nat) (hs : ∀ (n : Nat) (a1 : A1) (a2 : A2) (a3 : A3) (a4 : A4), I a1 a2 a3 a4 → (∀ (b1 : A1) (b2 : A2) (b3 : A3) (b4 : A4), I b1 b2 b3 b4 → μ b1 b2 b3 b4 < μ a1 a2 a3 a4 → W n b1 b2 b3 b4) → W (n + 1) a1 a2 a3 a4) (a1 : A1) (a2 : A2) (a3 : A3) (a4 : A4) (h : I a1 a2 a3 a4) : ∃ n, W n a1 a2 a3 a4 :=
  loop_m (σ := A1 × A2 × A3 × A4) (fun n s => W n s.1 s.2.1 s.2.2.1 s.2.2.2) (fun s => I s.1 s.2.1 s.2.2.1 s.2.2.2) (fun s => μ s.1 s.2.1 s.2.2.1 s.2.2.2) (fun n s hI hk => hs n s.1 s.2.1 s.2.2.1 s.2.2.2 hI (fun b1 b2 b3 b4 h9 hm => hk (b1, b2, b3, b4) h9 hm)) (a1, a2, a3, a4) h
theorem lp5 {A1 A2 A3 A4 A5 : Type} (W : Nat → A1 → A2 → A3 → A4 → A5 → Prop) (I : A1 → A2 → A3 → A4 → A5 → Prop) (μ : A1 → A2 → A3 → A4 → A5 → Nat) (hs : ∀ (n : Nat) (a1 : A1) (a2 : A2) (a3 : A3) (a4 : A4) (a5 : A5), I a1 a2 a3 a4 a5 → (∀ (b1 : A1) (b2 : A2) (b3 : A3) (b4 : A4) (b5 : A5), I b1 b2 b3 b4 b5 → μ b1 b2 b3 b4 b5 < μ a1 a2 a3 a4 a5 → W n b1 b2 b3 b4 b5) → W (n + 1) a1 a2 a3 a4 a5) (a1 : A1) (a2 : A2) (a3 : A3) (a4 : A4) (a5 : A5) (h : I a1 a2 a3 a4 a5) : ∃ n, W n a1 a2 a3 a4 a5 :=
  loop_m (σ := A1 × A2 × A3 × A4 × A5) (fun n s => W n s.1 s.2.1 s.2.2.1 s.2.2.2.1 s.2.2.2.2) (fun s => I s.1 s.2.1 s.2.2.1 s.2.2.2.1 s.2.2.2.2) (fun s => μ s.1 s.2.1 s.2.2.1 s.2.2.2.1 s.2.2.2.2) (fun n s hI hk => hs n s.1 s.2.1 s.2.2.1 s.2.2.2.1 s.2.2.2.2 hI (fun b1 b2 b3 b4 b5 h9 hm => hk (b1, b2, b3, b4, b5) h9 hm)) (a1, a2, a3, a4, a5) h
theorem lp6 {A1 A2 A3 A4 A5 A6 : Type} (W : Nat → A1 → A2 → A3 → A4 → A5 → A6 → Prop) (I : A1 → A2 → A3 → A4 → A5 → A6 → Prop) (μ : A1 → A2 → A3 → A4 → A5 → A6 → Nat) (hs : ∀ (n : Nat) (a1 : A1) (a2 : A2) (a3 : A3) (a4 : A4) (a5 : A5) (a6 : A6), I a1 a2 a3 a4 a5 a6 → (∀ (b1 : A1) (b2 : A2) (b3 : A3) (b4 : A4) (b5 : A5) (b6 : A6), I b1 b2 b3 b4 b5 b6 → μ b1 b2 b3 b4 b5 b6 < μ a1 a2 a3 a4 a5 a6 → W n b1 b2 b3 b4 b5 b6) → W (n + 1) a1 a2 a3 a4 a5 a6) (a1 : A1) (a2 : A2) (a3 : A3) (a4 : A4) (a5 : A5) (a6 : A6) (h : I a1 a2 a3 a4 a5 a6) : ∃ n, W n a1 a2 a3 a4 a5 a6 :=
  loop_m (σ := A1 × A2 × A3 × A4 × A5 × A6) (fun n s => W n s.1 s.2.1 s.2.2.1 s.2.2.2.1 s.2.2.2.2.1 s.2.2.2.2.2) (fun s => I s.1 s.2.1 s.2.2.1 s.2.2.2.1 s.2.2.2.2.1 s.2.2.2.2.2) (fun s => μ s.1 s.2.1 s.2.2.1 s.2.2.2.1 s.2.2.2.2.1 s.2.2.2.2.2) (fun n s hI hk => hs n s.1 s.2.1 s.2.2.1 s.2.2.2.1 s.2.2.2.2.1 s.2.2.2.2.2 hI (fun b1 b2 b3 b4 b5 b6 h9 hm => hk (b1, b2, b3, b4, b5, b6) h9 hm)) (a1, a2, a3, a4, a5, a6) h
theorem lp7 {A1 A2 A3 A4 A5 A6 A7 : Type} (W : Nat → A1 → A2 → A3 → A4 → A5 → A6 → A7 → Prop) (I : A1 → A2 → A3 → A4 → A5 → A6 → A7 → Prop) (μ : A1 → A2 → A3 → A4 → A5 → A6 → A7 → Nat) (hs : ∀ (n : Nat) (a1 : A1) (a2 : A2) (a3 : A3) (a4 : A4) (a5 : A5) (a6 : A6) (a7 : A7), I a1 a2 a3 a4 a5 a6 a7 → (∀ (b1 : A1) (b2 : A2) (b3 : A3) (b4 : A4) (b5 : A5) (b6 : A6) (b7 : A7), I b1 b2 b3 b4 b5 b6 b7 → μ b1 b2 b3 b4 b5 b6 b7 < μ a1 a2 a3 a4 a5 a6 a7 → W n b1 b2 b3 b4 b5 b6 b7) → W (n + 1) a1 a2 a3 a4 a5 a6 a7) (a1 : A1) (a2 : A2) (a3 : A3) (a4 : A4) (a5 : A5) (a6 : A6) (a7 : A7) (h : I a1 a2 a3 a4 a5 a6 a7) : ∃ n, W n a1 a2 a3 a4 a5 a6 a7 :=
  loop_m (σ := A1 × A2 × A3 × A4 × A5 × A6 × A7) (fun n s => W n s.1 s.2.1 s.2.2.1 s.2.2.2.1 s.2.2.2.2.1 s.2.2.2.2.2.1 s.2.2.2.2.2.2) (fun s => I s.1 s.2.1 s.2.2.1 s.2.2.2.1 s.2.2.2.2.1 s.2.2.2.2.2.1 s.2.2.2.2.2.2) (fun s => μ s.1 s.2.1 s.2.2.1 s.2.2.2.1 s.2.2.2.2.1 s.2.2.2.2.2.1 s.2.2.2.2.2.2) (fun n s hI hk => hs n s.1 s.2.1 s.2.2.1 s.2.2.2.1 s.2.2.2.2.1 s.2.2.2.2.2.1 s.2.2.2.2.2.2 hI (fun b1 b2 b3 b4 b5 b6 b7 h9 hm => hk (b1, b2, b3, b4, b5, b6, b7) h9 hm)) (a1, a2, a3, a4, a5, a6, a7) h
theorem lp8 {A1 A2 A3 A4 A5 A6 A7 A8 : Type} (W : Nat → A1 → A2 → A3 → A4 → A5 → A6 → A7 → A8 → Prop) (I : A1 → A2 → A3 → A4 → A5 → A6 → A7 → A8 → Prop) (μ : A1 → A2 → A3 → A4 → A5 → A6 → A7 → A8 → Nat) (hs : ∀ (n : Nat) (a1 : A1) (a2 : A2) (a3 : A3) (a4 : A4) (a5 : A5) (a6 : A6) (a7 : A7) (a8 : A8), I a1 a2 a3 a4 a5 a6 a7 a8 → (∀ (b1 : A1) (b2 : A2) (b3 : A3) (b4 : A4) (b5 : A5) (b6 : A6) (b7 : A7) (b8 : A8), I b1 b2 b3 b4 b5 b6 b7 b8 → μ b1 b2 b3 b4 b5 b6 b7 b8 < μ a1 a2 a3 a4 a5 a6 a7 a8 → W n b1 b2 b3 b4 b5 b6 b7 b8) → W (n + 1) a1 a2 a3 a4 a5 a6 a7 a8) (a1 : A1) (a2 : A2) (a3 : A3) (a4 : A4) (a5 : A5) (a6 : A6) (a7 : A7) (a8 : A8) (h : I a1 a2 a3 a4 a5 a6 a7 a8) : ∃ n, W n a1 a2 a3 a4 a5 a6 a7 a8 :=
  loop_m (σ := A1 × A2 × A3 × A4 × A5 × A6 × A7 × A8) (fun n s => W n s.1 s.2.1 s.2.2.1 s.2.2.2.1 s.2.2.2.2.1 s.2.2.2.2.2.1 s.2.2.2.2.2.2.1 s.2.2.2.2.2.2.2) (fun s => I s.1 s.2.1 s.2.2.1 s.2.2.2.1 s.2.2.2.2.1 s.2.2.2.2.2.1 s.2.2.2.2.2.2.1 s.2.2.2.2.2.2.2) (fun s => μ s.1 s.2.1 s.2.2.1 s.2.2.2.1 s.2.2.2.2.1 s.2.2.2.2.2.1 s.2.2.2.2.2.2.1 s.2.2.2.2.2.2.2) (fun n s hI hk => hs n s.1 s.2.1 s.2.2.1 s.2.2.2.1 s.2.2.2.2.1 s.2.2.2.2.2.1 s.2.2.2.2.2.2.1 s.2.2.2.2.2.2.2 hI (fun b1 b2 b3 b4 b5 b6 b7 b8 h9 hm => hk (b1, b2, b3, b4, b5, b6, b7, b8) h9 hm)) (a1, a2, a3, a4, a5, a6, a7, a8) h
theorem lp9 {A1 A2 A3 A4 A5 A6 A7 A8 A9 : Type} (W : Nat → A1 → A2 → A3 → A4 → A5 → A6 → A7 → A8 → A9 → Prop) (I : A1 → A2 → A3 → A4 → A5 → A6 → A7 → A8 → A9 → Prop) (μ : A1 → A2 → A3 → A4 → A5 → A6 → A7 → A8 → A9 → Nat) (hs : ∀ (n : Nat) (a1 : A1) (a2 : A2) (a3 : A3) (a4 : A4) (a5 : A5) (a6 : A6) (a7 : A7) (a8 : A8) (a9 : A9), I a1 a2 a3 a4 a5 a6 a7 a8 a9 → (∀ (b1 : A1) (b2 : A2) (b3 : A3) (b4 : A4) (b5 : A5) (b6 : A6) (b7 : A7) (b8 : A8) (b9 : A9), I b1 b2 b3 b4 b5 b6 b7 b8 b9 → μ b1 b2 b3 b4 b5 b6 b7 b8 b9 < μ a1 a2 a3 a4 a5 a6 a7 a8 a9 → W n b1 b2 b3 b4 b5 b6 b7 b8 b9) → W (n + 1) a1 a2 a3 a4 a5 a6 a7 a8 a9) (a1 : A1) (a2 : A2) (a3 : A3) (a4 : A4) (a5 : A5) (a6 : A6) (a7 : A7) (a8 : A8) (a9 : A9) (h : I a1 a2 a3 a4 a5 a6 a7 a8 a9) : ∃ n, W n a1 a2 a3 a4 a5 a6 a7 a8 a9 :=
  loop_m (σ := A1 × A2 × A3 × A4 × A5 × A6 × A7 × A8 × A9) (fun n s => W n s.1 s.2.1 s.2.2.1 s.2.2.2.1 s.2.2.2.2.1 s.2.2.2.2.2.1 s.2.2.2.2.2.2.1 s.2.2.2.2.2.2.2.1 s.2.2.2.2.2.2.2.2) (fun s => I s.1 s.2.1 s.2.2.1 s.2.2.2.1 s.2.2.2.2.1 s.2.2.2.2.2.1 s.2.2.2.2.2.2.1 s.2.2.2.2.2.2.2.1 s.2.2.2.2.2.2.2.2) (fun s => μ s.1 s.2.1 s.2.2.1 s.2.2.2.1 s.2.2.2.2.1 s.2.2.2.2.2.1 s.2.2.2.2.2.2.1 s.2.2.2.2.2.2.2.1 s.2.2.2.2.2.2.2.2) (fun n s hI hk => hs n s.1 s.2.1 s.2.2.1 s.2.2.2.1 s.2.2.2.2.1 s.2.2.2.2.2.1 s.2.2.2.2.2.2.1 s.2.2.2.2.2.2.2.1 s.2.2.2.2.2.2.2.2 hI (fun b1 b2 b3 b4 b5 b6 b7 b8 b9 h9 hm => hk (b1, b2, b3, b4, b5, b6, b7, b8, b9) h9 hm)) (a1, a2, a3, a4, a5, a6, a7, a8, a9) h
theorem lp10 {A1 A2 A3 A4 A5 A6 A7 A8 A9 A10 : Type} (W : Nat → A1 → A2 → A3 → A4 → A5 → A6 → A7 → A8 → A9 → A10 → Prop) (I : A1 → A2 → A3 → A4 → A5 → A6 → A7 → A8 → A9 → A10 → Prop) (μ : A1 → A2 → A3 → A4 → A5 → A6 → A7 → A8 → A9 → A10 → Nat) (hs : ∀ (n : Nat) (a1 : A1) (a2 : A2) (a3 : A3) (a4 : A4) (a5 : A5) (a6 : A6) (a7 : A7) (a8 : A8) (a9 : A9) (a10 : A10), I a1 a2 a3 a4 a5 a6 a7 a8 a9 a10 → (∀ (b1 : A1) (b2 : A2) (b3 : A3) (b4 : A4) (b5 : A5) (b6 : A6) (b7 : A7) (b8 : A8) (b9 : A9) (b10 : A10), I b1 b2 b3 b4 b5 b6 b7 b8 b9 b10 → μ b1 b2 b3 b4 b5 b6 b7 b8 b9 b10 < μ a1 a2 a3 a4 a5 a6 a7 a8 a9 a10 → W n b1 b2 b3 b4 b5 b6 b7 b8 b9 b10) → W (n + 1) a1 a2 a3 a4 a5 a6 a7 a8 a9 a10) (a1 : A1) (a2 : A2) (a3 : A3) (a4 : A4) (a5 : A5) (a6 : A6) (a7 : A7) (a8 : A8) (a9 : A9) (a10 : A10) (h : I a1 a2 a3 a4 a5 a6 a7 a8 a9 a10) : ∃ n, W n a1 a2 a3 a4 a5 a6 a7 a8 a9 a10 :=
  loop_m (σ := A1 × A2 × A3 × A4 × A5 × A6 × A7 × A8 × A9 × A10) (fun n s => W n s.1 s.2.1 s.2.2.1 s.2.2.2.1 s.2.2.2.2.1 s.2.2.2.2.2.1 s.2.2.2.2.2.2.1 s.2.2.2.2.2.2.2.1 s.2.2.2.2.2.2.2.2.1 s.2.2.2.2.2.2.2.2.2) (fun s => I s.1 s.2.1 s.2.2.1 s.2.2.2.1 s.2.2.2.2.1 s.2.2.2.2.2.1 s.2.2.2.2.2.2.1 s.2.2.2.2.2.2.2.1 s.2.2.2.2.2.2.2.2.1 s.2.2.2.2.2.2.2.2.2) (fun s => μ s.1 s.2.1 s.2.2.1 s.2.2.2.1 s.2.2.2.2.1 s.2.2.2.2.2.1 s.2.2.2.2.2.2.1 s.2.2.2.2.2.2.2.1 s.2.2.2.2.2.2.2.2.1 s.2.2.2.2.2.2.2.2.2) (fun n s hI hk => hs n s.1 s.2.1 s.2.2.1 s.2.2.2.1 s.2.2.2.2.1 s.2.2.2.2.2.1 s.2.2.2.2.2.2.1 s.2.2.2.2.2.2.2.1 s.2.2.2.2.2.2.2.2.1 s.2.2.2.2.2.2.2.2.2 hI (fun b1 b2 b3 b4 b5 b6 b7 b8 b9 b10 h9 hm => hk (b1, b2, b3, b4, b5, b6, b7, b8, b9, b10) h9 hm)) (a1, a2, a3, a4, a5, a6, a7, a8, a9, a10) h
theorem lp11 {A1 A2 A3 A4 A5 A6 A7 A8 A9 A10 A11 : Type} (W : Nat → A1 → A2 → A3 → A4 → A5 → A6 → A7 → A8 → A9 → A10 → A11 → Prop) (I : A1 → A2 → A3 → A4 → A5 → A6 → A7 → A8 → A9 → A10 → A11 → Prop) (μ : A1 → A2 → A3 → A4 → A5 → A6 → A7 → A8 → A9 → A10 → A11 → Nat) (hs : ∀ (n : Nat) (a1 : A1) (a2 : A2) (a3 : A3) (a4 : A4) (a5 : A5) (a6 : A6) (a7 : A7) (a8 : A8) (a9 : A9) (a10 : A10) (a11 : A11), I a1 a2 a3 a4 a5 a6 a7 a8 a9 a10 a11 → (∀ (b1 : A1) (b2 : A2) (b3 : A3) (b4 : A4) (b5 : A5) (b6 : A6) (b7 : A7) (b8 : A8) (b9 : A9) (b10 : A10) (b11 : A11), I b1 b2 b3 b4 b5 b6 b7 b8 b9 b10 b11 → μ b1 b2 b3 b4 b5 b6 b7 b8 b9 b10 b11 < μ a1 a2 a3 a4 a5 a6 a7 a8 a9 a10 a11 → W n b1 b2 b3 b4 b5 b6 b7 b8 b9 b10 b11) → W (n + 1) a1 a2 a3 a4 a5 a6 a7 a8 a9 a10 a11) (a1 : A1) (a2 : A2) (a3 : A3) (a4 : A4) (a5 : A5) (a6 : A6) (a7 : A7) (a8 : A8) (a9 : A9) (a10 : A10) (a11 : A11) (h : I a1 a2 a3 a4 a5 a6 a7 a8 a9 a10 a11) : ∃ n, W n a1 a2 a3 a4 a5 a6 a7 a8 a9 a10 a11 :=
  loop_m (σ := A1 × A2 × A3 × A4 × A5 × A6 × A7 × A8 × A9 × A10 × A11) (fun n s => W n s.1 s.2.1 s.2.2.1 s.2.2.2.1 s.2.2.2.2.1 s.2.2.2.2.2.1 s.2.2.2.2.2.2.1 s.2.2.2.2.2.2.2.1 s.2.2.2.2.2.2.2.2.1 s.2.2.2.2.2.2.2.2.2.1 s.2.2.2.2.2.2.2.2.2.2) (fun s => I s.1 s.2.1 s.2.2.1 s.2.2.2.1 s.2.2.2.2.1 s.2.2.2.2.2.1 s.2.2.2.2.2.2.1 s.2.2.2.2.2.2.2.1 s.2.2.2.2.2.2.2.2.1 s.2.2.2.2.2.2.2.2.2.1 s.2.2.2.2.2.2.2.2.2.2) (fun s => μ s.1 s.2.1 s.2.2.1 s.2.2.2.1 s.2.2.2.2.1 s.2.2.2.2.2.1 s.2.2.2.2.2.2.1 s.2.2.2.2.2.2.2.1 s.2.2.2.2.2.2.2.2.1 s.2.2.2.2.2.2.2.2.2.1 s.2.2.2.2.2.2.2.2.2.2) (fun n s hI hk => hs n s.1 s.2.1 s.2.2.1 s.2.2.2.1 s.2.2.2.2.1 s.2.2.2.2.2.1 s.2.2.2.2.2.2.1 s.2.2.2.2.2.2.2.1 s.2.2.2.2.2.2.2.2.1 s.2.2.2.2.2.2.2.2.2.1 s.2.2.2.2.2.2.2.2.2.2 hI (fun b1 b2 b3 b4 b5 b6 b7 b8 b9 b10 b11 h9 hm => hk (b1, b2, b3, b4, b5, b6, b7, b8, b9, b10, b11) h9 hm)) (a1, a2, a3, a4, a5, a6, a7, a8, a9, a10, a11) h
theorem lp12 {A1 A2 A3 A4 A5 A6 A7 A8 A9 A10 A11 A12 : Type} (W : Nat → A1 → A2 → A3 → A4 → A5 → A6 → A7 → A8 → A9 → A10 → A11 → A12 → Prop) (I : A1 → A2 → A3 → A4 → A5 → A6 → A7 → A8 → A9 → A10 → A11 → A12 → Prop) (μ : A1 → A2 → A3 → A4 → A5 → A6 → A7 → A8 → A9 → A10 → A11 → A12 → Nat) (hs : ∀ (n : Nat) (a1 : A1) (a2 : A2) (a3 : A3) (a4 : A4) (a5 : A5) (a6 : A6) (a7 : A7) (a8 : A8) (a9 : A9) (a10 : A10) (a11 : A11) (a12 : A12), I a1 a2 a3 a4 a5 a6 a7 a8 a9 a10 a11 a12 → (∀ (b1 : A1) (b2 : A2) (b3 : A3) (b4 : A4) (b5 : A5) (b6 : A6) (b7 : A7) (b8 : A8) (b9 : A9) (b10 : A10) (b11 : A11) (b12 : A12), I b1 b2 b3 b4 b5 b6 b7 b8 b9 b10 b11 b12 → μ b1 b2 b3 b4 b5 b6 b7 b8 b9 b10 b11 b12 < μ a1 a2 a3 a4 a5 a6 a7 a8 a9 a10 a11 a12 → W n b1 b2 b3 b4 b5 b6 b7 b8 b9 b10 b11 b12) → W (n + 1) a1 a2 a3 a4 a5 a6 a7 a8 a9 a10 a11 a12) (a1 : A1) (a2 : A2) (a3 : A3) (a4 : A4) (a5 : A5) (a6 : A6) (a7 : A7) (a8 : A8) (a9 : A9) (a10 : A10) (a11 : A11) (a12 : A12) (h : I a1 a2 a3 a4 a5 a6 a7 a8 a9 a10 a11 a12) : ∃ n, W n a1 a2 a3 a4 a5 a6 a7 a8 a9 a10 a11 a12 :=
  loop_m (σ := A1 × A2 × A3 × A4 × A5 × A6 × A7 × A8 × A9 × A10 × A11 × A12) (fun n s => W n s.1 s.2.1 s.2.2.1 s.2.2.2.1 s.2.2.2.2.1 s.2.2.2.2.2.1 s.2.2.2.2.2.2.1 s.2.2.2.2.2.2.2.1 s.2.2.2.2.2.2.2.2.1 s.2.2.2.2.2.2.2.2.2.1 s.2.2.2.2.2.2.2.2.2.2.1 s.2.2.2.2.2.2.2.2.2.2.2) (fun s => I s.1 s.2.1 s.2.2.1 s.2.2.2.1 s.2.2.2.2.1 s.2.2.2.2.2.1 s.2.2.2.2.2.2.1 s.2.2.2.2.2.2.2.1 s.2.2.2.2.2.2.2.2.1 s.2.2.2.2.2.2.2.2.2.1 s.2.2.2.2.2.2.2.2.2.2.1 s.2.2.2.2.2.2.2.2.2.2.2) (fun s => μ s.1 s.2.1 s.2.2.1 s.2.2.2.1 s.2.2.2.2.1 s.2.2.2.2.2.1 s.2.2.2.2.2.2.1 s.2.2.2.2.2.2.2.1 s.2.2.2.2.2.2.2.2.1 s.2.2.2.2.2.2.2.2.2.1 s.2.2.2.2.2.2.2.2.2.2.1 s.2.2.2.2.2.2.2.2.2.2.2) (fun n s hI hk => hs n s.1 s.2.1 s.2.2.1 s.2.2.2.1 s.2.2.2.2.1 s.2.2.2.2.2.1 s.2.2.2.2.2.2.1 s.2.2.2.2.2.2.2.1 s.2.2.2.2.2.2.2.2.1 s.2.2.2.2.2.2.2.2.2.1 s.2.2.2.2.2.2.2.2.2.2.1 s.2.2.2.2.2.2.2.2.2.2.2 hI (fun b1 b2 b3 b4 b5 b6 b7 b8 b9 b10 b11 b12 h9 hm => hk (b1, b2, b3, b4, b5, b6, b7, b8, b9, b10, b11, b12) h9 hm)) (a1, a2, a3, a4, a5, a6, a7, a8, a9, a10, a11, a12) h
theorem lp13 {A1 A2 A3 A4 A5 A6 A7 A8 A9 A10 A11 A12 A13 : Type} (W : Nat → A1 → A2 → A3 → A4 → A5 → A6 → A7 → A8 → A9 → A10 → A11 → A12 → A13 → Prop) (I : A1 → A2 → A3 → A4 → A5 → A6 → A7 → A8 → A9 → A10 → A11 → A12 → A13 → Prop) (μ : A1 → A2 → A3 → A4 → A5 → A6 → A7 → A8 → A9 → A10 → A11 → A12 → A13 → Nat) (hs : ∀ (n : Nat) (a1 : A1) (a2 : A2) (a3 : A3) (a4 : A4) (a5 : A5) (a6 : A6) (a7 : A7) (a8 : A8) (a9 : A9) (a10 : A10) (a11 : A11) (a12 : A12) (a13 : A13), I a1 a2 a3 a4 a5 a6 a7 a8 a9 a10 a11 a12 a13 → (∀ (b1 : A1) (b2 : A2) (b3 : A3) (b4 : A4) (b5 : A5) (b6 : A6) (b7 : A7) (b8 : A8) (b9 : A9) (b10 : A10) (b11 : A11) (b12 : A12) (b13 : A13), I b1 b2 b3 b4 b5 b6 b7 b8 b9 b10 b11 b12 b13 → μ b1 b2 b3 b4 b5 b6 b7 b8 b9 b10 b11 b12 b13 < μ a1 a2 a3 a4 a5 a6 a7 a8 a9 a10 a11 a12 a13 → W n b1 b2 b3 b4 b5 b6 b7 b8 b9 b10 b11 b12 b13) → W (n + 1) a1 a2 a3 a4 a5 a6 a7 a8 a9 a10 a11 a12 a13) (a1 : A1) (a2 : A2) (a3 : A3) (a4 : A4) (a5 : A5) (a6 : A6) (a7 : A7) (a8 : A8) (a9 : A9) (a10 : A10) (a11 : A11) (a12 : A12) (a13 : A13) (h : I a1 a2 a3 a4 a5 a6 a7 a8 a9 a10 a11 a12 a13) : ∃ n, W n a1 a2 a3 a4 a5 a6 a7 a8 a9 a10 a11 a12 a13 :=
  loop_m (σ := A1 × A2 × A3 × A4 × A5 × A6 × A7 × A8 × A9 × A10 × A11 × A12 × A13) (fun n s => W n s.1 s.2.1 s.2.2.1 s.2.2.2.1 s.2.2.2.2.1 s.2.2.2.2.2.1 s.2.2.2.2.2.2.1 s.2.2.2.2.2.2.2.1 s.2.2.2.2.2.2.2.2.1 s.2.2.2.2.2.2.2.2.2.1 s.2.2.2.2.2.2.2.2.2.2.1 s.2.2.2.2.2.2.2.2.2.2.2.1 s.2.2.2.2.2.2.2.2.2.2.2.2) (fun s => I s.1 s.2.1 s.2.2.1 s.2.2.2.1 s.2.2.2.2.1 s.2.2.2.2.2.1 s.2.2.2.2.2.2.1 s.2.2.2.2.2.2.2.1 s.2.2.2.2.2.2.2.2.1 s.2.2.2.2.2.2.2.2.2.1 s.2.2.2.2.2.2.2.2.2.2.1 s.2.2.2.2.2.2.2.2.2.2.2.1 s.2.2.2.2.2.2.2.2.2.2.2.2) (fun s => μ s.1 s.2.1 s.2.2.1 s.2.2.2.1 s.2.2.2.2.1 s.2.2.2.2.2.1 s.2.2.2.2.2.2.1 s.2.2.2.2.2.2.2.1 s.2.2.2.2.2.2.2.2.1 s.2.2.2.2.2.2.2.2.2.1 s.2.2.2.2.2.2.2.2.2.2.1 s.2.2.2.2.2.2.2.2.2.2.2.1 s.2.2.2.2.2.2.2.2.2.2.2.2) (fun n s hI hk => hs n s.1 s.2.1 s.2.2.1 s.2.2.2.1 s.2.2.2.2.1 s.2.2.2.2.2.1 s.2.2.2.2.2.2.1 s.2.2.2.2.2.2.2.1 s.2.2.2.2.2.2.2.2.1 s.2.2.2.2.2.2.2.2.2.1 s.2.2.2.2.2.2.2.2.2.2.1 s.2.2.2.2.2.2.2.2.2.2.2.1 s.2.2.2.2.2.2.2.2.2.2.2.2 hI (fun b1 b2 b3 b4 b5 b6 b7 b8 b9 b10 b11 b12 b13 h9 hm => hk (b1, b2, b3, b4, b5, b6, b7, b8, b9, b10, b11, b12, b13) h9 hm)) (a1, a2, a3, a4, a5, a6, a7, a8, a9, a10, a11, a12, a13) h
theorem lp14 {A1 A2 A3 A4 A5 A6 A7 A8 A9 A10 A11 A12 A13 A14 : Type} (W : Nat → A1 → A2 → A3 → A4 → A5 → A6 → A7 → A8 → A9 → A10 → A11 → A12 → A13 → A14 → Prop) (I : A1 → A2 → A3 → A4 → A5 → A6 → A7 → A8 → A9 → A10 → A11 → A12 → A13 → A14 → Prop) (μ : A1 → A2 → A3 → A4 → A5 → A6 → A7 → A8 → A9 → A10 → A11 → A12 → A13 → A14 → Nat) (hs : ∀ (n : Nat) (a1 : A1) (a2 : A2) (a3 : A3) (a4 : A4) (a5 : A5) (a6 : A6) (a7 : A7) (a8 : A8) (a9 : A9) (a10 : A10) (a11 : A11) (a12 : A12) (a13 : A13) (a14 : A14), I a1 a2 a3 a4 a5 a6 a7 a8 a9 a10 a11 a12 a13 a14 → (∀ (b1 : A1) (b2 : A2) (b3 : A3) (b4 : A4) (b5 : A5) (b6 : A6) (b7 : A7) (b8 : A8) (b9 : A9) (b10 : A10) (b11 : A11) (b12 : A12) (b13 : A13) (b14 : A14), I b1 b2 b3 b4 b5 b6 b7 b8 b9 b10 b11 b12 b13 b14 → μ b1 b2 b3 b4 b5 b6 b7 b8 b9 b10 b11 b12 b13 b14 < μ a1 a2 a3 a4 a5 a6 a7 a8 a9 a10 a11 a12 a13 a14 → W n b1 b2 b3 b4 b5 b6 b7 b8 b9 b10 b11 b12 b13 b14) → W (n + 1) a1 a2 a3 a4 a5 a6 a7 a8 a9 a10 a11 a12 a13 a14) (a1 : A1) (a2 : A2) (a3 : A3) (a4 : A4) (a5 : A5) (a6 : A6) (a7 : A7) (a8 : A8) (a9 : A9) (a10 : A10) (a11 : A11) (a12 : A12) (a13 : A13) (a14 : A14) (h : I a1 a2 a3 a4 a5 a6 a7 a8 a9 a10 a11 a12 a13 a14) : ∃ n, W n a1 a2 a3 a4 a5 a6 a7 a8 a9 a10 a11 a12 a13 a14 :=
  loop_m (σ := A1 × A2 × A3 × A4 × A5 × A6 × A7 × A8 × A9 × A10 × A11 × A12 × A13 × A14) (fun n s => W n s.1 s.2.1 s.2.2.1 s.2.2.2.1 s.2.2.2.2.1 s.2.2.2.2.2.1 s.2.2.2.2.2.2.1 s.2.2.2.2.2.2.2.1 s.2.2.2.2.2.2.2.2.1 s.2.2.2.2.2.2.2.2.2.1 s.2.2.2.2.2.2.2.2.2.2.1 s.2.2.2.2.2.2.2.2.2.2.2.1 s.2.2.2.2.2.2.2.2.2.2.2.2.1 s.2.2.2.2.2.2.2.2.2.2.2.2.2) (fun s => I s.1 s.2.1 s.2.2.1 s.2.2.2.1 s.2.2.2.2.1 s.2.2.2.2.2.1 s.2.2.2.2.2.2.1 s.2.2.2.2.2.2.2.1 s.2.2.2.2.2.2.2.2.1 s.2.2.2.2.2.2.2.2.2.1 s.2.2.2.2.2.2.2.2.2.2.1 s.2.2.2.2.2.2.2.2.2.2.2.1 s.2.2.2.2.2.2.2.2.2.2.2.2.1 s.2.2.2.2.2.2.2.2.2.2.2.2.2) (fun s => μ s.1 s.2.1 s.2.2.1 s.2.2.2.1 s.2.2.2.2.1 s.2.2.2.2.2.1 s.2.2.2.2.2.2.1 s.2.2.2.2.2.2.2.1 s.2.2.2.2.2.2.2.2.1 s.2.2.2.2.2.2.2.2.2.1 s.2.2.2.2.2.2.2.2.2.2.1 s.2.2.2.2.2.2.2.2.2.2.2.1 s.2.2.2.2.2.2.2.2.2.2.2.2.1 s.2.2.2.2.2.2.2.2.2.2.2.2.2) (fun n s hI hk => hs n s.1 s.2.1 s.2.2.1 s.2.2.2.1 s.2.2.2.2.1 s.2.2.2.2.2.1 s.2.2.2.2.2.2.1 s.2.2.2.2.2.2.2.1 s.2.2.2.2.2.2.2.2.1 s.2.2.2.2.2.2.2.2.2.1 s.2.2.2.2.2.2.2.2.2.2.1 s.2.2.2.2.2.2.2.2.2.2.2.1 s.2.2.2.2.2.2.2.2.2.2.2.2.1 s.2.2.2.2.2.2.2.2.2.2.2.2.2 hI (fun b1 b2 b3 b4 b5 b6 b7 b8 b9 b10 b11 b12 b13 b14 h9 hm => hk (b1, b2, b3, b4, b5, b6, b7, b8, b9, b10, b11, b12, b13, b14) h9 hm)) (a1, a2, a3, a4, a5, a6, a7, a8, a9, a10, a11, a12, a13, a14) h
theorem lp15 {A1 A2 A3 A4 A5 A6 A7 A8 A9 A10 A11 A12 A13 A14 A15 : Type} (W : Nat → A1 → A2 → A3 → A4 → A5 → A6 → A7 → A8 → A9 → A10 → A11 → A12 → A13 → A14 → A15 → Prop) (I : A1 → A2 → A3 → A4 → A5 → A6 → A7 → A8 → A9 → A10 → A11 → A12 → A13 → A14 → A15 → Prop) (μ : A1 → A2 → A3 → A4 → A5 → A6 → A7 → A8 → A9 → A10 → A11 → A12 → A13 → A14 → A15 → Nat) (hs : ∀ (n : Nat) (a1 : A1) (a2 : A2) (a3 : A3) (a4 : A4) (a5 : A5) (a6 : A6) (a7 : A7) (a8 : A8) (a9 : A9) (a10 : A10) (a11 : A11) (a12 : A12) (a13 : A13) (a14 : A14) (a15 : A15), I a1 a2 a3 a4 a5 a6 a7 a8 a9 a10 a11 a12 a13 a14 a15 → (∀ (b1 : A1) (b2 : A2) (b3 : A3) (b4 : A4) (b5 : A5) (b6 : A6) (b7 : A7) (b8 : A8) (b9 : A9) (b10 : A10) (b11 : A11) (b12 : A12) (b13 : A13) (b14 : A14) (b15 : A15), I b1 b2 b3 b4 b5 b6 b7 b8 b9 b10 b11 b12 b13 b14 b15 → μ b1 b2 b3 b4 b5 b6 b7 b8 b9 b10 b11 b12 b13 b14 b15 < μ a1 a2 a3 a4 a5 a6 a7 a8 a9 a10 a11 a12 a13 a14 a15 → W n b1 b2 b3 b4 b5 b6 b7 b8 b9 b10 b11 b12 b13 b14 b15) → W (n + 1) a1 a2 a3 a4 a5 a6 a7 a8 a9 a10 a11 a12 a13 a14 a15) (a1 : A1) (a2 : A2) (a3 : A3) (a4 : A4) (a5 : A5) (a6 : A6) (a7 : A7) (a8 : A8) (a9 : A9) (a10 : A10) (a11 : A11) (a12 : A12) (a13 : A13) (a14 : A14) (a15 : A15) (h : I a1 a2 a3 a4 a5 a6 a7 a8 a9 a10 a11 a12 a13 a14 a15) : ∃ n, W n a1 a2 a3 a4 a5 a6 a7 a8 a9 a10 a11 a12 a13 a14 a15 :=
  loop_m (σ := A1 × A2 × A3 × A4 × A5 × A6 × A7 × A8 × A9 × A10 × A11 × A12 × A13 × A14 × A15) (fun n s => W n s.1 s.2.1 s.2.2.1 s.2.2.2.1 s.2.2.2.2.1 s.2.2.2.2.2.1 s.2.2.2.2.2.2.1 s.2.2.2.2.2.2.2.1 s.2.2.2.2.2.2.2.2.1 s.2.2.2.2.2.2.2.2.2.1 s.2.2.2.2.2.2.2.2.2.2.1 s.2.2.2.2.2.2.2.2.2.2.2.1 s.2.2.2.2.2.2.2.2.2.2.2.2.1 s.2.2.2.2.2.2.2.2.2.2.2.2.2.1 s.2.2.2.2.2.2.2.2.2.2.2.2.2.2) (fun s => I s.1 s.2.1 s.2.2.1 s.2.2.2.1 s.2.2.2.2.1 s.2.2.2.2.2.1 s.2.2.2.2.2.2.1 s.2.2.2.2.2.2.2.1 s.2.2.2.2.2.2.2.2.1 s.2.2.2.2.2.2.2.2.2.1 s.2.2.2.2.2.2.2.2.2.2.1 s.2.2.2.2.2.2.2.2.2.2.2.1 s.2.2.2.2.2.2.2.2.2.2.2.2.1 s.2.2.2.2.2.2.2.2.2.2.2.2.2.1 s.2.2.2.2.2.2.2.2.2.2.2.2.2.2) (fun s => μ s.1 s.2.1 s.2.2.1 s.2.2.2.1 s.2.2.2.2.1 s.2.2.2.2.2.1 s.2.2.2.2.2.2.1 s.2.2.2.2.2.2.2.1 s.2.2.2.2.2.2.2.2.1 s.2.2.2.2.2.2.2.2.2.1 s.2.2.2.2.2.2.2.2.2.2.1 s.2.2.2.2.2.2.2.2.2.2.2.1 s.2.2.2.2.2.2.2.2.2.2.2.2.1 s.2.2.2.2.2.2.2.2.2.2.2.2.2.1 s.2.2.2.2.2.2.2.2.2.2.2.2.2.2) (fun n s hI hk => hs n s.1 s.2.1 s.2.2.1 s.2.2.2.1 s.2.2.2.2.1 s.2.2.2.2.2.1 s.2.2.2.2.2.2.1 s.2.2.2.2.2.2.2.1 s.2.2.2.2.2.2.2.2.1 s.2.2.2.2.2.2.2.2.2.1 s.2.2.2.2.2.2.2.2.2.2.1 s.2.2.2.2.2.2.2.2.2.2.2.1 s.2.2.2.2.2.2.2.2.2.2.2.2.1 s.2.2.2.2.2.2.2.2.2.2.2.2.2.1 s.2.2.2.2.2.2.2.2.2.2.2.2.2.2 hI (fun b1 b2 b3 b4 b5 b6 b7 b8 b9 b10 b11 b12 b13 b14 b15 h9 hm => hk (b1, b2, b3, b4, b5, b6, b7, b8, b9, b10, b11, b12, b13, b14, b15) h9 hm)) (a1, a2, a3, a4, a5, a6, a7, a8, a9, a10, a11, a12, a13, a14, a15) h
theorem lp16 {A1 A2 A3 A4 A5 A6 A7 A8 A9 A10 A11 A12 A13 A14 A15 A16 : Type} (W : Nat → A1 → A2 → A3 → A4 → A5 → A6 → A7 → A8 → A9 → A10 → A11 → A12 → A13 → A14 → A15 → A16 → Prop) (I : A1 → A2 → A3 → A4 → A5 → A6 → A7 → A8 → A9 → A10 → A11 → A12 → A13 → A14 → A15 → A16 → Prop) (μ : A1 → A2 → A3 → A4 → A5 → A6 → A7 → A8 → A9 → A10 → A11 → A12 → A13 → A14 → A15 → A16 → Nat) (hs : ∀ (n : Nat) (a1 : A1) (a2 : A2) (a3 : A3) (a4 : A4) (a5 : A5) (a6 : A6) (a7 : A7) (a8 : A8) (a9 : A9) (a10 : A10) (a11 : A11) (a12 : A12) (a13 : A13) (a14 : A14) (a15 : A15) (a16 : A16), I a1 a2 a3 a4 a5 a6 a7 a8 a9 a10 a11 a12 a13 a14 a15 a16 → (∀ (b1 : A1) (b2 : A2) (b3 : A3) (b4 : A4) (b5 : A5) (b6 : A6) (b7 : A7) (b8 : A8) (b9 : A9) (b10 : A10) (b11 : A11) (b12 : A12) (b13 : A13) (b14 : A14) (b15 : A15) (b16 : A16), I b1 b2 b3 b4 b5 b6 b7 b8 b9 b10 b11 b12 b13 b14 b15 b16 → μ b1 b2 b3 b4 b5 b6 b7 b8 b9 b10 b11 b12 b13 b14 b15 b16 < μ a1 a2 a3 a4 a5 a6 a7 a8 a9 a10 a11 a12 a13 a14 a15 a16 → W n b1 b2 b3 b4 b5 b6 b7 b8 b9 b10 b11 b12 b13 b14 b15 b16) → W (n + 1) a1 a2 a3 a4 a5 a6 a7 a8 a9 a10 a11 a12 a13 a14 a15 a16) (a1 : A1) (a2 : A2) (a3 : A3) (a4 : A4) (a5 : A5) (a6 : A6) (a7 : A7) (a8 : A8) (a9 : A9) (a10 : A10) (a11 : A11) (a12 : A12) (a13 : A13) (a14 : A14) (a15 : A15) (a16 : A16) (h : I a1 a2 a3 a4 a5 a6 a7 a8 a9 a10 a11 a12 a13 a14 a15 a16) : ∃ n, W n a1 a2 a3 a4 a5 a6 a7 a8 a9 a10 a11 a12 a13 a14 a15 a16 :=
  loop_m (σ := A1 × A2 × A3 × A4 × A5 × A6 × A7 × A8 × A9 × A10 × A11 × A12 × A13 × A14 × A15 × A16) (fun n s => W n s.1 s.2.1 s.2.2.1 s.2.2.2.1 s.2.2.2.2.1 s.2.2.2.2.2.1 s.2.2.2.2.2.2.1 s.2.2.2.2.2.2.2.1 s.2.2.2.2.2.2.2.2.1 s.2.2.2.2.2.2.2.2.2.1 s.2.2.2.2.2.2.2.2.2.2.1 s.2.2.2.2.2.2.2.2.2.2.2.1 s.2.2.2.2.2.2.2.2.2.2.2.2.1 s.2.2.2.2.2.2.2.2.2.2.2.2.2.1 s.2.2.2.2.2.2.2.2.2.2.2.2.2.2.1 s.2.2.2.2.2.2.2.2.2.2.2.2.2.2.2) (fun s => I s.1 s.2.1 s.2.2.1 s.2.2.2.1 s.2.2.2.2.1 s.2.2.2.2.2.1 s.2.2.2.2.2.2.1 s.2.2.2.2.2.2.2.1 s.2.2.2.2.2.2.2.2.1 s.2.2.2.2.2.2.2.2.2.1 s.2.2.2.2.2.2.2.2.2.2.1 s.2.2.2.2.2.2.2.2.2.2.2.1 s.2.2.2.2.2.2.2.2.2.2.2.2.1 s.2.2.2.2.2.2.2.2.2.2.2.2.2.1 s.2.2.2.2.2.2.2.2.2.2.2.2.2.2.1 s.2.2.2.2.2.2.2.2.2.2.2.2.2.2.2) (fun s => μ s.1 s.2.1 s.2.2.1 s.2.2.2.1 s.2.2.2.2.1 s.2.2.2.2.2.1 s.2.2.2.2.2.2.1 s.2.2.2.2.2.2.2.1 s.2.2.2.2.2.2.2.2.1 s.2.2.2.2.2.2.2.2.2.1 s.2.2.2.2.2.2.2.2.2.2.1 s.2.2.2.2.2.2.2.2.2.2.2.1 s.2.2.2.2.2.2.2.2.2.2.2.2.1 s.2.2.2.2.2.2.2.2.2.2.2.2.2.1 s.2.2.2.2.2.2.2.2.2.2.2.2.2.2.1 s.2.2.2.2.2.2.2.2.2.2.2.2.2.2.2) (fun n s hI hk => hs n s.1 s.2.1 s.2.2.1 s.2.2.2.1 s.2.2.2.2.1 s.2.2.2.2.2.1 s.2.2.2.2.2.2.1 s.2.2.2.2.2.2.2.1 s.2.2.2.2.2.2.2.2.1 s.2.2.2.2.2.2.2.2.2.1 s.2.2.2.2.2.2.2.2.2.2.1 s.2.2.2.2.2.2.2.2.2.2.2.1 s.2.2.2.2.2.2.2.2.2.2.2.2.1 s.2.2.2.2.2.2.2.2.2.2.2.2.2.1 s.2.2.2.2.2.2.2.2.2.2.2.2.2.2.1 s.2.2.2.2.2.2.2.2.2.2.2.2.2.2.2 hI (fun b1 b2 b3 b4 b5 b6 b7 b8 b9 b10 b11 b12 b13 b14 b15 b16 h9 hm => hk (b1, b2, b3, b4, b5, b6, b7, b8, b9, b10, b11, b12, b13, b14, b15, b16) h9 hm)) (a1, a2, a3, a4, a5, a6, a7, a8, a9, a10, a11, a12, a13, a14, a15, a16) h
theorem pk_least (P : Nat → Prop) (h : ∃ k, P k) : ∃ k, P k ∧ ∀ j, j < k → ¬ P j := by
  obtain ⟨k, hk⟩ := h
  induction k using Nat.strongRecOn with
  | ind k ih =>
    by_cases e : ∃ j, j < k ∧ P j
    · obtain ⟨j, hj, pj⟩ := e
      exact ih j hj pj
    · exact ⟨k, hk, fun j hj pj => e ⟨j, hj, pj⟩⟩
theorem rp1 {ρ A1 : Type} (W : Nat → (ρ → Prop) → A1 → Prop) (ok : A1 → Prop) (μ : A1 → Nat) (val : A1 → ρ)
    (hs : ∀ (d : Nat) (post : ρ → Prop) (a1 : A1), ok a1 → post (val a1) → (∀ (post' : ρ → Prop) (b1 : A1), ok b1 → μ b1 < μ a1 → post' (val b1) → W d post' b1) → W (d + 1) post a1) :
    ∀ (d : Nat) (post : ρ → Prop) (a1 : A1), ok a1 → μ a1 < d → post (val a1) → W d post a1 := by
  intro d
  induction d with
  | zero => intro post a1 _ h; omega
  | succ d ih =>
    intro post a1 ho hm hp
    exact hs d post a1 ho hp (fun post' b1 ho' hm' hp' => ih post' b1 ho' (by omega) hp')
theorem rp2 {ρ A1 A2 : Type} (W : Nat → (ρ → Prop) → A1 → A2 → Prop) (ok : A1 → A2 → Prop) (μ : A1 → A2 → Nat) (val : A1 → A2 → ρ)
    (hs : ∀ (d : Nat) (post : ρ → Prop) (a1 : A1) (a2 : A2), ok a1 a2 → post (val a1 a2) → (∀ (post' : ρ → Prop) (b1 : A1) (b2 : A2), ok b1 b2 → μ b1 b2 < μ a1 a2 → post' (val b1 b2) → W d post' b1 b2) → W (d + 1) post a1 a2) :
    ∀ (d : Nat) (post : ρ → Prop) (a1 : A1) (a2 : A2), ok a1 a2 → μ a1 a2 < d → post (val a1 a2) → W d post a1 a2 := by
  intro d
  induction d with
  | zero => intro post a1 a2 _ h; omega
  | succ d ih =>
    intro post a1 a2 ho hm hp
    exact hs d post a1 a2 ho hp (fun post' b1 b2 ho' hm' hp' => ih post' b1 b2 ho' (by omega) hp')
theorem rp3 {ρ A1 A2 A3 : Type} (W : Nat → (ρ → Prop) → A1 → A2 → A3 → Prop) (ok : A1 → A2 → A3 → Prop) (μ : A1 → A2 → A3 → Nat) (val : A1 → A2 → A3 → ρ)
    (hs : ∀ (d : Nat) (post : ρ → Prop) (a1 : A1) (a2 : A2) (a3 : A3), ok a1 a2 a3 → post (val a1 a2 a3) → (∀ (post' : ρ → Prop) (b1 : A1) (b2 : A2) (b3 : A3), ok b1 b2 b3 → μ b1 b2 b3 < μ a1 a2 a3 → post' (val b1 b2 b3) → W d post' b1 b2 b3) → W (d + 1) post a1 a2 a3) :
    ∀ (d : Nat) (post : ρ → Prop) (a1 : A1) (a2 : A2) (a3 : A3), ok a1 a2 a3 → μ a1 a2 a3 < d → post (val a1 a2 a3) → W d post a1 a2 a3 := by
  intro d
  induction d with
  | zero => intro post a1 a2 a3 _ h; omega
  | succ d ih =>
    intro post a1 a2 a3 ho hm hp
    exact hs d post a1 a2 a3 ho hp (fun post' b1 b2 b3 ho' hm' hp' => ih post' b1 b2 b3 ho' (by omega) hp')
theorem rp4 {ρ A1 A2 A3 A4 : Type} (W : Nat → (ρ → Prop) → A1 → A2 → A3 → A4 → Prop) (ok : A1 → A2 → A3 → A4 → Prop) (μ : A1 → A2 → A3 → A4 → Nat) (val : A1 → A2 → A3 → A4 → ρ)
    (hs : ∀ (d : Nat) (post : ρ → Prop) (a1 : A1) (a2 : A2) (a3 : A3) (a4 : A4), ok a1 a2 a3 a4 → post (val a1 a2 a3 a4) → (∀ (post' : ρ → Prop) (b1 : A1) (b2 : A2) (b3 : A3) (b4 : A4), ok b1 b2 b3 b4 → μ b1 b2 b3 b4 < μ a1 a2 a3 a4 → post' (val b1 b2 b3 b4) → W d post' b1 b2 b3 b4) → W (d + 1) post a1 a2 a3 a4) :
    ∀ (d : Nat) (post : ρ → Prop) (a1 : A1) (a2 : A2) (a3 : A3) (a4 : A4), ok a1 a2 a3 a4 → μ a1 a2 a3 a4 < d → post (val a1 a2 a3 a4) → W d post a1 a2 a3 a4 := by
  intro d
  induction d with
  | zero => intro post a1 a2 a3 a4 _ h; omega
  | succ d ih =>
    intro post a1 a2 a3 a4 ho hm hp
    exact hs d post a1 a2 a3 a4 ho hp (fun post' b1 b2 b3 b4 ho' hm' hp' => ih post' b1 b2 b3 b4 ho' (by omega) hp')
theorem rp5 {ρ A1 A2 A3 A4 A5 : Type} (W : Nat → (ρ → Prop) → A1 → A2 → A3 → A4 → A5 → Prop) (ok : A1 → A2 → A3 → A4 → A5 → Prop) (μ : A1 → A2 → A3 → A4 → A5 → Nat) (val : A1 → A2 → A3 → A4 → A5 → ρ)
    (hs : ∀ (d : Nat) (post : ρ → Prop) (a1 : A1) (a2 : A2) (a3 : A3) (a4 : A4) (a5 : A5), ok a1 a2 a3 a4 a5 → post (val a1 a2 a3 a4 a5) → (∀ (post' : ρ → Prop) (b1 : A1) (b2 : A2) (b3 : A3) (b4 : A4) (b5 : A5), ok b1 b2 b3 b4 b5 → μ b1 b2 b3 b4 b5 < μ a1 a2 a3 a4 a5 → post' (val b1 b2 b3 b4 b5) → W d post' b1 b2 b3 b4 b5) → W (d + 1) post a1 a2 a3 a4 a5) :
    ∀ (d : Nat) (post : ρ → Prop) (a1 : A1) (a2 : A2) (a3 : A3) (a4 : A4) (a5 : A5), ok a1 a2 a3 a4 a5 → μ a1 a2 a3 a4 a5 < d → post (val a1 a2 a3 a4 a5) → W d post a1 a2 a3 a4 a5 := by
  intro d
  induction d with
  | zero => intro post a1 a2 a3 a4 a5 _ h; omega
  | succ d ih =>
    intro post a1 a2 a3 a4 a5 ho hm hp
    exact hs d post a1 a2 a3 a4 a5 ho hp (fun post' b1 b2 b3 b4 b5 ho' hm' hp' => ih post' b1 b2 b3 b4 b5 ho' (by omega) hp')
theorem rp6 {ρ A1 A2 A3 A4 A5 A6 : Type} (W : Nat → (ρ → Prop) → A1 → A2 → A3 → A4 → A5 → A6 → Prop) (ok : A1 → A2 → A3 → A4 → A5 → A6 → Prop) (μ : A1 → A2 → A3 → A4 → A5 → A6 → Nat) (val : A1 → A2 → A3 → A4 → A5 → A6 → ρ)
    (hs : ∀ (d : Nat) (post : ρ → Prop) (a1 : A1) (a2 : A2) (a3 : A3) (a4 : A4) (a5 : A5) (a6 : A6), ok a1 a2 a3 a4 a5 a6 → post (val a1 a2 a3 a4 a5 a6) → (∀ (post' : ρ → Prop) (b1 : A1) (b2 : A2) (b3 : A3) (b4 : A4) (b5 : A5) (b6 : A6), ok b1 b2 b3 b4 b5 b6 → μ b1 b2 b3 b4 b5 b6 < μ a1 a2 a3 a4 a5 a6 → post' (val b1 b2 b3 b4 b5 b6) → W d post' b1 b2 b3 b4 b5 b6) → W (d + 1) post a1 a2 a3 a4 a5 a6) :
    ∀ (d : Nat) (post : ρ → Prop) (a1 : A1) (a2 : A2) (a3 : A3) (a4 : A4) (a5 : A5) (a6 : A6), ok a1 a2 a3 a4 a5 a6 → μ a1 a2 a3 a4 a5 a6 < d → post (val a1 a2 a3 a4 a5 a6) → W d post a1 a2 a3 a4 a5 a6 := by
  intro d
  induction d with
  | zero => intro post a1 a2 a3 a4 a5 a6 _ h; omega
  | succ d ih =>
    intro post a1 a2 a3 a4 a5 a6 ho hm hp
    exact hs d post a1 a2 a3 a4 a5 a6 ho hp (fun post' b1 b2 b3 b4 b5 b6 ho' hm' hp' => ih post' b1 b2 b3 b4 b5 b6 ho' (by omega) hp')
theorem rec_p {σ ρ : Type} (W : Nat → (ρ → Prop) → σ → Prop) (ok : σ → Prop) (μ : σ → Nat) (val : σ → ρ)
    (hs : ∀ d s post, ok s → post (val s) → (∀ s' post', ok s' → μ s' < μ s → post' (val s') → W d post' s') → W (d + 1) post s) :
    ∀ d s post, ok s → μ s < d → post (val s) → W d post s := by
  intro d
  induction d with
  | zero => intro s post _ h; omega
  | succ d ih =>
    intro s post ho hm hp
    exact hs d s post ho hp (fun s' post' ho' hm' hp' => ih s' post' ho' (by omega) hp')
theorem rec_q {σ ρ : Type} (W : Nat → (ρ → Prop) → σ → Prop) (ok : σ → Prop) (μ : σ → Nat) (Q : σ → ρ → Prop)
    (hs : ∀ d s post, ok s → (∀ r, Q s r → post r) → (∀ s' post', ok s' → μ s' < μ s → (∀ r, Q s' r → post' r) → W d post' s') → W (d + 1) post s) :
    ∀ d s post, ok s → μ s < d → (∀ r, Q s r → post r) → W d post s := by
  intro d
  induction d with
  | zero => intro s post _ h; omega
  | succ d ih =>
    intro s post ho hm hp
    exact hs d s post ho hp (fun s' post' ho' hm' hp' => ih s' post' ho' (by omega) hp')
def bx_sum (f : Nat → Int32) : Nat → Int32
  | 0 => 0
  | n + 1 => bx_sum f n + f n
theorem ek_u {A : Prop} {B : Nat → Prop} {k N : Nat} (hk : k < N) (h : B k) : (some k = none → A) ∧ (∀ y : Nat, some k = some y → (y < N ∧ B y)) :=
  ⟨fun z => absurd z (Option.some_ne_none k), fun _ e => (by cases e; exact ⟨hk, h⟩)⟩
theorem ek_nu {A : Prop} {B : Nat → Prop} (h : A) : ((none : Option Nat) = none → A) ∧ (∀ y : Nat, (none : Option Nat) = some y → B y) :=
  ⟨fun _ => h, fun _ e => (by cases e)⟩
theorem ek_if {c d A B : Prop} (e : c ↔ d) (f : d → A) (g : ¬ d → B) : (c → A) ∧ (¬ c → B) :=
  ⟨fun z => f (e.mp z), fun z => g (fun y => z (e.mpr y))⟩
theorem ek_v {α : Sort _} {P : α → Prop} {a b : α} (e : a = b) (h : P b) : P a := e ▸ h
theorem co_some {x : Option Nat} {A : Prop} {B : Nat → Prop} (i : Nat) (h : B i) (hx : x = some i := by rfl) : (x = none → A) ∧ (∀ y : Nat, x = some y → B y) := by
  subst hx
  exact ⟨fun e => (nomatch e), fun y e => Option.some.inj e ▸ h⟩
theorem co_none {x : Option Nat} {A : Prop} {B : Nat → Prop} (h : A) (hx : x = none := by rfl) : (x = none → A) ∧ (∀ y : Nat, x = some y → B y) := by
  subst hx
  exact ⟨fun _ => h, fun y e => (nomatch e)⟩
theorem co_any {x : Option Nat} {A : Prop} {B : Nat → Prop} (hn : x = none → A) (hs : ∀ i : Nat, x = some i → B i) : (x = none → A) ∧ (∀ y : Nat, x = some y → B y) := ⟨hn, hs⟩
theorem co_2 {P : Nat → Prop} (h0 : P 0) (h1 : P 1) {i : Nat} (hi : i < 2) : P i :=
  match i, hi with
  | 0, _ => h0
  | 1, _ => h1
theorem co_3 {P : Nat → Prop} (h0 : P 0) (h1 : P 1) (h2 : P 2) {i : Nat} (hi : i < 3) : P i :=
  match i, hi with
  | 0, _ => h0
  | 1, _ => h1
  | 2, _ => h2
theorem co_4 {P : Nat → Prop} (h0 : P 0) (h1 : P 1) (h2 : P 2) (h3 : P 3) {i : Nat} (hi : i < 4) : P i :=
  match i, hi with
  | 0, _ => h0
  | 1, _ => h1
  | 2, _ => h2
  | 3, _ => h3
theorem co_dec {N : Nat} {P : Nat → Prop} [DecidablePred P] (h : (List.range N).all (fun i => decide (P i)) = true) {i : Nat} (hi : i < N) : P i := by
  have := List.all_eq_true.mp h i (List.mem_range.mpr hi)
  exact of_decide_eq_true this
theorem co_tab {α : Type} {l : List α} {d : α} {P : α → Prop} (h : ∀ a, a ∈ l → P a) {i : Nat} (hi : i < l.length) : P (l.getD i d) := by
  rw [List.getD_eq_getElem?_getD, List.getElem?_eq_getElem hi]
  exact h _ (List.getElem_mem hi)
theorem pk_mu {x : Int32} {L : Nat} (h0 : ¬ x < 0) (h : ¬ nI L ≤ x) (hL : L < 2 ^ 31) : ∃ j : Nat, j < L ∧ x = nI j ∧ x + 1 = nI (j + 1) ∧ x.toNatClampNeg = j ∧ L - (x + 1).toNatClampNeg < L - x.toNatClampNeg := by
  obtain ⟨j, hj, rfl⟩ := nI_of h0
  have hl : j < L := Nat.not_le.mp fun q => h (nI_le q hj)
  refine ⟨j, hl, rfl, nI_1 j, nI_clamp hj, ?_⟩
  rw [nI_1, nI_clamp (by omega), nI_clamp hj]
  omega
theorem op_s {α : Type} {r : Option α} {A : Prop} {B : α → Prop} {y : α} (h : r = some y) (b : B y) : (r = none → A) ∧ ∀ z, r = some z → B z :=
  ⟨fun e => (by rw [h] at e; cases e), fun z e => (by rw [h] at e; cases e; exact b)⟩
def l_holds {α : Type} (a : Nat → Option Nat) (LP : List Nat) (p : Nat → α) (c : Nat) (b : Nat → α) : Prop :=
  ∀ j, j < c → ∃ y, a j = some y ∧ y ∈ LP ∧ p y = b j
theorem l_holds_0 {α : Type} {a : Nat → Option Nat} {LP : List Nat} {p b : Nat → α} : l_holds a LP p 0 b := fun j h => absurd h (Nat.not_lt_zero j)
theorem l_in_new (LP : List Nat) (q : Nat) : q ∈ LP ++ [q] := List.mem_append.mpr (Or.inr (List.mem_singleton.mpr rfl))
def l_sum (b : Nat → Int32) : Nat → Int32
  | 0 => 0
  | k + 1 => l_sum b k + b k
theorem sb_shr0 (x : Int32) : x >>> ((0 : Int32) &&& 31) = x := by
  rw [show ((0 : Int32) &&& 31) = 0 by decide]
  simp
theorem sb_shl0 (x : Int32) : x <<< ((0 : Int32) &&& 31) = x := by
  rw [show ((0 : Int32) &&& 31) = 0 by decide]
  simp
theorem sb_cl0 : (0 : Int32).toNatClampNeg = 0 := by decide
theorem sb_m1 {p : Nat} (h : 0 < p) : nI p + (-1) = nI (p - 1) := by
  obtain ⟨q, rfl⟩ : ∃ q, p = q + 1 := ⟨p - 1, by omega⟩
  exact pk_m1 q
def sb_b (c : Nat) : Int32 := (nI c).toInt8.toInt32
theorem sb_byte : ∀ c, c < 256 → sb_b c &&& 255 = nI c ∧ ((nI c).toUInt32 % 65536).toInt32 = nI c ∧ nI c ≤ 255 := by decide +kernel
def sb_Fit (a : Nat → Int32) : Prop := ∀ j, fits .byte (.int (a j)) = true
def sb_Lat (t : Nat → Nat) (n : Nat) (a : Nat → Int32) : Prop := ∀ j, j < n → t j < 256 ∧ a j = sb_b (t j)
theorem sb_fitB (c : Nat) : fits .byte (.int (sb_b c)) = true := pk_fb _
theorem sb_fit0 : sb_Fit (fun _ => 0) := fun _ => by
  show fits .byte (.int 0) = true
  decide
theorem sb_fitU {a : Nat → Int32} {k : Nat} {x : Int32} (h : sb_Fit a) (hx : fits .byte (.int x) = true) : sb_Fit (upd a k x) := by
  intro j
  by_cases e : j = k
  · subst e
    rw [pk_us]
    exact hx
  · rw [pk_un e]
    exact h j
def sb_cat (t : Nat → Nat) (n : Nat) (s : Nat → Nat) : Nat → Nat := fun j => if j < n then t j else s (j - n)
theorem sb_cat_lo {t s : Nat → Nat} {n j : Nat} (h : j < n) : sb_cat t n s j = t j := if_pos h
theorem sb_cat_hi {t s : Nat → Nat} {n j : Nat} : sb_cat t n s (n + j) = s j := by
  show (if n + j < n then t (n + j) else s (n + j - n)) = s j
  rw [if_neg (by omega), Nat.add_sub_cancel_left]
theorem sb_latPut {t s : Nat → Nat} {n w : Nat} {a a' : Nat → Int32} (h : sb_Lat t n a) (hk : ∀ j, j < n → a' j = a j) (hs : ∀ i, i < w → s i < 256 ∧ a' (n + i) = sb_b (s i)) : sb_Lat (sb_cat t n s) (n + w) a' := by
  intro j hj
  by_cases e : j < n
  · rw [sb_cat_lo e, hk j e]
    exact h j e
  · obtain ⟨i, rfl⟩ : ∃ i, j = n + i := ⟨j - n, by omega⟩
    rw [sb_cat_hi]
    exact hs i (by omega)
theorem sb_latKeep {t : Nat → Nat} {n : Nat} {a a' : Nat → Int32} (h : sb_Lat t n a) (hk : ∀ j, j < n → a' j = a j) : sb_Lat t n a' := fun j hj => by
  rw [hk j hj]
  exact h j hj
def sb_cap (q m : Nat) : Nat := if q ≤ m then m else if 2 * m + 2 < q then q else 2 * m + 2
def sb_Room (q m mc ms : Nat) : Prop := q ≤ m ∨ (1 ≤ mc ∧ sb_cap q m ≤ ms ∧ sb_cap q m ≤ 65536)
theorem sb_cap_ge (q m : Nat) : q ≤ sb_cap q m := by
  unfold sb_cap
  split
  · omega
  · split <;> omega
theorem sb_cap_gem (q m : Nat) : m ≤ sb_cap q m := by
  unfold sb_cap
  split
  · omega
  · split <;> omega
theorem sb_cap_le {q m mc ms : Nat} (hm : m ≤ 65536) (hr : sb_Room q m mc ms) : sb_cap q m ≤ 65536 := by
  rcases hr with h | h
  · rw [sb_cap, if_pos h]
    exact hm
  · exact h.2.2
theorem sb_at {P : Int32 → Prop} {x y : Int32} (e : x = y) (h : P y) : P x := e ▸ h
def sb_dg (w : Nat) : Nat := if w < 10 then 1 else if w < 100 then 2 else if w < 1000 then 3 else if w < 10000 then 4 else if w < 100000 then 5 else if w < 1000000 then 6 else if w < 10000000 then 7 else if w < 100000000 then 8 else if w < 1000000000 then 9 else 10
def sb_dec (v : Nat) : Nat → Nat := fun i => 48 + v / 10 ^ (sb_dg v - 1 - i) % 10
theorem sb_dg_in (w : Nat) : 1 ≤ sb_dg w ∧ sb_dg w ≤ 10 := by
  unfold sb_dg
  constructor <;> (repeat' split) <;> omega
theorem sb_dg100 {w : Nat} (h : 100 ≤ w) (hw : w < 2 ^ 31) : sb_dg w = sb_dg (w / 100) + 2 := by
  rw [sb_dg, sb_dg, if_neg (show ¬ w < 10 by omega), if_neg (show ¬ w < 100 by omega)]
  by_cases h3 : w < 1000
  · rw [if_pos h3, if_pos (show w / 100 < 10 by omega)]
  rw [if_neg h3, if_neg (show ¬ w / 100 < 10 by omega)]
  by_cases h4 : w < 10000
  · rw [if_pos h4, if_pos (show w / 100 < 100 by omega)]
  rw [if_neg h4, if_neg (show ¬ w / 100 < 100 by omega)]
  by_cases h5 : w < 100000
  · rw [if_pos h5, if_pos (show w / 100 < 1000 by omega)]
  rw [if_neg h5, if_neg (show ¬ w / 100 < 1000 by omega)]
  by_cases h6 : w < 1000000
  · rw [if_pos h6, if_pos (show w / 100 < 10000 by omega)]
  rw [if_neg h6, if_neg (show ¬ w / 100 < 10000 by omega)]
  by_cases h7 : w < 10000000
  · rw [if_pos h7, if_pos (show w / 100 < 100000 by omega)]
  rw [if_neg h7, if_neg (show ¬ w / 100 < 100000 by omega)]
  by_cases h8 : w < 100000000
  · rw [if_pos h8, if_pos (show w / 100 < 1000000 by omega)]
  rw [if_neg h8, if_neg (show ¬ w / 100 < 1000000 by omega)]
  by_cases h9 : w < 1000000000
  · rw [if_pos h9, if_pos (show w / 100 < 10000000 by omega)]
  rw [if_neg h9, if_neg (show ¬ w / 100 < 10000000 by omega)]
  rw [if_pos (show w / 100 < 100000000 by omega)]
theorem sb_negT {w : Nat} (h : w < 2 ^ 31) : (-nI w).toInt = -(w : Int) := by
  rw [Int32.toInt_neg, nI_toInt h]
  exact Int.bmod_eq_of_le (by omega) (by omega)
theorem sb_nle {a b : Nat} (ha : a < 2 ^ 31) (hb : b < 2 ^ 31) : -nI a ≤ -nI b ↔ b ≤ a := by
  rw [Int32.le_iff_toInt_le, sb_negT ha, sb_negT hb]
  omega
theorem sb_nlt {a b : Nat} (ha : a < 2 ^ 31) (hb : b < 2 ^ 31) : -nI a < -nI b ↔ b < a := by
  rw [Int32.lt_iff_toInt_lt, sb_negT ha, sb_negT hb]
  omega
theorem sb_cmp {A B : Prop} {x : Int32} (v c : Nat) (f : c ≤ v → A) (g : v < c → B) (hv : v < 2 ^ 31) (hx : x = -nI c := by rfl) (hc : c < 2 ^ 31 := by omega) : (-nI v ≤ x → A) ∧ (¬ -nI v ≤ x → B) := by
  subst hx
  rw [sb_nle hv hc]
  exact ⟨f, fun z => g (by omega)⟩
theorem sb_ndiv {w : Nat} (hw : w < 2 ^ 31) : (-nI w) / 100 = -nI (w / 100) := by
  apply Int32.toInt_inj.mp
  have h100 : (100 : Int32).toInt = 100 := by decide
  rw [Int32.toInt_div, sb_negT hw, h100, sb_negT (by omega), Int.neg_tdiv, Int.tdiv_eq_ediv_of_nonneg (by omega), Int.bmod_eq_of_le (by omega) (by omega)]
  omega
theorem sb_nrem {w : Nat} (hw : w < 2 ^ 31) : (-nI (w / 100)) * 100 - (-nI w) = nI (w % 100) := by
  have h := pk_rem (a := w) (d := 100) hw (by decide) (by decide)
  rw [pk_div hw (by decide) (by decide)] at h
  rw [← h]
  show (-nI (w / 100)) * nI 100 - (-nI w) = nI w - nI (w / 100) * nI 100
  rw [Int32.neg_mul, Int32.sub_neg, Int32.add_comm, ← Int32.sub_eq_add_neg]
end
section
/-! the operator table: number of operators, last name, kinds, precs, assocs, part counts, parts -/
abbrev gt_T : Type := Nat × Nat × (Nat → Int32) × (Nat → Int32) × (Nat → Int32) × (Nat → Int32) × (Nat → Int32)
def gt_n (g : gt_T) : Nat := g.1
def gt_l (g : gt_T) : Nat := g.2.1
def gt_k (g : gt_T) : Nat → Int32 := g.2.2.1
def gt_p (g : gt_T) : Nat → Int32 := g.2.2.2.1
def gt_a (g : gt_T) : Nat → Int32 := g.2.2.2.2.1
def gt_c (g : gt_T) : Nat → Int32 := g.2.2.2.2.2.1
def gt_t (g : gt_T) : Nat → Int32 := g.2.2.2.2.2.2
def gt_LO (g : gt_T) (q : Nat) : Bool := decide (gt_k g q = 1) || decide (gt_k g q = 2)
def gt_RO (g : gt_T) (q : Nat) : Bool := decide (gt_k g q = 0) || decide (gt_k g q = 2)
def gt_PC (g : gt_T) (q : Nat) : Nat := (gt_c g q).toNatClampNeg
def gt_PT (g : gt_T) (q m : Nat) : Int32 := gt_t g (4 * q + m)
def gt_ar (g : gt_T) (q : Nat) : Nat := if gt_k g q = 2 then gt_PC g q + 1 else if gt_k g q = 3 then gt_PC g q - 1 else gt_PC g q
def gt_mx (g : gt_T) (q : Nat) : Nat := if gt_k g q = 2 then 2 else if gt_k g q = 3 then 4 else 3
def gt_CT (g : gt_T) (l r : Nat) : Int32 := if gt_p g l = gt_p g r then (if gt_a g l = 0 ∧ gt_a g r = 0 then 1 else if gt_a g l = 1 ∧ gt_a g r = 1 then -1 else 0) else if gt_p g l ≤ gt_p g r then -1 else 1
/-- parts seen when operand i is wanted -/
def gt_s (g : gt_T) (q i : Nat) : Nat := if gt_LO g q = true then i else i + 1
def gt_ok (g : gt_T) : Prop := gt_n g ≤ 12 ∧ gt_l g ≤ 31 ∧
  (∀ q, q < gt_n g → (gt_k g q = 0 ∨ gt_k g q = 1 ∨ gt_k g q = 2 ∨ gt_k g q = 3)) ∧
  (∀ q, q < gt_n g → (gt_a g q = 0 ∨ gt_a g q = 1 ∨ gt_a g q = 2)) ∧
  (∀ q, q < gt_n g → 1 ≤ gt_PC g q ∧ gt_PC g q ≤ gt_mx g q ∧ gt_c g q = nI (gt_PC g q)) ∧
  (∀ q m, q < gt_n g → m < gt_PC g q → ∃ t, 2 ≤ t ∧ t ≤ gt_l g ∧ gt_PT g q m = nI t) ∧
  (∀ q q', q < gt_n g → q' < gt_n g → gt_PT g q 0 = gt_PT g q' 0 → gt_LO g q = gt_LO g q' → q = q') ∧
  (∀ q q' m, q < gt_n g → q' < gt_n g → 1 ≤ m → m < gt_PC g q → gt_PT g q m ≠ gt_PT g q' 0)
def gt_ld (g : gt_T) (w : Bool) (t : Int32) : Option Nat := (List.range (gt_n g)).find? (fun q => decide (gt_PT g q 0 = t) && (gt_LO g q != w))
def gt_ip (g : gt_T) (a b : Nat) (t : Int32) : Bool := (List.range (gt_n g)).any (fun q => (List.range (gt_PC g q)).any (fun m => decide (a ≤ m) && decide (m ≤ b) && decide (gt_PT g q m = t)))
def gt_at (g : gt_T) (t : Int32) : Bool := decide (2 ≤ t) && decide (t ≤ nI (gt_l g)) && !gt_ip g 0 3 t
theorem gt_ip_iff {g : gt_T} {a b : Nat} {t : Int32} : gt_ip g a b t = true ↔ ∃ q m, q < gt_n g ∧ m < gt_PC g q ∧ a ≤ m ∧ m ≤ b ∧ gt_PT g q m = t := by
  unfold gt_ip
  simp only [List.any_eq_true, List.mem_range, Bool.and_eq_true, decide_eq_true_eq]
  constructor
  · rintro ⟨q, hq, m, hm, ⟨h1, h2⟩, h3⟩
    exact ⟨q, m, hq, hm, h1, h2, h3⟩
  · rintro ⟨q, m, hq, hm, h1, h2, h3⟩
    exact ⟨q, hq, m, hm, ⟨h1, h2⟩, h3⟩
theorem gt_ld_some {g : gt_T} {w : Bool} {t : Int32} {q : Nat} (h : gt_ld g w t = some q) : q < gt_n g ∧ gt_PT g q 0 = t ∧ gt_LO g q = !w := by
  unfold gt_ld at h
  have h1 := List.mem_of_find?_eq_some h
  have h2 := List.find?_some h
  rw [List.mem_range] at h1
  simp only [Bool.and_eq_true, decide_eq_true_eq, bne_iff_ne, ne_eq] at h2
  refine ⟨h1, h2.1, ?_⟩
  have h3 := h2.2
  revert h3
  cases gt_LO g q <;> cases w <;> simp
theorem gt_ld_none {g : gt_T} {w : Bool} {t : Int32} (h : gt_ld g w t = none) : ∀ q, q < gt_n g → gt_PT g q 0 = t → gt_LO g q = w := by
  unfold gt_ld at h
  intro q hq ht
  rw [List.find?_eq_none] at h
  have h1 := h q (List.mem_range.mpr hq)
  simp only [ht, decide_true, Bool.true_and, bne_iff_ne, ne_eq, Decidable.not_not] at h1
  exact h1
theorem gt_ld_mk {g : gt_T} (H : gt_ok g) {w : Bool} {q : Nat} (hq : q < gt_n g) (h : gt_LO g q = !w) : gt_ld g w (gt_PT g q 0) = some q := by
  cases e : gt_ld g w (gt_PT g q 0) with
  | none =>
    have h1 := gt_ld_none e q hq rfl
    rw [h] at h1
    cases w <;> simp at h1
  | some q' =>
    obtain ⟨h1, h2, h3⟩ := gt_ld_some e
    rw [H.2.2.2.2.2.2.1 q' q h1 hq h2 (h3.trans h.symm)]
theorem gt_ld_no {g : gt_T} {w : Bool} {t : Int32} (h : ∀ q, q < gt_n g → gt_PT g q 0 ≠ t) : gt_ld g w t = none := by
  cases e : gt_ld g w t with
  | none => rfl
  | some q =>
    obtain ⟨h1, h2, h3⟩ := gt_ld_some e
    exact absurd h2 (h q h1)
theorem gt_pc4 {g : gt_T} (H : gt_ok g) {q : Nat} (hq : q < gt_n g) : 1 ≤ gt_PC g q ∧ gt_PC g q ≤ 4 := by
  obtain ⟨h1, h2, h3⟩ := H.2.2.2.2.1 q hq
  refine ⟨h1, Nat.le_trans h2 ?_⟩
  unfold gt_mx
  split
  · decide
  · split <;> decide
/-- the four kinds by what the proofs use -/
theorem gt_cs {g : gt_T} (H : gt_ok g) {q : Nat} (hq : q < gt_n g) :
    (gt_LO g q = false ∧ gt_RO g q = true ∧ gt_ar g q = gt_PC g q ∧ gt_k g q = 0 ∧ 1 ≤ gt_PC g q ∧ gt_PC g q ≤ 3) ∨
    (gt_LO g q = true ∧ gt_RO g q = false ∧ gt_ar g q = gt_PC g q ∧ gt_k g q = 1 ∧ 1 ≤ gt_PC g q ∧ gt_PC g q ≤ 3) ∨
    (gt_LO g q = true ∧ gt_RO g q = true ∧ gt_ar g q = gt_PC g q + 1 ∧ gt_k g q = 2 ∧ 1 ≤ gt_PC g q ∧ gt_PC g q ≤ 2) ∨
    (gt_LO g q = false ∧ gt_RO g q = false ∧ gt_ar g q + 1 = gt_PC g q ∧ gt_k g q = 3 ∧ 1 ≤ gt_PC g q ∧ gt_PC g q ≤ 4) := by
  obtain ⟨h1, h2, h3⟩ := H.2.2.2.2.1 q hq
  have d02 : ¬ (0 : Int32) = 2 := by decide
  have d03 : ¬ (0 : Int32) = 3 := by decide
  have d01 : ¬ (0 : Int32) = 1 := by decide
  have d12 : ¬ (1 : Int32) = 2 := by decide
  have d13 : ¬ (1 : Int32) = 3 := by decide
  have d10 : ¬ (1 : Int32) = 0 := by decide
  have d20 : ¬ (2 : Int32) = 0 := by decide
  have d21 : ¬ (2 : Int32) = 1 := by decide
  have d32 : ¬ (3 : Int32) = 2 := by decide
  have d30 : ¬ (3 : Int32) = 0 := by decide
  have d31 : ¬ (3 : Int32) = 1 := by decide
  unfold gt_mx at h2
  rcases H.2.2.1 q hq with e | e | e | e
  · left
    unfold gt_LO gt_RO gt_ar
    rw [e] at h2 ⊢
    rw [if_neg d02, if_neg d03] at h2
    simp only [d02, d03, d01, if_false, decide_false, decide_true, Bool.or_false, Bool.true_or, true_and, h1, h2, and_self]
  · right; left
    unfold gt_LO gt_RO gt_ar
    rw [e] at h2 ⊢
    rw [if_neg d12, if_neg d13] at h2
    simp only [d12, d13, d10, if_false, decide_false, decide_true, Bool.or_false, Bool.true_or, true_and, h1, h2, and_self]
  · right; right; left
    unfold gt_LO gt_RO gt_ar
    rw [e] at h2 ⊢
    rw [if_pos rfl] at h2
    simp only [d20, d21, if_true, decide_false, decide_true, Bool.false_or, true_and, h1, h2, and_self]
  · right; right; right
    unfold gt_LO gt_RO gt_ar
    rw [e] at h2 ⊢
    rw [if_neg d32, if_pos rfl] at h2
    simp only [d32, d30, d31, if_true, if_false, decide_false, Bool.or_false, true_and, h1, h2, and_true]
    omega
theorem gt_pt {g : gt_T} (H : gt_ok g) {q m : Nat} (hq : q < gt_n g) (hm : m < gt_PC g q) : gt_PT g q m ≠ 0 ∧ gt_PT g q m ≠ 1 := by
  obtain ⟨t, h1, h2, h3⟩ := H.2.2.2.2.2.1 q m hq hm
  have hl := H.2.1
  rw [h3]
  constructor
  · intro e
    have := nI_toInt (n := t) (by omega)
    rw [e] at this
    have h0 : (0 : Int32).toInt = 0 := by decide
    rw [h0] at this
    omega
  · intro e
    have := nI_toInt (n := t) (by omega)
    rw [e] at this
    have h0 : (1 : Int32).toInt = 1 := by decide
    rw [h0] at this
    omega
theorem gt_pt_at {g : gt_T} (H : gt_ok g) {q m : Nat} (hq : q < gt_n g) (hm : m < gt_PC g q) : gt_at g (gt_PT g q m) = false := by
  have h4 := gt_pc4 H hq
  have : gt_ip g 0 3 (gt_PT g q m) = true := gt_ip_iff.mpr ⟨q, m, hq, hm, Nat.zero_le _, by omega, rfl⟩
  unfold gt_at
  rw [this]
  simp
theorem gt_at_ip {g : gt_T} {t : Int32} (h : gt_at g t = true) : ∀ q m, q < gt_n g → m < gt_PC g q → m ≤ 3 → gt_PT g q m ≠ t := by
  intro q m hq hm h3 e
  have : gt_ip g 0 3 t = true := gt_ip_iff.mpr ⟨q, m, hq, hm, Nat.zero_le _, h3, e⟩
  unfold gt_at at h
  rw [this] at h
  simp at h
theorem gt_at_ld {g : gt_T} (H : gt_ok g) {w : Bool} {t : Int32} (h : gt_at g t = true) : gt_ld g w t = none :=
  gt_ld_no fun q hq => gt_at_ip h q 0 hq (gt_pc4 H hq).1 (by omega)
theorem gt_at_ne {g : gt_T} {t : Int32} (h : gt_at g t = true) : t ≠ 0 ∧ t ≠ 1 := by
  unfold gt_at at h
  simp only [Bool.and_eq_true, decide_eq_true_eq] at h
  have h2 := h.1.1
  constructor
  · intro e; rw [e] at h2; exact absurd h2 (by decide)
  · intro e; rw [e] at h2; exact absurd h2 (by decide)
theorem gt_in_ld {g : gt_T} (H : gt_ok g) {w : Bool} {q m : Nat} (hq : q < gt_n g) (h1 : 1 ≤ m) (hm : m < gt_PC g q) : gt_ld g w (gt_PT g q m) = none :=
  gt_ld_no fun q' hq' e => H.2.2.2.2.2.2.2 q q' m hq hq' h1 hm e.symm
theorem gt_01 {g : gt_T} (H : gt_ok g) {w : Bool} : gt_ld g w 0 = none ∧ gt_ld g w 1 = none :=
  ⟨gt_ld_no fun q hq => (gt_pt H hq (gt_pc4 H hq).1).1, gt_ld_no fun q hq => (gt_pt H hq (gt_pc4 H hq).1).2⟩
theorem gt_ar3 {g : gt_T} (H : gt_ok g) {q : Nat} (hq : q < gt_n g) : gt_ar g q ≤ 3 := by
  rcases gt_cs H hq with h | h | h | h <;> omega
theorem gt_CT3 (g : gt_T) (l r : Nat) : gt_CT g l r = 1 ∨ gt_CT g l r = 0 ∨ gt_CT g l r = -1 := by
  unfold gt_CT
  split
  · split
    · exact Or.inl rfl
    · split
      · exact Or.inr (Or.inr rfl)
      · exact Or.inr (Or.inl rfl)
  · split
    · exact Or.inr (Or.inr rfl)
    · exact Or.inl rfl
end
section
/-! forests: inner m e () p k is the forest p and behind it one tree: m pairs of parentheses, label e (a token or an operator), children k -/
abbrev ff_F : Type := Std.DTreeMap.Internal.Impl (Int32 ⊕ Nat) (fun _ => Unit)
abbrev ff_A : Type := Int32 × Option Nat × Nat
def ff_lf : ff_F → Bool
  | .leaf => true
  | .inner _ _ _ _ _ => false
def ff_len : ff_F → Nat
  | .leaf => 0
  | .inner _ _ _ p _ => ff_len p + 1
def ff_sz : ff_F → Nat
  | .leaf => 0
  | .inner _ _ _ p k => ff_sz p + ff_sz k + 1
def ff_ent : Int32 ⊕ Nat → Int32
  | .inl t => t
  | .inr q => 100 + nI q
def ff_post : ff_F → List Int32
  | .leaf => []
  | .inner _ e _ p k => ff_post p ++ (ff_post k ++ [ff_ent e])
def ff_wr : Nat → List ff_A → List ff_A
  | 0, l => l
  | m + 1, l => (0, none, (ff_wr m l).length + 1) :: (ff_wr m l ++ [(1, none, 0)])
def ff_pt (g : gt_T) (q j r : Nat) : ff_A := (gt_PT g q j, (if j = 0 then some q else none), r)
def ff_sp (g : gt_T) (q i r : Nat) : List ff_A := if gt_LO g q = true ∧ i = 0 then [] else [ff_pt g q (gt_s g q i - 1) r]
def ff_rl (g : gt_T) (q i L : Nat) : Nat := if gt_s g q i < gt_PC g q then L + 1 else 0
def ff_tl (g : gt_T) (q i : Nat) : List ff_A := if gt_RO g q = true then [] else ff_sp g q i 0
def ff_bd (g : gt_T) (e : Int32 ⊕ Nat) (fk : Nat → List ff_A) (i : Nat) : List ff_A := match e with
  | .inl t => [(t, none, 0)]
  | .inr q => fk q ++ ff_tl g q i
/-- the text of the children of operator q, with the parts ahead of each -/
def ff_fl (g : gt_T) : ff_F → Nat → List ff_A
  | .leaf => fun _ => []
  | .inner m e _ p k => fun q => ff_fl g p q ++ (ff_sp g q (ff_len p) (ff_rl g q (ff_len p) (ff_wr m (ff_bd g e (ff_fl g k) (ff_len k))).length) ++ ff_wr m (ff_bd g e (ff_fl g k) (ff_len k)))
def ff_N (g : gt_T) (m : Nat) (e : Int32 ⊕ Nat) (k : ff_F) : List ff_A := ff_wr m (ff_bd g e (ff_fl g k) (ff_len k))
def ff_C (g : gt_T) : ff_F → List ff_A
  | .leaf => []
  | .inner m e _ _ k => ff_N g m e k
theorem ff_fl_in (g : gt_T) (m : Nat) (e : Int32 ⊕ Nat) (u : Unit) (p k : ff_F) (q : Nat) : ff_fl g (.inner m e u p k) q = ff_fl g p q ++ (ff_sp g q (ff_len p) (ff_rl g q (ff_len p) (ff_N g m e k).length) ++ ff_N g m e k) := rfl
theorem ff_N0o (g : gt_T) (q : Nat) (k : ff_F) : ff_N g 0 (.inr q) k = ff_fl g k q ++ ff_tl g q (ff_len k) := rfl
theorem ff_N0a (g : gt_T) (t : Int32) (k : ff_F) : ff_N g 0 (.inl t) k = [(t, none, 0)] := rfl
theorem ff_NS (g : gt_T) (m : Nat) (e : Int32 ⊕ Nat) (k : ff_F) : ff_N g (m + 1) e k = (0, none, (ff_N g m e k).length + 1) :: (ff_N g m e k ++ [(1, none, 0)]) := rfl
def ff_we (g : gt_T) (e : Int32 ⊕ Nat) (k : ff_F) : Prop := match e with
  | .inl t => gt_at g t = true ∧ ff_lf k = true
  | .inr q => q < gt_n g ∧ ff_len k = gt_ar g q
def ff_wf (g : gt_T) : ff_F → Prop
  | .leaf => True
  | .inner _ e _ p k => ff_wf g p ∧ ff_wf g k ∧ ff_we g e k
/-! chains: bare left-open operators down the left edge, bare right-open ones down the right edge -/
def ff_lN (g : gt_T) (m : Nat) (e : Int32 ⊕ Nat) (L : List Nat) : List Nat := match m, e with
  | 0, .inr q => if gt_LO g q = true then q :: L else []
  | _, _ => []
def ff_rN (g : gt_T) (m : Nat) (e : Int32 ⊕ Nat) (L : List Nat) : List Nat := match m, e with
  | 0, .inr q => if gt_RO g q = true then q :: L else []
  | _, _ => []
def ff_lF (g : gt_T) : ff_F → List Nat
  | .leaf => []
  | .inner m e _ p k => if ff_lf p = true then ff_lN g m e (ff_lF g k) else ff_lF g p
def ff_rL (g : gt_T) : ff_F → List Nat
  | .leaf => []
  | .inner m e _ _ k => ff_rN g m e (ff_rL g k)
def ff_lL (g : gt_T) : ff_F → List Nat
  | .leaf => []
  | .inner m e _ _ k => ff_lN g m e (ff_lF g k)
def ff_rF (g : gt_T) : ff_F → List Nat
  | .leaf => []
  | .inner m e _ p k => if ff_lf p = true then ff_rN g m e (ff_rL g k) else ff_rF g p
def ff_oe (g : gt_T) (e : Int32 ⊕ Nat) (k : ff_F) : Prop := match e with
  | .inl _ => True
  | .inr q => (gt_LO g q = true → ∀ r, r ∈ ff_rF g k → gt_CT g r q = 1) ∧ (gt_RO g q = true → ∀ r, r ∈ ff_lL g k → gt_CT g q r = -1)
def ff_ok (g : gt_T) : ff_F → Prop
  | .leaf => True
  | .inner _ e _ p k => ff_ok g p ∧ ff_ok g k ∧ ff_oe g e k
def ff_nd (q : Nat) (k : ff_F) : ff_F := .inner 0 (.inr q) () .leaf k
def ff_tk (t : Int32) : ff_F := .inner 0 (.inl t) () .leaf .leaf
def ff_sn (k T : ff_F) : ff_F := match T with
  | .leaf => k
  | .inner m e _ _ kk => .inner m e () k kk
def ff_wp : ff_F → ff_F
  | .leaf => .leaf
  | .inner m e _ p k => .inner (m + 1) e () p k
def ff_sg : ff_F → ff_F
  | .leaf => .leaf
  | .inner m e _ _ k => .inner m e () .leaf k
def ff_dp : ff_F → ff_F
  | .leaf => .leaf
  | .inner _ _ _ p _ => p
theorem ff_sn_dp (k : ff_F) : ff_sn (ff_dp k) (ff_sg k) = k := by cases k <;> rfl
theorem ff_len_dp {k : ff_F} (h : ff_lf k = false) : ff_len (ff_dp k) + 1 = ff_len k := by
  cases k with
  | leaf => simp [ff_lf] at h
  | inner m e u p k => rfl
theorem ff_len0 {k : ff_F} : ff_len k = 0 ↔ ff_lf k = true := by
  cases k <;> simp [ff_len, ff_lf]
theorem ff_lf_leaf {k : ff_F} (h : ff_lf k = true) : k = .leaf := by
  cases k with
  | leaf => rfl
  | inner m e u p k => simp [ff_lf] at h
theorem ff_lf_len {k : ff_F} (h : 0 < ff_len k) : ff_lf k = false := by
  cases k with
  | leaf => simp [ff_len] at h
  | inner m e u p k => rfl
theorem ff_lf_l : ff_lf (.leaf : ff_F) = true := rfl
theorem ff_lN_o (g : gt_T) (q : Nat) (L : List Nat) : ff_lN g 0 (.inr q) L = if gt_LO g q = true then q :: L else [] := rfl
theorem ff_rN_o (g : gt_T) (q : Nat) (L : List Nat) : ff_rN g 0 (.inr q) L = if gt_RO g q = true then q :: L else [] := rfl
end
section
/-! the machine with ghost trees: frames (none: a parenthesis; some q: operator q with its children so far), the tree at hand, a clash -/
abbrev mt_Fr : Type := Option Nat × ff_F
abbrev mt_S : Type := List mt_Fr × ff_F × Bool
def mt_st (g : gt_T) : List mt_Fr → ff_F → List mt_Fr × ff_F
  | [], c => ([], c)
  | (none, k) :: S, c => ((none, k) :: S, c)
  | (some q, k) :: S, c => if gt_s g q (ff_len k) = gt_PC g q then mt_st g S (ff_nd q (ff_sn k c)) else ((some q, k) :: S, c)
def mt_yd (g : gt_T) (q : Nat) : List mt_Fr → ff_F → List mt_Fr × ff_F × Bool
  | [], c => ([], c, false)
  | (none, k) :: S, c => ((none, k) :: S, c, false)
  | (some w, k) :: S, c => if gt_s g w (ff_len k) = gt_PC g w then (if gt_CT g w q = 1 then mt_yd g q S (ff_nd w (ff_sn k c)) else ((some w, k) :: S, c, decide (gt_CT g w q = 0))) else ((some w, k) :: S, c, false)
def mt_av (g : gt_T) (q : Nat) (k : ff_F) (S : List mt_Fr) (cl : Bool) : mt_S := if gt_s g q (ff_len k) < gt_PC g q ∨ gt_RO g q = true then ((some q, k) :: S, .leaf, cl) else (S, ff_nd q k, cl)
def mt_cl (cl : Bool) (y : List mt_Fr × ff_F) : Option mt_S := match y with
  | ((none, _) :: S, c) => some (S, ff_wp c, cl)
  | _ => none
def mt_in (g : gt_T) (t : Int32) (cl : Bool) (y : List mt_Fr × ff_F) : Option mt_S := match y with
  | ((some q, k) :: S, c) => if gt_PT g q (gt_s g q (ff_len k)) = t then some (mt_av g q (ff_sn k c) S cl) else none
  | _ => none
def mt_sp (g : gt_T) (s : mt_S) (t : Int32) : Option mt_S :=
  if ff_lf s.2.1 = true then
    if t = 0 then some ((none, .leaf) :: s.1, .leaf, s.2.2)
    else if t = 1 then none
    else if gt_at g t = true then some (s.1, ff_tk t, s.2.2)
    else match gt_ld g true t with
      | some q => some (mt_av g q .leaf s.1 s.2.2)
      | none => none
  else
    if t = 0 then none
    else if t = 1 then mt_cl s.2.2 (mt_st g s.1 s.2.1)
    else match gt_ld g false t with
      | some q => some (mt_av g q (mt_yd g q s.1 s.2.1).2.1 (mt_yd g q s.1 s.2.1).1 (s.2.2 || (mt_yd g q s.1 s.2.1).2.2))
      | none => mt_in g t s.2.2 (mt_st g s.1 s.2.1)
def mt_rn (g : gt_T) : List Int32 → mt_S → Option mt_S
  | [], s => some s
  | t :: l, s => (mt_sp g s t).bind (mt_rn g l)
theorem mt_rn_app (g : gt_T) (b : List Int32) : ∀ (a : List Int32) (s : mt_S), mt_rn g (a ++ b) s = (mt_rn g a s).bind (mt_rn g b) := by
  intro a
  induction a with
  | nil => intro s; rfl
  | cons t a ih =>
    intro s
    show (mt_sp g s t).bind (mt_rn g (a ++ b)) = ((mt_sp g s t).bind (mt_rn g a)).bind (mt_rn g b)
    cases mt_sp g s t with
    | none => rfl
    | some s' => exact ih s'
def ff_dN (g : gt_T) (m : Nat) (e : Int32 ⊕ Nat) (k : ff_F) (D : List mt_Fr × ff_F) : List mt_Fr × ff_F := match m, e with
  | 0, .inr q => if gt_RO g q = true then (D.1 ++ [(some q, ff_dp k)], D.2) else ([], .inner 0 (.inr q) () .leaf k)
  | m, e => ([], .inner m e () .leaf k)
theorem ff_dN_o (g : gt_T) (q : Nat) (k : ff_F) (D : List mt_Fr × ff_F) : ff_dN g 0 (.inr q) k D = if gt_RO g q = true then (D.1 ++ [(some q, ff_dp k)], D.2) else ([], .inner 0 (.inr q) () .leaf k) := rfl
def ff_dL (g : gt_T) : ff_F → List mt_Fr × ff_F
  | .leaf => ([], .leaf)
  | .inner m e _ _ k => ff_dN g m e k (ff_dL g k)
theorem gt_wait {g : gt_T} (H : gt_ok g) {q i : Nat} (hq : q < gt_n g) (hr : gt_RO g q = true) (hi : i + 1 = gt_ar g q) : gt_s g q i = gt_PC g q := by
  unfold gt_s
  rcases gt_cs H hq with ⟨h1, h2, h3, _⟩ | ⟨h1, h2, h3, _⟩ | ⟨h1, h2, h3, _⟩ | ⟨h1, h2, h3, _⟩
  · rw [h1]; simp; omega
  · rw [h2] at hr; simp at hr
  · rw [h1]; simp; omega
  · rw [h2] at hr; simp at hr
theorem gt_nwait {g : gt_T} (H : gt_ok g) {q i : Nat} (hq : q < gt_n g) (hi : i + 1 < gt_ar g q) : gt_s g q i < gt_PC g q := by
  unfold gt_s
  rcases gt_cs H hq with ⟨h1, h2, h3, _⟩ | ⟨h1, h2, h3, _⟩ | ⟨h1, h2, h3, _⟩ | ⟨h1, h2, h3, _⟩
  · rw [h1]; simp; omega
  · rw [h1]; simp; omega
  · rw [h1]; simp; omega
  · rw [h1]; simp; omega
/-- with an operand still to come the frame is pushed -/
theorem gt_push {g : gt_T} (H : gt_ok g) {q i : Nat} (hq : q < gt_n g) (hi : i < gt_ar g q) : gt_s g q i < gt_PC g q ∨ gt_RO g q = true := by
  unfold gt_s
  rcases gt_cs H hq with ⟨h1, h2, h3, _⟩ | ⟨h1, h2, h3, _⟩ | ⟨h1, h2, h3, _⟩ | ⟨h1, h2, h3, _⟩
  · exact Or.inr h2
  · rw [h1]; left; simp; omega
  · exact Or.inr h2
  · rw [h1]; left; simp; omega
theorem gt_npush {g : gt_T} (H : gt_ok g) {q i : Nat} (hq : q < gt_n g) (hr : gt_RO g q = false) (hi : i = gt_ar g q) : gt_s g q i = gt_PC g q := by
  unfold gt_s
  rcases gt_cs H hq with ⟨h1, h2, h3, _⟩ | ⟨h1, h2, h3, _⟩ | ⟨h1, h2, h3, _⟩ | ⟨h1, h2, h3, _⟩
  · rw [h2] at hr; simp at hr
  · rw [h1]; simp; omega
  · rw [h2] at hr; simp at hr
  · rw [h1]; simp; omega
theorem mt_st_d {g : gt_T} (H : gt_ok g) : ∀ (F : ff_F) (S : List mt_Fr), ff_wf g F → ff_lf F = false → mt_st g ((ff_dL g F).1 ++ S) (ff_dL g F).2 = mt_st g S (ff_sg F) := by
  intro F
  induction F with
  | leaf => intro S _ h; simp [ff_lf] at h
  | inner m e u p k ihp ihk =>
    intro S hw _
    match m, e with
    | 0, .inl t => rfl
    | m + 1, .inl t => rfl
    | m + 1, .inr q => rfl
    | 0, .inr q =>
      show mt_st g ((ff_dN g 0 (.inr q) k (ff_dL g k)).1 ++ S) (ff_dN g 0 (.inr q) k (ff_dL g k)).2 = mt_st g S (.inner 0 (.inr q) () .leaf k)
      rw [ff_dN_o]
      by_cases hr : gt_RO g q = true
      · rw [if_pos hr]
        dsimp only
        obtain ⟨_, hk, hq, hl⟩ := hw
        have hpos : 0 < ff_len k := by
          rw [hl]
          rcases gt_cs H hq with h | h | h | h
          · omega
          · omega
          · omega
          · rw [h.2.1] at hr; simp at hr
        have hlf := ff_lf_len hpos
        have hd := ff_len_dp hlf
        rw [List.append_assoc, List.singleton_append, ihk ((some q, ff_dp k) :: S) hk hlf]
        show (if gt_s g q (ff_len (ff_dp k)) = gt_PC g q then mt_st g S (ff_nd q (ff_sn (ff_dp k) (ff_sg k))) else _) = _
        rw [if_pos (gt_wait H hq hr (by omega)), ff_sn_dp]
        rfl
      · rw [if_neg hr]
        rfl
theorem mt_yd_d {g : gt_T} (H : gt_ok g) (q0 : Nat) : ∀ (F : ff_F) (S : List mt_Fr), ff_wf g F → ff_lf F = false → (∀ r, r ∈ ff_rL g F → gt_CT g r q0 = 1) → mt_yd g q0 ((ff_dL g F).1 ++ S) (ff_dL g F).2 = mt_yd g q0 S (ff_sg F) := by
  intro F
  induction F with
  | leaf => intro S _ h; simp [ff_lf] at h
  | inner m e u p k ihp ihk =>
    intro S hw _ hc
    match m, e with
    | 0, .inl t => rfl
    | m + 1, .inl t => rfl
    | m + 1, .inr q => rfl
    | 0, .inr q =>
      show mt_yd g q0 ((ff_dN g 0 (.inr q) k (ff_dL g k)).1 ++ S) (ff_dN g 0 (.inr q) k (ff_dL g k)).2 = mt_yd g q0 S (.inner 0 (.inr q) () .leaf k)
      rw [ff_dN_o]
      by_cases hr : gt_RO g q = true
      · rw [if_pos hr]
        dsimp only
        obtain ⟨_, hk, hq, hl⟩ := hw
        have hpos : 0 < ff_len k := by
          rw [hl]
          rcases gt_cs H hq with h | h | h | h
          · omega
          · omega
          · omega
          · rw [h.2.1] at hr; simp at hr
        have hlf := ff_lf_len hpos
        have hd := ff_len_dp hlf
        have hc2 : ∀ r, r ∈ q :: ff_rL g k → gt_CT g r q0 = 1 := by
          intro r hm
          apply hc
          show r ∈ ff_rN g 0 (.inr q) (ff_rL g k)
          rw [ff_rN_o, if_pos hr]
          exact hm
        rw [List.append_assoc, List.singleton_append, ihk ((some q, ff_dp k) :: S) hk hlf (fun r h => hc2 r (List.mem_cons_of_mem _ h))]
        show (if gt_s g q (ff_len (ff_dp k)) = gt_PC g q then (if gt_CT g q q0 = 1 then mt_yd g q0 S (ff_nd q (ff_sn (ff_dp k) (ff_sg k))) else _) else _) = _
        rw [if_pos (gt_wait H hq hr (by omega)), if_pos (hc2 q (List.mem_cons_self ..)), ff_sn_dp]
        rfl
      · rw [if_neg hr]
        rfl
theorem ff_dL_nlf {g : gt_T} (H : gt_ok g) : ∀ (F : ff_F), ff_wf g F → ff_lf F = false → ff_lf (ff_dL g F).2 = false := by
  intro F
  induction F with
  | leaf => intro _ h; simp [ff_lf] at h
  | inner m e u p k ihp ihk =>
    intro hw _
    match m, e with
    | 0, .inl t => rfl
    | m + 1, .inl t => rfl
    | m + 1, .inr q => rfl
    | 0, .inr q =>
      show ff_lf (ff_dN g 0 (.inr q) k (ff_dL g k)).2 = false
      rw [ff_dN_o]
      by_cases hr : gt_RO g q = true
      · rw [if_pos hr]
        obtain ⟨_, hk, hq, hl⟩ := hw
        have hpos : 0 < ff_len k := by
          rw [hl]
          rcases gt_cs H hq with h | h | h | h
          · omega
          · omega
          · omega
          · rw [h.2.1] at hr; simp at hr
        exact ihk hk (ff_lf_len hpos)
      · rw [if_neg hr]
        rfl
def mt_cx (g : gt_T) (S : List mt_Fr) (L : List Nat) : Prop := match S with
  | (some w, k) :: _ => gt_s g w (ff_len k) = gt_PC g w → ∀ r, r ∈ L → gt_CT g w r = -1
  | _ => True
theorem mt_yd_stop {g : gt_T} {q : Nat} {L : List Nat} {S : List mt_Fr} {c : ff_F} (h : mt_cx g S (q :: L)) : mt_yd g q S c = (S, c, false) := by
  match S, h with
  | [], _ => rfl
  | (none, k) :: S, _ => rfl
  | (some w, k) :: S, h =>
    show (if gt_s g w (ff_len k) = gt_PC g w then (if gt_CT g w q = 1 then mt_yd g q S (ff_nd w (ff_sn k c)) else ((some w, k) :: S, c, decide (gt_CT g w q = 0))) else ((some w, k) :: S, c, false)) = _
    by_cases hw : gt_s g w (ff_len k) = gt_PC g w
    · have hc : gt_CT g w q = -1 := h hw q (List.mem_cons_self ..)
      rw [if_pos hw, hc, if_neg (by decide)]
      rfl
    · rw [if_neg hw]
def mt_Q (g : gt_T) (m : Nat) (e : Int32 ⊕ Nat) (k : ff_F) : Prop := ∀ (S : List mt_Fr) (cl : Bool), mt_cx g S (ff_lN g m e (ff_lF g k)) → mt_rn g ((ff_N g m e k).map Prod.fst) (S, .leaf, cl) = some ((ff_dN g m e k (ff_dL g k)).1 ++ S, (ff_dN g m e k (ff_dL g k)).2, cl)
def mt_PQ (g : gt_T) : ff_F → Prop
  | .leaf => True
  | .inner m e _ p k => mt_PQ g p ∧ mt_Q g m e k
theorem ff_sp_fst (g : gt_T) (q i r : Nat) : (ff_sp g q i r).map Prod.fst = if gt_LO g q = true ∧ i = 0 then [] else [gt_PT g q (gt_s g q i - 1)] := by
  unfold ff_sp
  split <;> rfl
theorem mt_sp_lw {g : gt_T} (H : gt_ok g) {q : Nat} (hq : q < gt_n g) (hl : gt_LO g q = false) (S : List mt_Fr) (cl : Bool) : mt_sp g (S, .leaf, cl) (gt_PT g q 0) = some (mt_av g q .leaf S cl) := by
  have h1 := gt_pc4 H hq
  have h2 := gt_pt H hq h1.1
  unfold mt_sp
  dsimp only
  rw [if_pos ff_lf_l, if_neg h2.1, if_neg h2.2, gt_pt_at H hq h1.1, gt_ld_mk H hq (w := true) (by rw [hl]; rfl)]
  simp
theorem mt_sp_lh {g : gt_T} (H : gt_ok g) {q : Nat} (hq : q < gt_n g) (hl : gt_LO g q = true) (S : List mt_Fr) {c : ff_F} (hc : ff_lf c = false) (cl : Bool) : mt_sp g (S, c, cl) (gt_PT g q 0) = some (mt_av g q (mt_yd g q S c).2.1 (mt_yd g q S c).1 (cl || (mt_yd g q S c).2.2)) := by
  have h1 := gt_pc4 H hq
  have h2 := gt_pt H hq h1.1
  unfold mt_sp
  dsimp only
  rw [if_neg (by rw [hc]; decide), if_neg h2.1, if_neg h2.2, gt_ld_mk H hq (w := false) (by rw [hl]; rfl)]
theorem mt_sp_in {g : gt_T} (H : gt_ok g) {q j : Nat} (hq : q < gt_n g) (h1 : 1 ≤ j) (hj : j < gt_PC g q) (S : List mt_Fr) {c : ff_F} (hc : ff_lf c = false) (cl : Bool) : mt_sp g (S, c, cl) (gt_PT g q j) = mt_in g (gt_PT g q j) cl (mt_st g S c) := by
  have h2 := gt_pt H hq hj
  unfold mt_sp
  dsimp only
  rw [if_neg (by rw [hc]; decide), if_neg h2.1, if_neg h2.2, gt_in_ld H hq h1 hj]
theorem mt_rn_1 (g : gt_T) (t : Int32) (s : mt_S) : mt_rn g [t] s = mt_sp g s t := by
  show (mt_sp g s t).bind (mt_rn g []) = _
  cases mt_sp g s t <;> rfl
theorem mt_in_top {g : gt_T} {q : Nat} {p : ff_F} (S : List mt_Fr) (c : ff_F) (cl : Bool) (hn : gt_s g q (ff_len p) < gt_PC g q) : mt_in g (gt_PT g q (gt_s g q (ff_len p))) cl (mt_st g ((some q, p) :: S) c) = some (mt_av g q (ff_sn p c) S cl) := by
  have : mt_st g ((some q, p) :: S) c = ((some q, p) :: S, c) := by
    show (if gt_s g q (ff_len p) = gt_PC g q then _ else _) = _
    rw [if_neg (by omega)]
  rw [this]
  unfold mt_in
  dsimp only
  rw [if_pos rfl]
theorem gt_s_succ (g : gt_T) (q i : Nat) : gt_s g q (i + 1) - 1 = gt_s g q i := by
  unfold gt_s
  split <;> omega
/-- one operand and the part behind it, above the frame of q -/
theorem mt_mid {g : gt_T} (H : gt_ok g) {q : Nat} (hq : q < gt_n g) {m : Nat} {e : Int32 ⊕ Nat} {u : Unit} {p k : ff_F} (hQ : mt_Q g m e k) (hw : ff_wf g (.inner m e u p k)) (hn : gt_s g q (ff_len p) < gt_PC g q) (h1 : 1 ≤ gt_s g q (ff_len p)) (S : List mt_Fr) (cl : Bool) (r : Nat) :
    mt_rn g ((ff_N g m e k ++ [ff_pt g q (gt_s g q (ff_len p)) r]).map Prod.fst) ((some q, p) :: S, .leaf, cl) = some (mt_av g q (.inner m e () p k) S cl) := by
  have hc : mt_cx g ((some q, p) :: S) (ff_lN g m e (ff_lF g k)) := fun h => absurd h (by omega)
  have hw1 : ff_wf g (.inner m e () .leaf k) := ⟨trivial, hw.2.1, hw.2.2⟩
  have hnl := ff_dL_nlf H (.inner m e () .leaf k) hw1 rfl
  have hst := mt_st_d H (.inner m e () .leaf k) ((some q, p) :: S) hw1 rfl
  rw [List.map_append, mt_rn_app, hQ _ cl hc, Option.bind_some]
  show mt_rn g [gt_PT g q (gt_s g q (ff_len p))] ((ff_dL g (.inner m e () .leaf k)).1 ++ _, (ff_dL g (.inner m e () .leaf k)).2, cl) = _
  rw [mt_rn_1, mt_sp_in H hq h1 hn _ hnl]
  rw [hst, mt_in_top S _ cl hn]
  rfl
/-- the operand 0 of a left-open operator and its lead -/
theorem mt_fst {g : gt_T} (H : gt_ok g) {q : Nat} (hq : q < gt_n g) (hl : gt_LO g q = true) {m : Nat} {e : Int32 ⊕ Nat} {k : ff_F} (hQ : mt_Q g m e k) (hw : ff_wf g (.inner m e () .leaf k)) (S : List mt_Fr) (cl : Bool) (r : Nat)
    (hc : mt_cx g S (q :: ff_lN g m e (ff_lF g k))) (hr : ∀ x, x ∈ ff_rN g m e (ff_rL g k) → gt_CT g x q = 1) :
    mt_rn g ((ff_N g m e k ++ [ff_pt g q 0 r]).map Prod.fst) (S, .leaf, cl) = some (mt_av g q (.inner m e () .leaf k) S cl) := by
  have hc' : mt_cx g S (ff_lN g m e (ff_lF g k)) := by
    match S, hc with
    | [], _ => trivial
    | (none, _) :: _, _ => trivial
    | (some w, kk) :: _, hc => exact fun h r hr => hc h r (List.mem_cons_of_mem _ hr)
  have hnl := ff_dL_nlf H (.inner m e () .leaf k) hw rfl
  have hyd := mt_yd_d H q (.inner m e () .leaf k) S hw rfl hr
  rw [List.map_append, mt_rn_app, hQ _ cl hc', Option.bind_some]
  show mt_rn g [gt_PT g q 0] ((ff_dL g (.inner m e () .leaf k)).1 ++ _, (ff_dL g (.inner m e () .leaf k)).2, cl) = _
  rw [mt_rn_1, mt_sp_lh H hq hl _ hnl]
  rw [hyd, mt_yd_stop hc]
  simp only [Bool.or_false]
  rfl
theorem mt_A {g : gt_T} (H : gt_ok g) {q : Nat} (hq : q < gt_n g) : ∀ (F : ff_F), mt_PQ g F → ff_wf g F → ff_len F < gt_ar g q → (gt_LO g q = true → ff_lf F = false) → ∀ (S : List mt_Fr) (cl : Bool) (r : Nat), (gt_LO g q = true → mt_cx g S (q :: ff_lF g F) ∧ ∀ x, x ∈ ff_rF g F → gt_CT g x q = 1) →
    mt_rn g ((ff_fl g F q ++ ff_sp g q (ff_len F) r).map Prod.fst) (S, .leaf, cl) = some ((some q, F) :: S, .leaf, cl) := by
  intro F
  induction F with
  | leaf =>
    intro _ _ hlen hlf S cl r _
    have hl : gt_LO g q = false := by
      cases h : gt_LO g q with
      | false => rfl
      | true => have := hlf h; simp [ff_lf] at this
    have e1 : gt_s g q 0 - 1 = 0 := by unfold gt_s; rw [hl]; rfl
    show mt_rn g ((ff_sp g q 0 r).map Prod.fst) _ = _
    rw [ff_sp_fst, if_neg (by rw [hl]; simp), e1, mt_rn_1, mt_sp_lw H hq hl]
    unfold mt_av
    rw [if_pos (gt_push H hq hlen)]
  | inner m e u p k ihp ihk =>
    intro hP hw hlen hlf S cl r hc
    by_cases hcase : gt_LO g q = true ∧ ff_lf p = true
    · obtain ⟨hl, hp⟩ := hcase
      have ep := ff_lf_leaf hp
      subst ep
      obtain ⟨hc1, hc2⟩ := hc hl
      have e0 : ff_fl g (.inner m e u .leaf k) q ++ ff_sp g q (ff_len (.inner m e u .leaf k)) r = ff_N g m e k ++ [ff_pt g q 0 r] := by
        rw [ff_fl_in]
        show [] ++ (ff_sp g q 0 _ ++ _) ++ ff_sp g q 1 r = _
        unfold ff_sp
        rw [if_pos ⟨hl, rfl⟩, if_neg (by simp)]
        simp [gt_s, hl]
      rw [e0, mt_fst H hq hl hP.2 ⟨trivial, hw.2.1, hw.2.2⟩ S cl r hc1 hc2]
      unfold mt_av
      rw [if_pos (gt_push H hq hlen)]
    · have hp : gt_LO g q = true → ff_lf p = false := by
        intro h
        cases h2 : ff_lf p with
        | false => rfl
        | true => exact absurd ⟨h, h2⟩ hcase
      have hlen' : ff_len p + 1 < gt_ar g q := hlen
      have hn := gt_nwait H hq hlen'
      have h1 : 1 ≤ gt_s g q (ff_len p) := by
        unfold gt_s
        split
        · rename_i h
          have := hp h
          cases p with
          | leaf => simp [ff_lf] at this
          | inner _ _ _ _ _ => simp [ff_len]
        · omega
      have e0 : ff_fl g (.inner m e u p k) q ++ ff_sp g q (ff_len (.inner m e u p k)) r = (ff_fl g p q ++ ff_sp g q (ff_len p) (ff_rl g q (ff_len p) (ff_N g m e k).length)) ++ (ff_N g m e k ++ [ff_pt g q (gt_s g q (ff_len p)) r]) := by
        rw [ff_fl_in]
        have : ff_sp g q (ff_len (.inner m e u p k)) r = [ff_pt g q (gt_s g q (ff_len p)) r] := by
          show ff_sp g q (ff_len p + 1) r = _
          unfold ff_sp
          rw [if_neg (by omega), gt_s_succ]
        rw [this]
        simp only [List.append_assoc]
      have hcp : gt_LO g q = true → mt_cx g S (q :: ff_lF g p) ∧ ∀ x, x ∈ ff_rF g p → gt_CT g x q = 1 := by
        intro h
        have h2 := hc h
        have h3 := hp h
        have e1 : ff_lF g (.inner m e u p k) = ff_lF g p := by
          show (if ff_lf p = true then _ else _) = _
          rw [if_neg (by rw [h3]; decide)]
        have e2 : ff_rF g (.inner m e u p k) = ff_rF g p := by
          show (if ff_lf p = true then _ else _) = _
          rw [if_neg (by rw [h3]; decide)]
        rw [e1, e2] at h2
        exact h2
      rw [e0, List.map_append, mt_rn_app, ihp hP.1 hw.1 (by omega) hp S cl _ hcp, Option.bind_some, mt_mid H hq hP.2 hw hn h1 S cl r]
      unfold mt_av
      rw [if_pos (gt_push H hq hlen)]
end
section
theorem gt_s_add (g : gt_T) (q i : Nat) : gt_s g q (i + 1) = gt_s g q i + 1 := by
  unfold gt_s
  split <;> rfl
theorem mt_Qa {g : gt_T} (H : gt_ok g) {t : Int32} {k : ff_F} (hw : ff_we g (.inl t) k) : mt_Q g 0 (.inl t) k := by
  intro S cl _
  obtain ⟨ha, hk⟩ := hw
  have ek := ff_lf_leaf hk
  subst ek
  have h2 := gt_at_ne ha
  show mt_rn g [t] (S, .leaf, cl) = some ([] ++ S, ff_tk t, cl)
  rw [mt_rn_1]
  unfold mt_sp
  dsimp only
  rw [if_pos ff_lf_l, if_neg h2.1, if_neg h2.2, if_pos ha]
  rfl
theorem mt_Qo {g : gt_T} (H : gt_ok g) {q : Nat} {k : ff_F} (hw : ff_wf g k) (he : ff_we g (.inr q) k) (ho : ff_oe g (.inr q) k) (hP : mt_PQ g k) : mt_Q g 0 (.inr q) k := by
  intro S cl hc
  obtain ⟨hq, hlen⟩ := he
  obtain ⟨ho1, ho2⟩ := ho
  have hcs := gt_cs H hq
  rw [ff_N0o]
  have hlc : gt_LO g q = true → mt_cx g S (q :: ff_lF g k) := by
    intro h
    have : ff_lN g 0 (.inr q) (ff_lF g k) = q :: ff_lF g k := by
      rw [ff_lN_o, if_pos h]
    rw [this] at hc
    exact hc
  cases k with
  | leaf =>
    have h0 : gt_ar g q = 0 := hlen.symm
    have hl : gt_LO g q = false ∧ gt_RO g q = false := by
      rcases hcs with h | h | h | h
      · omega
      · omega
      · omega
      · exact ⟨h.1, h.2.1⟩
    have e1 : ff_fl g .leaf q ++ ff_tl g q (ff_len .leaf) = [ff_pt g q 0 0] := by
      show [] ++ (if gt_RO g q = true then [] else ff_sp g q 0 0) = _
      rw [if_neg (by rw [hl.2]; decide)]
      unfold ff_sp
      rw [if_neg (by rw [hl.1]; simp)]
      simp [gt_s, hl.1]
    rw [e1]
    show mt_rn g [gt_PT g q 0] _ = _
    rw [mt_rn_1, mt_sp_lw H hq hl.1]
    have hs := gt_npush H hq hl.2 (i := 0) h0.symm
    unfold mt_av
    rw [ff_dN_o]
    rw [if_neg (by show ¬ (gt_s g q 0 < _ ∨ _); rw [hl.2]; simp; omega), if_neg (by rw [hl.2]; decide)]
    rfl
  | inner m e u p k' =>
    have hlen' : ff_len p + 1 = gt_ar g q := hlen
    have hsadd := gt_s_add g q (ff_len p)
    have hA : ∀ r, (gt_LO g q = true → ff_lf p = false) → mt_rn g ((ff_fl g p q ++ ff_sp g q (ff_len p) r).map Prod.fst) (S, .leaf, cl) = some ((some q, p) :: S, .leaf, cl) := by
      intro r hp
      refine mt_A H hq p hP.1 hw.1 (by omega) hp S cl r ?_
      intro h
      have h3 := hp h
      have e1 : ff_lF g (.inner m e u p k') = ff_lF g p := by
        show (if ff_lf p = true then _ else _) = _
        rw [if_neg (by rw [h3]; decide)]
      have e2 : ff_rF g (.inner m e u p k') = ff_rF g p := by
        show (if ff_lf p = true then _ else _) = _
        rw [if_neg (by rw [h3]; decide)]
      have h4 := hlc h
      have h5 := ho1 h
      rw [e1] at h4
      rw [e2] at h5
      exact ⟨h4, h5⟩
    by_cases hr : gt_RO g q = true
    · have hp : gt_LO g q = true → ff_lf p = false := by
        intro h
        apply ff_lf_len
        rcases hcs with h' | h' | h' | h'
        · rw [h'.1] at h; simp at h
        · rw [h'.2.1] at hr; simp at hr
        · omega
        · rw [h'.1] at h; simp at h
      have e1 : ff_fl g (.inner m e u p k') q ++ ff_tl g q (ff_len (.inner m e u p k')) = (ff_fl g p q ++ ff_sp g q (ff_len p) (ff_rl g q (ff_len p) (ff_N g m e k').length)) ++ ff_N g m e k' := by
        rw [ff_fl_in]
        unfold ff_tl
        rw [if_pos hr]
        simp only [List.append_assoc, List.append_nil]
      rw [e1, List.map_append, mt_rn_app, hA _ hp, Option.bind_some, hP.2 ((some q, p) :: S) cl (fun _ => ho2 hr)]
      show some ((ff_dL g (.inner m e u p k')).1 ++ (some q, p) :: S, (ff_dL g (.inner m e u p k')).2, cl) = _
      rw [ff_dN_o, if_pos hr]
      simp only [List.append_assoc, List.singleton_append]
      rfl
    · have hr' : gt_RO g q = false := by
        cases h : gt_RO g q with
        | false => rfl
        | true => exact absurd h hr
      have hs := gt_npush H hq hr' (i := ff_len p + 1) hlen'
      have e2 : ff_tl g q (ff_len (.inner m e u p k')) = [ff_pt g q (gt_s g q (ff_len p)) 0] := by
        show (if gt_RO g q = true then [] else ff_sp g q (ff_len p + 1) 0) = _
        rw [if_neg hr]
        unfold ff_sp
        rw [if_neg (by omega), gt_s_succ]
      have hfin : ∀ kk : ff_F, ff_len kk = ff_len p + 1 → mt_av g q kk S cl = (S, ff_nd q kk, cl) := by
        intro kk hk
        unfold mt_av
        rw [if_neg (by rw [hk, hr', hs]; simp)]
      have e3 : (ff_dN g 0 (.inr q) (.inner m e u p k') (ff_dL g (.inner m e u p k'))) = ([], ff_nd q (.inner m e u p k')) := by
        rw [ff_dN_o, if_neg hr]
        rfl
      rw [e3]
      by_cases hcase : gt_LO g q = true ∧ ff_lf p = true
      · obtain ⟨hl, hp⟩ := hcase
        have ep := ff_lf_leaf hp
        subst ep
        have e1 : ff_fl g (.inner m e u .leaf k') q ++ ff_tl g q (ff_len (.inner m e u .leaf k')) = ff_N g m e k' ++ [ff_pt g q 0 0] := by
          rw [e2, ff_fl_in]
          show [] ++ (ff_sp g q 0 _ ++ _) ++ _ = _
          unfold ff_sp
          rw [if_pos ⟨hl, rfl⟩]
          simp [gt_s, hl, ff_len]
        rw [e1, mt_fst H hq hl hP.2 ⟨trivial, hw.2.1, hw.2.2⟩ S cl 0 (hlc hl) (ho1 hl), hfin _ rfl]
        rfl
      · have hp : gt_LO g q = true → ff_lf p = false := by
          intro h
          cases h2 : ff_lf p with
          | false => rfl
          | true => exact absurd ⟨h, h2⟩ hcase
        have h1 : 1 ≤ gt_s g q (ff_len p) := by
          unfold gt_s
          split
          · rename_i h
            have := hp h
            cases p with
            | leaf => simp [ff_lf] at this
            | inner _ _ _ _ _ => simp [ff_len]
          · omega
        have e1 : ff_fl g (.inner m e u p k') q ++ ff_tl g q (ff_len (.inner m e u p k')) = (ff_fl g p q ++ ff_sp g q (ff_len p) (ff_rl g q (ff_len p) (ff_N g m e k').length)) ++ (ff_N g m e k' ++ [ff_pt g q (gt_s g q (ff_len p)) 0]) := by
          rw [ff_fl_in, e2]
          simp only [List.append_assoc]
        rw [e1, List.map_append, mt_rn_app, hA _ hp, Option.bind_some, mt_mid H hq hP.2 hw (by omega) h1 S cl 0, hfin _ rfl]
        rfl
theorem mt_Qs {g : gt_T} (H : gt_ok g) {m : Nat} {e : Int32 ⊕ Nat} {k : ff_F} (hw : ff_wf g (.inner m e () .leaf k)) (hQ : mt_Q g m e k) : mt_Q g (m + 1) e k := by
  intro S cl _
  have hnl := ff_dL_nlf H (.inner m e () .leaf k) hw rfl
  have hst := mt_st_d H (.inner m e () .leaf k) ((none, .leaf) :: S) hw rfl
  have e1 : mt_sp g (S, .leaf, cl) 0 = some ((none, .leaf) :: S, .leaf, cl) := by
    unfold mt_sp
    dsimp only
    rw [if_pos ff_lf_l, if_pos rfl]
  have e2 : ff_dN g (m + 1) e k (ff_dL g k) = ([], .inner (m + 1) e () .leaf k) := by cases e <;> rfl
  rw [ff_NS, e2]
  show (mt_sp g (S, .leaf, cl) 0).bind (mt_rn g ((ff_N g m e k ++ [(1, none, 0)]).map Prod.fst)) = _
  rw [e1, Option.bind_some, List.map_append, mt_rn_app, hQ ((none, .leaf) :: S) cl trivial, Option.bind_some]
  show mt_rn g [1] _ = _
  rw [mt_rn_1]
  unfold mt_sp
  dsimp only
  rw [if_neg (by show ¬ ff_lf (ff_dL g (.inner m e () .leaf k)).2 = true; rw [hnl]; decide), if_neg (by decide), if_pos rfl]
  show mt_cl cl (mt_st g ((ff_dL g (.inner m e () .leaf k)).1 ++ _) (ff_dL g (.inner m e () .leaf k)).2) = _
  rw [hst]
  rfl
theorem mt_B {g : gt_T} (H : gt_ok g) : ∀ (F : ff_F), ff_wf g F → ff_ok g F → mt_PQ g F := by
  intro F
  induction F with
  | leaf => intro _ _; trivial
  | inner m e u p k ihp ihk =>
    intro hw ho
    refine ⟨ihp hw.1 ho.1, ?_⟩
    have hP := ihk hw.2.1 ho.2.1
    have h0 : mt_Q g 0 e k := by
      match e, hw, ho with
      | .inl t, hw, _ => exact mt_Qa H hw.2.2
      | .inr q, hw, ho => exact mt_Qo H hw.2.1 hw.2.2 ho.2.2 hP
    clear ihp ihk
    induction m with
    | zero => exact h0
    | succ m ih => exact mt_Qs H ⟨trivial, hw.2.1, hw.2.2⟩ (ih hw ho)
theorem mt_tree {g : gt_T} (H : gt_ok g) {m : Nat} {e : Int32 ⊕ Nat} {k : ff_F} (hw : ff_wf g (.inner m e () .leaf k)) (ho : ff_ok g (.inner m e () .leaf k)) :
    ∃ s : mt_S, mt_rn g ((ff_N g m e k).map Prod.fst) ([], .leaf, false) = some s ∧ s.2.2 = false ∧ ff_lf s.2.1 = false ∧ mt_st g s.1 s.2.1 = ([], .inner m e () .leaf k) := by
  have hQ := (mt_B H _ hw ho).2
  refine ⟨_, hQ [] false trivial, rfl, ff_dL_nlf H (.inner m e () .leaf k) hw rfl, ?_⟩
  exact mt_st_d H (.inner m e () .leaf k) [] hw rfl
/-- a text has at most one valid tree -/
theorem mt_uniq {g : gt_T} (H : gt_ok g) {T T' : ff_F} (h1 : ff_len T = 1) (h1' : ff_len T' = 1) (hw : ff_wf g T) (ho : ff_ok g T) (hw' : ff_wf g T') (ho' : ff_ok g T') (e : (ff_C g T).map Prod.fst = (ff_C g T').map Prod.fst) : T = T' := by
  match T, T', h1, h1', hw, ho, hw', ho', e with
  | .inner m a u p k, .inner m' a' u' p' k', h1, h1', hw, ho, hw', ho', e =>
    have ep := ff_lf_leaf (ff_len0.mp (Nat.succ.inj h1))
    have ep' := ff_lf_leaf (ff_len0.mp (Nat.succ.inj h1'))
    subst ep ep'
    obtain ⟨s, hs1, hs2, hs3, hs4⟩ := mt_tree H hw ho
    obtain ⟨s', hs1', hs2', hs3', hs4'⟩ := mt_tree H hw' ho'
    have e' : (ff_N g m a k).map Prod.fst = (ff_N g m' a' k').map Prod.fst := e
    rw [e', hs1'] at hs1
    have es := Option.some.inj hs1
    subst es
    exact (Prod.ext_iff.mp (hs4.symm.trans hs4')).2
end
section
/-! what the machine keeps: its state flattens to the text read, its trees and frames are well formed -/
def mt_fF (g : gt_T) (f : mt_Fr) : List ff_A := match f with
  | (none, _) => [(0, none, 0)]
  | (some q, k) => ff_fl g k q ++ ff_sp g q (ff_len k) 0
def mt_fS (g : gt_T) : List mt_Fr → List ff_A
  | [] => []
  | f :: S => mt_fS g S ++ mt_fF g f
def mt_wF (g : gt_T) (f : mt_Fr) : Prop := match f with
  | (none, k) => ff_lf k = true
  | (some q, k) => q < gt_n g ∧ ff_wf g k ∧ ff_len k < gt_ar g q ∧ (gt_LO g q = true → ff_lf k = false)
def mt_wS (g : gt_T) : List mt_Fr → Prop
  | [] => True
  | f :: S => mt_wF g f ∧ mt_wS g S
def mt_pS : List mt_Fr → List Int32
  | [] => []
  | f :: S => mt_pS S ++ ff_post f.2
def mt_gs (g : gt_T) : List mt_Fr → List (Nat × Option Nat × Nat)
  | [] => []
  | (none, _) :: S => ((mt_fS g S).length, none, 1) :: mt_gs g S
  | (some q, k) :: S => if gt_s g q (ff_len k) = gt_PC g q then mt_gs g S else ((mt_fS g S).length + (ff_fl g k q).length, some q, gt_s g q (ff_len k)) :: mt_gs g S
theorem gt_wait2 {g : gt_T} (H : gt_ok g) {q i : Nat} (hq : q < gt_n g) (hi : i < gt_ar g q) (hs : gt_s g q i = gt_PC g q) : gt_RO g q = true ∧ i + 1 = gt_ar g q := by
  unfold gt_s at hs
  rcases gt_cs H hq with ⟨h1, h2, h3, _⟩ | ⟨h1, h2, h3, _⟩ | ⟨h1, h2, h3, _⟩ | ⟨h1, h2, h3, _⟩
  · rw [h1] at hs; simp at hs; exact ⟨h2, by omega⟩
  · rw [h1] at hs; simp at hs; omega
  · rw [h1] at hs; simp at hs; exact ⟨h2, by omega⟩
  · rw [h1] at hs; simp at hs; omega
theorem gt_s_le {g : gt_T} (H : gt_ok g) {q i : Nat} (hq : q < gt_n g) (hi : i < gt_ar g q) : gt_s g q i ≤ gt_PC g q := by
  unfold gt_s
  rcases gt_cs H hq with ⟨h1, h2, h3, _⟩ | ⟨h1, h2, h3, _⟩ | ⟨h1, h2, h3, _⟩ | ⟨h1, h2, h3, _⟩
  all_goals (rw [h1]; simp; omega)
theorem gt_push2 {g : gt_T} (H : gt_ok g) {q i : Nat} (hq : q < gt_n g) (hs : gt_s g q i ≤ gt_PC g q) (hp : gt_s g q i < gt_PC g q ∨ gt_RO g q = true) : i < gt_ar g q := by
  unfold gt_s at hs hp
  rcases gt_cs H hq with ⟨h1, h2, h3, _⟩ | ⟨h1, h2, h3, _⟩ | ⟨h1, h2, h3, _⟩ | ⟨h1, h2, h3, _⟩
  · rw [h1] at hs; simp at hs; omega
  · rw [h1] at hs hp; rw [h2] at hp; simp at hs hp; omega
  · rw [h1] at hs; simp at hs; omega
  · rw [h1] at hs hp; rw [h2] at hp; simp at hs hp; omega
theorem gt_npush2 {g : gt_T} (H : gt_ok g) {q i : Nat} (hq : q < gt_n g) (hs : gt_s g q i ≤ gt_PC g q) (hp : ¬ (gt_s g q i < gt_PC g q ∨ gt_RO g q = true)) : i = gt_ar g q ∧ gt_RO g q = false := by
  have hp1 : ¬ gt_s g q i < gt_PC g q := fun h => hp (Or.inl h)
  have hp2 : gt_RO g q = false := by
    cases h : gt_RO g q with
    | false => rfl
    | true => exact absurd (Or.inr h) hp
  refine ⟨?_, hp2⟩
  unfold gt_s at hs hp1
  rcases gt_cs H hq with ⟨h1, h2, h3, _⟩ | ⟨h1, h2, h3, _⟩ | ⟨h1, h2, h3, _⟩ | ⟨h1, h2, h3, _⟩
  · rw [h2] at hp2; simp at hp2
  · rw [h1] at hs hp1; simp at hs hp1; omega
  · rw [h2] at hp2; simp at hp2
  · rw [h1] at hs hp1; simp at hs hp1; omega
theorem ff_sn_len {k c : ff_F} (hc : ff_lf c = false) : ff_len (ff_sn k c) = ff_len k + 1 := by
  cases c with
  | leaf => simp [ff_lf] at hc
  | inner m e u p kk => rfl
theorem ff_sn_post {k c : ff_F} (h1 : ff_len c = 1) : ff_post (ff_sn k c) = ff_post k ++ ff_post c := by
  cases c with
  | leaf => simp [ff_len] at h1
  | inner m e u p kk =>
    have ep := ff_lf_leaf (ff_len0.mp (Nat.succ.inj h1))
    subst ep
    rfl
theorem ff_sn_wf {g : gt_T} {k c : ff_F} (hk : ff_wf g k) (hc : ff_wf g c) : ff_wf g (ff_sn k c) := by
  cases c with
  | leaf => exact hk
  | inner m e u p kk => exact ⟨hk, hc.2.1, hc.2.2⟩
theorem ff_sn_nlf {k c : ff_F} (hc : ff_lf c = false) : ff_lf (ff_sn k c) = false := by
  cases c with
  | leaf => simp [ff_lf] at hc
  | inner m e u p kk => rfl
theorem ff_sn_fl {g : gt_T} {k c : ff_F} (hc : ff_lf c = false) (q : Nat) : ff_fl g (ff_sn k c) q = ff_fl g k q ++ (ff_sp g q (ff_len k) (ff_rl g q (ff_len k) (ff_C g c).length) ++ ff_C g c) := by
  cases c with
  | leaf => simp [ff_lf] at hc
  | inner m e u p kk => rfl
theorem ff_1nlf {c : ff_F} (h1 : ff_len c = 1) : ff_lf c = false := ff_lf_len (by omega)
/-- one reduction keeps the text -/
theorem mt_red {g : gt_T} (H : gt_ok g) {q : Nat} {k c : ff_F} {S : List mt_Fr} (hf : mt_wF g (some q, k)) (hs : gt_s g q (ff_len k) = gt_PC g q) (hc : ff_len c = 1) (hw : ff_wf g c) :
    mt_fS g S ++ ff_C g (ff_nd q (ff_sn k c)) = mt_fS g ((some q, k) :: S) ++ ff_C g c ∧ ff_wf g (ff_nd q (ff_sn k c)) ∧ ff_len (ff_nd q (ff_sn k c)) = 1 ∧ mt_pS S ++ ff_post (ff_nd q (ff_sn k c)) = (mt_pS ((some q, k) :: S) ++ ff_post c) ++ [100 + nI q] := by
  obtain ⟨hq, hk, hl, hlo⟩ := hf
  obtain ⟨hr, ha⟩ := gt_wait2 H hq hl hs
  have hcl := ff_1nlf hc
  refine ⟨?_, ⟨trivial, ff_sn_wf hk hw, hq, ?_⟩, rfl, ?_⟩
  · show _ ++ ff_N g 0 (.inr q) (ff_sn k c) = (mt_fS g S ++ (ff_fl g k q ++ ff_sp g q (ff_len k) 0)) ++ _
    rw [ff_N0o, ff_sn_fl hcl]
    unfold ff_rl ff_tl
    rw [if_neg (by omega), if_pos hr]
    simp only [List.append_assoc, List.append_nil]
  · rw [ff_sn_len hcl]; omega
  · show _ ++ ([] ++ (ff_post (ff_sn k c) ++ [100 + nI q])) = (mt_pS S ++ ff_post k ++ _) ++ _
    rw [ff_sn_post hc]
    simp only [List.append_assoc, List.nil_append]
/-- settling: text, well-formedness, groups -/
theorem mt_st_k {g : gt_T} (H : gt_ok g) : ∀ (S : List mt_Fr) (c : ff_F), mt_wS g S → ff_wf g c → ff_len c = 1 → mt_fS g (mt_st g S c).1 ++ ff_C g (mt_st g S c).2 = mt_fS g S ++ ff_C g c ∧ mt_wS g (mt_st g S c).1 ∧ ff_wf g (mt_st g S c).2 ∧ ff_len (mt_st g S c).2 = 1 ∧ mt_gs g (mt_st g S c).1 = mt_gs g S := by
  intro S
  induction S with
  | nil => intro c hS hw h1; exact ⟨rfl, hS, hw, h1, rfl⟩
  | cons f S ih =>
    intro c hS hw h1
    match f, hS with
    | (none, k), hS => exact ⟨rfl, hS, hw, h1, rfl⟩
    | (some q, k), hS =>
      by_cases hs : gt_s g q (ff_len k) = gt_PC g q
      · have e1 : mt_st g ((some q, k) :: S) c = mt_st g S (ff_nd q (ff_sn k c)) := by
          show (if gt_s g q (ff_len k) = gt_PC g q then _ else _) = _
          rw [if_pos hs]
        have e2 : mt_gs g ((some q, k) :: S) = mt_gs g S := by
          show (if gt_s g q (ff_len k) = gt_PC g q then _ else _) = _
          rw [if_pos hs]
        obtain ⟨r1, r2, r3, _⟩ := mt_red H (S := S) hS.1 hs h1 hw
        rw [e1, e2, ← r1]
        exact ih _ hS.2 r2 r3
      · have e1 : mt_st g ((some q, k) :: S) c = ((some q, k) :: S, c) := by
          show (if gt_s g q (ff_len k) = gt_PC g q then _ else _) = _
          rw [if_neg hs]
        rw [e1]
        exact ⟨rfl, hS, hw, h1, rfl⟩
/-- behind settling the top is no waiting frame -/
theorem mt_st_top {g : gt_T} (H : gt_ok g) : ∀ (S : List mt_Fr) (c : ff_F), mt_wS g S → ∀ q k S', (mt_st g S c).1 = (some q, k) :: S' → gt_s g q (ff_len k) < gt_PC g q := by
  intro S
  induction S with
  | nil => intro c _ q k S' h; simp [mt_st] at h
  | cons f S ih =>
    intro c hS q k S' h
    match f, hS with
    | (none, k'), hS => simp [mt_st] at h
    | (some q', k'), hS =>
      by_cases hs : gt_s g q' (ff_len k') = gt_PC g q'
      · have e1 : mt_st g ((some q', k') :: S) c = mt_st g S (ff_nd q' (ff_sn k' c)) := by
          show (if gt_s g q' (ff_len k') = gt_PC g q' then _ else _) = _
          rw [if_pos hs]
        rw [e1] at h
        exact ih _ hS.2 q k S' h
      · have e1 : mt_st g ((some q', k') :: S) c = ((some q', k') :: S, c) := by
          show (if gt_s g q' (ff_len k') = gt_PC g q' then _ else _) = _
          rw [if_neg hs]
        rw [e1] at h
        injection h with h1 h2
        injection h1 with h3 h4
        injection h3 with h5
        subst h5 h4
        have := gt_s_le H hS.1.1 hS.1.2.2.1
        omega
theorem mt_yd_k {g : gt_T} (H : gt_ok g) (q0 : Nat) : ∀ (S : List mt_Fr) (c : ff_F), mt_wS g S → ff_wf g c → ff_len c = 1 → mt_fS g (mt_yd g q0 S c).1 ++ ff_C g (mt_yd g q0 S c).2.1 = mt_fS g S ++ ff_C g c ∧ mt_wS g (mt_yd g q0 S c).1 ∧ ff_wf g (mt_yd g q0 S c).2.1 ∧ ff_len (mt_yd g q0 S c).2.1 = 1 ∧ mt_gs g (mt_yd g q0 S c).1 = mt_gs g S := by
  intro S
  induction S with
  | nil => intro c hS hw h1; exact ⟨rfl, hS, hw, h1, rfl⟩
  | cons f S ih =>
    intro c hS hw h1
    match f, hS with
    | (none, k), hS => exact ⟨rfl, hS, hw, h1, rfl⟩
    | (some q, k), hS =>
      by_cases hs : gt_s g q (ff_len k) = gt_PC g q
      · by_cases hc : gt_CT g q q0 = 1
        · have e1 : mt_yd g q0 ((some q, k) :: S) c = mt_yd g q0 S (ff_nd q (ff_sn k c)) := by
            show (if gt_s g q (ff_len k) = gt_PC g q then (if gt_CT g q q0 = 1 then _ else _) else _) = _
            rw [if_pos hs, if_pos hc]
          have e2 : mt_gs g ((some q, k) :: S) = mt_gs g S := by
            show (if gt_s g q (ff_len k) = gt_PC g q then _ else _) = _
            rw [if_pos hs]
          obtain ⟨r1, r2, r3, _⟩ := mt_red H (S := S) hS.1 hs h1 hw
          rw [e1, e2, ← r1]
          exact ih _ hS.2 r2 r3
        · have e1 : mt_yd g q0 ((some q, k) :: S) c = ((some q, k) :: S, c, decide (gt_CT g q q0 = 0)) := by
            show (if gt_s g q (ff_len k) = gt_PC g q then (if gt_CT g q q0 = 1 then _ else _) else _) = _
            rw [if_pos hs, if_neg hc]
          rw [e1]
          exact ⟨rfl, hS, hw, h1, rfl⟩
      · have e1 : mt_yd g q0 ((some q, k) :: S) c = ((some q, k) :: S, c, false) := by
          show (if gt_s g q (ff_len k) = gt_PC g q then _ else _) = _
          rw [if_neg hs]
        rw [e1]
        exact ⟨rfl, hS, hw, h1, rfl⟩
/-- a well-formed state -/
def mt_w (g : gt_T) (s : mt_S) : Prop := mt_wS g s.1 ∧ ff_wf g s.2.1 ∧ ff_len s.2.1 ≤ 1
def mt_fl (g : gt_T) (s : mt_S) : List ff_A := mt_fS g s.1 ++ ff_C g s.2.1
theorem mt_av_k {g : gt_T} (H : gt_ok g) {q : Nat} {k : ff_F} {S : List mt_Fr} (cl : Bool) (hq : q < gt_n g) (hS : mt_wS g S) (hk : ff_wf g k) (hs : gt_s g q (ff_len k) ≤ gt_PC g q) (hl : gt_LO g q = true → ff_lf k = false) :
    mt_w g (mt_av g q k S cl) ∧ mt_fl g (mt_av g q k S cl) = mt_fS g S ++ (ff_fl g k q ++ ff_sp g q (ff_len k) 0) := by
  unfold mt_av
  by_cases hp : gt_s g q (ff_len k) < gt_PC g q ∨ gt_RO g q = true
  · rw [if_pos hp]
    exact ⟨⟨⟨⟨hq, hk, gt_push2 H hq hs hp, hl⟩, hS⟩, trivial, Nat.zero_le _⟩, List.append_nil _⟩
  · rw [if_neg hp]
    obtain ⟨h1, h2⟩ := gt_npush2 H hq hs hp
    refine ⟨⟨hS, ⟨trivial, hk, hq, h1⟩, Nat.le_refl _⟩, ?_⟩
    show mt_fS g S ++ (ff_fl g k q ++ ff_tl g q (ff_len k)) = _
    unfold ff_tl
    rw [if_neg (by rw [h2]; decide)]
theorem ff_fl_1 {g : gt_T} {c : ff_F} {q : Nat} (h1 : ff_len c = 1) (hl : gt_LO g q = true) : ff_fl g c q = ff_C g c ∧ ff_sp g q (ff_len c) 0 = [ff_pt g q 0 0] := by
  constructor
  · cases c with
    | leaf => simp [ff_len] at h1
    | inner m e u p k =>
      have ep := ff_lf_leaf (ff_len0.mp (Nat.succ.inj h1))
      subst ep
      rw [ff_fl_in]
      show [] ++ (ff_sp g q 0 _ ++ _) = _
      unfold ff_sp
      rw [if_pos ⟨hl, rfl⟩]
      rfl
  · rw [h1]
    unfold ff_sp gt_s
    rw [if_neg (by simp), if_pos hl]
/-! the steps, one by one -/
theorem mt_k_lw {g : gt_T} (H : gt_ok g) {q : Nat} {S : List mt_Fr} (cl : Bool) (hq : q < gt_n g) (hl : gt_LO g q = false) (hS : mt_wS g S) :
    mt_w g (mt_av g q .leaf S cl) ∧ mt_fl g (mt_av g q .leaf S cl) = mt_fS g S ++ [ff_pt g q 0 0] := by
  have h1 := (gt_pc4 H hq).1
  have e1 : gt_s g q 0 = 1 := by unfold gt_s; rw [hl]; rfl
  obtain ⟨a, b⟩ := mt_av_k H cl hq hS (k := .leaf) trivial (by show gt_s g q 0 ≤ _; omega) (by rw [hl]; simp)
  refine ⟨a, b.trans ?_⟩
  show mt_fS g S ++ ([] ++ ff_sp g q 0 0) = _
  unfold ff_sp
  rw [if_neg (by rw [hl]; simp), e1]
  rfl
theorem mt_k_lh {g : gt_T} (H : gt_ok g) {q : Nat} {S : List mt_Fr} {c : ff_F} (cl : Bool) (hq : q < gt_n g) (hl : gt_LO g q = true) (hS : mt_wS g S) (hw : ff_wf g c) (h1 : ff_len c = 1) :
    mt_w g (mt_av g q (mt_yd g q S c).2.1 (mt_yd g q S c).1 cl) ∧ mt_fl g (mt_av g q (mt_yd g q S c).2.1 (mt_yd g q S c).1 cl) = (mt_fS g S ++ ff_C g c) ++ [ff_pt g q 0 0] := by
  obtain ⟨r1, r2, r3, r4, _⟩ := mt_yd_k H q S c hS hw h1
  have hpc := (gt_pc4 H hq).1
  obtain ⟨a, b⟩ := mt_av_k H cl hq r2 r3 (by rw [r4]; unfold gt_s; rw [if_pos hl]; exact hpc) (fun _ => ff_1nlf r4)
  refine ⟨a, b.trans ?_⟩
  obtain ⟨e1, e2⟩ := ff_fl_1 (g := g) r4 hl
  rw [e1, e2, ← List.append_assoc, r1]
theorem mt_k_in {g : gt_T} (H : gt_ok g) {q : Nat} {k c : ff_F} {S : List mt_Fr} (cl : Bool) (hf : mt_wF g (some q, k)) (hS : mt_wS g S) (hs : gt_s g q (ff_len k) < gt_PC g q) (hw : ff_wf g c) (h1 : ff_len c = 1) :
    mt_w g (mt_av g q (ff_sn k c) S cl) ∧ 1 ≤ gt_s g q (ff_len k) ∧
    mt_fl g ((some q, k) :: S, c, cl) = (mt_fS g S ++ ff_fl g k q) ++ (ff_pt g q (gt_s g q (ff_len k) - 1) 0 :: ff_C g c) ∧
    mt_fl g (mt_av g q (ff_sn k c) S cl) = (mt_fS g S ++ ff_fl g k q) ++ (ff_pt g q (gt_s g q (ff_len k) - 1) ((ff_C g c).length + 1) :: (ff_C g c ++ [ff_pt g q (gt_s g q (ff_len k)) 0])) := by
  obtain ⟨hq, hk, hl, hlo⟩ := hf
  have hcl := ff_1nlf h1
  have hne : ¬ (gt_LO g q = true ∧ ff_len k = 0) := by
    rintro ⟨a, b⟩
    have := hlo a
    rw [ff_len0.mp b] at this
    cases this
  have hpos : 1 ≤ gt_s g q (ff_len k) := by
    unfold gt_s
    split
    · rename_i h
      have : ¬ ff_len k = 0 := fun z => hne ⟨h, z⟩
      omega
    · omega
  have hadd := gt_s_add g q (ff_len k)
  obtain ⟨a, b⟩ := mt_av_k H cl hq hS (ff_sn_wf hk hw) (by rw [ff_sn_len hcl, hadd]; omega) (fun _ => ff_sn_nlf hcl)
  refine ⟨a, hpos, ?_, ?_⟩
  · show (mt_fS g S ++ (ff_fl g k q ++ ff_sp g q (ff_len k) 0)) ++ ff_C g c = _
    unfold ff_sp
    rw [if_neg hne]
    simp only [List.append_assoc, List.singleton_append]
  · rw [b, ff_sn_fl hcl, ff_sn_len hcl]
    unfold ff_sp ff_rl
    rw [if_neg hne, if_pos hs, if_neg (by omega), hadd]
    simp only [List.append_assoc, List.singleton_append, Nat.add_sub_cancel, List.cons_append, List.nil_append]
theorem mt_k_cl {g : gt_T} {c : ff_F} {k : ff_F} {S : List mt_Fr} (cl : Bool) (hS : mt_wS g S) (hw : ff_wf g c) (h1 : ff_len c = 1) :
    mt_w g (S, ff_wp c, cl) ∧
    mt_fl g ((none, k) :: S, c, cl) = mt_fS g S ++ ((0, none, 0) :: ff_C g c) ∧
    mt_fl g (S, ff_wp c, cl) = mt_fS g S ++ ((0, none, (ff_C g c).length + 1) :: (ff_C g c ++ [(1, none, 0)])) := by
  cases c with
  | leaf => simp [ff_len] at h1
  | inner m e u p kk =>
    refine ⟨⟨hS, hw, Nat.le_of_eq h1⟩, ?_, rfl⟩
    show (mt_fS g S ++ [(0, none, 0)]) ++ _ = _
    rw [List.append_assoc]
    rfl
end
section
/-! without a clash the trees and frames of the machine are valid -/
theorem ff_sn_lL {g : gt_T} {k c : ff_F} (hc : ff_lf c = false) : ff_lL g (ff_sn k c) = ff_lL g c := by
  cases c with
  | leaf => simp [ff_lf] at hc
  | inner m e u p kk => rfl
theorem ff_sn_rL {g : gt_T} {k c : ff_F} (hc : ff_lf c = false) : ff_rL g (ff_sn k c) = ff_rL g c := by
  cases c with
  | leaf => simp [ff_lf] at hc
  | inner m e u p kk => rfl
theorem ff_sn_lF {g : gt_T} {k c : ff_F} (hk : ff_lf k = false) : ff_lF g (ff_sn k c) = ff_lF g k := by
  cases c with
  | leaf => rfl
  | inner m e u p kk =>
    show (if ff_lf k = true then _ else _) = _
    rw [if_neg (by rw [hk]; decide)]
theorem ff_sn_rF {g : gt_T} {k c : ff_F} (hk : ff_lf k = false) : ff_rF g (ff_sn k c) = ff_rF g k := by
  cases c with
  | leaf => rfl
  | inner m e u p kk =>
    show (if ff_lf k = true then _ else _) = _
    rw [if_neg (by rw [hk]; decide)]
theorem ff_1_lF {g : gt_T} {c : ff_F} (h1 : ff_len c = 1) : ff_lF g c = ff_lL g c ∧ ff_rF g c = ff_rL g c := by
  cases c with
  | leaf => simp [ff_len] at h1
  | inner m e u p kk =>
    have ep := ff_lf_leaf (ff_len0.mp (Nat.succ.inj h1))
    subst ep
    exact ⟨rfl, rfl⟩
theorem ff_sn_ok {g : gt_T} {k c : ff_F} (hk : ff_ok g k) (hc : ff_ok g c) : ff_ok g (ff_sn k c) := by
  cases c with
  | leaf => exact hk
  | inner m e u p kk => exact ⟨hk, hc.2.1, hc.2.2⟩
theorem mt_cx_sub {g : gt_T} {S : List mt_Fr} {L L' : List Nat} (h : mt_cx g S L) (hs : ∀ r, r ∈ L' → r ∈ L) : mt_cx g S L' := by
  match S, h with
  | [], _ => trivial
  | (none, _) :: _, _ => trivial
  | (some w, k) :: _, h => exact fun hw r hr => h hw r (hs r hr)
theorem mt_cx_cons {g : gt_T} {S : List mt_Fr} {q : Nat} {L : List Nat} (h : mt_cx g S [q]) (h2 : mt_cx g S L) : mt_cx g S (q :: L) := by
  match S, h, h2 with
  | [], _, _ => trivial
  | (none, _) :: _, _, _ => trivial
  | (some w, k) :: _, h, h2 =>
    intro hw r hr
    rcases List.mem_cons.mp hr with e | e
    · subst e; exact h hw r (List.mem_singleton.mpr rfl)
    · exact h2 hw r e
theorem mt_cx_nil {g : gt_T} {S : List mt_Fr} : mt_cx g S [] := by
  match S with
  | [] => trivial
  | (none, _) :: _ => trivial
  | (some w, k) :: _ => exact fun _ r hr => nomatch hr
def mt_vF (g : gt_T) (f : mt_Fr) : Prop := match f with
  | (none, _) => True
  | (some q, k) => ff_ok g k ∧ (gt_LO g q = true → ∀ r, r ∈ ff_rF g k → gt_CT g r q = 1)
def mt_lc (g : gt_T) (f : mt_Fr) : List Nat := match f with
  | (none, _) => []
  | (some q, k) => if gt_LO g q = true then q :: ff_lF g k else []
def mt_vS (g : gt_T) : List mt_Fr → Prop
  | [] => True
  | f :: S => mt_vF g f ∧ mt_cx g S (mt_lc g f) ∧ mt_vS g S
theorem mt_red_v {g : gt_T} (H : gt_ok g) {q : Nat} {k c : ff_F} {S : List mt_Fr} (hf : mt_wF g (some q, k)) (hs : gt_s g q (ff_len k) = gt_PC g q) (hc : ff_len c = 1)
    (hv : mt_vS g ((some q, k) :: S)) (ho : ff_ok g c) (hx : mt_cx g ((some q, k) :: S) (ff_lL g c)) :
    ff_ok g (ff_nd q (ff_sn k c)) ∧ mt_cx g S (ff_lL g (ff_nd q (ff_sn k c))) ∧ ff_rL g (ff_nd q (ff_sn k c)) = q :: ff_rL g c := by
  obtain ⟨hq, hk, hl, hlo⟩ := hf
  obtain ⟨hr, ha⟩ := gt_wait2 H hq hl hs
  have hcl := ff_1nlf hc
  obtain ⟨⟨v1, v2⟩, v3, v4⟩ := hv
  refine ⟨⟨trivial, ff_sn_ok v1 ho, ?_, ?_⟩, ?_, ?_⟩
  · intro h r hm
    rw [ff_sn_rF (hlo h)] at hm
    exact v2 h r hm
  · intro _ r hm
    rw [ff_sn_lL hcl] at hm
    exact hx hs r hm
  · have e : ff_lL g (ff_nd q (ff_sn k c)) = mt_lc g (some q, k) := by
      show (if gt_LO g q = true then q :: ff_lF g (ff_sn k c) else []) = (if gt_LO g q = true then q :: ff_lF g k else [])
      by_cases h : gt_LO g q = true
      · rw [if_pos h, if_pos h, ff_sn_lF (hlo h)]
      · rw [if_neg h, if_neg h]
    rw [e]
    exact v3
  · show (if gt_RO g q = true then q :: ff_rL g (ff_sn k c) else []) = _
    rw [if_pos hr, ff_sn_rL hcl]
theorem mt_st_v {g : gt_T} (H : gt_ok g) : ∀ (S : List mt_Fr) (c : ff_F), mt_wS g S → ff_wf g c → ff_len c = 1 → mt_vS g S → ff_ok g c → mt_cx g S (ff_lL g c) → mt_vS g (mt_st g S c).1 ∧ ff_ok g (mt_st g S c).2 ∧ mt_cx g (mt_st g S c).1 (ff_lL g (mt_st g S c).2) := by
  intro S
  induction S with
  | nil => intro c _ _ _ hv ho hx; exact ⟨hv, ho, hx⟩
  | cons f S ih =>
    intro c hS hw h1 hv ho hx
    match f, hS, hv, hx with
    | (none, k), hS, hv, hx => exact ⟨hv, ho, hx⟩
    | (some q, k), hS, hv, hx =>
      by_cases hs : gt_s g q (ff_len k) = gt_PC g q
      · have e1 : mt_st g ((some q, k) :: S) c = mt_st g S (ff_nd q (ff_sn k c)) := by
          show (if gt_s g q (ff_len k) = gt_PC g q then _ else _) = _
          rw [if_pos hs]
        obtain ⟨_, r2, r3, _⟩ := mt_red H (S := S) hS.1 hs h1 hw
        obtain ⟨w1, w2, _⟩ := mt_red_v H hS.1 hs h1 hv ho hx
        rw [e1]
        exact ih _ hS.2 r2 r3 hv.2.2 w1 w2
      · have e1 : mt_st g ((some q, k) :: S) c = ((some q, k) :: S, c) := by
          show (if gt_s g q (ff_len k) = gt_PC g q then _ else _) = _
          rw [if_neg hs]
        rw [e1]
        exact ⟨hv, ho, hx⟩
theorem mt_yd_v {g : gt_T} (H : gt_ok g) (q0 : Nat) : ∀ (S : List mt_Fr) (c : ff_F), mt_wS g S → ff_wf g c → ff_len c = 1 → mt_vS g S → ff_ok g c → mt_cx g S (ff_lL g c) → (∀ r, r ∈ ff_rL g c → gt_CT g r q0 = 1) →
    mt_vS g (mt_yd g q0 S c).1 ∧ ff_ok g (mt_yd g q0 S c).2.1 ∧ mt_cx g (mt_yd g q0 S c).1 (ff_lL g (mt_yd g q0 S c).2.1) ∧ (∀ r, r ∈ ff_rL g (mt_yd g q0 S c).2.1 → gt_CT g r q0 = 1) ∧ ((mt_yd g q0 S c).2.2 = false → mt_cx g (mt_yd g q0 S c).1 [q0]) := by
  intro S
  induction S with
  | nil => intro c _ _ _ hv ho hx hr; exact ⟨hv, ho, hx, hr, fun _ => trivial⟩
  | cons f S ih =>
    intro c hS hw h1 hv ho hx hr
    match f, hS, hv, hx with
    | (none, k), hS, hv, hx => exact ⟨hv, ho, hx, hr, fun _ => trivial⟩
    | (some q, k), hS, hv, hx =>
      by_cases hs : gt_s g q (ff_len k) = gt_PC g q
      · by_cases hc : gt_CT g q q0 = 1
        · have e1 : mt_yd g q0 ((some q, k) :: S) c = mt_yd g q0 S (ff_nd q (ff_sn k c)) := by
            show (if gt_s g q (ff_len k) = gt_PC g q then (if gt_CT g q q0 = 1 then _ else _) else _) = _
            rw [if_pos hs, if_pos hc]
          obtain ⟨_, r2, r3, _⟩ := mt_red H (S := S) hS.1 hs h1 hw
          obtain ⟨w1, w2, w3⟩ := mt_red_v H hS.1 hs h1 hv ho hx
          rw [e1]
          refine ih _ hS.2 r2 r3 hv.2.2 w1 w2 ?_
          rw [w3]
          intro r hm
          rcases List.mem_cons.mp hm with e | e
          · rw [e]; exact hc
          · exact hr r e
        · have e1 : mt_yd g q0 ((some q, k) :: S) c = ((some q, k) :: S, c, decide (gt_CT g q q0 = 0)) := by
            show (if gt_s g q (ff_len k) = gt_PC g q then (if gt_CT g q q0 = 1 then _ else _) else _) = _
            rw [if_pos hs, if_neg hc]
          rw [e1]
          refine ⟨hv, ho, hx, hr, ?_⟩
          intro hd _ r hm
          have h0 : ¬ gt_CT g q q0 = 0 := of_decide_eq_false hd
          rw [List.mem_singleton.mp hm]
          rcases gt_CT3 g q q0 with h | h | h
          · exact absurd h hc
          · exact absurd h h0
          · exact h
      · have e1 : mt_yd g q0 ((some q, k) :: S) c = ((some q, k) :: S, c, false) := by
          show (if gt_s g q (ff_len k) = gt_PC g q then _ else _) = _
          rw [if_neg hs]
        rw [e1]
        exact ⟨hv, ho, hx, hr, fun _ h => absurd h hs⟩
def mt_v (g : gt_T) (s : mt_S) : Prop := s.2.2 = false → mt_vS g s.1 ∧ ff_ok g s.2.1 ∧ mt_cx g s.1 (ff_lL g s.2.1) ∧ ff_rL g s.2.1 = []
theorem mt_av_v {g : gt_T} {q : Nat} {k : ff_F} {S : List mt_Fr} (cl : Bool) (hS : mt_vS g S) (hk : ff_ok g k) (hr : gt_LO g q = true → ∀ r, r ∈ ff_rF g k → gt_CT g r q = 1) (hc : mt_cx g S (mt_lc g (some q, k))) :
    mt_v g (mt_av g q k S cl) := by
  intro _
  unfold mt_av
  by_cases hp : gt_s g q (ff_len k) < gt_PC g q ∨ gt_RO g q = true
  · rw [if_pos hp]
    exact ⟨⟨⟨hk, hr⟩, hc, hS⟩, trivial, mt_cx_nil, rfl⟩
  · rw [if_neg hp]
    have h2 : ¬ gt_RO g q = true := fun h => hp (Or.inr h)
    refine ⟨hS, ⟨trivial, hk, hr, fun h => absurd h h2⟩, hc, ?_⟩
    show (if gt_RO g q = true then _ else []) = _
    rw [if_neg h2]
/-- the six ways of a step -/
theorem mt_sp_cs {g : gt_T} {s s' : mt_S} {t : Int32} (h : mt_sp g s t = some s') :
    (ff_lf s.2.1 = true ∧ t = 0 ∧ s' = ((none, .leaf) :: s.1, .leaf, s.2.2)) ∨
    (ff_lf s.2.1 = true ∧ gt_at g t = true ∧ s' = (s.1, ff_tk t, s.2.2)) ∨
    (ff_lf s.2.1 = true ∧ ∃ q, gt_ld g true t = some q ∧ s' = mt_av g q .leaf s.1 s.2.2) ∨
    (ff_lf s.2.1 = false ∧ t = 1 ∧ ∃ k S c, mt_st g s.1 s.2.1 = ((none, k) :: S, c) ∧ s' = (S, ff_wp c, s.2.2)) ∨
    (ff_lf s.2.1 = false ∧ ∃ q, gt_ld g false t = some q ∧ s' = mt_av g q (mt_yd g q s.1 s.2.1).2.1 (mt_yd g q s.1 s.2.1).1 (s.2.2 || (mt_yd g q s.1 s.2.1).2.2)) ∨
    (ff_lf s.2.1 = false ∧ ∃ q k S c, mt_st g s.1 s.2.1 = ((some q, k) :: S, c) ∧ gt_PT g q (gt_s g q (ff_len k)) = t ∧ s' = mt_av g q (ff_sn k c) S s.2.2) := by
  unfold mt_sp at h
  by_cases hl : ff_lf s.2.1 = true
  · rw [if_pos hl] at h
    by_cases h0 : t = 0
    · rw [if_pos h0] at h
      exact Or.inl ⟨hl, h0, (Option.some.inj h).symm⟩
    · rw [if_neg h0] at h
      by_cases h1 : t = 1
      · rw [if_pos h1] at h; cases h
      · rw [if_neg h1] at h
        by_cases ha : gt_at g t = true
        · rw [if_pos ha] at h
          exact Or.inr (Or.inl ⟨hl, ha, (Option.some.inj h).symm⟩)
        · rw [if_neg ha] at h
          cases e : gt_ld g true t with
          | none => rw [e] at h; cases h
          | some q =>
            rw [e] at h
            exact Or.inr (Or.inr (Or.inl ⟨hl, q, rfl, (Option.some.inj h).symm⟩))
  · rw [if_neg hl] at h
    have hl' : ff_lf s.2.1 = false := by
      cases e : ff_lf s.2.1 with
      | false => rfl
      | true => exact absurd e hl
    by_cases h0 : t = 0
    · rw [if_pos h0] at h; cases h
    · rw [if_neg h0] at h
      by_cases h1 : t = 1
      · rw [if_pos h1] at h
        match e : mt_st g s.1 s.2.1, h with
        | ((none, k) :: S, c), h =>
          exact Or.inr (Or.inr (Or.inr (Or.inl ⟨hl', h1, k, S, c, rfl, (Option.some.inj h).symm⟩)))
        | ((some q, k) :: S, c), h => cases h
        | ([], c), h => cases h
      · rw [if_neg h1] at h
        cases e : gt_ld g false t with
        | some q =>
          rw [e] at h
          exact Or.inr (Or.inr (Or.inr (Or.inr (Or.inl ⟨hl', q, rfl, (Option.some.inj h).symm⟩))))
        | none =>
          rw [e] at h
          match e2 : mt_st g s.1 s.2.1, h with
          | ((none, k) :: S, c), h => cases h
          | ([], c), h => cases h
          | ((some q, k) :: S, c), h =>
            have h' : (if gt_PT g q (gt_s g q (ff_len k)) = t then some (mt_av g q (ff_sn k c) S s.2.2) else none) = some s' := h
            by_cases ht : gt_PT g q (gt_s g q (ff_len k)) = t
            · rw [if_pos ht] at h'
              exact Or.inr (Or.inr (Or.inr (Or.inr (Or.inr ⟨hl', q, k, S, c, rfl, ht, (Option.some.inj h').symm⟩))))
            · rw [if_neg ht] at h'; cases h'
theorem mt_w1 {g : gt_T} {s : mt_S} (h : mt_w g s) (hl : ff_lf s.2.1 = false) : ff_len s.2.1 = 1 := by
  have h2 := h.2.2
  have : ¬ ff_len s.2.1 = 0 := fun z => by rw [ff_len0.mp z] at hl; cases hl
  omega
theorem mt_step {g : gt_T} (H : gt_ok g) {s s' : mt_S} {t : Int32} (hw : mt_w g s) (hv : mt_v g s) (h : mt_sp g s t = some s') :
    mt_w g s' ∧ mt_v g s' ∧ (mt_fl g s').map Prod.fst = (mt_fl g s).map Prod.fst ++ [t] := by
  rcases mt_sp_cs h with ⟨hl, h0, rfl⟩ | ⟨hl, ha, rfl⟩ | ⟨hl, q, hq, rfl⟩ | ⟨hl, h1, k, S, c, hs, rfl⟩ | ⟨hl, q, hq, rfl⟩ | ⟨hl, q, k, S, c, hs, ht, rfl⟩
  · have ec := ff_lf_leaf hl
    refine ⟨⟨⟨rfl, hw.1⟩, trivial, Nat.zero_le _⟩, ?_, ?_⟩
    · intro hcl
      exact ⟨⟨trivial, mt_cx_nil, (hv hcl).1⟩, trivial, trivial, rfl⟩
    · unfold mt_fl
      rw [ec, h0]
      show ((mt_fS g s.1 ++ [(0, none, 0)]) ++ []).map _ = _
      simp [ff_C]
  · have ec := ff_lf_leaf hl
    refine ⟨⟨hw.1, ⟨trivial, trivial, ha, rfl⟩, Nat.le_refl _⟩, ?_, ?_⟩
    · intro hcl
      exact ⟨(hv hcl).1, ⟨trivial, trivial, trivial⟩, mt_cx_nil, rfl⟩
    · unfold mt_fl
      rw [ec]
      show (mt_fS g s.1 ++ [(t, none, 0)]).map _ = _
      simp [ff_C]
  · have ec := ff_lf_leaf hl
    obtain ⟨hq1, hq2, hq3⟩ := gt_ld_some hq
    obtain ⟨a, b⟩ := mt_k_lw H s.2.2 hq1 hq3 hw.1
    refine ⟨a, ?_, ?_⟩
    · intro hcl
      have hcl' : s.2.2 = false := by
        unfold mt_av at hcl
        split at hcl <;> exact hcl
      refine mt_av_v s.2.2 (hv hcl').1 trivial (by rw [hq3]; simp) ?_ hcl
      unfold mt_lc
      dsimp only
      rw [if_neg (by rw [hq3]; decide)]
      exact mt_cx_nil
    · rw [b]
      unfold mt_fl
      rw [ec, ← hq2]
      simp [ff_C, ff_pt]
  · obtain ⟨r1, r2, r3, r4, _⟩ := mt_st_k H s.1 s.2.1 hw.1 hw.2.1 (mt_w1 hw hl)
    rw [hs] at r1 r2 r3 r4
    obtain ⟨a, b, c'⟩ := mt_k_cl (k := k) s.2.2 r2.2 r3 r4
    refine ⟨a, ?_, ?_⟩
    · intro hcl
      obtain ⟨v1, v2, v3, v4⟩ := hv hcl
      have := mt_st_v H s.1 s.2.1 hw.1 hw.2.1 (mt_w1 hw hl) v1 v2 v3
      rw [hs] at this
      obtain ⟨w1, w2, w3⟩ := this
      refine ⟨w1.2.2, ?_, ?_, ?_⟩
      · cases c with
        | leaf => trivial
        | inner m e u p kk => exact w2
      · have : ff_lL g (ff_wp c) = [] := by
          cases c with
          | leaf => rfl
          | inner m e u p kk => cases e <;> rfl
        show mt_cx g S (ff_lL g (ff_wp c))
        rw [this]
        exact mt_cx_nil
      · cases c with
        | leaf => rfl
        | inner m e u p kk => cases e <;> rfl
    · rw [c', h1]
      have : mt_fl g s = mt_fS g S ++ ((0, none, 0) :: ff_C g c) := r1.symm.trans b
      rw [this]
      simp
  · obtain ⟨hq1, hq2, hq3⟩ := gt_ld_some hq
    have h1 := mt_w1 hw hl
    obtain ⟨a, b⟩ := mt_k_lh H (s.2.2 || (mt_yd g q s.1 s.2.1).2.2) hq1 hq3 hw.1 hw.2.1 h1
    refine ⟨a, ?_, ?_⟩
    · intro hcl
      have hcl' : (s.2.2 || (mt_yd g q s.1 s.2.1).2.2) = false := by
        unfold mt_av at hcl
        split at hcl <;> exact hcl
      rw [Bool.or_eq_false_iff] at hcl'
      obtain ⟨v1, v2, v3, v4⟩ := hv hcl'.1
      obtain ⟨w1, w2, w3, w4, w5⟩ := mt_yd_v H q s.1 s.2.1 hw.1 hw.2.1 h1 v1 v2 v3 (by rw [v4]; intro r hr; cases hr)
      obtain ⟨_, _, _, r4, _⟩ := mt_yd_k H q s.1 s.2.1 hw.1 hw.2.1 h1
      obtain ⟨f1, f2⟩ := ff_1_lF (g := g) r4
      refine mt_av_v _ w1 w2 (fun _ => by rw [f2]; exact w4) ?_ hcl
      unfold mt_lc
      dsimp only
      rw [if_pos (show gt_LO g q = true from hq3), f1]
      exact mt_cx_cons (w5 hcl'.2) w3
    · rw [b, ← hq2]
      unfold mt_fl
      simp [ff_pt]
  · obtain ⟨r1, r2, r3, r4, _⟩ := mt_st_k H s.1 s.2.1 hw.1 hw.2.1 (mt_w1 hw hl)
    have htop := mt_st_top H s.1 s.2.1 hw.1 q k S (by rw [hs])
    rw [hs] at r1 r2 r3 r4
    obtain ⟨a, hp, b, c'⟩ := mt_k_in H s.2.2 r2.1 r2.2 htop r3 r4
    refine ⟨a, ?_, ?_⟩
    · intro hcl
      have hcl' : s.2.2 = false := by
        unfold mt_av at hcl
        split at hcl <;> exact hcl
      obtain ⟨v1, v2, v3, v4⟩ := hv hcl'
      have := mt_st_v H s.1 s.2.1 hw.1 hw.2.1 (mt_w1 hw hl) v1 v2 v3
      rw [hs] at this
      obtain ⟨w1, w2, w3⟩ := this
      obtain ⟨⟨u1, u2⟩, u3, u4⟩ := w1
      have hlo := r2.1.2.2.2
      refine mt_av_v s.2.2 u4 (ff_sn_ok u1 w2) ?_ ?_ hcl
      · intro h r hm
        rw [ff_sn_rF (hlo h)] at hm
        exact u2 h r hm
      · have e : mt_lc g (some q, ff_sn k c) = mt_lc g (some q, k) := by
          show (if gt_LO g q = true then q :: ff_lF g (ff_sn k c) else []) = (if gt_LO g q = true then q :: ff_lF g k else [])
          by_cases h : gt_LO g q = true
          · rw [if_pos h, if_pos h, ff_sn_lF (hlo h)]
          · rw [if_neg h, if_neg h]
        rw [e]
        exact u3
    · rw [c']
      have : mt_fl g s = (mt_fS g S ++ ff_fl g k q) ++ (ff_pt g q (gt_s g q (ff_len k) - 1) 0 :: ff_C g c) := r1.symm.trans b
      rw [this, ← ht]
      simp [ff_pt]
/-- the whole scan: the place of the fault or -1, and the last state -/
def mt_end (g : gt_T) (i : Nat) (cl : Bool) (y : List mt_Fr × ff_F) : Int32 × mt_S := match y with
  | ([], c) => (-1, [], c, cl)
  | (f :: S, c) => (nI i, f :: S, c, cl)
def mt_sc (g : gt_T) : List Int32 → Nat → mt_S → Int32 × mt_S
  | [], i, s => if ff_lf s.2.1 = true then (nI i, s) else mt_end g i s.2.2 (mt_st g s.1 s.2.1)
  | t :: l, i, s => match mt_sp g s t with
    | none => (nI i, s)
    | some s' => mt_sc g l (i + 1) s'
theorem nI_nm1 {i : Nat} (h : i < 2 ^ 31) : nI i ≠ -1 := by
  intro e
  have h1 := nI_toInt h
  rw [e] at h1
  have h2 : (-1 : Int32).toInt = -1 := by decide
  omega
theorem mt_sc_ok {g : gt_T} (H : gt_ok g) : ∀ (l : List Int32) (i : Nat) (s : mt_S), i + l.length < 2 ^ 31 → mt_w g s → mt_v g s → (mt_sc g l i s).1 = -1 →
    ∃ c cl, (mt_sc g l i s).2 = ([], c, cl) ∧ ff_wf g c ∧ ff_len c = 1 ∧ (cl = false → ff_ok g c) ∧ (ff_C g c).map Prod.fst = (mt_fl g s).map Prod.fst ++ l := by
  intro l
  induction l with
  | nil =>
    intro i s hi hw hv h
    have hi' : i < 2 ^ 31 := hi
    unfold mt_sc at h ⊢
    by_cases hl : ff_lf s.2.1 = true
    · rw [if_pos hl] at h; exact absurd h (nI_nm1 hi')
    · rw [if_neg hl] at h ⊢
      have hl' : ff_lf s.2.1 = false := by
        cases e : ff_lf s.2.1 with
        | false => rfl
        | true => exact absurd e hl
      have h1 := mt_w1 hw hl'
      have hk := mt_st_k H s.1 s.2.1 hw.1 hw.2.1 h1
      have hvv : s.2.2 = false → ff_ok g (mt_st g s.1 s.2.1).2 := fun hc => (mt_st_v H s.1 s.2.1 hw.1 hw.2.1 h1 (hv hc).1 (hv hc).2.1 (hv hc).2.2.1).2.1
      match e : mt_st g s.1 s.2.1, h with
      | (f :: S, c), h => exact absurd h (nI_nm1 hi')
      | ([], c), _ =>
        rw [e] at hk hvv
        obtain ⟨r1, r2, r3, r4, _⟩ := hk
        refine ⟨c, s.2.2, rfl, r3, r4, hvv, ?_⟩
        rw [List.append_nil]
        exact congrArg (List.map Prod.fst) r1
  | cons t l ih =>
    intro i s hi hw hv h
    have hi2 : i + (l.length + 1) < 2 ^ 31 := hi
    show ∃ c cl, (match mt_sp g s t with | none => (nI i, s) | some s' => mt_sc g l (i + 1) s').2 = ([], c, cl) ∧ _
    have h' : (match mt_sp g s t with | none => (nI i, s) | some s' => mt_sc g l (i + 1) s').1 = -1 := h
    match e : mt_sp g s t, h' with
    | none, h' => exact absurd h' (nI_nm1 (by omega))
    | some s', h' =>
      obtain ⟨a, b, c'⟩ := mt_step H hw hv e
      obtain ⟨c, cl, q1, q2, q3, q4, q5⟩ := ih (i + 1) s' (by omega) a b h'
      refine ⟨c, cl, q1, q2, q3, q4, ?_⟩
      rw [q5, c', List.append_assoc]
      rfl
theorem mt_sc_rn {g : gt_T} : ∀ (l : List Int32) (i : Nat) (s s' : mt_S), mt_rn g l s = some s' → mt_sc g l i s = mt_sc g [] (i + l.length) s' := by
  intro l
  induction l with
  | nil =>
    intro i s s' h
    have : s = s' := Option.some.inj h
    rw [this]
    rfl
  | cons t l ih =>
    intro i s s' h
    have h2 : (mt_sp g s t).bind (mt_rn g l) = some s' := h
    show (match mt_sp g s t with | none => (nI i, s) | some s' => mt_sc g l (i + 1) s') = _
    cases e : mt_sp g s t with
    | none => rw [e] at h2; cases h2
    | some s2 =>
      rw [e] at h2
      have := ih (i + 1) s2 s' h2
      show mt_sc g l (i + 1) s2 = _
      rw [this]
      show _ = mt_sc g [] (i + (l.length + 1)) s'
      rw [show i + 1 + l.length = i + (l.length + 1) by omega]
def mt_0 : mt_S := ([], .leaf, false)
theorem mt_0w (g : gt_T) : mt_w g mt_0 := ⟨trivial, trivial, Nat.zero_le _⟩
theorem mt_0v (g : gt_T) : mt_v g mt_0 := fun _ => ⟨trivial, trivial, trivial, rfl⟩
/-- a valid tree is what the scan of its text builds -/
theorem mt_sc_tree {g : gt_T} (H : gt_ok g) {T : ff_F} (h1 : ff_len T = 1) (hw : ff_wf g T) (ho : ff_ok g T) : mt_sc g ((ff_C g T).map Prod.fst) 0 mt_0 = (-1, [], T, false) := by
  cases T with
  | leaf => simp [ff_len] at h1
  | inner m e u p k =>
    have ep := ff_lf_leaf (ff_len0.mp (Nat.succ.inj h1))
    subst ep
    obtain ⟨s, hs1, hs2, hs3, hs4⟩ := mt_tree H hw ho
    have := mt_sc_rn _ 0 mt_0 s hs1
    show mt_sc g ((ff_N g m e k).map Prod.fst) 0 mt_0 = _
    rw [this]
    show (if ff_lf s.2.1 = true then (nI _, s) else mt_end g _ s.2.2 (mt_st g s.1 s.2.1)) = _
    rw [if_neg (by rw [hs3]; decide), hs4, hs2]
    rfl
end
section
/-! ranges of the text -/
def cy_sl (A : List ff_A) (i j : Nat) : List ff_A := (A.drop i).take (j - i)
theorem cy_sl_app {A : List ff_A} {i k j : Nat} (h1 : i ≤ k) (h2 : k ≤ j) : cy_sl A i k ++ cy_sl A k j = cy_sl A i j := by
  unfold cy_sl
  rw [show j - i = (k - i) + (j - k) by omega, List.take_add, List.drop_drop, show i + (k - i) = k by omega]
theorem cy_sl_len {A : List ff_A} {i j : Nat} (h : j ≤ A.length) : (cy_sl A i j).length = j - i := by
  unfold cy_sl
  rw [List.length_take, List.length_drop]
  omega
theorem cy_sl_0 {A : List ff_A} {i j : Nat} (h : j ≤ i) : cy_sl A i j = [] := by
  unfold cy_sl
  rw [show j - i = 0 by omega]
  rfl
theorem cy_sl_one {A : List ff_A} {k : Nat} {x : ff_A} (h : A[k]? = some x) : cy_sl A k (k + 1) = [x] := by
  obtain ⟨hk, e⟩ := List.getElem?_eq_some_iff.mp h
  unfold cy_sl
  rw [show k + 1 - k = 1 by omega, List.drop_eq_getElem_cons hk, e]
  rfl
theorem cy_sl_all (A : List ff_A) : cy_sl A 0 A.length = A := by
  unfold cy_sl
  rw [List.drop_zero, Nat.sub_zero, List.take_length]
theorem cy_sl_split {A L1 L2 : List ff_A} {i j : Nat} (hj : j ≤ A.length) (hij : i ≤ j) (h : L1 ++ L2 = cy_sl A i j) : i + L1.length ≤ j ∧ L1 = cy_sl A i (i + L1.length) ∧ L2 = cy_sl A (i + L1.length) j := by
  have hl := congrArg List.length h
  rw [cy_sl_len hj, List.length_append] at hl
  have h1 : i + L1.length ≤ j := by omega
  rw [← cy_sl_app (k := i + L1.length) (by omega) h1] at h
  have hlen : L1.length = (cy_sl A i (i + L1.length)).length := by rw [cy_sl_len (by omega)]; omega
  obtain ⟨a, b⟩ := List.append_inj h hlen
  exact ⟨h1, a, b⟩
theorem cy_sl_get {A L1 L2 : List ff_A} {x : ff_A} {i j : Nat} (hj : j ≤ A.length) (hij : i ≤ j) (h : L1 ++ x :: L2 = cy_sl A i j) : A[i + L1.length]? = some x := by
  have h2 : (cy_sl A i j)[L1.length]? = some x := by
    rw [← h, List.getElem?_append_right (Nat.le_refl _), Nat.sub_self]
    rfl
  have hl := congrArg List.length h
  rw [cy_sl_len hj, List.length_append, List.length_cons] at hl
  unfold cy_sl at h2
  rw [List.getElem?_take, if_pos (by omega), List.getElem?_drop] at h2
  exact h2
/-! the chain of parts of each lead -/
def cy_pos (g : gt_T) (A : List ff_A) (q s : Nat) (pos : Nat → Nat) : Prop := ∀ m, m < s → A[pos m]? = some (ff_pt g q m (if m + 1 < s then pos (m + 1) - pos m else 0)) ∧ (m + 1 < s → pos m < pos (m + 1))
def cy_at (g : gt_T) (A : List ff_A) (p : Nat) : Prop := (∀ t q r, A[p]? = some (t, some q, r) → q < gt_n g ∧ ∃ pos, pos 0 = p ∧ cy_pos g A q (gt_PC g q) pos) ∧ (∀ l r, A[p]? = some (0, l, r) → l = none ∧ A[p + r]? = some (1, none, 0) ∧ 0 < r)
def cy_g (g : gt_T) (A : List ff_A) : Prop := ∀ p, p < A.length → cy_at g A p
theorem cy_get_mid {A B D : List ff_A} {p : Nat} {x : ff_A} (h : A[p]? = some x) : (B ++ (A ++ D))[B.length + p]? = some x := by
  obtain ⟨hk, e⟩ := List.getElem?_eq_some_iff.mp h
  rw [List.getElem?_append_right (Nat.le_add_right _ _), Nat.add_sub_cancel_left, List.getElem?_append_left hk]
  exact h
theorem cy_get_mid' {A B D : List ff_A} {p : Nat} (hk : p < A.length) : (B ++ (A ++ D))[B.length + p]? = A[p]? := by
  rw [List.getElem?_append_right (Nat.le_add_right _ _), Nat.add_sub_cancel_left, List.getElem?_append_left hk]
theorem cy_pos_mid {g : gt_T} {A B D : List ff_A} {q s : Nat} {pos : Nat → Nat} (h : cy_pos g A q s pos) : cy_pos g (B ++ (A ++ D)) q s (fun m => B.length + pos m) := by
  intro m hm
  obtain ⟨h1, h2⟩ := h m hm
  constructor
  · show (B ++ (A ++ D))[B.length + pos m]? = some (ff_pt g q m (if m + 1 < s then (B.length + pos (m + 1)) - (B.length + pos m) else 0))
    rw [Nat.add_sub_add_left]
    exact cy_get_mid h1
  · intro hs
    have := h2 hs
    show B.length + pos m < B.length + pos (m + 1)
    omega
theorem cy_at_mid {g : gt_T} {A B D : List ff_A} {p : Nat} (hk : p < A.length) (h : cy_at g A p) : cy_at g (B ++ (A ++ D)) (B.length + p) := by
  constructor
  · intro t q r hx
    rw [cy_get_mid' hk] at hx
    obtain ⟨h1, pos, h2, h3⟩ := h.1 t q r hx
    exact ⟨h1, fun m => B.length + pos m, by show B.length + pos 0 = _; rw [h2], cy_pos_mid h3⟩
  · intro l r hx
    rw [cy_get_mid' hk] at hx
    obtain ⟨h1, h2, h3⟩ := h.2 l r hx
    refine ⟨h1, ?_, h3⟩
    rw [Nat.add_assoc]
    exact cy_get_mid h2
theorem cy_at_none {g : gt_T} {A : List ff_A} {p : Nat} {t : Int32} {r : Nat} (h : A[p]? = some (t, none, r)) (ht : t ≠ 0) : cy_at g A p := by
  constructor
  · intro t' q r' hx
    rw [h] at hx
    cases hx
  · intro l r' hx
    rw [h] at hx
    injection hx with hx
    injection hx with hx _
    exact absurd hx ht
theorem cy_at_lead {g : gt_T} {A : List ff_A} {p q : Nat} {t : Int32} {r : Nat} {pos : Nat → Nat} (h : A[p]? = some (t, some q, r)) (ht : t ≠ 0) (hq : q < gt_n g) (hp : pos 0 = p) (hc : cy_pos g A q (gt_PC g q) pos) : cy_at g A p := by
  constructor
  · intro t' q' r' hx
    rw [h] at hx
    injection hx with hx
    injection hx with _ hx
    injection hx with hx _
    injection hx with hx
    subst hx
    exact ⟨hq, pos, hp, hc⟩
  · intro l r' hx
    rw [h] at hx
    injection hx with hx
    injection hx with hx _
    exact absurd hx ht
theorem cy_g_wrap {g : gt_T} {l : List ff_A} (h : cy_g g l) : cy_g g ((0, none, l.length + 1) :: (l ++ [(1, none, 0)])) := by
  intro p hp
  rw [List.length_cons, List.length_append, List.length_singleton] at hp
  have e : ((0, none, l.length + 1) :: (l ++ [(1, none, 0)]) : List ff_A) = [(0, none, l.length + 1)] ++ (l ++ [(1, none, 0)]) := rfl
  by_cases h0 : p = 0
  · subst h0
    constructor
    · intro t q r hx; cases hx
    · intro l' r hx
      injection hx with hx
      injection hx with _ hx
      injection hx with hx1 hx2
      subst hx1 hx2
      refine ⟨rfl, ?_, Nat.succ_pos _⟩
      rw [Nat.zero_add, List.getElem?_cons_succ, List.getElem?_append_right (Nat.le_refl _), Nat.sub_self]
      rfl
  · by_cases h1 : p = l.length + 1
    · subst h1
      refine cy_at_none (t := 1) (r := 0) ?_ (by decide)
      rw [List.getElem?_cons_succ, List.getElem?_append_right (Nat.le_refl _), Nat.sub_self]
      rfl
    · have := cy_at_mid (B := [(0, none, l.length + 1)]) (D := [(1, none, 0)]) (p := p - 1) (by omega) (h (p - 1) (by omega))
      rw [e]
      rw [show ([(0, none, l.length + 1)] : List ff_A).length + (p - 1) = p by show 1 + (p - 1) = p; omega] at this
      exact this
def ff_f1 : ff_F → ff_F
  | .leaf => .leaf
  | .inner m e u p k => if ff_lf p = true then .inner m e u .leaf k else ff_f1 p
def cy_al (g : gt_T) : ff_F → Prop
  | .leaf => True
  | .inner m e _ p k => cy_al g p ∧ cy_g g (ff_N g m e k)
theorem cy_PF {g : gt_T} (H : gt_ok g) {q : Nat} (hq : q < gt_n g) : ∀ (F : ff_F), cy_al g F → gt_s g q (ff_len F) ≤ gt_PC g q →
    ∃ pos, cy_pos g (ff_fl g F q ++ ff_sp g q (ff_len F) 0) q (gt_s g q (ff_len F)) pos ∧
      (0 < gt_s g q (ff_len F) → pos 0 = (if gt_LO g q = true then (ff_C g (ff_f1 F)).length else 0) ∧ pos (gt_s g q (ff_len F) - 1) = (ff_fl g F q).length ∧ ff_sp g q (ff_len F) 0 = [ff_pt g q (gt_s g q (ff_len F) - 1) 0]) ∧
      (gt_s g q (ff_len F) = 0 → ff_fl g F q = [] ∧ ff_sp g q (ff_len F) 0 = []) ∧
      ∀ p, p < (ff_fl g F q).length → p ≠ pos 0 → cy_at g (ff_fl g F q) p := by
  intro F
  induction F with
  | leaf =>
    intro _ hs
    refine ⟨fun _ => 0, ?_, ?_, ?_, ?_⟩
    · intro m hm
      have hl : ¬ gt_LO g q = true := by
        intro h
        have hm' : m < gt_s g q 0 := hm
        unfold gt_s at hm'
        rw [if_pos h] at hm'
        omega
      have hm' : m < gt_s g q 0 := hm
      have e1 : gt_s g q 0 = 1 := by unfold gt_s; rw [if_neg hl]
      rw [e1] at hm'
      have em : m = 0 := by omega
      subst em
      constructor
      · show (ff_sp g q 0 0)[0]? = some (ff_pt g q 0 (if 0 + 1 < gt_s g q 0 then _ else 0))
        unfold ff_sp
        rw [e1, if_neg (fun h => hl h.1), if_neg (by decide)]
        rfl
      · intro h
        have h' : 0 + 1 < gt_s g q 0 := h
        omega
    · intro h
      have hl : ¬ gt_LO g q = true := by
        intro h'
        have hm' : 0 < gt_s g q 0 := h
        unfold gt_s at hm'
        rw [if_pos h'] at hm'
        omega
      refine ⟨by rw [if_neg hl], rfl, ?_⟩
      show ff_sp g q 0 0 = _
      unfold ff_sp
      rw [if_neg (fun h => hl h.1)]
      rfl
    · intro h
      refine ⟨rfl, ?_⟩
      have h' : gt_s g q 0 = 0 := h
      have hl : gt_LO g q = true := by
        unfold gt_s at h'
        split at h'
        · assumption
        · omega
      show ff_sp g q 0 0 = []
      unfold ff_sp
      rw [if_pos ⟨hl, rfl⟩]
    · intro p hp _
      exact absurd hp (Nat.not_lt_zero _)
  | inner m e u p k ihp ihk =>
    intro hal hs
    have hsadd : gt_s g q (ff_len (.inner m e u p k)) = gt_s g q (ff_len p) + 1 := gt_s_add g q (ff_len p)
    have hspn : ff_sp g q (ff_len (.inner m e u p k)) 0 = [ff_pt g q (gt_s g q (ff_len p)) 0] := by
      show ff_sp g q (ff_len p + 1) 0 = _
      unfold ff_sp
      rw [if_neg (by omega), gt_s_succ]
    rw [hsadd, hspn]
    rw [hsadd] at hs
    obtain ⟨pos, hp1, hp2, hp3, hp4⟩ := ihp hal.1 (by omega)
    have hN := hal.2
    have hrl : ff_rl g q (ff_len p) (ff_N g m e k).length = (ff_N g m e k).length + 1 := by
      unfold ff_rl
      rw [if_pos (by omega)]
    by_cases h0 : gt_s g q (ff_len p) = 0
    · -- operand 0 of a left open operator
      obtain ⟨e1, e2⟩ := hp3 h0
      have hl : gt_LO g q = true ∧ ff_len p = 0 := by
        unfold gt_s at h0
        split at h0
        · exact ⟨by assumption, h0⟩
        · omega
      have ep := ff_lf_leaf (ff_len0.mp hl.2)
      have e3 : ff_fl g (.inner m e u p k) q = ff_N g m e k := by
        rw [ff_fl_in, e1]
        unfold ff_sp
        rw [if_pos hl]
        rfl
      have e4 : ff_C g (ff_f1 (.inner m e u p k)) = ff_N g m e k := by
        rw [ep]
        rfl
      rw [e3, e4, h0]
      refine ⟨fun _ => (ff_N g m e k).length, ?_, ?_, ?_, ?_⟩
      · intro j hj
        have ej : j = 0 := by omega
        subst ej
        refine ⟨?_, fun h => absurd h (by omega)⟩
        rw [List.getElem?_append_right (Nat.le_refl _), Nat.sub_self, if_neg (by omega)]
        rfl
      · intro _
        exact ⟨by rw [if_pos hl.1], rfl, rfl⟩
      · intro h; omega
      · intro x hx _
        exact hN x hx
    · have hpos : 0 < gt_s g q (ff_len p) := by omega
      obtain ⟨q1, q2, q3⟩ := hp2 hpos
      have hne : ¬ (gt_LO g q = true ∧ ff_len p = 0) := by
        rintro ⟨a, b⟩
        apply h0
        unfold gt_s
        rw [if_pos a, b]
      have e3 : ff_fl g (.inner m e u p k) q = ff_fl g p q ++ (ff_pt g q (gt_s g q (ff_len p) - 1) ((ff_N g m e k).length + 1) :: ff_N g m e k) := by
        rw [ff_fl_in, hrl]
        unfold ff_sp
        rw [if_neg hne]
        rfl
      rw [q3] at hp1
      have hlt : ∀ j, j + 1 < gt_s g q (ff_len p) → pos j < (ff_fl g p q).length := by
        intro j hj
        obtain ⟨a, b⟩ := hp1 j (by omega)
        have b' := b hj
        obtain ⟨c, d⟩ := List.getElem?_eq_some_iff.mp a
        rw [List.length_append, List.length_singleton] at c
        have hne2 : pos j ≠ (ff_fl g p q).length := by
          intro hz
          rw [hz, List.getElem?_append_right (Nat.le_refl _), Nat.sub_self, if_pos hj] at a
          injection a with a
          injection a with _ a
          injection a with _ a
          omega
        omega
      have ef1 : ff_C g (ff_f1 (.inner m e u p k)) = ff_C g (ff_f1 p) ∨ ¬ gt_LO g q = true := by
        by_cases hl : gt_LO g q = true
        · left
          have : ¬ ff_lf p = true := fun z => hne ⟨hl, ff_len0.mpr z⟩
          show ff_C g (if ff_lf p = true then _ else ff_f1 p) = _
          rw [if_neg this]
        · right; exact hl
      refine ⟨fun j => if j < gt_s g q (ff_len p) then pos j else (ff_fl g (.inner m e u p k) q).length, ?_, ?_, ?_, ?_⟩
      · intro j hj
        show (_ : List ff_A)[if j < gt_s g q (ff_len p) then pos j else (ff_fl g (.inner m e u p k) q).length]? = some (ff_pt g q j (if j + 1 < gt_s g q (ff_len p) + 1 then (if j + 1 < gt_s g q (ff_len p) then pos (j + 1) else (ff_fl g (.inner m e u p k) q).length) - (if j < gt_s g q (ff_len p) then pos j else (ff_fl g (.inner m e u p k) q).length) else 0)) ∧ (j + 1 < gt_s g q (ff_len p) + 1 → (if j < gt_s g q (ff_len p) then pos j else (ff_fl g (.inner m e u p k) q).length) < (if j + 1 < gt_s g q (ff_len p) then pos (j + 1) else (ff_fl g (.inner m e u p k) q).length))
        by_cases hj1 : j + 1 < gt_s g q (ff_len p)
        · obtain ⟨a, b⟩ := hp1 j (by omega)
          have hl := hlt j hj1
          rw [if_pos hj1] at a
          rw [if_pos (show j < gt_s g q (ff_len p) by omega), if_pos hj1, if_pos (by omega)]
          refine ⟨?_, fun _ => b hj1⟩
          rw [List.getElem?_append_left hl] at a
          rw [e3, List.append_assoc, List.getElem?_append_left hl]
          exact a
        · by_cases hj2 : j < gt_s g q (ff_len p)
          · have ej : j = gt_s g q (ff_len p) - 1 := by omega
            have hpj : pos j = (ff_fl g p q).length := by rw [ej]; exact q2
            have hlen : (ff_fl g (.inner m e u p k) q).length = (ff_fl g p q).length + ((ff_N g m e k).length + 1) := by
              rw [e3, List.length_append, List.length_cons]
            rw [if_pos hj2, if_neg hj1, if_pos (by omega), hlen, hpj]
            refine ⟨?_, fun _ => by omega⟩
            rw [e3, List.append_assoc, List.getElem?_append_right (Nat.le_refl _), Nat.sub_self, Nat.add_sub_cancel_left, ej]
            rfl
          · have ej : j = gt_s g q (ff_len p) := by omega
            rw [if_neg hj2, if_neg (show ¬ j + 1 < gt_s g q (ff_len p) + 1 by omega)]
            refine ⟨?_, fun h => absurd h (by omega)⟩
            rw [List.getElem?_append_right (Nat.le_refl _), Nat.sub_self, ej]
            rfl
      · intro _
        refine ⟨?_, ?_, ?_⟩
        · show (if 0 < gt_s g q (ff_len p) then pos 0 else _) = _
          rw [if_pos hpos, q1]
          rcases ef1 with h | h
          · rw [h]
          · rw [if_neg h, if_neg h]
        · show (if gt_s g q (ff_len p) + 1 - 1 < gt_s g q (ff_len p) then _ else _) = _
          rw [if_neg (by omega)]
        · rfl
      · intro h; omega
      · intro x hx hx0
        have hx0' : x ≠ pos 0 := by
          intro z
          apply hx0
          show x = (if 0 < gt_s g q (ff_len p) then pos 0 else _)
          rw [if_pos hpos]
          exact z
        rw [e3] at hx ⊢
        rw [List.length_append, List.length_cons] at hx
        by_cases hxl : x < (ff_fl g p q).length
        · have := cy_at_mid (B := []) (D := ff_pt g q (gt_s g q (ff_len p) - 1) ((ff_N g m e k).length + 1) :: ff_N g m e k) hxl (hp4 x hxl hx0')
          rw [List.nil_append, List.length_nil, Nat.zero_add] at this
          exact this
        · by_cases hxe : x = (ff_fl g p q).length
          · have hs1 : gt_s g q (ff_len p) - 1 ≠ 0 := by
              intro z
              rw [z] at q2
              exact hx0' (hxe.trans q2.symm)
            refine cy_at_none (t := gt_PT g q (gt_s g q (ff_len p) - 1)) (r := (ff_N g m e k).length + 1) ?_ (gt_pt H hq (by omega)).1
            rw [hxe, List.getElem?_append_right (Nat.le_refl _), Nat.sub_self]
            show some (ff_pt g q _ _) = _
            unfold ff_pt
            rw [if_neg hs1]
          · have := cy_at_mid (B := ff_fl g p q ++ [ff_pt g q (gt_s g q (ff_len p) - 1) ((ff_N g m e k).length + 1)]) (D := []) (p := x - ((ff_fl g p q).length + 1)) (by omega) (hN _ (by omega))
            rw [List.append_nil, List.append_assoc, List.length_append, List.length_singleton, show (ff_fl g p q).length + 1 + (x - ((ff_fl g p q).length + 1)) = x by omega] at this
            exact this
def ff_rp (g : gt_T) : ff_F → Nat
  | .leaf => 0
  | .inner m e _ _ k => match m, e with
    | 0, .inr q => if gt_LO g q = true then (ff_C g (ff_f1 k)).length else 0
    | _, _ => 0
theorem ff_sp_s {g : gt_T} {q i r : Nat} (h : 0 < gt_s g q i) : ff_sp g q i r = [ff_pt g q (gt_s g q i - 1) r] := by
  unfold ff_sp
  rw [if_neg]
  rintro ⟨a, b⟩
  unfold gt_s at h
  rw [if_pos a, b] at h
  omega
theorem cy_node {g : gt_T} (H : gt_ok g) {q : Nat} {k : ff_F} (hal : cy_al g k) (hq : q < gt_n g) (hlen : ff_len k = gt_ar g q) :
    cy_g g (ff_N g 0 (.inr q) k) ∧ ∃ pos, pos 0 = ff_rp g (.inner 0 (.inr q) () .leaf k) ∧ cy_pos g (ff_N g 0 (.inr q) k) q (gt_PC g q) pos := by
  have hpc := (gt_pc4 H hq).1
  -- the text is M(F') ++ D with all parts in M(F')
  have key : ∃ F' D, cy_al g F' ∧ cy_g g D ∧ gt_s g q (ff_len F') = gt_PC g q ∧ ff_N g 0 (.inr q) k = (ff_fl g F' q ++ ff_sp g q (ff_len F') 0) ++ D ∧ (gt_LO g q = true → ff_C g (ff_f1 F') = ff_C g (ff_f1 k)) := by
    by_cases hr : gt_RO g q = true
    · cases k with
      | leaf =>
        exfalso
        have h0 : gt_ar g q = 0 := hlen.symm
        rcases gt_cs H hq with h | h | h | h
        · omega
        · omega
        · omega
        · rw [h.2.1] at hr; cases hr
      | inner m e u p k' =>
        have hlen' : ff_len p + 1 = gt_ar g q := hlen
        have hw := gt_wait H hq hr hlen'
        refine ⟨p, ff_N g m e k', hal.1, hal.2, hw, ?_, ?_⟩
        · rw [ff_N0o, ff_fl_in]
          unfold ff_tl ff_rl
          rw [if_pos hr, if_neg (by omega)]
          simp only [List.append_assoc, List.append_nil]
        · intro hl
          have hp : ¬ ff_lf p = true := by
            intro z
            rw [ff_len0.mpr z] at hw
            unfold gt_s at hw
            rw [if_pos hl] at hw
            omega
          show _ = ff_C g (if ff_lf p = true then _ else ff_f1 p)
          rw [if_neg hp]
    · have hr' : gt_RO g q = false := by
        cases h : gt_RO g q with
        | false => rfl
        | true => exact absurd h hr
      refine ⟨k, [], hal, fun p hp => absurd hp (Nat.not_lt_zero _), gt_npush H hq hr' hlen, ?_, fun _ => rfl⟩
      rw [ff_N0o]
      unfold ff_tl
      rw [if_neg hr, List.append_nil]
  obtain ⟨F', D, hal', hD, hs, hN, hf1⟩ := key
  obtain ⟨pos, hp1, hp2, hp3, hp4⟩ := cy_PF H hq F' hal' (by omega)
  rw [hs] at hp1 hp2
  obtain ⟨q1, q2, q3⟩ := hp2 (by omega)
  rw [hN]
  have hchain : cy_pos g ((ff_fl g F' q ++ ff_sp g q (ff_len F') 0) ++ D) q (gt_PC g q) pos := by
    have := cy_pos_mid (B := []) (D := D) hp1
    simp only [List.nil_append, List.length_nil, Nat.zero_add] at this
    exact this
  have hpos0 : pos 0 = ff_rp g (.inner 0 (.inr q) () .leaf k) := by
    rw [q1]
    show _ = if gt_LO g q = true then (ff_C g (ff_f1 k)).length else 0
    by_cases hl : gt_LO g q = true
    · rw [if_pos hl, if_pos hl, hf1 hl]
    · rw [if_neg hl, if_neg hl]
  refine ⟨?_, pos, hpos0, hchain⟩
  intro x hx
  by_cases hx0 : x = pos 0
  · have h0 := (hchain 0 (by omega)).1
    refine cy_at_lead (t := gt_PT g q 0) (r := if 0 + 1 < gt_PC g q then pos (0 + 1) - pos 0 else 0) ?_ (gt_pt H hq (by omega)).1 hq hx0.symm hchain
    rw [hx0]
    exact h0
  · by_cases hxl : x < (ff_fl g F' q).length
    · have := cy_at_mid (B := []) (D := ff_sp g q (ff_len F') 0 ++ D) hxl (hp4 x hxl hx0)
      rw [List.nil_append, List.length_nil, Nat.zero_add, ← List.append_assoc] at this
      exact this
    · rw [q3] at hx ⊢
      rw [List.length_append, List.length_append, List.length_singleton] at hx
      by_cases hxe : x = (ff_fl g F' q).length
      · have hs1 : gt_PC g q - 1 ≠ 0 := by
          intro z
          rw [z] at q2
          exact hx0 (hxe.trans q2.symm)
        refine cy_at_none (t := gt_PT g q (gt_PC g q - 1)) (r := 0) ?_ (gt_pt H hq (by omega)).1
        rw [hxe, List.append_assoc, List.getElem?_append_right (Nat.le_refl _), Nat.sub_self]
        show some (ff_pt g q _ _) = _
        unfold ff_pt
        rw [if_neg hs1]
      · have := cy_at_mid (B := ff_fl g F' q ++ [ff_pt g q (gt_PC g q - 1) 0]) (D := []) (p := x - ((ff_fl g F' q).length + 1)) (by omega) (hD _ (by omega))
        rw [List.append_nil, List.length_append, List.length_singleton, show (ff_fl g F' q).length + 1 + (x - ((ff_fl g F' q).length + 1)) = x by omega] at this
        exact this
theorem cy_all {g : gt_T} (H : gt_ok g) : ∀ (F : ff_F), ff_wf g F → cy_al g F := by
  intro F
  induction F with
  | leaf => intro _; trivial
  | inner m e u p k ihp ihk =>
    intro hw
    refine ⟨ihp hw.1, ?_⟩
    have h0 : cy_g g (ff_N g 0 e k) := by
      match e, hw with
      | .inl t, hw =>
        intro x hx
        have hx' : x < 1 := hx
        have ex : x = 0 := by omega
        subst ex
        exact cy_at_none (t := t) (r := 0) rfl (gt_at_ne hw.2.2.1).1
      | .inr q, hw => exact (cy_node H (ihk hw.2.1) hw.2.2.1 hw.2.2.2).1
    clear ihp ihk
    induction m with
    | zero => exact h0
    | succ m ih => exact cy_g_wrap (ih hw)
end
section
/-! sizes -/
theorem ff_size {g : gt_T} (H : gt_ok g) : ∀ (F : ff_F), ff_wf g F → (∀ q, ff_sz F + ff_len F ≤ (ff_fl g F q).length + (if gt_LO g q = true ∧ ff_lf F = false then 1 else 0)) ∧ (∀ q, q < gt_n g → ff_len F = gt_ar g q → ff_sz F + gt_PC g q ≤ (ff_N g 0 (.inr q) F).length) := by
  have node : ∀ (F : ff_F) (q : Nat), (∀ q, ff_sz F + ff_len F ≤ (ff_fl g F q).length + (if gt_LO g q = true ∧ ff_lf F = false then 1 else 0)) → q < gt_n g → ff_len F = gt_ar g q → ff_sz F + gt_PC g q ≤ (ff_N g 0 (.inr q) F).length := by
    intro F q h hq hl
    have h1 := h q
    rw [ff_N0o, List.length_append]
    unfold ff_tl ff_sp
    rcases gt_cs H hq with ⟨a, b, c, _⟩ | ⟨a, b, c, _⟩ | ⟨a, b, c, _⟩ | ⟨a, b, c, _⟩
    · rw [a] at h1 ⊢; rw [b]; simp at h1 ⊢; omega
    · rw [a] at h1 ⊢; rw [b]
      have : ¬ ff_len F = 0 := by omega
      simp [this] at h1 ⊢
      split at h1 <;> omega
    · rw [a] at h1 ⊢; rw [b]; simp at h1 ⊢
      split at h1 <;> omega
    · rw [a] at h1 ⊢; rw [b]; simp at h1 ⊢; omega
  intro F
  induction F with
  | leaf => exact fun _ => ⟨fun q => Nat.zero_le _, fun q hq hl => node .leaf q (fun q => Nat.zero_le _) hq hl⟩
  | inner m e u p k ihp ihk =>
    intro hw
    have hp := (ihp hw.1).1
    have hk := ihk hw.2.1
    have hN0 : ff_sz k + 1 ≤ (ff_N g 0 e k).length := by
      match e, hw with
      | .inl t, hw =>
        have := ff_lf_leaf hw.2.2.2
        subst this
        exact Nat.le_refl _
      | .inr q, hw =>
        have h1 := hk.2 q hw.2.2.1 hw.2.2.2
        have h2 := (gt_pc4 H hw.2.2.1).1
        omega
    have hN : ff_sz k + 1 ≤ (ff_N g m e k).length := by
      clear hp hk ihp ihk hw
      induction m with
      | zero => exact hN0
      | succ m ih =>
        rw [ff_NS, List.length_cons, List.length_append]
        omega
    have h1 : ∀ q, ff_sz (.inner m e u p k) + ff_len (.inner m e u p k) ≤ (ff_fl g (.inner m e u p k) q).length + (if gt_LO g q = true ∧ ff_lf (.inner m e u p k) = false then 1 else 0) := by
      intro q
      have hpq := hp q
      rw [ff_fl_in, List.length_append, List.length_append]
      show ff_sz p + ff_sz k + 1 + (ff_len p + 1) ≤ _ + (if gt_LO g q = true ∧ false = false then 1 else 0)
      unfold ff_sp
      by_cases hl : gt_LO g q = true
      · by_cases h0 : ff_len p = 0
        · have ep := ff_lf_leaf (ff_len0.mp h0)
          subst ep
          rw [if_pos ⟨hl, rfl⟩, if_pos ⟨hl, rfl⟩]
          show 0 + ff_sz k + 1 + (0 + 1) ≤ _
          simp only [List.length_nil]
          omega
        · have : ff_lf p = false := ff_lf_len (by omega)
          rw [if_pos ⟨hl, this⟩] at hpq
          rw [if_neg (fun z => h0 z.2), if_pos ⟨hl, rfl⟩, List.length_singleton]
          omega
      · rw [if_neg (fun z => hl z.1)] at hpq
        rw [if_neg (fun z => hl z.1), if_neg (fun z => hl z.1), List.length_singleton]
        omega
    exact ⟨h1, fun q hq hl => node _ q h1 hq hl⟩
theorem ff_N_sz {g : gt_T} (H : gt_ok g) {m : Nat} {e : Int32 ⊕ Nat} {u : Unit} {p k : ff_F} (hw : ff_wf g (.inner m e u p k)) : ff_sz k + 1 ≤ (ff_N g m e k).length := by
  have hN0 : ff_sz k + 1 ≤ (ff_N g 0 e k).length := by
    match e, hw with
    | .inl t, hw =>
      have := ff_lf_leaf hw.2.2.2
      subst this
      exact Nat.le_refl _
    | .inr q, hw =>
      have h1 := (ff_size H k hw.2.1).2 q hw.2.2.1 hw.2.2.2
      have h2 := (gt_pc4 H hw.2.2.1).1
      omega
  clear hw
  induction m with
  | zero => exact hN0
  | succ m ih =>
    rw [ff_NS, List.length_cons, List.length_append]
    omega
theorem ff_post_len : ∀ (F : ff_F), (ff_post F).length = ff_sz F := by
  intro F
  induction F with
  | leaf => rfl
  | inner m e u p k ihp ihk =>
    show (ff_post p ++ (ff_post k ++ [_])).length = ff_sz p + ff_sz k + 1
    rw [List.length_append, List.length_append, List.length_singleton, ihp, ihk]
    omega
theorem ff_C_sz {g : gt_T} (H : gt_ok g) {T : ff_F} (hw : ff_wf g T) (h1 : ff_len T = 1) : ff_sz T ≤ (ff_C g T).length ∧ 0 < ff_sz T := by
  cases T with
  | leaf => simp [ff_len] at h1
  | inner m e u p k =>
    have ep := ff_lf_leaf (ff_len0.mp (Nat.succ.inj h1))
    subst ep
    have := ff_N_sz H hw
    show 0 + ff_sz k + 1 ≤ (ff_N g m e k).length ∧ 0 < 0 + ff_sz k + 1
    omega
/-! valid trees of ranges -/
def cy_R (g : gt_T) (A : List ff_A) (T : ff_F) (i j : Nat) : Prop := ff_len T = 1 ∧ ff_wf g T ∧ ff_ok g T ∧ ff_C g T = cy_sl A i j
theorem cy_R_lt {g : gt_T} (H : gt_ok g) {A : List ff_A} {T : ff_F} {i j : Nat} (hj : j ≤ A.length) (h : cy_R g A T i j) : i < j := by
  obtain ⟨h1, h2, h3, h4⟩ := h
  have := ff_C_sz H h2 h1
  rw [h4, cy_sl_len hj] at this
  omega
theorem cy_R_un {g : gt_T} (H : gt_ok g) {A : List ff_A} {T T' : ff_F} {i j : Nat} (h : cy_R g A T i j) (h' : cy_R g A T' i j) : T = T' :=
  mt_uniq H h.1 h'.1 h.2.1 h.2.2.1 h'.2.1 h'.2.2.1 (by rw [h.2.2.2, h'.2.2.2])
/-! the ranges of the operands -/
def cy_fr (g : gt_T) (q i : Nat) (pos : Nat → Nat) (c : Nat) : Nat := if gt_s g q c = 0 then i else pos (gt_s g q c - 1) + 1
def cy_to (g : gt_T) (q j : Nat) (pos : Nat → Nat) (c : Nat) : Nat := if gt_s g q c < gt_PC g q then pos (gt_s g q c) else j
def cy_e (g : gt_T) (q i j : Nat) (pos : Nat → Nat) : Nat → Nat
  | 0 => i
  | c + 1 => cy_to g q j pos c
theorem cy_efr {g : gt_T} (H : gt_ok g) {q i j : Nat} {pos : Nat → Nat} (hq : q < gt_n g) (hnl : gt_LO g q = false → pos 0 = i) {c : Nat} (hc : c < gt_ar g q) :
    (gt_s g q c = 0 ∧ c = 0 ∧ gt_LO g q = true ∧ cy_fr g q i pos c = i ∧ cy_e g q i j pos c = i) ∨ (0 < gt_s g q c ∧ cy_e g q i j pos c = pos (gt_s g q c - 1) ∧ cy_fr g q i pos c = pos (gt_s g q c - 1) + 1) := by
  by_cases h0 : gt_s g q c = 0
  · left
    have hl : gt_LO g q = true ∧ c = 0 := by
      unfold gt_s at h0
      split at h0
      · exact ⟨by assumption, h0⟩
      · omega
    refine ⟨h0, hl.2, hl.1, ?_, ?_⟩
    · unfold cy_fr; rw [if_pos h0]
    · rw [hl.2]; rfl
  · right
    refine ⟨by omega, ?_, ?_⟩
    · cases c with
      | zero =>
        have hl : gt_LO g q = false := by
          cases h : gt_LO g q with
          | false => rfl
          | true => exact absurd (by unfold gt_s; rw [if_pos h]) h0
        have e1 : gt_s g q 0 = 1 := by unfold gt_s; rw [hl]; rfl
        rw [e1]
        exact (hnl hl).symm
      | succ c =>
        have h1 := gt_s_le H hq hc
        rw [gt_s_add] at h1
        show cy_to g q j pos c = _
        unfold cy_to
        rw [if_pos (by omega), gt_s_succ]
    · unfold cy_fr; rw [if_neg h0]
theorem cy_asm {g : gt_T} (H : gt_ok g) {A : List ff_A} {q i j : Nat} {pos : Nat → Nat} (hq : q < gt_n g) (hpos : cy_pos g A q (gt_PC g q) pos) (hnl : gt_LO g q = false → pos 0 = i) {F T : ff_F} {c : Nat} (hF : ff_len F = c) (hc : c < gt_ar g q)
    (hfl : ff_fl g F q = cy_sl A i (cy_e g q i j pos c)) (hie : i ≤ cy_e g q i j pos c) (h1 : ff_len T = 1) (hT : ff_C g T = cy_sl A (cy_fr g q i pos c) (cy_to g q j pos c)) (hle : cy_fr g q i pos c ≤ cy_to g q j pos c) (hto : cy_to g q j pos c ≤ A.length) :
    ff_fl g (ff_sn F T) q = cy_sl A i (cy_e g q i j pos (c + 1)) ∧ i ≤ cy_e g q i j pos (c + 1) := by
  rw [ff_sn_fl (ff_1nlf h1), hF]
  show _ = cy_sl A i (cy_to g q j pos c) ∧ i ≤ cy_to g q j pos c
  rcases cy_efr (j := j) H hq hnl hc with ⟨a, b, b2, d, e⟩ | ⟨a, d, e⟩
  · have es : ff_sp g q c (ff_rl g q c (ff_C g T).length) = [] := by
      unfold ff_sp
      rw [if_pos ⟨b2, b⟩]
    rw [es, hfl, hT, d, e, cy_sl_0 (Nat.le_refl i)]
    rw [d] at hle
    exact ⟨rfl, hle⟩
  · have hs := gt_s_le H hq hc
    have hp := hpos (gt_s g q c - 1) (by omega)
    rw [show gt_s g q c - 1 + 1 = gt_s g q c by omega] at hp
    have hlen : (ff_C g T).length = cy_to g q j pos c - cy_fr g q i pos c := by rw [hT, cy_sl_len hto]
    have hr : ff_rl g q c (ff_C g T).length = (if gt_s g q c < gt_PC g q then pos (gt_s g q c) - pos (gt_s g q c - 1) else 0) := by
      unfold ff_rl
      by_cases hlt : gt_s g q c < gt_PC g q
      · have h2 := hp.2 hlt
        have e2 : cy_to g q j pos c = pos (gt_s g q c) := by unfold cy_to; rw [if_pos hlt]
        rw [if_pos hlt, if_pos hlt, hlen, e, e2]
        rw [e, e2] at hle
        omega
      · rw [if_neg hlt, if_neg hlt]
    have hone := cy_sl_one hp.1
    rw [ff_sp_s a, hr, hfl, hT, d, e, ← hone]
    rw [d] at hie
    rw [e] at hle
    rw [← List.append_assoc, cy_sl_app hie (Nat.le_succ _), cy_sl_app (by omega) hle]
    exact ⟨rfl, by omega⟩
/-- all operands stand on their ranges -/
def cy_K (g : gt_T) (A : List ff_A) (q i j : Nat) (pos : Nat → Nat) : ff_F → Prop
  | .leaf => True
  | .inner m e _ p k => cy_K g A q i j pos p ∧ ff_N g m e k = cy_sl A (cy_fr g q i pos (ff_len p)) (cy_to g q j pos (ff_len p))
theorem cy_dis {g : gt_T} (H : gt_ok g) {A : List ff_A} {q i j : Nat} {pos : Nat → Nat} (hq : q < gt_n g) (hpos : cy_pos g A q (gt_PC g q) pos) (hnl : gt_LO g q = false → pos 0 = i) (hj : j ≤ A.length) (hij : i ≤ j) :
    ∀ (F : ff_F) (rest : List ff_A), ff_len F ≤ gt_ar g q → ff_fl g F q ++ rest = cy_sl A i j → (gt_LO g q = true → ff_lf F = false → i + (ff_C g (ff_f1 F)).length = pos 0) → (∀ c, ff_len F = c + 1 → ¬ gt_s g q c < gt_PC g q → rest = []) →
    i + (ff_fl g F q).length = cy_e g q i j pos (ff_len F) ∧ cy_K g A q i j pos F := by
  intro F
  induction F with
  | leaf => intro rest _ _ _ _; exact ⟨rfl, trivial⟩
  | inner m e u p k ihp ihk =>
    intro rest hlen hfl hf1 hrest
    have hlen' : ff_len p + 1 ≤ gt_ar g q := hlen
    rw [ff_fl_in, List.append_assoc, List.append_assoc] at hfl
    have hf1p : gt_LO g q = true → ff_lf p = false → i + (ff_C g (ff_f1 p)).length = pos 0 := by
      intro h1 h2
      have := hf1 h1 rfl
      have e1 : ff_f1 (.inner m e u p k) = ff_f1 p := by
        show (if ff_lf p = true then _ else _) = _
        rw [if_neg (by rw [h2]; decide)]
      rw [e1] at this
      exact this
    obtain ⟨he, hK⟩ := ihp _ (by omega) hfl hf1p (by
      intro c hc hn
      have h1 := gt_nwait H hq (i := c) (by omega)
      omega)
    rw [ff_fl_in, List.length_append, List.length_append]
    show i + _ = cy_to g q j pos (ff_len p) ∧ _ ∧ _ = cy_sl A (cy_fr g q i pos (ff_len p)) (cy_to g q j pos (ff_len p))
    obtain ⟨s1, s2, s3⟩ := cy_sl_split hj hij hfl
    rw [he] at s1 s2 s3
    have hc : ff_len p < gt_ar g q := by omega
    rcases cy_efr (j := j) H hq hnl hc with ⟨a, b, b2, d, f⟩ | ⟨a, d, f⟩
    · have es : ∀ r, ff_sp g q (ff_len p) r = [] := by
        intro r
        unfold ff_sp
        rw [if_pos ⟨b2, b⟩]
      have ep := ff_lf_leaf (ff_len0.mp b)
      have hC : ff_C g (ff_f1 (.inner m e u p k)) = ff_N g m e k := by rw [ep]; rfl
      have h0 := hf1 b2 rfl
      rw [hC] at h0
      have hpc := (gt_pc4 H hq).1
      have et : cy_to g q j pos (ff_len p) = pos 0 := by
        unfold cy_to
        rw [a, if_pos (by omega)]
      rw [es, List.nil_append] at s3
      rw [es, d, et, List.length_nil]
      rw [f] at s1 s3 he
      obtain ⟨t1, t2, t3⟩ := cy_sl_split hj s1 s3
      rw [h0] at t2
      exact ⟨by omega, hK, t2⟩
    · rw [ff_sp_s a] at s3 ⊢
      have hget := cy_sl_get (L1 := []) hj s1 s3
      have hs := gt_s_le H hq hc
      have hp := hpos (gt_s g q (ff_len p) - 1) (by omega)
      rw [show gt_s g q (ff_len p) - 1 + 1 = gt_s g q (ff_len p) by omega, ← d] at hp
      have hr : ff_rl g q (ff_len p) (ff_N g m e k).length = (if gt_s g q (ff_len p) < gt_PC g q then pos (gt_s g q (ff_len p)) - cy_e g q i j pos (ff_len p) else 0) := by
        have h2 := hp.1
        rw [List.length_nil, Nat.add_zero] at hget
        rw [hget] at h2
        injection h2 with h2
        injection h2 with _ h2
        injection h2 with _ h2
      obtain ⟨t1, t2, t3⟩ := cy_sl_split (L1 := [_]) hj s1 s3
      rw [List.length_singleton] at t1 t2 t3 ⊢
      have ef : cy_fr g q i pos (ff_len p) = cy_e g q i j pos (ff_len p) + 1 := by rw [f, d]
      obtain ⟨w1, w2, w3⟩ := cy_sl_split hj t1 t3
      have et : cy_e g q i j pos (ff_len p) + 1 + (ff_N g m e k).length = cy_to g q j pos (ff_len p) := by
        unfold cy_to
        by_cases hlt : gt_s g q (ff_len p) < gt_PC g q
        · rw [if_pos hlt]
          have h2 := hp.2 hlt
          unfold ff_rl at hr
          rw [if_pos hlt, if_pos hlt] at hr
          omega
        · rw [if_neg hlt]
          have hre := hrest (ff_len p) rfl hlt
          rw [hre] at w3
          have := congrArg List.length w3
          rw [cy_sl_len hj, List.length_nil] at this
          omega
      refine ⟨by omega, hK, ?_⟩
      rw [ef, ← et]
      exact w2
end
section
theorem cy_pos_mono {g : gt_T} {A : List ff_A} {q s : Nat} {pos : Nat → Nat} (h : cy_pos g A q s pos) : ∀ d m, m + d < s → pos m + d ≤ pos (m + d) := by
  intro d
  induction d with
  | zero => intro m _; exact Nat.le_refl _
  | succ d ih =>
    intro m hm
    have h1 := ih m (by omega)
    have h2 := (h (m + d) (by omega)).2 (by omega)
    show pos m + (d + 1) ≤ pos (m + d + 1)
    omega
theorem cy_pos_lt {g : gt_T} {A : List ff_A} {q s : Nat} {pos : Nat → Nat} (h : cy_pos g A q s pos) {m : Nat} (hm : m < s) : pos m < A.length :=
  (List.getElem?_eq_some_iff.mp (h m hm).1).1
theorem cy_sl_ctx {A : List ff_A} {i j : Nat} (hij : i ≤ j) (hj : j ≤ A.length) : A = A.take i ++ (cy_sl A i j ++ A.drop j) ∧ (A.take i).length = i := by
  constructor
  · have h1 := cy_sl_app (A := A) (Nat.zero_le i) (Nat.le_trans hij hj)
    have h2 := cy_sl_app (A := A) hij hj
    rw [cy_sl_all] at h1
    have h3 : cy_sl A 0 i = A.take i := by unfold cy_sl; rw [List.drop_zero, Nat.sub_zero]
    have h4 : cy_sl A j A.length = A.drop j := by
      unfold cy_sl
      apply List.take_of_length_le
      rw [List.length_drop]
      omega
    rw [← h2, h3, h4] at h1
    exact h1.symm
  · rw [List.length_take]
    omega
theorem ff_f1_1 : ∀ {k : ff_F}, ff_lf k = false → ff_len (ff_f1 k) = 1 := by
  intro k
  induction k with
  | leaf => intro h; cases h
  | inner m e u p k ihp ihk =>
    intro _
    show ff_len (if ff_lf p = true then .inner m e u .leaf k else ff_f1 p) = 1
    cases h : ff_lf p with
    | true => rfl
    | false => exact ihp h
theorem ff_f1_wf {g : gt_T} : ∀ {k : ff_F}, ff_wf g k → ff_wf g (ff_f1 k) := by
  intro k
  induction k with
  | leaf => intro h; exact h
  | inner m e u p k ihp ihk =>
    intro hw
    show ff_wf g (if ff_lf p = true then .inner m e u .leaf k else ff_f1 p)
    cases h : ff_lf p with
    | true => exact ⟨trivial, hw.2.1, hw.2.2⟩
    | false => exact ihp hw.1
theorem ff_f1_ok {g : gt_T} : ∀ {k : ff_F}, ff_ok g k → ff_ok g (ff_f1 k) := by
  intro k
  induction k with
  | leaf => intro h; exact h
  | inner m e u p k ihp ihk =>
    intro hw
    show ff_ok g (if ff_lf p = true then .inner m e u .leaf k else ff_f1 p)
    cases h : ff_lf p with
    | true => exact ⟨trivial, hw.2.1, hw.2.2⟩
    | false => exact ihp hw.1
theorem ff_f1_ch {g : gt_T} : ∀ (k : ff_F), ff_lF g k = ff_lL g (ff_f1 k) ∧ ff_rF g k = ff_rL g (ff_f1 k) := by
  intro k
  induction k with
  | leaf => exact ⟨rfl, rfl⟩
  | inner m e u p k ihp ihk =>
    show (if ff_lf p = true then ff_lN g m e (ff_lF g k) else ff_lF g p) = ff_lL g (if ff_lf p = true then .inner m e u .leaf k else ff_f1 p) ∧ (if ff_lf p = true then ff_rN g m e (ff_rL g k) else ff_rF g p) = ff_rL g (if ff_lf p = true then .inner m e u .leaf k else ff_f1 p)
    cases h : ff_lf p with
    | true => exact ⟨rfl, rfl⟩
    | false => exact ihp
theorem ff_f1_K {g : gt_T} {A : List ff_A} {q i j : Nat} {pos : Nat → Nat} : ∀ {k : ff_F}, ff_lf k = false → cy_K g A q i j pos k → ff_C g (ff_f1 k) = cy_sl A (cy_fr g q i pos 0) (cy_to g q j pos 0) := by
  intro k
  induction k with
  | leaf => intro h; cases h
  | inner m e u p k ihp ihk =>
    intro _ hK
    show ff_C g (if ff_lf p = true then .inner m e u .leaf k else ff_f1 p) = _
    cases h : ff_lf p with
    | true =>
      have h2 := hK.2
      rw [ff_len0.mpr h] at h2
      exact h2
    | false => exact ihp h hK.1
theorem ff_sg_all {g : gt_T} {A : List ff_A} {q i j : Nat} {pos : Nat → Nat} {k : ff_F} (hl : ff_lf k = false) (hK : cy_K g A q i j pos k) (hw : ff_wf g k) : ff_len (ff_sg k) = 1 ∧ ff_wf g (ff_sg k) ∧ (ff_ok g k → ff_ok g (ff_sg k)) ∧ ff_C g (ff_sg k) = cy_sl A (cy_fr g q i pos (ff_len k - 1)) (cy_to g q j pos (ff_len k - 1)) ∧ ff_lL g (ff_sg k) = ff_lL g k ∧ ff_rL g (ff_sg k) = ff_rL g k := by
  cases k with
  | leaf => cases hl
  | inner m e u p k => exact ⟨rfl, ⟨trivial, hw.2.1, hw.2.2⟩, fun ho => ⟨trivial, ho.2.1, ho.2.2⟩, hK.2, rfl, rfl⟩
/-- a valid tree with a bare operator at its root: where its parts and operands stand -/
theorem cy_root {g : gt_T} (H : gt_ok g) {A : List ff_A} {q i j : Nat} {k : ff_F} {pos : Nat → Nat} (hj : j ≤ A.length) (hR : cy_R g A (ff_nd q k) i j) (hpos : cy_pos g A q (gt_PC g q) pos) (hp : i + ff_rp g (ff_nd q k) = pos 0) :
    q < gt_n g ∧ ff_len k = gt_ar g q ∧ cy_K g A q i j pos k ∧ i ≤ pos 0 ∧ pos (gt_PC g q - 1) < j ∧ (gt_LO g q = false → pos 0 = i) ∧ (gt_RO g q = false → pos (gt_PC g q - 1) + 1 = j) := by
  have hij := cy_R_lt H hj hR
  obtain ⟨_, ⟨_, hw, hq, hlen⟩, ho, hC⟩ := hR
  have hC' : ff_fl g k q ++ ff_tl g q (ff_len k) = cy_sl A i j := hC
  have hp' : i + (if gt_LO g q = true then (ff_C g (ff_f1 k)).length else 0) = pos 0 := hp
  have hnl : gt_LO g q = false → pos 0 = i := by
    intro h
    rw [h] at hp'
    exact hp'.symm
  have hpc := (gt_pc4 H hq).1
  obtain ⟨he, hK⟩ := cy_dis H hq hpos hnl hj (Nat.le_of_lt hij) k (ff_tl g q (ff_len k)) (Nat.le_of_eq hlen) hC' (by
    intro h _
    rw [if_pos h] at hp'
    exact hp') (by
    intro c hc hn
    have hc2 : c < gt_ar g q := by omega
    have h2 := gt_s_le H hq hc2
    have h3 := gt_wait2 H hq hc2 (by omega)
    unfold ff_tl
    rw [if_pos h3.1])
  have hl := congrArg List.length hC'
  rw [cy_sl_len hj, List.length_append] at hl
  refine ⟨hq, hlen, hK, by omega, ?_, hnl, ?_⟩
  · by_cases hr : gt_RO g q = true
    · -- the last operand follows the last part
      have har : 0 < gt_ar g q := by
        rcases gt_cs H hq with h | h | h | h
        · omega
        · omega
        · omega
        · rw [h.2.1] at hr; cases hr
      have hw2 := gt_wait H hq hr (i := gt_ar g q - 1) (by omega)
      have hlf : ff_lf k = false := ff_lf_len (by omega)
      obtain ⟨s1, s2, _, s4, _⟩ := ff_sg_all hlf hK hw
      have h5 := ff_C_sz H s2 s1
      have ef : cy_fr g q i pos (ff_len k - 1) = pos (gt_PC g q - 1) + 1 := by
        unfold cy_fr
        rw [hlen, hw2, if_neg (by omega)]
      have et : cy_to g q j pos (ff_len k - 1) = j := by
        unfold cy_to
        rw [hlen, hw2, if_neg (by omega)]
      rw [s4, ef, et, cy_sl_len hj] at h5
      omega
    · have hr' : gt_RO g q = false := by
        cases h : gt_RO g q with
        | false => rfl
        | true => exact absurd h hr
      have hs := gt_npush H hq hr' hlen
      have htl : (ff_tl g q (ff_len k)).length = 1 := by
        unfold ff_tl
        rw [if_neg hr, ff_sp_s (by omega)]
        rfl
      have he2 : cy_e g q i j pos (ff_len k) = pos (gt_PC g q - 1) := by
        cases hk : ff_len k with
        | zero =>
          rw [hk] at hs
          have hl0 : gt_LO g q = false := by
            cases h : gt_LO g q with
            | false => rfl
            | true => unfold gt_s at hs; rw [if_pos h] at hs; omega
          have h1 : gt_s g q 0 = 1 := by unfold gt_s; rw [hl0]; rfl
          rw [← hs, h1]
          exact (hnl hl0).symm
        | succ c =>
          rw [hk, gt_s_add] at hs
          show cy_to g q j pos c = _
          unfold cy_to
          rw [if_pos (by omega), show gt_PC g q - 1 = gt_s g q c by omega]
      omega
  · intro hr'
    have hr : ¬ gt_RO g q = true := by rw [hr']; decide
    have hs := gt_npush H hq hr' hlen
    have htl : (ff_tl g q (ff_len k)).length = 1 := by
      unfold ff_tl
      rw [if_neg hr, ff_sp_s (by omega)]
      rfl
    have he2 : cy_e g q i j pos (ff_len k) = pos (gt_PC g q - 1) := by
      cases hk : ff_len k with
      | zero =>
        rw [hk] at hs
        have hl0 : gt_LO g q = false := by
          cases h : gt_LO g q with
          | false => rfl
          | true => unfold gt_s at hs; rw [if_pos h] at hs; omega
        have h1 : gt_s g q 0 = 1 := by unfold gt_s; rw [hl0]; rfl
        rw [← hs, h1]
        exact (hnl hl0).symm
      | succ c =>
        rw [hk, gt_s_add] at hs
        show cy_to g q j pos c = _
        unfold cy_to
        rw [if_pos (by omega), show gt_PC g q - 1 = gt_s g q c by omega]
    omega
theorem cy_kidL {g : gt_T} (H : gt_ok g) {A : List ff_A} {q i j : Nat} {k : ff_F} {pos : Nat → Nat} (hj : j ≤ A.length) (hR : cy_R g A (ff_nd q k) i j) (hpos : cy_pos g A q (gt_PC g q) pos) (hp : i + ff_rp g (ff_nd q k) = pos 0) (hr : gt_RO g q = true) :
    cy_R g A (ff_sg k) (pos (gt_PC g q - 1) + 1) j ∧ ff_rL g (ff_nd q k) = q :: ff_rL g (ff_sg k) ∧ ff_lL g (ff_sg k) = ff_lL g k := by
  obtain ⟨hq, hlen, hK, _, _, _, _⟩ := cy_root H hj hR hpos hp
  obtain ⟨_, ⟨_, hw, _, _⟩, ⟨_, ho, _⟩, _⟩ := hR
  have hpc := (gt_pc4 H hq).1
  have har : 0 < gt_ar g q := by
    rcases gt_cs H hq with h | h | h | h
    · omega
    · omega
    · omega
    · rw [h.2.1] at hr; cases hr
  have hw2 := gt_wait H hq hr (i := gt_ar g q - 1) (by omega)
  have hlf : ff_lf k = false := ff_lf_len (by omega)
  obtain ⟨s1, s2, s3, s4, s5, s6⟩ := ff_sg_all hlf hK hw
  have ef : cy_fr g q i pos (ff_len k - 1) = pos (gt_PC g q - 1) + 1 := by
    unfold cy_fr
    rw [hlen, hw2, if_neg (by omega)]
  have et : cy_to g q j pos (ff_len k - 1) = j := by
    unfold cy_to
    rw [hlen, hw2, if_neg (by omega)]
  rw [ef, et] at s4
  refine ⟨⟨s1, s2, s3 ho, s4⟩, ?_, s5⟩
  rw [s6]
  show (if gt_RO g q = true then q :: ff_rL g k else []) = _
  rw [if_pos hr]
theorem cy_kidF {g : gt_T} (H : gt_ok g) {A : List ff_A} {q i j : Nat} {k : ff_F} {pos : Nat → Nat} (hj : j ≤ A.length) (hR : cy_R g A (ff_nd q k) i j) (hpos : cy_pos g A q (gt_PC g q) pos) (hp : i + ff_rp g (ff_nd q k) = pos 0) (hl : gt_LO g q = true) :
    cy_R g A (ff_f1 k) i (pos 0) ∧ ff_lL g (ff_nd q k) = q :: ff_lL g (ff_f1 k) := by
  obtain ⟨hq, hlen, hK, _, _, _, _⟩ := cy_root H hj hR hpos hp
  obtain ⟨_, ⟨_, hw, _, _⟩, ⟨_, ho, _⟩, _⟩ := hR
  have hpc := (gt_pc4 H hq).1
  have har : 0 < gt_ar g q := by
    rcases gt_cs H hq with h | h | h | h
    · rw [h.1] at hl; cases hl
    · omega
    · omega
    · rw [h.1] at hl; cases hl
  have hlf : ff_lf k = false := ff_lf_len (by omega)
  have h0 : gt_s g q 0 = 0 := by unfold gt_s; rw [if_pos hl]
  have ef : cy_fr g q i pos 0 = i := by
    unfold cy_fr
    rw [if_pos h0]
  have et : cy_to g q j pos 0 = pos 0 := by
    unfold cy_to
    rw [h0, if_pos (by omega)]
  have hC := ff_f1_K hlf hK
  rw [ef, et] at hC
  refine ⟨⟨ff_f1_1 hlf, ff_f1_wf hw, ff_f1_ok ho, hC⟩, ?_⟩
  show (if gt_LO g q = true then q :: ff_lF g k else []) = _
  rw [if_pos hl, (ff_f1_ch k).1]
/-- the chain of the parts of the root -/
theorem cy_rpos {g : gt_T} (H : gt_ok g) {A : List ff_A} {q i j : Nat} {k : ff_F} (hj : j ≤ A.length) (hR : cy_R g A (ff_nd q k) i j) :
    ∃ pos, pos 0 = i + ff_rp g (ff_nd q k) ∧ cy_pos g A q (gt_PC g q) pos := by
  have hij := cy_R_lt H hj hR
  obtain ⟨_, ⟨_, hw, hq, hlen⟩, ho, hC⟩ := hR
  obtain ⟨_, pos, h1, h2⟩ := cy_node H (cy_all H k hw) hq hlen
  have hC' : ff_N g 0 (.inr q) k = cy_sl A i j := hC
  obtain ⟨e1, e2⟩ := cy_sl_ctx (A := A) (Nat.le_of_lt hij) hj
  have h3 := cy_pos_mid (B := A.take i) (D := A.drop j) h2
  rw [hC', ← e1, e2] at h3
  exact ⟨fun m => i + pos m, by show i + pos 0 = _; rw [h1]; rfl, h3⟩
/-- the text at the root of a valid tree -/
theorem cy_rget {g : gt_T} (H : gt_ok g) {A : List ff_A} {T : ff_F} {i j : Nat} (hj : j ≤ A.length) (hR : cy_R g A T i j) :
    (∃ q k, T = ff_nd q k ∧ ∃ r, A[i + ff_rp g T]? = some (gt_PT g q 0, some q, r)) ∨ (ff_rp g T = 0 ∧ ff_lL g T = [] ∧ ff_rL g T = [] ∧ ∃ t r, A[i]? = some (t, none, r) ∧ ((∃ m e k, T = .inner (m + 1) e () .leaf k ∧ t = 0) ∨ (T = ff_tk t ∧ gt_at g t = true ∧ j = i + 1))) := by
  have hij := cy_R_lt H hj hR
  have hR' := hR
  obtain ⟨h1, hw, ho, hC⟩ := hR
  cases T with
  | leaf => simp [ff_len] at h1
  | inner m e u p k =>
    have ep := ff_lf_leaf (ff_len0.mp (Nat.succ.inj h1))
    subst ep
    match m, e, hw, hC, hR' with
    | 0, .inr q, hw, hC, hR' =>
      left
      refine ⟨q, k, rfl, ?_⟩
      obtain ⟨pos, p1, p2⟩ := cy_rpos H hj (q := q) (k := k) hR'
      have h2 := (p2 0 (gt_pc4 H hw.2.2.1).1).1
      rw [p1] at h2
      exact ⟨_, h2⟩
    | 0, .inl t, hw, hC, hR' =>
      right
      have ek := ff_lf_leaf hw.2.2.2
      subst ek
      have hC' : [(t, none, 0)] = cy_sl A i j := hC
      refine ⟨rfl, rfl, rfl, t, 0, cy_sl_get (L1 := []) hj (Nat.le_of_lt hij) hC', Or.inr ⟨rfl, hw.2.2.1, ?_⟩⟩
      have := congrArg List.length hC'
      rw [cy_sl_len hj] at this
      have h3 : 1 = j - i := this
      omega
    | m + 1, e, hw, hC, hR' =>
      right
      have hC' : (0, none, (ff_N g m e k).length + 1) :: (ff_N g m e k ++ [(1, none, 0)]) = cy_sl A i j := hC
      refine ⟨?_, ?_, ?_, 0, _, cy_sl_get (L1 := []) hj (Nat.le_of_lt hij) hC', Or.inl ⟨m, e, k, rfl, rfl⟩⟩
      · cases e <;> rfl
      · cases e <;> rfl
      · cases e <;> rfl
/-- the assembled tree stands on its range -/
theorem cy_fin {g : gt_T} (H : gt_ok g) {A : List ff_A} {q i j : Nat} {pos : Nat → Nat} {F : ff_F} (hq : q < gt_n g) (hpos : cy_pos g A q (gt_PC g q) pos) (hnl : gt_LO g q = false → pos 0 = i) (hrr : gt_RO g q = false → pos (gt_PC g q - 1) + 1 = j)
    (hF : ff_len F = gt_ar g q) (hfl : ff_fl g F q = cy_sl A i (cy_e g q i j pos (gt_ar g q))) (hie : i ≤ cy_e g q i j pos (gt_ar g q)) : ff_N g 0 (.inr q) F = cy_sl A i j := by
  have hpc := (gt_pc4 H hq).1
  rw [ff_N0o, hfl]
  by_cases hr : gt_RO g q = true
  · have har : 0 < gt_ar g q := by
      rcases gt_cs H hq with h | h | h | h
      · omega
      · omega
      · omega
      · rw [h.2.1] at hr; cases hr
    have hw2 := gt_wait H hq hr (i := gt_ar g q - 1) (by omega)
    have he : cy_e g q i j pos (gt_ar g q) = j := by
      rw [show gt_ar g q = (gt_ar g q - 1) + 1 by omega]
      show cy_to g q j pos (gt_ar g q - 1) = j
      unfold cy_to
      rw [hw2, if_neg (by omega)]
    unfold ff_tl
    rw [if_pos hr, he, List.append_nil]
  · have hr' : gt_RO g q = false := by
      cases h : gt_RO g q with
      | false => rfl
      | true => exact absurd h hr
    have hs := gt_npush H hq hr' (i := gt_ar g q) rfl
    have he2 : cy_e g q i j pos (gt_ar g q) = pos (gt_PC g q - 1) := by
      cases hk : gt_ar g q with
      | zero =>
        rw [hk] at hs
        have hl0 : gt_LO g q = false := by
          cases h : gt_LO g q with
          | false => rfl
          | true => unfold gt_s at hs; rw [if_pos h] at hs; omega
        have h1 : gt_s g q 0 = 1 := by unfold gt_s; rw [hl0]; rfl
        rw [← hs, h1]
        exact (hnl hl0).symm
      | succ c =>
        rw [hk, gt_s_add] at hs
        show cy_to g q j pos c = _
        unfold cy_to
        rw [if_pos (by omega), show gt_PC g q - 1 = gt_s g q c by omega]
    have h1 := (hpos (gt_PC g q - 1) (by omega)).1
    rw [if_neg (by omega)] at h1
    have hone := cy_sl_one h1
    unfold ff_tl
    rw [if_neg hr, hF, ff_sp_s (by omega), hs, ← hone, he2]
    rw [he2] at hie
    rw [cy_sl_app hie (Nat.le_add_right _ 1), hrr hr']
/-- reading a wrapped tree -/
theorem cy_wrap {g : gt_T} {A : List ff_A} {T : ff_F} {i j : Nat} (h1 : A[i]? = some (0, none, j - 1 - i)) (h2 : A[j - 1]? = some (1, none, 0)) (hij : i + 1 < j) (hj : j ≤ A.length) (hR : cy_R g A T (i + 1) (j - 1)) : cy_R g A (ff_wp T) i j ∧ ff_rp g (ff_wp T) = 0 := by
  obtain ⟨a, b, c, d⟩ := hR
  cases T with
  | leaf => simp [ff_len] at a
  | inner m e u p k =>
    refine ⟨⟨a, b, c, ?_⟩, by cases e <;> rfl⟩
    have d' : ff_N g m e k = cy_sl A (i + 1) (j - 1) := d
    show (0, none, (ff_N g m e k).length + 1) :: (ff_N g m e k ++ [(1, none, 0)]) = _
    have e1 := cy_sl_one h1
    have e2 := cy_sl_one h2
    rw [show j - 1 + 1 = j by omega] at e2
    rw [← cy_sl_app (A := A) (i := i) (k := i + 1) (j := j) (by omega) (by omega), ← cy_sl_app (A := A) (i := i + 1) (k := j - 1) (j := j) (by omega) (by omega), e1, e2, d', cy_sl_len (by omega), show j - 1 - (i + 1) + 1 = j - 1 - i by omega]
    rfl
theorem cy_unwrap {g : gt_T} (H : gt_ok g) {A : List ff_A} {m : Nat} {e : Int32 ⊕ Nat} {k : ff_F} {i j : Nat} (hj : j ≤ A.length) (hR : cy_R g A (.inner (m + 1) e () .leaf k) i j) : A[i]? = some (0, none, j - 1 - i) ∧ i + 1 < j ∧ cy_R g A (.inner m e () .leaf k) (i + 1) (j - 1) := by
  have hij := cy_R_lt H hj hR
  obtain ⟨a, b, c, d⟩ := hR
  have d' : [(0, none, (ff_N g m e k).length + 1)] ++ (ff_N g m e k ++ [(1, none, 0)]) = cy_sl A i j := d
  obtain ⟨s1, s2, s3⟩ := cy_sl_split hj (Nat.le_of_lt hij) d'
  have hN := ff_N_sz H (m := m) (u := ()) (p := .leaf) b
  have s3' : ff_N g m e k ++ [(1, none, 0)] = cy_sl A (i + 1) j := s3
  have s1' : i + 1 ≤ j := s1
  obtain ⟨t1, t2, t3⟩ := cy_sl_split hj s1' s3'
  have hl := congrArg List.length d'
  rw [cy_sl_len hj, List.length_append, List.length_append, List.length_singleton, List.length_singleton] at hl
  have hg := cy_sl_get (L1 := []) hj (Nat.le_of_lt hij) d'
  have e1 : (ff_N g m e k).length + 1 = j - 1 - i := by omega
  rw [e1] at hg
  refine ⟨hg, by omega, rfl, b, c, ?_⟩
  show ff_N g m e k = _
  rw [show j - 1 = i + 1 + (ff_N g m e k).length by omega]
  exact t2
end
section
/-! the reference's small methods -/
def gt_b (b : Bool) : Int32 := cond b 1 0
def gt_oc : Option Nat → Int32
  | none => -1
  | some q => nI q
theorem gt_b01 (b : Bool) : gt_b b = 0 ∨ gt_b b = 1 := by cases b <;> simp [gt_b]
theorem gt_b_0 {b : Bool} : gt_b b = 0 ↔ b = false := by cases b <;> decide
theorem gt_in12 {g : gt_T} (H : gt_ok g) {q : Nat} (hq : q < gt_n g) : vp_in (nI q) 12 ∧ (nI q).toNatClampNeg = q := by
  have := H.1
  exact ⟨vp_in_nI (by omega) (by decide), nI_clamp (by omega)⟩
section
variable {g : gt_T} {n : Nat} {post : Int32 → Prop}
variable {f_maxOps f_maxNodes f_maxLevels f_maxNames f_listLen : Int32} {a_text a_list a_leadOp a_follow a_groupAt a_groupOp a_groupNext a_rootOf a_found a_fromAt a_toAt a_work a_mark a_order : Nat → Int32}
theorem yw_lo (H : gt_ok g) {q : Nat} (hq : q < gt_n g) (hp : post (gt_b (gt_LO g q))) : wpY_leftOpen post (f_maxOps, f_maxNodes, f_maxLevels, f_maxNames, nI (gt_n g), nI n, f_listLen, gt_k g, gt_p g, gt_a g, gt_c g, gt_t g, a_text, a_list, a_leadOp, a_follow, a_groupAt, a_groupOp, a_groupNext, a_rootOf, a_found, a_fromAt, a_toAt, a_work, a_mark, a_order) (nI q) := by
  obtain ⟨vin, cl⟩ := gt_in12 H hq
  unfold wpY_leftOpen
  rw [cl]
  unfold gt_LO at hp
  refine ⟨vin, br_c (fun h => ?_) (fun h => ⟨vin, br_c (fun h2 => ?_) (fun h2 => ?_)⟩)⟩
  · simp only [h, decide_true, Bool.true_or] at hp; exact hp
  · simp only [h2, decide_true, Bool.or_true] at hp; exact hp
  · simp only [h, h2, decide_false, Bool.or_false] at hp; exact hp
theorem yw_ro (H : gt_ok g) {q : Nat} (hq : q < gt_n g) (hp : post (gt_b (gt_RO g q))) : wpY_rightOpen post (f_maxOps, f_maxNodes, f_maxLevels, f_maxNames, nI (gt_n g), nI n, f_listLen, gt_k g, gt_p g, gt_a g, gt_c g, gt_t g, a_text, a_list, a_leadOp, a_follow, a_groupAt, a_groupOp, a_groupNext, a_rootOf, a_found, a_fromAt, a_toAt, a_work, a_mark, a_order) (nI q) := by
  obtain ⟨vin, cl⟩ := gt_in12 H hq
  unfold wpY_rightOpen
  rw [cl]
  unfold gt_RO at hp
  refine ⟨vin, br_c (fun h => ?_) (fun h => ⟨vin, br_c (fun h2 => ?_) (fun h2 => ?_)⟩)⟩
  · simp only [h, decide_true, Bool.true_or] at hp; exact hp
  · simp only [h2, decide_true, Bool.or_true] at hp; exact hp
  · simp only [h, h2, decide_false, Bool.or_false] at hp; exact hp
theorem yw_ar (H : gt_ok g) {q : Nat} (hq : q < gt_n g) (hp : post (nI (gt_ar g q))) : wpY_arity post (f_maxOps, f_maxNodes, f_maxLevels, f_maxNames, nI (gt_n g), nI n, f_listLen, gt_k g, gt_p g, gt_a g, gt_c g, gt_t g, a_text, a_list, a_leadOp, a_follow, a_groupAt, a_groupOp, a_groupNext, a_rootOf, a_found, a_fromAt, a_toAt, a_work, a_mark, a_order) (nI q) := by
  obtain ⟨vin, cl⟩ := gt_in12 H hq
  obtain ⟨h1, h2, h3⟩ := H.2.2.2.2.1 q hq
  unfold wpY_arity
  rw [cl]
  unfold gt_ar at hp
  refine ⟨vin, br_c (fun h => ⟨vin, ?_⟩) (fun h => ⟨vin, br_c (fun h2 => ⟨vin, ?_⟩) (fun h2 => ⟨vin, ?_⟩)⟩)⟩
  · rw [if_pos h] at hp; rw [h3, nI_1]; exact hp
  · rw [if_neg h, if_pos h2] at hp
    rw [h3, show gt_PC g q = (gt_PC g q - 1) + 1 by omega, nI_pred]
    exact hp
  · rw [if_neg h, if_neg h2] at hp; rw [h3]; exact hp
theorem yw_win (H : gt_ok g) {l r : Nat} (hl : l < gt_n g) (hr : r < gt_n g) (hp : post (gt_CT g l r)) : wpY_winner post (f_maxOps, f_maxNodes, f_maxLevels, f_maxNames, nI (gt_n g), nI n, f_listLen, gt_k g, gt_p g, gt_a g, gt_c g, gt_t g, a_text, a_list, a_leadOp, a_follow, a_groupAt, a_groupOp, a_groupNext, a_rootOf, a_found, a_fromAt, a_toAt, a_work, a_mark, a_order) (nI l) (nI r) := by
  obtain ⟨vl, cl⟩ := gt_in12 H hl
  obtain ⟨vr, cr⟩ := gt_in12 H hr
  have al := H.2.2.2.1 l hl
  unfold wpY_winner
  rw [cl, cr]
  unfold gt_CT at hp
  refine ⟨vl, vr, br_c (fun h => ⟨vl, vr, br_c (fun h2 => ⟨vl, br_c (fun h3 => ?_) (fun h3 => ⟨vl, br_c (fun h4 => ?_) (fun h4 => ?_)⟩)⟩) (fun h2 => ?_)⟩) (fun h => ⟨vl, vr, br_c (fun h2 => ?_) (fun h2 => ?_)⟩)⟩
  · rw [if_pos h, ← h2, h3, if_neg (by decide), if_neg (by decide)] at hp; exact hp
  · rw [if_pos h, ← h2, h4, if_pos (by decide)] at hp; exact hp
  · have e : gt_a g l = 1 := by
      rcases al with h | h | h
      · exact absurd h h4
      · exact h
      · exact absurd h h3
    rw [if_pos h, ← h2, e, if_neg (by decide), if_pos (by decide)] at hp; exact hp
  · rw [if_pos h, if_neg (by rintro ⟨a, b⟩; exact h2 (a.trans b.symm)), if_neg (by rintro ⟨a, b⟩; exact h2 (a.trans b.symm))] at hp; exact hp
  · rw [if_neg h, if_pos h2] at hp; exact hp
  · rw [if_neg h, if_neg h2] at hp; exact hp
theorem yw_ops (H : gt_ok g) {e : Int32 ⊕ Nat} (he : match e with | .inl t => ∃ j, j < 100 ∧ t = nI j | .inr q => q < gt_n g) (hp : post (nI (match e with | .inl _ => 0 | .inr q => gt_ar g q))) : wpY_operandsOf post (f_maxOps, f_maxNodes, f_maxLevels, f_maxNames, nI (gt_n g), nI n, f_listLen, gt_k g, gt_p g, gt_a g, gt_c g, gt_t g, a_text, a_list, a_leadOp, a_follow, a_groupAt, a_groupOp, a_groupNext, a_rootOf, a_found, a_fromAt, a_toAt, a_work, a_mark, a_order) (ff_ent e) := by
  unfold wpY_operandsOf
  match e, he, hp with
  | .inl t, ⟨j, hj, ht⟩, hp =>
    refine br_f ?_ hp
    show ¬ (100 : Int32) ≤ t
    rw [ht]
    exact nI_ge (b := 100) hj (by decide)
  | .inr q, hq, hp =>
    have hn := H.1
    have hq' : q < gt_n g := hq
    have e1 : ff_ent (.inr q) = nI (100 + q) := (nI_add 100 q)
    have e2 : nI (100 + q) - 100 = nI q := by
      have := pk_sub (a := 100 + q) (b := 100) (by omega)
      rw [show 100 + q - 100 = q by omega] at this
      exact this
    rw [e1]
    refine br_t (nI_le (a := 100) (by omega) (by omega)) ?_
    rw [e2]
    exact yw_ar H hq' hp
def gt_nm (g : gt_T) (t : Int32) : Bool := decide (2 ≤ t) && decide (t ≤ nI (gt_l g))
theorem yw_name (hm : f_maxNames + 1 = nI (gt_l g)) {t : Int32} (hp : post (gt_b (gt_nm g t))) : wpY_isName post (f_maxOps, f_maxNodes, f_maxLevels, f_maxNames, nI (gt_n g), nI n, f_listLen, gt_k g, gt_p g, gt_a g, gt_c g, gt_t g, a_text, a_list, a_leadOp, a_follow, a_groupAt, a_groupOp, a_groupNext, a_rootOf, a_found, a_fromAt, a_toAt, a_work, a_mark, a_order) t := by
  unfold wpY_isName
  dsimp only
  rw [hm]
  unfold gt_nm at hp
  refine br_c (fun h => ?_) (fun h => br_c (fun h2 => ?_) (fun h2 => ?_))
  · rw [decide_eq_false (p := 2 ≤ t) (by rw [Int32.not_le]; exact h)] at hp; exact hp
  · rw [decide_eq_false (p := t ≤ nI (gt_l g)) (by rw [Int32.not_le]; exact h2), Bool.and_false] at hp; exact hp
  · rw [Int32.not_lt] at h h2
    rw [decide_eq_true h, decide_eq_true h2] at hp; exact hp
theorem yw_part_in (H : gt_ok g) {q b : Nat} (hq : q < gt_n g) (hb : b ≤ 3) {t x2 : Int32} {J : Int32 → Prop} : ∀ (d m : Nat), m + d = 5 → 0 < d →
    ((∃ m', m ≤ m' ∧ m' < gt_PC g q ∧ m' ≤ b ∧ gt_PT g q m' = t) → post 1) → ((¬ ∃ m', m ≤ m' ∧ m' < gt_PC g q ∧ m' ≤ b ∧ gt_PT g q m' = t) → J (nI (q + 1))) →
    ∀ N, d ≤ N → wY_isPart_15 post J t x2 (nI b) (nI q) f_maxOps f_maxNodes f_maxLevels f_maxNames (nI (gt_n g)) (nI n) f_listLen (gt_k g) (gt_p g) (gt_a g) (gt_c g) (gt_t g) a_text a_list a_leadOp a_follow a_groupAt a_groupOp a_groupNext a_rootOf a_found a_fromAt a_toAt a_work a_mark a_order N (nI m) := by
  intro d
  induction d with
  | zero => intro m _ h0; omega
  | succ d ih =>
    intro m hm _ hT hF N hN
    obtain ⟨N, rfl⟩ : ∃ N', N = N' + 1 := ⟨N - 1, by omega⟩
    obtain ⟨vin, cl⟩ := gt_in12 H hq
    obtain ⟨p1, p2, p3⟩ := H.2.2.2.2.1 q hq
    have hn := H.1
    have h4 := gt_pc4 H hq
    rw [wY_isPart_15]
    refine pk_lt b m (fun h => nm_r (nI_1 q) (hF ?_)) (fun h => ?_)
    · rintro ⟨m', a, b', c, _⟩; omega
    · refine ⟨vin, ?_⟩
      rw [cl, p3]
      refine pk_le (gt_PC g q) m (fun h2 => nm_r (nI_1 q) (hF ?_)) (fun h2 => ?_)
      · rintro ⟨m', a, b', c, _⟩; omega
      · have e1 : (4 : Int32) * nI q + nI m = nI (4 * q + m) := by
          rw [show (4 : Int32) = nI 4 from rfl, pk_mul, nI_add]
        rw [e1]
        refine ⟨vp_in_nI (by omega) (by decide), ?_⟩
        rw [nI_clamp (by omega)]
        refine br_c (fun h3 => hT ⟨m, Nat.le_refl _, h2, h, h3⟩) (fun h3 => nm_r (nI_1 m) ?_)
        refine ih (m + 1) (by omega) (by omega) ?_ ?_ N (by omega)
        · rintro ⟨m', a, b', c, e⟩; exact hT ⟨m', by omega, b', c, e⟩
        · intro hne
          apply hF
          rintro ⟨m', a, b', c, e⟩
          by_cases hmm : m' = m
          · subst hmm; exact h3 e
          · exact hne ⟨m', by omega, b', c, e⟩
theorem yw_part_out (H : gt_ok g) {a b : Nat} (ha : a ≤ 3) (hb : b ≤ 3) {t : Int32} : ∀ (d q : Nat), q + d = gt_n g →
    ((∃ q' m, q ≤ q' ∧ q' < gt_n g ∧ m < gt_PC g q' ∧ a ≤ m ∧ m ≤ b ∧ gt_PT g q' m = t) → post 1) → ((¬ ∃ q' m, q ≤ q' ∧ q' < gt_n g ∧ m < gt_PC g q' ∧ a ≤ m ∧ m ≤ b ∧ gt_PT g q' m = t) → post 0) →
    ∀ N, d < N → wY_isPart_3 post t (nI a) (nI b) f_maxOps f_maxNodes f_maxLevels f_maxNames (nI (gt_n g)) (nI n) f_listLen (gt_k g) (gt_p g) (gt_a g) (gt_c g) (gt_t g) a_text a_list a_leadOp a_follow a_groupAt a_groupOp a_groupNext a_rootOf a_found a_fromAt a_toAt a_work a_mark a_order N (nI q) := by
  have hn := H.1
  intro d
  induction d with
  | zero =>
    intro q hq hT hF N hN
    obtain ⟨N, rfl⟩ : ∃ N', N = N' + 1 := ⟨N - 1, by omega⟩
    rw [wY_isPart_3]
    refine br_t (nI_le (by omega) (by omega)) (hF ?_)
    rintro ⟨q', m, h1, h2, _⟩; omega
  | succ d ih =>
    intro q hq hT hF N hN
    obtain ⟨N, rfl⟩ : ∃ N', N = N' + 1 := ⟨N - 1, by omega⟩
    rw [wY_isPart_3]
    refine br_f (nI_ge (by omega) (by omega)) ⟨5, ?_⟩
    refine yw_part_in H (by omega) hb (5 - a) a (by omega) (by omega) ?_ ?_ 5 (by omega)
    · rintro ⟨m', h1, h2, h3, h4⟩
      exact hT ⟨q, m', Nat.le_refl _, by omega, h2, h1, h3, h4⟩
    · intro hne
      refine ih (q + 1) (by omega) ?_ ?_ N (by omega)
      · rintro ⟨q', m, h1, h2⟩; exact hT ⟨q', m, by omega, h2⟩
      · intro hne2
        apply hF
        rintro ⟨q', m, h1, h2, h3, h4, h5, h6⟩
        by_cases hqq : q' = q
        · subst hqq; exact hne ⟨m, h4, h3, h5, h6⟩
        · exact hne2 ⟨q', m, by omega, h2, h3, h4, h5, h6⟩
theorem yw_part (H : gt_ok g) {a b : Nat} (ha : a ≤ 3) (hb : b ≤ 3) {t : Int32} (hp : post (gt_b (gt_ip g a b t))) : wpY_isPart post (f_maxOps, f_maxNodes, f_maxLevels, f_maxNames, nI (gt_n g), nI n, f_listLen, gt_k g, gt_p g, gt_a g, gt_c g, gt_t g, a_text, a_list, a_leadOp, a_follow, a_groupAt, a_groupOp, a_groupNext, a_rootOf, a_found, a_fromAt, a_toAt, a_work, a_mark, a_order) t (nI a) (nI b) := by
  refine ⟨gt_n g + 1, ?_⟩
  refine yw_part_out H ha hb (gt_n g) 0 (by omega) ?_ ?_ _ (Nat.lt_succ_self _)
  · rintro ⟨q, m, _, h1, h2, h3, h4, h5⟩
    rw [gt_ip_iff.mpr ⟨q, m, h1, h2, h3, h4, h5⟩] at hp
    exact hp
  · intro hne
    cases h : gt_ip g a b t with
    | false => rw [h] at hp; exact hp
    | true =>
      obtain ⟨q, m, h1, h2, h3, h4, h5⟩ := gt_ip_iff.mp h
      exact absurd ⟨q, m, Nat.zero_le _, h1, h2, h3, h4, h5⟩ hne
theorem yw_atom (H : gt_ok g) (hm : f_maxNames + 1 = nI (gt_l g)) {t : Int32} (hp : post (gt_b (gt_at g t))) : wpY_isAtom post (f_maxOps, f_maxNodes, f_maxLevels, f_maxNames, nI (gt_n g), nI n, f_listLen, gt_k g, gt_p g, gt_a g, gt_c g, gt_t g, a_text, a_list, a_leadOp, a_follow, a_groupAt, a_groupOp, a_groupNext, a_rootOf, a_found, a_fromAt, a_toAt, a_work, a_mark, a_order) t := by
  unfold wpY_isAtom
  refine yw_name hm ?_
  have e : gt_at g t = (gt_nm g t && !gt_ip g 0 3 t) := rfl
  rw [e] at hp
  refine br_c (fun h => ?_) (fun h => ?_)
  · rw [gt_b_0] at h
    rw [h] at hp
    exact hp
  · have h' : gt_nm g t = true := by
      cases h2 : gt_nm g t with
      | true => rfl
      | false => exact absurd (gt_b_0.mpr h2) h
    rw [h'] at hp
    refine yw_part H (a := 0) (b := 3) (by omega) (by omega) (t := t) ?_
    refine br_c (fun h2 => ?_) (fun h2 => ?_)
    · rw [gt_b_0] at h2
      rw [h2] at hp
      exact hp
    · have h2' : gt_ip g 0 3 t = true := by
        cases h3 : gt_ip g 0 3 t with
        | true => rfl
        | false => exact absurd (gt_b_0.mpr h3) h2
      rw [h2'] at hp
      exact hp
theorem gt_ld_no2 {w : Bool} {t : Int32} (h : ∀ q, q < gt_n g → gt_PT g q 0 = t → gt_LO g q = w) : gt_ld g w t = none := by
  cases e : gt_ld g w t with
  | none => rfl
  | some q =>
    obtain ⟨h1, h2, h3⟩ := gt_ld_some e
    have := h q h1 h2
    rw [h3] at this
    cases w <;> cases this
theorem gt_b_inj {a b : Bool} : gt_b a = gt_b b ↔ a = b := by cases a <;> cases b <;> decide
theorem yw_lead_l (H : gt_ok g) {w : Bool} {t : Int32} (hp : post (gt_oc (gt_ld g w t))) : ∀ (d q : Nat), q + d = gt_n g → (∀ q', q' < q → gt_PT g q' 0 = t → gt_LO g q' = w) → ∀ N, d < N → wY_leadOf_2 post t (gt_b w) f_maxOps f_maxNodes f_maxLevels f_maxNames (nI (gt_n g)) (nI n) f_listLen (gt_k g) (gt_p g) (gt_a g) (gt_c g) (gt_t g) a_text a_list a_leadOp a_follow a_groupAt a_groupOp a_groupNext a_rootOf a_found a_fromAt a_toAt a_work a_mark a_order N (nI q) := by
  have hn := H.1
  intro d
  induction d with
  | zero =>
    intro q hq hno N hN
    obtain ⟨N, rfl⟩ : ∃ N', N = N' + 1 := ⟨N - 1, by omega⟩
    rw [wY_leadOf_2]
    refine br_t (nI_le (by omega) (by omega)) ?_
    rw [gt_ld_no2 (fun q' h => hno q' (by omega))] at hp
    exact hp
  | succ d ih =>
    intro q hq hno N hN
    obtain ⟨N, rfl⟩ : ∃ N', N = N' + 1 := ⟨N - 1, by omega⟩
    rw [wY_leadOf_2]
    refine br_f (nI_ge (by omega) (by omega)) ?_
    have e1 : (4 : Int32) * nI q = nI (4 * q) := by rw [show (4 : Int32) = nI 4 from rfl, pk_mul]
    rw [e1]
    refine ⟨vp_in_nI (by omega) (by decide), ?_⟩
    rw [nI_clamp (by omega)]
    refine br_c (fun h => ?_) (fun h => nm_r (nI_1 q) ?_)
    · refine yw_lo H (by omega) ?_
      rw [gt_b_inj]
      refine br_c (fun h2 => nm_r (nI_1 q) ?_) (fun h2 => ?_)
      · refine ih (q + 1) (by omega) ?_ N (by omega)
        intro q' h3 h4
        by_cases hqq : q' = q
        · subst hqq; exact h2
        · exact hno q' (by omega) h4
      · have hlo : gt_LO g q = !w := by cases h3 : gt_LO g q <;> cases w <;> simp_all
        have h5 := gt_ld_mk H (w := w) (by omega) hlo
        rw [show gt_PT g q 0 = t from h] at h5
        rw [h5] at hp
        exact hp
    · refine ih (q + 1) (by omega) ?_ N (by omega)
      intro q' h3 h4
      by_cases hqq : q' = q
      · subst hqq; exact absurd h4 h
      · exact hno q' (by omega) h4
theorem yw_lead (H : gt_ok g) {w : Bool} {t : Int32} (hp : post (gt_oc (gt_ld g w t))) : wpY_leadOf post (f_maxOps, f_maxNodes, f_maxLevels, f_maxNames, nI (gt_n g), nI n, f_listLen, gt_k g, gt_p g, gt_a g, gt_c g, gt_t g, a_text, a_list, a_leadOp, a_follow, a_groupAt, a_groupOp, a_groupNext, a_rootOf, a_found, a_fromAt, a_toAt, a_work, a_mark, a_order) t (gt_b w) :=
  ⟨gt_n g + 1, yw_lead_l H hp (gt_n g) 0 (by omega) (fun q h => absurd h (Nat.not_lt_zero _)) _ (Nat.lt_succ_self _)⟩
end
end
section
/-! the reference's pass over the text walks with the machine -/
def mt_fc (j r : Nat) : Int32 := if r = 0 then -1 else nI (j + r)
def mt_ma (A : List ff_A) (txt ld fo : Nat → Int32) : Prop := ∀ j x, A[j]? = some x → txt j = x.1 ∧ ld j = gt_oc x.2.1 ∧ fo j = mt_fc j x.2.2
def mt_ga (ga go gn : Nat → Int32) : List (Nat × Option Nat × Nat) → Prop
  | [] => True
  | (a, o, x) :: L => ga L.length = nI a ∧ go L.length = gt_oc o ∧ (o.isSome = true → gn L.length = nI x) ∧ mt_ga ga go gn L
theorem mt_ma_0 (txt ld fo : Nat → Int32) : mt_ma [] txt ld fo := by
  intro j x h
  simp at h
theorem mt_ma_snoc {A : List ff_A} {txt ld fo : Nat → Int32} {i : Nat} {t : Int32} {l : Option Nat} (h : mt_ma A txt ld fo) (hi : A.length = i) (ht : txt i = t) : mt_ma (A ++ [(t, l, 0)]) txt (upd ld i (gt_oc l)) (upd fo i (-1)) := by
  intro j x hx
  by_cases hj : j < A.length
  · rw [List.getElem?_append_left hj] at hx
    obtain ⟨a, b, c⟩ := h j x hx
    rw [pk_un (by omega), pk_un (by omega)]
    exact ⟨a, b, c⟩
  · rw [List.getElem?_append_right (by omega)] at hx
    have hk : j - A.length = 0 := by
      obtain ⟨h1, _⟩ := List.getElem?_eq_some_iff.mp hx
      rw [List.length_singleton] at h1
      omega
    rw [hk] at hx
    have ex : (t, l, 0) = x := Option.some.inj hx
    have ej : j = i := by omega
    subst ex ej
    rw [pk_us, pk_us]
    exact ⟨ht, rfl, rfl⟩
theorem mt_ma_link {B D : List ff_A} {t0 t : Int32} {l0 : Option Nat} {txt ld fo : Nat → Int32} {i : Nat} (h : mt_ma (B ++ (t0, l0, 0) :: D) txt ld fo) (hi : (B ++ (t0, l0, 0) :: D).length = i) (ht : txt i = t) :
    mt_ma (B ++ (t0, l0, D.length + 1) :: (D ++ [(t, none, 0)])) txt (upd ld i (-1)) (upd (upd fo i (-1)) B.length (nI i)) := by
  rw [List.length_append, List.length_cons] at hi
  intro j x hx
  by_cases hj : j < B.length
  · rw [List.getElem?_append_left hj] at hx
    obtain ⟨a, b, c⟩ := h j x (by rw [List.getElem?_append_left hj]; exact hx)
    rw [pk_un (by omega), pk_un (by omega), pk_un (by omega)]
    exact ⟨a, b, c⟩
  · by_cases hjB : j = B.length
    · subst hjB
      rw [List.getElem?_append_right (Nat.le_refl _), Nat.sub_self] at hx
      have ex : (t0, l0, D.length + 1) = x := Option.some.inj hx
      subst ex
      obtain ⟨a, b, c⟩ := h B.length (t0, l0, 0) (by rw [List.getElem?_append_right (Nat.le_refl _), Nat.sub_self]; rfl)
      rw [pk_us, pk_un (by omega)]
      refine ⟨a, b, ?_⟩
      show nI i = mt_fc B.length (D.length + 1)
      unfold mt_fc
      rw [if_neg (by omega), hi]
    · rw [List.getElem?_append_right (by omega), show j - B.length = (j - B.length - 1) + 1 by omega, List.getElem?_cons_succ] at hx
      by_cases hjD : j - B.length - 1 < D.length
      · rw [List.getElem?_append_left hjD] at hx
        obtain ⟨a, b, c⟩ := h j x (by rw [List.getElem?_append_right (by omega), show j - B.length = (j - B.length - 1) + 1 by omega, List.getElem?_cons_succ]; exact hx)
        rw [pk_un (by omega), pk_un hjB, pk_un (by omega)]
        exact ⟨a, b, c⟩
      · rw [List.getElem?_append_right (by omega)] at hx
        have hk : j - B.length - 1 - D.length = 0 := by
          obtain ⟨h1, _⟩ := List.getElem?_eq_some_iff.mp hx
          rw [List.length_singleton] at h1
          omega
        rw [hk] at hx
        have ex : (t, none, 0) = x := Option.some.inj hx
        have ej : j = i := by omega
        subst ex
        rw [ej, pk_us, pk_un (by omega), pk_us]
        exact ⟨ht, rfl, rfl⟩
theorem mt_ga_upd {ga go gn : Nat → Int32} {a b c : Int32} {d : Nat} : ∀ (L : List (Nat × Option Nat × Nat)), L.length ≤ d → mt_ga ga go gn L → mt_ga (upd ga d a) (upd go d b) (upd gn d c) L := by
  intro L
  induction L with
  | nil => intro _ _; trivial
  | cons x L ih =>
    intro hd h
    rw [List.length_cons] at hd
    obtain ⟨y, o, z⟩ := x
    obtain ⟨h1, h2, h3, h4⟩ := h
    refine ⟨?_, ?_, ?_, ih (by omega) h4⟩
    · rw [pk_un (by omega)]; exact h1
    · rw [pk_un (by omega)]; exact h2
    · rw [pk_un (by omega)]; exact h3
theorem mt_ga_self {ga go gn : Nat → Int32} {d : Nat} {L : List (Nat × Option Nat × Nat)} {a b : Int32} (hd : L.length ≤ d) (h : mt_ga ga go gn L) : mt_ga (upd ga d a) go (upd gn d b) L := by
  have := mt_ga_upd (a := a) (b := go d) (c := b) L hd h
  have e : upd go d (go d) = go := by
    funext j
    by_cases h : j = d
    · rw [h, pk_us]
    · rw [pk_un h]
  rw [e] at this
  exact this
theorem mt_gs_len {g : gt_T} : ∀ (S : List mt_Fr), mt_wS g S → (mt_gs g S).length ≤ (mt_fS g S).length := by
  intro S
  induction S with
  | nil => intro _; exact Nat.le_refl _
  | cons f S ih =>
    intro hw
    have h1 := ih hw.2
    match f, hw with
    | (none, k), hw =>
      show (mt_gs g S).length + 1 ≤ (mt_fS g S ++ [(0, none, 0)]).length
      rw [List.length_append, List.length_singleton]
      omega
    | (some q, k), hw =>
      show (if gt_s g q (ff_len k) = gt_PC g q then mt_gs g S else _ :: mt_gs g S).length ≤ (mt_fS g S ++ (ff_fl g k q ++ ff_sp g q (ff_len k) 0)).length
      rw [List.length_append, List.length_append]
      by_cases hs : gt_s g q (ff_len k) = gt_PC g q
      · rw [if_pos hs]; omega
      · rw [if_neg hs, List.length_cons, ff_sp_s, List.length_singleton]
        · omega
        · unfold gt_s
          split
          · rename_i h
            have := hw.1.2.2.2 h
            have h2 : ¬ ff_len k = 0 := fun z => by rw [ff_len0.mp z] at this; cases this
            omega
          · omega
section
variable {g : gt_T} {n : Nat} {post : Int32 → SY → Prop} {J : Int32 → Int32 → Int32 → (Nat → Int32) → (Nat → Int32) → (Nat → Int32) → (Nat → Int32) → (Nat → Int32) → (Nat → Int32) → (Nat → Int32) → (Nat → Int32) → (Nat → Int32) → (Nat → Int32) → (Nat → Int32) → (Nat → Int32) → (Nat → Int32) → (Nat → Int32) → (Nat → Int32) → (Nat → Int32) → (Nat → Int32) → (Nat → Int32) → (Nat → Int32) → Prop}
variable {f_maxOps f_maxNodes f_maxLevels f_maxNames f_listLen : Int32} {a_text a_list a_leadOp a_follow a_groupAt a_groupOp a_groupNext a_rootOf a_found a_fromAt a_toAt a_work a_mark a_order : Nat → Int32}
/-- a group is pushed -/
theorem yw_m86 {d i : Nat} {o : Option Nat} (hd : d < 128) (h : J 1 (nI (d + 1)) (nI (i + 1)) (gt_k g) (gt_p g) (gt_a g) (gt_c g) (gt_t g) a_text a_list a_leadOp a_follow (upd a_groupAt d (nI i)) (upd a_groupOp d (gt_oc o)) (upd a_groupNext d (nI 1)) a_rootOf a_found a_fromAt a_toAt a_work a_mark a_order) :
    wY_malformedAt_86 post J (nI d) (nI i) (gt_oc o) f_maxOps f_maxNodes f_maxLevels f_maxNames (nI (gt_n g)) (nI n) f_listLen (gt_k g) (gt_p g) (gt_a g) (gt_c g) (gt_t g) a_text a_list a_leadOp a_follow a_groupAt a_groupOp a_groupNext a_rootOf a_found a_fromAt a_toAt a_work a_mark a_order := by
  unfold wY_malformedAt_86
  have vin : vp_in (nI d) 128 := vp_in_nI hd (by decide)
  rw [nI_clamp (by omega)]
  exact ⟨vin, nm_e ⟨vin, nm_e ⟨vin, nm_e (nm_r (nI_1 d) (nm_r (nI_1 i) h))⟩⟩⟩
/-- the innermost group meets its next part -/
theorem yw_m184p {d i a : Nat} (hd : d < 128) (ha : a < 128) (hga : a_groupAt d = nI a) {t : Int32}
    (h : J 0 (nI d) (nI (i + 1)) (gt_k g) (gt_p g) (gt_a g) (gt_c g) (gt_t g) a_text a_list a_leadOp (upd a_follow a (nI i)) (upd a_groupAt d (nI i)) a_groupOp (upd a_groupNext d (a_groupNext d + 1)) a_rootOf a_found a_fromAt a_toAt a_work a_mark a_order) :
    wY_malformedAt_184 post J (nI (d + 1)) (nI i) (-1) (nI d) t t f_maxOps f_maxNodes f_maxLevels f_maxNames (nI (gt_n g)) (nI n) f_listLen (gt_k g) (gt_p g) (gt_a g) (gt_c g) (gt_t g) a_text a_list a_leadOp a_follow a_groupAt a_groupOp a_groupNext a_rootOf a_found a_fromAt a_toAt a_work a_mark a_order := by
  unfold wY_malformedAt_184
  have vin : vp_in (nI d) 128 := vp_in_nI hd (by decide)
  rw [nI_clamp (by omega), hga, nI_clamp (by omega)]
  refine br_t rfl ⟨vin, vp_in_nI ha (by decide), nm_e ⟨vin, nm_e ⟨vin, vin, nm_e (br_t (by decide) ?_)⟩⟩⟩
  unfold wY_malformedAt_243 wY_malformedAt_248
  refine br_f (by decide) (nm_r (pk_m1 d) ?_)
  unfold wY_malformedAt_258
  exact br_f (by decide) (br_t (by decide) (nm_r (nI_1 i) h))
theorem yw_m184o (H : gt_ok g) {d i a q x : Nat} (hq : q < gt_n g) (hd : d < 128) (ha : a < 128) (hga : a_groupAt d = nI a) (hgn : a_groupNext d = nI x) (hx : x + 1 ≤ gt_PC g q) {t : Int32}
    (h1 : x + 1 < gt_PC g q → J 1 (nI (d + 1)) (nI (i + 1)) (gt_k g) (gt_p g) (gt_a g) (gt_c g) (gt_t g) a_text a_list a_leadOp (upd a_follow a (nI i)) (upd a_groupAt d (nI i)) a_groupOp (upd a_groupNext d (nI (x + 1))) a_rootOf a_found a_fromAt a_toAt a_work a_mark a_order)
    (h2 : x + 1 = gt_PC g q → J (gt_b (gt_RO g q)) (nI d) (nI (i + 1)) (gt_k g) (gt_p g) (gt_a g) (gt_c g) (gt_t g) a_text a_list a_leadOp (upd a_follow a (nI i)) (upd a_groupAt d (nI i)) a_groupOp (upd a_groupNext d (nI (x + 1))) a_rootOf a_found a_fromAt a_toAt a_work a_mark a_order) :
    wY_malformedAt_184 post J (nI (d + 1)) (nI i) (nI q) (nI d) t t f_maxOps f_maxNodes f_maxLevels f_maxNames (nI (gt_n g)) (nI n) f_listLen (gt_k g) (gt_p g) (gt_a g) (gt_c g) (gt_t g) a_text a_list a_leadOp a_follow a_groupAt a_groupOp a_groupNext a_rootOf a_found a_fromAt a_toAt a_work a_mark a_order := by
  unfold wY_malformedAt_184
  obtain ⟨vq, cq⟩ := gt_in12 H hq
  obtain ⟨_, _, hc⟩ := H.2.2.2.2.1 q hq
  have h4 := gt_pc4 H hq
  have hn := H.1
  have vin : vp_in (nI d) 128 := vp_in_nI hd (by decide)
  have hq0 : ¬ nI q < 0 := nI_pos (by omega)
  rw [nI_clamp (by omega), hga, nI_clamp (by omega), cq, hgn, nI_1]
  refine br_t rfl ⟨vin, vp_in_nI ha (by decide), nm_e ⟨vin, nm_e ⟨vin, vin, nm_e (br_f hq0 ⟨vin, vq, ?_⟩)⟩⟩⟩
  rw [pk_us, hc]
  unfold wY_malformedAt_243 wY_malformedAt_248
  refine pk_eq (x + 1) (gt_PC g q) (fun e => ?_) (fun e => ?_)
  · refine br_f (by decide) (nm_r (pk_m1 d) ?_)
    unfold wY_malformedAt_258
    refine br_f (by decide) (br_f hq0 ?_)
    refine yw_ro H hq ?_
    have h2' := h2 e
    cases hr : gt_RO g q with
    | false => rw [hr] at h2'; exact br_t rfl (nm_r (nI_1 i) h2')
    | true => rw [hr] at h2'; exact br_f (by decide) (nm_r (nI_1 i) h2')
  · refine br_t rfl ?_
    unfold wY_malformedAt_258
    exact br_t rfl (nm_r (nI_1 i) (h1 (by omega)))
theorem yw_m184n {d i : Nat} {x5 x6 t t' : Int32} (h : ¬ t' = t) (hp : post (nI i) (f_maxOps, f_maxNodes, f_maxLevels, f_maxNames, nI (gt_n g), nI n, f_listLen, gt_k g, gt_p g, gt_a g, gt_c g, gt_t g, a_text, a_list, a_leadOp, a_follow, a_groupAt, a_groupOp, a_groupNext, a_rootOf, a_found, a_fromAt, a_toAt, a_work, a_mark, a_order)) : wY_malformedAt_184 post J (nI d) (nI i) x5 x6 t t' f_maxOps f_maxNodes f_maxLevels f_maxNames (nI (gt_n g)) (nI n) f_listLen (gt_k g) (gt_p g) (gt_a g) (gt_c g) (gt_t g) a_text a_list a_leadOp a_follow a_groupAt a_groupOp a_groupNext a_rootOf a_found a_fromAt a_toAt a_work a_mark a_order := by
  unfold wY_malformedAt_184
  exact br_f h hp
end
end
section
theorem mt_lead_step {g : gt_T} (H : gt_ok g) {s : mt_S} {t : Int32} {q : Nat} (hw : mt_w g s) (e : gt_ld g (ff_lf s.2.1) t = some q) :
    ∃ K S' cl', mt_sp g s t = some (mt_av g q K S' cl') ∧ mt_w g (mt_av g q K S' cl') ∧ mt_fl g (mt_av g q K S' cl') = mt_fl g s ++ [(t, some q, 0)] ∧ mt_gs g S' = mt_gs g s.1 ∧ gt_s g q (ff_len K) = 1 ∧ (mt_fS g S').length + (ff_fl g K q).length = (mt_fl g s).length := by
  obtain ⟨hq, ht, hl⟩ := gt_ld_some e
  obtain ⟨S, c, cl⟩ := s
  cases hc : ff_lf c with
  | true =>
    have ec := ff_lf_leaf hc
    subst ec
    have hl' : gt_LO g q = false := hl
    obtain ⟨a, b⟩ := mt_k_lw H cl hq hl' hw.1
    refine ⟨.leaf, S, cl, ?_, a, ?_, rfl, ?_, ?_⟩
    · rw [← ht]; exact mt_sp_lw H hq hl' S cl
    · rw [b]
      show _ = (mt_fS g S ++ []) ++ _
      rw [List.append_nil, ← ht]
      rfl
    · show gt_s g q 0 = 1
      unfold gt_s
      rw [hl']
      rfl
    · show _ = (mt_fS g S ++ []).length
      rw [List.append_nil]
      rfl
  | false =>
    have hl' : gt_LO g q = true := by
      have : gt_LO g q = !(ff_lf c) := hl
      rw [hc] at this
      exact this
    have h1 : ff_len c = 1 := mt_w1 hw hc
    obtain ⟨a, b⟩ := mt_k_lh H (cl || (mt_yd g q S c).2.2) hq hl' hw.1 hw.2.1 h1
    obtain ⟨r1, r2, r3, r4, r5⟩ := mt_yd_k H q S c hw.1 hw.2.1 h1
    refine ⟨(mt_yd g q S c).2.1, (mt_yd g q S c).1, _, ?_, a, ?_, r5, ?_, ?_⟩
    · rw [← ht]; exact mt_sp_lh H hq hl' S hc cl
    · rw [b, ← ht]
      rfl
    · rw [r4]
      unfold gt_s
      rw [if_pos hl']
    · rw [(ff_fl_1 r4 hl').1, ← List.length_append, r1]
      rfl
section
variable {g : gt_T} {n : Nat} {post : Int32 → SY → Prop}
variable {f_maxOps f_maxNodes f_maxLevels f_maxNames f_listLen : Int32} {a_text a_list a_leadOp a_follow a_groupAt a_groupOp a_groupNext a_rootOf a_found a_fromAt a_toAt a_work a_mark a_order : Nat → Int32}
set_option maxHeartbeats 4000000 in
theorem yw_mal_l (H : gt_ok g) (hm : f_maxNames + 1 = nI (gt_l g)) (hn : n ≤ 128) : ∀ (l : List Int32) (i : Nat) (s : mt_S) (N : Nat) (ld fo ga go gn : Nat → Int32), i + l.length = n → (∀ j t, l[j]? = some t → a_text (i + j) = t) → mt_w g s → (mt_fl g s).length = i → mt_ma (mt_fl g s) a_text ld fo → mt_ga ga go gn (mt_gs g s.1) → l.length < N →
    (∀ ld' fo' ga' go' gn' : Nat → Int32, ((mt_sc g l i s).1 = -1 → mt_ma (ff_C g (mt_sc g l i s).2.2.1) a_text ld' fo') → post (mt_sc g l i s).1 (f_maxOps, f_maxNodes, f_maxLevels, f_maxNames, nI (gt_n g), nI n, f_listLen, gt_k g, gt_p g, gt_a g, gt_c g, gt_t g, a_text, a_list, ld', fo', ga', go', gn', a_rootOf, a_found, a_fromAt, a_toAt, a_work, a_mark, a_order)) →
    wY_malformedAt_6 post f_maxOps f_maxNodes f_maxLevels f_maxNames (nI (gt_n g)) (nI n) f_listLen N (gt_b (ff_lf s.2.1)) (nI (mt_gs g s.1).length) (nI i) (gt_k g) (gt_p g) (gt_a g) (gt_c g) (gt_t g) a_text a_list ld fo ga go gn a_rootOf a_found a_fromAt a_toAt a_work a_mark a_order := by
  intro l
  induction l with
  | nil =>
    intro i s N ld fo ga go gn hi htx hw hfl hma hga hN hp
    obtain ⟨N, rfl⟩ : ∃ N', N = N' + 1 := ⟨N - 1, by omega⟩
    have hin : i = n := hi
    rw [wY_malformedAt_6]
    refine br_t (nI_le (by omega) (by omega)) ?_
    have e0 : mt_sc g [] i s = if ff_lf s.2.1 = true then (nI i, s) else mt_end g i s.2.2 (mt_st g s.1 s.2.1) := rfl
    rw [e0] at hp
    cases hl : ff_lf s.2.1 with
    | true =>
      rw [if_pos hl] at hp
      refine br_f (by decide) ?_
      have := hp ld fo ga go gn (fun h => absurd h (nI_nm1 (by omega)))
      rw [hin] at this
      exact this
    | false =>
      rw [if_neg (by rw [hl]; decide)] at hp
      refine br_t rfl ?_
      have h1 := mt_w1 hw hl
      obtain ⟨r1, r2, r3, r4, r5⟩ := mt_st_k H s.1 s.2.1 hw.1 hw.2.1 h1
      have htop := mt_st_top H s.1 s.2.1 hw.1
      match e : mt_st g s.1 s.2.1 with
      | ([], c) =>
        rw [e] at hp r1 r5
        rw [← r5]
        refine br_t (by show nI 0 ≤ 0; decide) (hp ld fo ga go gn (fun _ => ?_))
        have r1' : ff_C g c = mt_fl g s := r1
        show mt_ma (ff_C g c) _ _ _
        rw [r1']
        exact hma
      | (f :: S, c) =>
        rw [e] at hp r1 r5 htop
        have hpos : 0 < (mt_gs g s.1).length := by
          rw [← r5]
          match f, htop with
          | (none, k), _ => exact Nat.succ_pos _
          | (some q, k), htop =>
            have := htop q k S rfl
            show 0 < (if gt_s g q (ff_len k) = gt_PC g q then mt_gs g S else _ :: mt_gs g S).length
            rw [if_neg (by omega)]
            exact Nat.succ_pos _
        have hle := mt_gs_len s.1 hw.1
        have hle2 : (mt_fS g s.1).length ≤ i := by
          rw [← hfl]
          show _ ≤ (mt_fS g s.1 ++ _).length
          rw [List.length_append]
          omega
        refine br_f (nI_nle hpos (by omega)) ?_
        have h9 : post (nI i) _ := hp ld fo ga go gn (fun h => absurd h (nI_nm1 (by omega)))
        rw [hin] at h9
        exact h9
  | cons t l ih =>
    intro i s N ld fo ga go gn hi htx hw hfl hma hga hN hp
    obtain ⟨N, rfl⟩ : ∃ N', N = N' + 1 := ⟨N - 1, by omega⟩
    rw [List.length_cons] at hi hN
    have hin : i < n := by omega
    have ht : a_text i = t := htx 0 t rfl
    have hscn : mt_sc g (t :: l) i s = match mt_sp g s t with | none => (nI i, s) | some s' => mt_sc g l (i + 1) s' := rfl
    have flt : ∀ ld' fo' ga' go' gn' : Nat → Int32, mt_sp g s t = none → post (nI i) (f_maxOps, f_maxNodes, f_maxLevels, f_maxNames, nI (gt_n g), nI n, f_listLen, gt_k g, gt_p g, gt_a g, gt_c g, gt_t g, a_text, a_list, ld', fo', ga', go', gn', a_rootOf, a_found, a_fromAt, a_toAt, a_work, a_mark, a_order) := by
      intro ld' fo' ga' go' gn' h
      rw [h] at hscn
      rw [hscn] at hp
      exact hp ld' fo' ga' go' gn' (fun h => absurd h (nI_nm1 (by omega)))
    have cont : ∀ (s' : mt_S) (ld' fo' ga' go' gn' : Nat → Int32), mt_sp g s t = some s' → mt_w g s' → (mt_fl g s').length = i + 1 → mt_ma (mt_fl g s') a_text ld' fo' → mt_ga ga' go' gn' (mt_gs g s'.1) → wY_malformedAt_6 post f_maxOps f_maxNodes f_maxLevels f_maxNames (nI (gt_n g)) (nI n) f_listLen N (gt_b (ff_lf s'.2.1)) (nI (mt_gs g s'.1).length) (nI (i + 1)) (gt_k g) (gt_p g) (gt_a g) (gt_c g) (gt_t g) a_text a_list ld' fo' ga' go' gn' a_rootOf a_found a_fromAt a_toAt a_work a_mark a_order := by
      intro s' ld' fo' ga' go' gn' h hw' hf' hma' hga'
      rw [h] at hscn
      rw [hscn] at hp
      refine ih (i + 1) s' N ld' fo' ga' go' gn' (by omega) ?_ hw' hf' hma' hga' (by omega) hp
      intro j t' hj
      have := htx (j + 1) t' hj
      rw [show i + 1 + j = i + (j + 1) by omega]
      exact this
    have hgl : (mt_gs g s.1).length ≤ i := by
      have hle := mt_gs_len s.1 hw.1
      have hle2 : (mt_fS g s.1).length ≤ i := by
        rw [← hfl]
        show _ ≤ (mt_fS g s.1 ++ _).length
        rw [List.length_append]
        omega
      omega
    have vin : vp_in (nI i) 128 := vp_in_nI (by omega) (by decide)
    have ci : (nI i).toNatClampNeg = i := nI_clamp (by omega)
    rw [wY_malformedAt_6]
    refine br_f (nI_ge hin (by omega)) ⟨vin, nm_r (e' := t) (by rw [ci]; exact ht) ?_⟩
    refine yw_lead H ?_
    rw [ci]
    refine ⟨vin, nm_e ⟨vin, nm_e ?_⟩⟩
    cases e : gt_ld g (ff_lf s.2.1) t with
    | some q =>
      obtain ⟨K, S', cl', k1, k2, k3, k4, k5, k6⟩ := mt_lead_step H hw e
      obtain ⟨hq, _, _⟩ := gt_ld_some e
      obtain ⟨vq, cq⟩ := gt_in12 H hq
      obtain ⟨p1, p2, p3⟩ := H.2.2.2.2.1 q hq
      have hn12 := H.1
      have h4 := gt_pc4 H hq
      have hma' := mt_ma_snoc (l := some q) hma hfl ht
      rw [← k3] at hma'
      have hlen' : (mt_fl g (mt_av g q K S' cl')).length = i + 1 := by rw [k3, List.length_append, hfl]; rfl
      rw [show gt_oc (some q) = nI q from rfl]
      refine br_f (nI_pos (by omega)) ⟨vq, ?_⟩
      show ((gt_c g (nI q).toNatClampNeg) = 1 → _) ∧ (¬ (gt_c g (nI q).toNatClampNeg) = 1 → _)
      rw [cq, p3]
      refine pk_eq (gt_PC g q) 1 (fun h1 => ?_) (fun h1 => ?_)
      · refine yw_ro H hq (nm_r (nI_1 i) ?_)
        have hs : gt_s g q (ff_len K) = gt_PC g q := by omega
        by_cases hr : gt_RO g q = true
        · have eav : mt_av g q K S' cl' = ((some q, K) :: S', .leaf, cl') := by
            unfold mt_av
            rw [if_pos (Or.inr hr)]
          have eg : mt_gs g ((some q, K) :: S') = mt_gs g s.1 := by
            rw [← k4]
            show (if gt_s g q (ff_len K) = gt_PC g q then _ else _) = _
            rw [if_pos hs]
          rw [eav] at k1 k2 hma' hlen'
          have := cont _ _ _ ga go gn k1 k2 hlen' hma' (by rw [eg]; exact hga)
          rw [eg] at this
          rw [hr]
          exact this
        · have hr' : gt_RO g q = false := by
            cases h : gt_RO g q with
            | false => rfl
            | true => exact absurd h hr
          have eav : mt_av g q K S' cl' = (S', ff_nd q K, cl') := by
            unfold mt_av
            rw [if_neg (by rw [hr', hs]; simp)]
          rw [eav] at k1 k2 hma' hlen'
          have := cont _ _ _ ga go gn k1 k2 hlen' hma' (by show mt_ga _ _ _ (mt_gs g S'); rw [k4]; exact hga)
          rw [hr']
          rw [show mt_gs g (S', ff_nd q K, cl').1 = mt_gs g s.1 from k4] at this
          exact this
      · have hs : gt_s g q (ff_len K) < gt_PC g q := by omega
        have eav : mt_av g q K S' cl' = ((some q, K) :: S', .leaf, cl') := by
          unfold mt_av
          rw [if_pos (Or.inl hs)]
        have eg : mt_gs g ((some q, K) :: S') = (i, some q, 1) :: mt_gs g s.1 := by
          rw [← k4]
          show (if gt_s g q (ff_len K) = gt_PC g q then _ else ((mt_fS g S').length + (ff_fl g K q).length, some q, gt_s g q (ff_len K)) :: mt_gs g S') = _
          rw [if_neg (by omega), k6, hfl, k5]
        rw [eav] at k1 k2 hma' hlen'
        unfold wY_malformedAt_72
        refine br_t (nI_pos' (by omega)) (yw_m86 (o := some q) (by omega) ?_)
        have := cont _ _ _ (upd ga (mt_gs g s.1).length (nI i)) (upd go (mt_gs g s.1).length (gt_oc (some q))) (upd gn (mt_gs g s.1).length (nI 1)) k1 k2 hlen' hma' (by
          show mt_ga _ _ _ (mt_gs g ((some q, K) :: S'))
          rw [eg]
          exact ⟨pk_us, pk_us, fun _ => pk_us, mt_ga_upd _ (Nat.le_refl _) hga⟩)
        rw [show mt_gs g ((some q, K) :: S', (.leaf : ff_F), cl').1 = (i, some q, 1) :: mt_gs g s.1 from eg] at this
        exact this
    | none =>
      rw [show gt_oc none = -1 from rfl]
      refine br_t (by decide) ?_
      unfold wY_malformedAt_72
      refine br_f (by decide) ?_
      cases hl : ff_lf s.2.1 with
      | true =>
        obtain ⟨S, c, cl⟩ := s
        have ec := ff_lf_leaf hl
        have ec' : c = .leaf := ec
        subst ec'
        have hfl' : (mt_fS g S).length = i := by
          rw [← hfl]
          show _ = (mt_fS g S ++ []).length
          rw [List.append_nil]
        have hma0 : mt_ma (mt_fS g S) a_text ld fo := by
          have h0 : mt_fl g (S, (.leaf : ff_F), cl) = mt_fS g S := List.append_nil _
          rw [h0] at hma
          exact hma
        refine br_f (by decide) (br_c (fun h0 => ?_) (fun h0 => ?_))
        · -- a parenthesis
          refine yw_m86 (o := none) (by omega) ?_
          have hsp : mt_sp g (S, (.leaf : ff_F), cl) t = some ((none, .leaf) :: S, .leaf, cl) := by
            unfold mt_sp
            dsimp only
            rw [if_pos ff_lf_l, if_pos h0]
          have hma' := mt_ma_snoc (l := none) hma0 hfl' ht
          have hf2 : mt_fl g ((none, (.leaf : ff_F)) :: S, (.leaf : ff_F), cl) = mt_fS g S ++ [(t, none, 0)] := by
            rw [h0]
            exact List.append_nil _
          rw [← hf2] at hma'
          have := cont _ _ _ (upd ga (mt_gs g S).length (nI i)) (upd go (mt_gs g S).length (gt_oc none)) (upd gn (mt_gs g S).length (nI 1)) hsp ⟨⟨rfl, hw.1⟩, trivial, Nat.zero_le _⟩ (by rw [hf2, List.length_append, hfl']; rfl) hma' (by
            show mt_ga _ _ _ (((mt_fS g S).length, none, 1) :: mt_gs g S)
            rw [hfl']
            exact ⟨pk_us, pk_us, fun _ => pk_us, mt_ga_upd _ (Nat.le_refl _) hga⟩)
          exact this
        · unfold wY_malformedAt_116
          refine br_f (by decide) (yw_atom H hm ?_)
          have h1t : t = 1 → gt_at g t = false := by
            intro h
            cases ha : gt_at g t with
            | false => rfl
            | true => exact absurd h (gt_at_ne ha).2
          cases ha : gt_at g t with
          | false =>
            refine br_t rfl (flt _ _ _ _ _ ?_)
            unfold mt_sp
            dsimp only
            rw [if_pos ff_lf_l, if_neg h0]
            by_cases h1 : t = 1
            · rw [if_pos h1]
            · rw [if_neg h1, if_neg (by rw [ha]; decide)]
              have e' : gt_ld g true t = none := e
              rw [e']
          | true =>
            refine br_f (by decide) (nm_r (nI_1 i) ?_)
            have h1 : ¬ t = 1 := (gt_at_ne ha).2
            have hsp : mt_sp g (S, (.leaf : ff_F), cl) t = some (S, ff_tk t, cl) := by
              unfold mt_sp
              dsimp only
              rw [if_pos ff_lf_l, if_neg h0, if_neg h1, if_pos ha]
            have hma' := mt_ma_snoc (l := none) hma0 hfl' ht
            exact cont _ _ _ ga go gn hsp ⟨hw.1, ⟨trivial, trivial, ha, rfl⟩, Nat.le_refl _⟩ (by show (mt_fS g S ++ [(t, none, 0)]).length = _; rw [List.length_append, hfl']; rfl) hma' hga
      | false =>
        refine br_t rfl ?_
        unfold wY_malformedAt_116
        refine br_t rfl ?_
        have h1 := mt_w1 hw hl
        have e' : gt_ld g false t = none := by rw [← hl]; exact e
        obtain ⟨r1, r2, r3, r4, r5⟩ := mt_st_k H s.1 s.2.1 hw.1 hw.2.1 h1
        have htop := mt_st_top H s.1 s.2.1 hw.1
        have hspe : mt_sp g s t = if t = 0 then none else if t = 1 then mt_cl s.2.2 (mt_st g s.1 s.2.1) else mt_in g t s.2.2 (mt_st g s.1 s.2.1) := by
          unfold mt_sp
          rw [if_neg (by rw [hl]; decide), e']
        match e2 : mt_st g s.1 s.2.1 with
        | ([], c) =>
          rw [e2] at r5 hspe
          have hg0 : (mt_gs g s.1).length = 0 := by rw [← r5]; rfl
          rw [hg0]
          refine br_t rfl (flt _ _ _ _ _ ?_)
          rw [hspe]
          split
          · rfl
          · split <;> rfl
        | ((none, k) :: S, c) =>
          rw [e2] at r1 r2 r3 r4 r5 hspe
          have hgs : mt_gs g s.1 = ((mt_fS g S).length, none, 1) :: mt_gs g S := r5.symm
          rw [hgs] at hga hgl
          rw [List.length_cons] at hgl
          rw [hgs, List.length_cons]
          obtain ⟨g1, g2, g3, g4⟩ := hga
          obtain ⟨w1, w2, w3⟩ := mt_k_cl (k := k) (c := c) (S := S) s.2.2 r2.2 r3 r4
          have hA : mt_fl g s = mt_fS g S ++ ((0, none, 0) :: ff_C g c) := r1.symm.trans w2
          rw [hA] at hma hfl
          have hal : (mt_fS g S).length < i := by
            rw [List.length_append, List.length_cons] at hfl
            omega
          refine br_f (nI_ne0 (Nat.succ_pos _) (by omega)) (nm_r (nI_pred _) ⟨vp_in_nI (by omega) (by decide), nm_r (e' := -1) (by rw [nI_clamp (by omega)]; exact g2) (br_f (by decide) ?_)⟩)
          by_cases ht1 : t = 1
          · rw [ht1]
            refine yw_m184p (by omega) (by omega) g1 ?_
            have hsp : mt_sp g s t = some (S, ff_wp c, s.2.2) := by
              rw [hspe, if_neg (by rw [ht1]; decide), if_pos ht1]
              rfl
            have hma' := mt_ma_link hma hfl ht
            rw [ht1, ← w3] at hma'
            have hlen' : (mt_fl g (S, ff_wp c, s.2.2)).length = i + 1 := by
              rw [w3, List.length_append, List.length_cons, List.length_append, List.length_singleton]
              rw [List.length_append, List.length_cons] at hfl
              omega
            have := cont _ _ _ (upd ga (mt_gs g S).length (nI i)) go (upd gn (mt_gs g S).length (gn (mt_gs g S).length + 1)) hsp w1 hlen' hma' (mt_ga_self (Nat.le_refl _) g4)
            have elf : ff_lf (ff_wp c) = false := by
              cases c with
              | leaf => simp [ff_len] at r4
              | inner m e u p kk => rfl
            rw [show ff_lf (S, ff_wp c, s.2.2).2.1 = false from elf] at this
            exact this
          · refine yw_m184n ht1 (flt _ _ _ _ _ ?_)
            rw [hspe]
            split
            · rfl
            · rfl
        | ((some q, k) :: S, c) =>
          have hsl := htop q k S (by rw [e2])
          rw [e2] at r1 r2 r3 r4 r5 hspe
          have hgs : mt_gs g s.1 = ((mt_fS g S).length + (ff_fl g k q).length, some q, gt_s g q (ff_len k)) :: mt_gs g S := by
            rw [← r5]
            show (if gt_s g q (ff_len k) = gt_PC g q then _ else _) = _
            rw [if_neg (by omega)]
          rw [hgs] at hga hgl
          rw [List.length_cons] at hgl
          rw [hgs, List.length_cons]
          obtain ⟨g1, g2, g3, g4⟩ := hga
          have g3' := g3 rfl
          obtain ⟨w1, w2, w3, w4⟩ := mt_k_in (q := q) (k := k) (c := c) (S := S) H s.2.2 r2.1 r2.2 hsl r3 r4
          have hq := r2.1.1
          have hn12 := H.1
          have h4 := gt_pc4 H hq
          have hA : mt_fl g s = (mt_fS g S ++ ff_fl g k q) ++ (ff_pt g q (gt_s g q (ff_len k) - 1) 0 :: ff_C g c) := r1.symm.trans w3
          rw [hA] at hma hfl
          have hfl2 := hfl
          rw [List.length_append, List.length_append, List.length_cons] at hfl2
          have e1 : (4 : Int32) * nI q + nI (gt_s g q (ff_len k)) = nI (4 * q + gt_s g q (ff_len k)) := by
            rw [show (4 : Int32) = nI 4 from rfl, pk_mul, nI_add]
          refine br_f (nI_ne0 (Nat.succ_pos _) (by omega)) (nm_r (nI_pred _) ⟨vp_in_nI (by omega) (by decide), nm_r (e' := nI q) (by rw [nI_clamp (by omega)]; exact g2) (br_t (nI_pos' (by omega)) ⟨vp_in_nI (by omega) (by decide), ?_⟩)⟩)
          rw [nI_clamp (by omega), g3', e1, nI_clamp (by omega)]
          refine ⟨vp_in_nI (by omega) (by decide), ?_⟩
          show wY_malformedAt_184 _ _ _ _ _ _ (gt_PT g q (gt_s g q (ff_len k))) t _ _ _ _ _ _ _ _ _ _ _ _ _ _ _ _ _ _ _ _ _ _ _ _ _ _
          by_cases htq : gt_PT g q (gt_s g q (ff_len k)) = t
          · rw [htq]
            have htne := gt_pt H hq hsl
            rw [htq] at htne
            have hsp : mt_sp g s t = some (mt_av g q (ff_sn k c) S s.2.2) := by
              rw [hspe, if_neg htne.1, if_neg htne.2]
              show (if gt_PT g q (gt_s g q (ff_len k)) = t then _ else _) = _
              rw [if_pos htq]
            have hma' := mt_ma_link hma hfl ht
            have hpt : ff_pt g q (gt_s g q (ff_len k)) 0 = (t, none, 0) := by
              unfold ff_pt
              rw [htq, if_neg (by omega)]
            rw [hpt] at w4
            have hB : (mt_fS g S ++ ff_fl g k q).length = (mt_fS g S).length + (ff_fl g k q).length := List.length_append
            have hma2 : mt_ma (mt_fl g (mt_av g q (ff_sn k c) S s.2.2)) a_text (upd ld i (-1)) (upd (upd fo i (-1)) ((mt_fS g S).length + (ff_fl g k q).length) (nI i)) := by
              rw [w4, ← hB]
              exact hma'
            have hlen' : (mt_fl g (mt_av g q (ff_sn k c) S s.2.2)).length = i + 1 := by
              rw [w4, List.length_append, List.length_append, List.length_cons, List.length_append, List.length_singleton]
              omega
            have hadd := gt_s_add g q (ff_len k)
            have hcl := ff_1nlf r4
            have hsn := ff_sn_len (k := k) hcl
            refine yw_m184o H hq (by omega) (by omega) g1 g3' (by omega) ?_ ?_
            · intro hlt
              have eav : mt_av g q (ff_sn k c) S s.2.2 = ((some q, ff_sn k c) :: S, .leaf, s.2.2) := by
                unfold mt_av
                rw [if_pos (Or.inl (by rw [hsn, hadd]; exact hlt))]
              have hpos2 : (mt_fS g S).length + (ff_fl g (ff_sn k c) q).length = i := by
                have h5 := hlen'
                rw [eav] at h5
                have h6 : ((mt_fS g S ++ (ff_fl g (ff_sn k c) q ++ ff_sp g q (ff_len (ff_sn k c)) 0)) ++ []).length = i + 1 := h5
                rw [List.append_nil, List.length_append, List.length_append, ff_sp_s (by rw [hsn]; omega), List.length_singleton] at h6
                omega
              have eg : mt_gs g ((some q, ff_sn k c) :: S) = (i, some q, gt_s g q (ff_len k) + 1) :: mt_gs g S := by
                show (if gt_s g q (ff_len (ff_sn k c)) = gt_PC g q then _ else ((mt_fS g S).length + (ff_fl g (ff_sn k c) q).length, some q, gt_s g q (ff_len (ff_sn k c))) :: mt_gs g S) = _
                rw [hsn, hadd, if_neg (by omega), hpos2]
              rw [eav] at hsp w1 hma2 hlen'
              have := cont _ _ _ (upd ga (mt_gs g S).length (nI i)) go (upd gn (mt_gs g S).length (nI (gt_s g q (ff_len k) + 1))) hsp w1 hlen' hma2 (by
                show mt_ga _ _ _ (mt_gs g ((some q, ff_sn k c) :: S))
                rw [eg]
                exact ⟨pk_us, g2, fun _ => pk_us, mt_ga_self (Nat.le_refl _) g4⟩)
              rw [show mt_gs g ((some q, ff_sn k c) :: S, (.leaf : ff_F), s.2.2).1 = (i, some q, gt_s g q (ff_len k) + 1) :: mt_gs g S from eg] at this
              exact this
            · intro heq
              have hs : gt_s g q (ff_len (ff_sn k c)) = gt_PC g q := by rw [hsn, hadd]; exact heq
              by_cases hr : gt_RO g q = true
              · have eav : mt_av g q (ff_sn k c) S s.2.2 = ((some q, ff_sn k c) :: S, .leaf, s.2.2) := by
                  unfold mt_av
                  rw [if_pos (Or.inr hr)]
                have eg : mt_gs g ((some q, ff_sn k c) :: S) = mt_gs g S := by
                  show (if gt_s g q (ff_len (ff_sn k c)) = gt_PC g q then _ else _) = _
                  rw [if_pos hs]
                rw [eav] at hsp w1 hma2 hlen'
                have := cont _ _ _ (upd ga (mt_gs g S).length (nI i)) go (upd gn (mt_gs g S).length (nI (gt_s g q (ff_len k) + 1))) hsp w1 hlen' hma2 (by
                  show mt_ga _ _ _ (mt_gs g ((some q, ff_sn k c) :: S))
                  rw [eg]
                  exact mt_ga_self (Nat.le_refl _) g4)
                rw [show mt_gs g ((some q, ff_sn k c) :: S, (.leaf : ff_F), s.2.2).1 = mt_gs g S from eg] at this
                rw [hr]
                exact this
              · have hr' : gt_RO g q = false := by
                  cases h : gt_RO g q with
                  | false => rfl
                  | true => exact absurd h hr
                have eav : mt_av g q (ff_sn k c) S s.2.2 = (S, ff_nd q (ff_sn k c), s.2.2) := by
                  unfold mt_av
                  rw [if_neg (by rw [hr', hs]; simp)]
                rw [eav] at hsp w1 hma2 hlen'
                have := cont _ _ _ (upd ga (mt_gs g S).length (nI i)) go (upd gn (mt_gs g S).length (nI (gt_s g q (ff_len k) + 1))) hsp w1 hlen' hma2 (mt_ga_self (Nat.le_refl _) g4)
                rw [hr']
                exact this
          · refine yw_m184n (fun z => htq z.symm) (flt _ _ _ _ _ ?_)
            rw [hspe]
            split
            · rfl
            · split
              · rfl
              · show (if gt_PT g q (gt_s g q (ff_len k)) = t then _ else _) = _
                rw [if_neg htq]
end
end
section
/-! the table of ranges -/
def cy_sp (g : gt_T) (A : List ff_A) (i j : Nat) (r : Int32) : Prop := (∃ T, cy_R g A T i j ∧ r = nI (i + ff_rp g T)) ∨ ((¬ ∃ T, cy_R g A T i j) ∧ r = -1)
def cy_tb (g : gt_T) (A : List ff_A) (R : Nat → Int32) (z : Nat) : Prop := ∀ i j, i < j → j ≤ A.length → j - i < z → cy_sp g A i j (R (i * 129 + j))
theorem cy_tb_get {g : gt_T} (H : gt_ok g) {A : List ff_A} {R : Nat → Int32} {z i j : Nat} {T : ff_F} (h : cy_tb g A R z) (hj : j ≤ A.length) (hz : j - i < z) (hR : cy_R g A T i j) : R (i * 129 + j) = nI (i + ff_rp g T) := by
  rcases h i j (cy_R_lt H hj hR) hj hz with ⟨T', h1, h2⟩ | ⟨h1, _⟩
  · rw [h2, cy_R_un H h1 hR]
  · exact absurd ⟨T, hR⟩ h1
theorem cy_K_kid {g : gt_T} {A : List ff_A} {q i j : Nat} {pos : Nat → Nat} : ∀ {k : ff_F}, cy_K g A q i j pos k → ff_wf g k → ff_ok g k → ∀ c, c < ff_len k → ∃ T, cy_R g A T (cy_fr g q i pos c) (cy_to g q j pos c) := by
  intro k
  induction k with
  | leaf => intro _ _ _ c hc; exact absurd hc (Nat.not_lt_zero _)
  | inner m e u p k ihp ihk =>
    intro hK hw ho c hc
    have hc' : c < ff_len p + 1 := hc
    by_cases h : c = ff_len p
    · subst h
      exact ⟨.inner m e () .leaf k, rfl, ⟨trivial, hw.2.1, hw.2.2⟩, ⟨trivial, ho.2.1, ho.2.2⟩, hK.2⟩
    · exact ihp hK.1 hw.1 ho.1 c (by omega)
theorem mt_fc_p {a b : Nat} (h : a < b) : mt_fc a (b - a) = nI b := by
  unfold mt_fc
  rw [if_neg (by omega), show a + (b - a) = b by omega]
section
variable {g : gt_T} {n : Nat} {post : Int32 → Prop} {A : List ff_A} {pos : Nat → Nat} {q : Nat}
variable {f_maxOps f_maxNodes f_maxLevels f_maxNames f_listLen : Int32} {a_text a_list a_leadOp a_follow a_groupAt a_groupOp a_groupNext a_rootOf a_found a_fromAt a_toAt a_work a_mark a_order : Nat → Int32}
theorem yw_pa_l (hn : A.length ≤ 128) (hma : mt_ma A a_text a_leadOp a_follow) (hpos : cy_pos g A q (gt_PC g q) pos) {m : Nat} (hm : m < gt_PC g q) (h5 : m < 100) (hp : post (nI (pos m))) : ∀ (d c N : Nat), c + d = m → d < N → wY_partAt_5 post (nI m) f_maxOps f_maxNodes f_maxLevels f_maxNames (nI (gt_n g)) (nI n) f_listLen (gt_k g) (gt_p g) (gt_a g) (gt_c g) (gt_t g) a_text a_list a_leadOp a_follow a_groupAt a_groupOp a_groupNext a_rootOf a_found a_fromAt a_toAt a_work a_mark a_order N (nI (pos c)) (nI c) := by
  intro d
  induction d with
  | zero =>
    intro c N hc hN
    obtain ⟨N, rfl⟩ : ∃ N', N = N' + 1 := ⟨N - 1, by omega⟩
    have ec : c = m := hc
    subst ec
    rw [wY_partAt_5]
    exact br_t (nI_le (Nat.le_refl _) (by omega)) hp
  | succ d ih =>
    intro c N hc hN
    obtain ⟨N, rfl⟩ : ∃ N', N = N' + 1 := ⟨N - 1, by omega⟩
    have hl := cy_pos_lt hpos (m := c) (by omega)
    obtain ⟨h1, h2⟩ := hpos c (by omega)
    rw [if_pos (by omega)] at h1
    have h3 := h2 (by omega)
    have hf : a_follow (pos c) = nI (pos (c + 1)) := by
      rw [(hma _ _ h1).2.2]
      exact mt_fc_p h3
    rw [wY_partAt_5]
    refine br_f (nI_ge (by omega) (by omega)) (br_f (nI_pos (by omega)) ⟨vp_in_nI (by omega) (by decide), nm_r (e' := nI (pos (c + 1))) (by rw [nI_clamp (by omega)]; exact hf) (nm_r (nI_1 c) ?_)⟩)
    exact ih (c + 1) N (by omega) (by omega)
theorem yw_pa (hn : A.length ≤ 128) (hma : mt_ma A a_text a_leadOp a_follow) (hpos : cy_pos g A q (gt_PC g q) pos) {m p : Nat} (hm : m < gt_PC g q) (h5 : m < 100) (h0 : pos 0 = p) (hp : post (nI (pos m))) : wpY_partAt post (f_maxOps, f_maxNodes, f_maxLevels, f_maxNames, nI (gt_n g), nI n, f_listLen, gt_k g, gt_p g, gt_a g, gt_c g, gt_t g, a_text, a_list, a_leadOp, a_follow, a_groupAt, a_groupOp, a_groupNext, a_rootOf, a_found, a_fromAt, a_toAt, a_work, a_mark, a_order) (nI p) (nI m) := by
  subst h0
  exact ⟨m + 1, yw_pa_l hn hma hpos hm h5 hp m 0 (m + 1) (by omega) (by omega)⟩
theorem yw_ld (H : gt_ok g) (hma : mt_ma A a_text a_leadOp a_follow) (hq : q < gt_n g) (hpos : cy_pos g A q (gt_PC g q) pos) {p : Nat} (h0 : pos 0 = p) : a_leadOp p = nI q := by
  have h1 := (hpos 0 (gt_pc4 H hq).1).1
  rw [h0] at h1
  exact (hma _ _ h1).2.1
theorem yw_last (H : gt_ok g) (hn : A.length ≤ 128) (hma : mt_ma A a_text a_leadOp a_follow) (hq : q < gt_n g) (hpos : cy_pos g A q (gt_PC g q) pos) {p : Nat} (h0 : pos 0 = p) (hp : post (nI (pos (gt_PC g q - 1)))) : wpY_lastPart post (f_maxOps, f_maxNodes, f_maxLevels, f_maxNames, nI (gt_n g), nI n, f_listLen, gt_k g, gt_p g, gt_a g, gt_c g, gt_t g, a_text, a_list, a_leadOp, a_follow, a_groupAt, a_groupOp, a_groupNext, a_rootOf, a_found, a_fromAt, a_toAt, a_work, a_mark, a_order) (nI p) := by
  have hl := yw_ld H hma hq hpos h0
  have h4 := gt_pc4 H hq
  have hpl := cy_pos_lt hpos (m := 0) (by omega)
  obtain ⟨vq, cq⟩ := gt_in12 H hq
  obtain ⟨_, _, hc⟩ := H.2.2.2.2.1 q hq
  unfold wpY_lastPart
  dsimp only
  rw [nI_clamp (by omega), hl, cq, hc]
  refine ⟨vp_in_nI (by omega) (by decide), vq, ?_⟩
  rw [show nI (gt_PC g q) - 1 = nI (gt_PC g q - 1) by rw [show gt_PC g q = (gt_PC g q - 1) + 1 by omega, nI_pred]; rfl]
  exact yw_pa hn hma hpos (by omega) (by omega) h0 hp
theorem yw_from (H : gt_ok g) (hn : A.length ≤ 128) (hma : mt_ma A a_text a_leadOp a_follow) (hq : q < gt_n g) (hpos : cy_pos g A q (gt_PC g q) pos) {p c i : Nat} (h0 : pos 0 = p) (hc : c < gt_ar g q) (hp : post (nI (cy_fr g q i pos c))) : wpY_operandFrom post (f_maxOps, f_maxNodes, f_maxLevels, f_maxNames, nI (gt_n g), nI n, f_listLen, gt_k g, gt_p g, gt_a g, gt_c g, gt_t g, a_text, a_list, a_leadOp, a_follow, a_groupAt, a_groupOp, a_groupNext, a_rootOf, a_found, a_fromAt, a_toAt, a_work, a_mark, a_order) (nI p) (nI c) (nI i) := by
  have hl := yw_ld H hma hq hpos h0
  have h4 := gt_pc4 H hq
  have har := gt_ar3 H hq
  have hpl := cy_pos_lt hpos (m := 0) (by omega)
  have hs := gt_s_le H hq hc
  unfold wpY_operandFrom
  dsimp only
  rw [nI_clamp (by omega), hl]
  refine ⟨vp_in_nI (by omega) (by decide), yw_lo H hq ?_⟩
  unfold wY_operandFrom_20
  unfold cy_fr at hp
  cases hlo : gt_LO g q with
  | false =>
    have es : gt_s g q c = c + 1 := by unfold gt_s; rw [hlo]; rfl
    rw [es, if_neg (by omega)] at hp
    refine br_t rfl (br_t (nI_pos' (by omega)) (yw_pa hn hma hpos (by omega) (by omega) h0 ?_))
    rw [nI_1]
    exact hp
  | true =>
    have es : gt_s g q c = c := by unfold gt_s; rw [hlo]; rfl
    rw [es] at hp
    refine br_f (by decide) ?_
    by_cases hc0 : c = 0
    · subst hc0
      rw [if_pos rfl] at hp
      exact br_f (by decide) hp
    · rw [if_neg hc0] at hp
      rw [show nI c - 1 = nI (c - 1) by rw [show c = (c - 1) + 1 by omega, nI_pred]; rfl]
      refine br_t (nI_pos' (by omega)) (yw_pa hn hma hpos (by omega) (by omega) h0 ?_)
      rw [nI_1]
      exact hp
theorem yw_to (H : gt_ok g) (hn : A.length ≤ 128) (hma : mt_ma A a_text a_leadOp a_follow) (hq : q < gt_n g) (hpos : cy_pos g A q (gt_PC g q) pos) {p c j : Nat} (h0 : pos 0 = p) (hc : c < gt_ar g q) (hp : post (nI (cy_to g q j pos c))) : wpY_operandTo post (f_maxOps, f_maxNodes, f_maxLevels, f_maxNames, nI (gt_n g), nI n, f_listLen, gt_k g, gt_p g, gt_a g, gt_c g, gt_t g, a_text, a_list, a_leadOp, a_follow, a_groupAt, a_groupOp, a_groupNext, a_rootOf, a_found, a_fromAt, a_toAt, a_work, a_mark, a_order) (nI p) (nI c) (nI j) := by
  have hl := yw_ld H hma hq hpos h0
  have h4 := gt_pc4 H hq
  have har := gt_ar3 H hq
  have hpl := cy_pos_lt hpos (m := 0) (by omega)
  obtain ⟨vq, cq⟩ := gt_in12 H hq
  obtain ⟨_, _, hpc⟩ := H.2.2.2.2.1 q hq
  have core : wY_operandTo_20 post (nI p) (nI j) (nI (gt_s g q c)) f_maxOps f_maxNodes f_maxLevels f_maxNames (nI (gt_n g)) (nI n) f_listLen (gt_k g) (gt_p g) (gt_a g) (gt_c g) (gt_t g) a_text a_list a_leadOp a_follow a_groupAt a_groupOp a_groupNext a_rootOf a_found a_fromAt a_toAt a_work a_mark a_order := by
    have hs := gt_s_le H hq hc
    unfold wY_operandTo_20
    rw [nI_clamp (by omega), hl, cq, hpc]
    unfold cy_to at hp
    refine ⟨vp_in_nI (by omega) (by decide), vq, pk_lt (gt_s g q c) (gt_PC g q) (fun h => ?_) (fun h => ?_)⟩
    · rw [if_pos h] at hp
      exact yw_pa hn hma hpos h (by omega) h0 hp
    · rw [if_neg (by omega)] at hp
      exact hp
  unfold wpY_operandTo
  dsimp only
  rw [nI_clamp (by omega), hl]
  refine ⟨vp_in_nI (by omega) (by decide), yw_lo H hq ?_⟩
  cases hlo : gt_LO g q with
  | false =>
    have es : gt_s g q c = c + 1 := by unfold gt_s; rw [hlo]; rfl
    rw [es] at core
    refine br_t rfl ?_
    rw [nI_1]
    exact core
  | true =>
    have es : gt_s g q c = c := by unfold gt_s; rw [hlo]; rfl
    rw [es] at core
    exact br_f (by decide) core
theorem cy_ix (i j : Nat) : (nI i * 129) + nI j = nI (i * 129 + j) := by
  rw [show (129 : Int32) = nI 129 from rfl, pk_mul, nI_add]
theorem yw_reads {z i j : Nat} (htb : cy_tb g A a_rootOf z) (hn : A.length ≤ 128) (hj : j ≤ A.length) (hi : i ≤ A.length) (hz : i < j → j - i < z) (hT : (∃ T, cy_R g A T i j) → post 1) (hF : (¬ ∃ T, cy_R g A T i j) → post 0) (H : gt_ok g) : wpY_reads post (f_maxOps, f_maxNodes, f_maxLevels, f_maxNames, nI (gt_n g), nI n, f_listLen, gt_k g, gt_p g, gt_a g, gt_c g, gt_t g, a_text, a_list, a_leadOp, a_follow, a_groupAt, a_groupOp, a_groupNext, a_rootOf, a_found, a_fromAt, a_toAt, a_work, a_mark, a_order) (nI i) (nI j) := by
  unfold wpY_reads
  refine pk_le j i (fun h => hF ?_) (fun h => ?_)
  · rintro ⟨T, hT⟩
    have := cy_R_lt H hj hT
    omega
  · rw [cy_ix, nI_clamp (by omega)]
    refine ⟨vp_in_nI (by omega) (by decide), ?_⟩
    rcases htb i j h hj (hz h) with ⟨T, h1, h2⟩ | ⟨h1, h2⟩
    · rw [h2]
      have hl := cy_R_lt H hj h1
      have hrp : i + ff_rp g T < A.length := by
        rcases cy_rget H hj h1 with ⟨_, _, _, _, hg⟩ | ⟨h0, _, _, _, _, hg, _⟩
        · exact (List.getElem?_eq_some_iff.mp hg).1
        · rw [h0]; exact (List.getElem?_eq_some_iff.mp hg).1
      exact br_f (nI_pos (by omega)) (hT ⟨T, h1⟩)
    · rw [h2]
      exact br_t (by decide) (hF h1)
/-- the left chain of the last operand -/
theorem yw_c216 (H : gt_ok g) (hn : A.length ≤ 128) (hma : mt_ma A a_text a_leadOp a_follow) {z j last : Nat} (htb : cy_tb g A a_rootOf z) (hq : q < gt_n g) (hr : gt_RO g q = true) (hj : j ≤ A.length) : ∀ (d : Nat) (e st N : Nat) (T : ff_F), e ≤ d → d < N → e ≤ j → st + e ≤ last + j → e - (last + 1) < z → cy_R g A T (last + 1) e →
    ((∀ r, r ∈ ff_lL g T → gt_CT g q r = -1) → post 1) → ((¬ ∀ r, r ∈ ff_lL g T → gt_CT g q r = -1) → post 0) →
    wY_canRoot_216 post (nI j) (nI q) (nI last) f_maxOps f_maxNodes f_maxLevels f_maxNames (nI (gt_n g)) (nI n) f_listLen (gt_k g) (gt_p g) (gt_a g) (gt_c g) (gt_t g) a_text a_list a_leadOp a_follow a_groupAt a_groupOp a_groupNext a_rootOf a_found a_fromAt a_toAt a_work a_mark a_order N (nI e) (nI st) := by
  intro d
  induction d with
  | zero =>
    intro e st N T he hN hej hst hz hR
    have := cy_R_lt H (Nat.le_trans hej hj) hR
    omega
  | succ d ih =>
    intro e st N T he hN hej hst hz hR hT hF
    obtain ⟨N, rfl⟩ : ∃ N', N = N' + 1 := ⟨N - 1, by omega⟩
    have hlt := cy_R_lt H (Nat.le_trans hej hj) hR
    rw [wY_canRoot_216]
    refine br_f (nI_ge (by omega) (by omega)) (yw_ro H hq ?_)
    rw [hr]
    have hix : (nI last + 1) * 129 + nI e = nI ((last + 1) * 129 + e) := by rw [nI_1, cy_ix]
    have hget := cy_tb_get H htb (Nat.le_trans hej hj) hz hR
    refine br_f (by decide) ?_
    rw [hix, nI_clamp (by omega)]
    refine ⟨vp_in_nI (by omega) (by decide), nm_r hget ?_⟩
    rcases cy_rget H (Nat.le_trans hej hj) hR with ⟨q', k, eT, r, hg⟩ | ⟨h0, h1, h2, t, r, hg, _⟩
    · have hpl := (List.getElem?_eq_some_iff.mp hg).1
      have hld : a_leadOp (last + 1 + ff_rp g T) = nI q' := (hma _ _ hg).2.1
      have vin : vp_in (nI (last + 1 + ff_rp g T)) 128 := vp_in_nI (by omega) (by decide)
      rw [nI_clamp (by omega), hld]
      rw [eT] at hR hpl vin ⊢
      obtain ⟨pos', p1, p2⟩ := cy_rpos H (Nat.le_trans hej hj) hR
      have hrt := cy_root H (Nat.le_trans hej hj) hR p2 p1.symm
      have hq' := hrt.1
      have hn12 := H.1
      refine ⟨vin, br_f (nI_pos (by omega)) ⟨vin, yw_lo H hq' ?_⟩⟩
      cases hlo : gt_LO g q' with
      | false =>
        refine br_t rfl (hT ?_)
        rw [eT]
        have e0 : ff_lL g (ff_nd q' k) = [] := by
          show (if gt_LO g q' = true then _ else _) = _
          rw [if_neg (by rw [hlo]; decide)]
        rw [e0]
        intro r hr
        cases hr
      | true =>
        obtain ⟨c1, c2⟩ := cy_kidF H (Nat.le_trans hej hj) hR p2 p1.symm hlo
        refine br_f (by decide) ⟨vin, yw_win H hq hq' ?_⟩
        refine br_c (fun hw => nm_r (nI_1 st) ?_) (fun hw => hF ?_)
        · have hp5 := cy_pos_lt p2 (m := 0) (gt_pc4 H hq').1
          have hlt2 : pos' 0 < e := by
            have h6 := cy_pos_mono p2 (gt_PC g q' - 1) 0 (by have := gt_pc4 H hq'; omega)
            rw [Nat.zero_add] at h6
            have h7 := hrt.2.2.2.2.1
            omega
          have := ih (pos' 0) (st + 1) N (ff_f1 k) (by omega) (by omega) (by omega) (by omega) (by omega) c1 ?_ ?_
          · rw [p1] at this; exact this
          · intro hall
            apply hT
            rw [eT, c2]
            intro r hr
            rcases List.mem_cons.mp hr with e1 | e1
            · rw [e1]; exact hw
            · exact hall r e1
          · intro hall
            apply hF
            rw [eT, c2]
            intro hall2
            exact hall (fun r hr => hall2 r (List.mem_cons_of_mem _ hr))
        · rw [eT, c2]
          intro hall
          exact hw (hall q' (List.mem_cons_self ..))
    · have hpl := (List.getElem?_eq_some_iff.mp hg).1
      have hld : a_leadOp (last + 1) = -1 := (hma _ _ hg).2.1
      rw [h0, Nat.add_zero, nI_clamp (by omega), hld]
      refine ⟨vp_in_nI (by omega) (by decide), br_t (by decide) (hT ?_)⟩
      rw [h1]
      intro r hr
      cases hr
/-- the right chain of operand 0 -/
theorem yw_c117 (H : gt_ok g) (hn : A.length ≤ 128) (hma : mt_ma A a_text a_leadOp a_follow) {z p j last : Nat} (htb : cy_tb g A a_rootOf z) (hq : q < gt_n g) (hl : gt_LO g q = true) (hp : p ≤ A.length) : ∀ (d : Nat) (b st N : Nat) (T : ff_F), p - b ≤ d → d < N → st ≤ b → p - b < z → cy_R g A T b p →
    ((∀ r, r ∈ ff_rL g T → gt_CT g r q = 1) → ∃ n216, wY_canRoot_216 post (nI j) (nI q) (nI last) f_maxOps f_maxNodes f_maxLevels f_maxNames (nI (gt_n g)) (nI n) f_listLen (gt_k g) (gt_p g) (gt_a g) (gt_c g) (gt_t g) a_text a_list a_leadOp a_follow a_groupAt a_groupOp a_groupNext a_rootOf a_found a_fromAt a_toAt a_work a_mark a_order n216 (nI j) (nI last)) → ((¬ ∀ r, r ∈ ff_rL g T → gt_CT g r q = 1) → post 0) →
    wY_canRoot_117 post (nI p) (nI j) (nI q) (nI last) f_maxOps f_maxNodes f_maxLevels f_maxNames (nI (gt_n g)) (nI n) f_listLen (gt_k g) (gt_p g) (gt_a g) (gt_c g) (gt_t g) a_text a_list a_leadOp a_follow a_groupAt a_groupOp a_groupNext a_rootOf a_found a_fromAt a_toAt a_work a_mark a_order N (nI b) (nI st) := by
  intro d
  induction d with
  | zero =>
    intro b st N T he hN hst hz hR
    have := cy_R_lt H hp hR
    omega
  | succ d ih =>
    intro b st N T he hN hst hz hR hT hF
    obtain ⟨N, rfl⟩ : ∃ N', N = N' + 1 := ⟨N - 1, by omega⟩
    have hlt := cy_R_lt H hp hR
    rw [wY_canRoot_117]
    refine br_f (nI_ge (by omega) (by omega)) (yw_lo H hq ?_)
    rw [hl]
    have hget := cy_tb_get H htb hp hz hR
    refine br_f (by decide) ?_
    rw [cy_ix, nI_clamp (by omega)]
    refine ⟨vp_in_nI (by omega) (by decide), nm_r hget ?_⟩
    rcases cy_rget H hp hR with ⟨q', k, eT, r, hg⟩ | ⟨h0, h1, h2, t, r, hg, _⟩
    · have hpl := (List.getElem?_eq_some_iff.mp hg).1
      have hld : a_leadOp (b + ff_rp g T) = nI q' := (hma _ _ hg).2.1
      have vin : vp_in (nI (b + ff_rp g T)) 128 := vp_in_nI (by omega) (by decide)
      rw [nI_clamp (by omega), hld]
      rw [eT] at hR hpl vin ⊢
      obtain ⟨pos', p1, p2⟩ := cy_rpos H hp hR
      have hrt := cy_root H hp hR p2 p1.symm
      have hq' := hrt.1
      have hn12 := H.1
      have h4 := gt_pc4 H hq'
      refine ⟨vin, br_f (nI_pos (by omega)) ⟨vin, yw_ro H hq' ?_⟩⟩
      cases hro : gt_RO g q' with
      | false =>
        refine br_t rfl (hT ?_)
        rw [eT]
        have e0 : ff_rL g (ff_nd q' k) = [] := by
          show (if gt_RO g q' = true then _ else _) = _
          rw [if_neg (by rw [hro]; decide)]
        rw [e0]
        intro r hr
        cases hr
      | true =>
        obtain ⟨c1, c2, _⟩ := cy_kidL H hp hR p2 p1.symm hro
        refine br_f (by decide) ⟨vin, yw_win H hq' hq ?_⟩
        refine br_c (fun hw => ?_) (fun hw => hF ?_)
        · refine yw_last H hn hma hq' p2 p1 (nm_r (nI_1 _) (nm_r (nI_1 st) ?_))
          have h6 := cy_pos_mono p2 (gt_PC g q' - 1) 0 (by omega)
          rw [Nat.zero_add] at h6
          have h7 := hrt.2.2.2.2.1
          have h8 := hrt.2.2.2.1
          refine ih (pos' (gt_PC g q' - 1) + 1) (st + 1) N (ff_sg k) (by omega) (by omega) (by omega) (by omega) c1 ?_ ?_
          · intro hall
            apply hT
            rw [eT, c2]
            intro r hr
            rcases List.mem_cons.mp hr with e1 | e1
            · rw [e1]; exact hw
            · exact hall r e1
          · intro hall
            apply hF
            rw [eT, c2]
            intro hall2
            exact hall (fun r hr => hall2 r (List.mem_cons_of_mem _ hr))
        · rw [eT, c2]
          intro hall
          exact hw (hall q' (List.mem_cons_self ..))
    · have hpl := (List.getElem?_eq_some_iff.mp hg).1
      have hld : a_leadOp b = -1 := (hma _ _ hg).2.1
      rw [h0, Nat.add_zero, nI_clamp (by omega), hld]
      refine ⟨vp_in_nI (by omega) (by decide), br_t (by decide) (hT ?_)⟩
      rw [h2]
      intro r hr
      cases hr
end
end
section
/-- an atom's token stands alone -/
def cy_p1 (g : gt_T) (x : ff_A) : Prop := gt_at g x.1 = true → x.2 = (none, 0)
theorem cy_atm {g : gt_T} (H : gt_ok g) : ∀ (F : ff_F), ff_wf g F → (∀ q, q < gt_n g → ff_len F ≤ gt_ar g q → ∀ x, x ∈ ff_fl g F q → cy_p1 g x) ∧ (∀ x, x ∈ ff_C g F → cy_p1 g x) := by
  have sp1 : ∀ q i r, q < gt_n g → i < gt_ar g q → ∀ x, x ∈ ff_sp g q i r → cy_p1 g x := by
    intro q i r hq hi x hx ha
    have h1 := gt_s_le H hq hi
    unfold ff_sp at hx
    split at hx
    · cases hx
    · rename_i hne
      rw [List.mem_singleton] at hx
      subst hx
      have hs : 0 < gt_s g q i := by
        unfold gt_s
        split
        · rename_i h
          have : ¬ i = 0 := fun z => hne ⟨h, z⟩
          omega
        · omega
      have := gt_pt_at H hq (m := gt_s g q i - 1) (by omega)
      have ha' : gt_at g (gt_PT g q (gt_s g q i - 1)) = true := ha
      rw [this] at ha'
      cases ha'
  have wr1 : ∀ m (l : List ff_A), (∀ x, x ∈ l → cy_p1 g x) → ∀ x, x ∈ ff_wr m l → cy_p1 g x := by
    intro m l hl
    induction m with
    | zero => exact hl
    | succ m ih =>
      intro x hx ha
      rcases List.mem_cons.mp hx with e | e
      · subst e
        exact absurd rfl (gt_at_ne ha).1
      · rcases List.mem_append.mp e with e | e
        · exact ih x e ha
        · rw [List.mem_singleton] at e
          subst e
          exact absurd rfl (gt_at_ne ha).2
  intro F
  induction F with
  | leaf =>
    intro _
    refine ⟨?_, ?_⟩
    · intro q _ _ x hx; cases hx
    · intro x hx; cases hx
  | inner m e u p k ihp ihk =>
    intro hw
    have hk := ihk hw.2.1
    have hN : ∀ x, x ∈ ff_N g m e k → cy_p1 g x := by
      apply wr1
      match e, hw with
      | .inl t, hw =>
        intro x hx _
        have hx' : x ∈ [(t, none, 0)] := hx
        rw [List.mem_singleton] at hx'
        subst hx'
        rfl
      | .inr q, hw =>
        intro x hx
        have hx' : x ∈ ff_fl g k q ++ ff_tl g q (ff_len k) := hx
        rcases List.mem_append.mp hx' with e | e
        · exact hk.1 q hw.2.2.1 (Nat.le_of_eq hw.2.2.2) x e
        · intro ha
          unfold ff_tl at e
          split at e
          · cases e
          · rename_i hr
            have hr' : gt_RO g q = false := by
              cases h : gt_RO g q with
              | false => rfl
              | true => exact absurd h hr
            have hs := gt_npush H hw.2.2.1 hr' hw.2.2.2
            have hpc := (gt_pc4 H hw.2.2.1).1
            rw [ff_sp_s (by omega), List.mem_singleton] at e
            subst e
            have := gt_pt_at H hw.2.2.1 (m := gt_s g q (ff_len k) - 1) (by omega)
            have ha' : gt_at g (gt_PT g q (gt_s g q (ff_len k) - 1)) = true := ha
            rw [this] at ha'
            cases ha'
    refine ⟨?_, hN⟩
    intro q hq hl x hx
    have hl' : ff_len p + 1 ≤ gt_ar g q := hl
    rw [ff_fl_in] at hx
    rcases List.mem_append.mp hx with e | e
    · exact (ihp hw.1).1 q hq (by omega) x e
    · rcases List.mem_append.mp e with e | e
      · exact sp1 q _ _ hq (by omega) x e
      · exact hN x e
section
variable {g : gt_T} {n : Nat} {post : Int32 → Prop} {A : List ff_A} {pos : Nat → Nat} {q : Nat}
variable {f_maxOps f_maxNodes f_maxLevels f_maxNames f_listLen : Int32} {a_text a_list a_leadOp a_follow a_groupAt a_groupOp a_groupNext a_rootOf a_found a_fromAt a_toAt a_work a_mark a_order : Nat → Int32}
theorem yw_c65 (H : gt_ok g) (hn : A.length ≤ 128) (hma : mt_ma A a_text a_leadOp a_follow) {i j p : Nat} (htb : cy_tb g A a_rootOf (j - i)) (hq : q < gt_n g) (hpos : cy_pos g A q (gt_PC g q) pos) (h0 : pos 0 = p) (hip : i ≤ p) (hlast : pos (gt_PC g q - 1) < j) (hj : j ≤ A.length) (hnl : gt_LO g q = false → pos 0 = i) (hrr : gt_RO g q = false → pos (gt_PC g q - 1) + 1 = j)
    (hT : (∃ k, cy_R g A (ff_nd q k) i j ∧ i + ff_rp g (ff_nd q k) = pos 0) → post 1) (hF : (¬ ∃ k, cy_R g A (ff_nd q k) i j ∧ i + ff_rp g (ff_nd q k) = pos 0) → post 0) :
    ∀ (d c N : Nat) (F : ff_F), c + d = gt_ar g q → d < N → ff_len F = c → ff_wf g F → ff_ok g F → cy_K g A q i j pos F → ff_fl g F q = cy_sl A i (cy_e g q i j pos c) → i ≤ cy_e g q i j pos c →
    wY_canRoot_65 post (nI p) (nI i) (nI j) (nI q) (nI (pos (gt_PC g q - 1))) (nI (gt_ar g q)) f_maxOps f_maxNodes f_maxLevels f_maxNames (nI (gt_n g)) (nI n) f_listLen (gt_k g) (gt_p g) (gt_a g) (gt_c g) (gt_t g) a_text a_list a_leadOp a_follow a_groupAt a_groupOp a_groupNext a_rootOf a_found a_fromAt a_toAt a_work a_mark a_order N (nI c) := by
  have h4 := gt_pc4 H hq
  have har := gt_ar3 H hq
  have hmono := cy_pos_mono hpos (gt_PC g q - 1) 0 (by omega)
  rw [Nat.zero_add] at hmono
  intro d
  induction d with
  | zero =>
    intro c N F hc hN hF1 hw ho hK hfl hie
    obtain ⟨N, rfl⟩ : ∃ N', N = N' + 1 := ⟨N - 1, by omega⟩
    have ec : c = gt_ar g q := hc
    subst ec
    rw [wY_canRoot_65]
    refine br_t (nI_le (Nat.le_refl _) (by omega)) ?_
    have hNF := cy_fin H hq hpos hnl hrr hF1 hfl hie
    -- the second stage
    have stage2 : (gt_LO g q = true → ∀ r, r ∈ ff_rF g F → gt_CT g r q = 1) → i + ff_rp g (ff_nd q F) = pos 0 → ∃ n216, wY_canRoot_216 post (nI j) (nI q) (nI (pos (gt_PC g q - 1))) f_maxOps f_maxNodes f_maxLevels f_maxNames (nI (gt_n g)) (nI n) f_listLen (gt_k g) (gt_p g) (gt_a g) (gt_c g) (gt_t g) a_text a_list a_leadOp a_follow a_groupAt a_groupOp a_groupNext a_rootOf a_found a_fromAt a_toAt a_work a_mark a_order n216 (nI j) (nI (pos (gt_PC g q - 1))) := by
      intro hch hrp
      cases hro : gt_RO g q with
      | false =>
        refine ⟨1, ?_⟩
        rw [wY_canRoot_216]
        refine br_f (nI_ge hlast (by omega)) (yw_ro H hq ?_)
        rw [hro]
        refine br_t rfl (hT ⟨F, ⟨rfl, ⟨trivial, hw, hq, hF1⟩, ⟨trivial, ho, hch, ?_⟩, hNF⟩, hrp⟩)
        intro h
        rw [hro] at h
        cases h
      | true =>
        have har0 : 0 < gt_ar g q := by
          rcases gt_cs H hq with h | h | h | h
          · omega
          · omega
          · omega
          · rw [h.2.1] at hro; cases hro
        have hw2 := gt_wait H hq hro (i := gt_ar g q - 1) (by omega)
        have hlf : ff_lf F = false := ff_lf_len (by omega)
        obtain ⟨s1, s2, s3, s4, s5, s6⟩ := ff_sg_all hlf hK hw
        have ef : cy_fr g q i pos (ff_len F - 1) = pos (gt_PC g q - 1) + 1 := by
          unfold cy_fr
          rw [hF1, hw2, if_neg (by omega)]
        have et : cy_to g q j pos (ff_len F - 1) = j := by
          unfold cy_to
          rw [hF1, hw2, if_neg (by omega)]
        rw [ef, et] at s4
        refine ⟨j + 1, yw_c216 H hn hma htb hq hro hj j j _ (j + 1) (ff_sg F) (Nat.le_refl _) (Nat.lt_succ_self _) (Nat.le_refl _) (Nat.le_refl _) (by omega) ⟨s1, s2, s3 ho, s4⟩ ?_ ?_⟩
        · intro hall
          rw [s5] at hall
          exact hT ⟨F, ⟨rfl, ⟨trivial, hw, hq, hF1⟩, ⟨trivial, ho, hch, fun _ => hall⟩, hNF⟩, hrp⟩
        · intro hall
          apply hF
          rintro ⟨k, hk1, hk2⟩
          obtain ⟨c1, _, c3⟩ := cy_kidL H hj hk1 hpos hk2 hro
          have eu := cy_R_un H c1 ⟨s1, s2, s3 ho, s4⟩
          apply hall
          rw [← eu, c3]
          exact hk1.2.2.1.2.2.2 hro
    cases hlo : gt_LO g q with
    | false =>
      have ei := hnl hlo
      refine ⟨1, ?_⟩
      rw [wY_canRoot_117]
      refine br_t (nI_le (by omega) (by omega)) (stage2 (by rw [hlo]; intro h; cases h) ?_)
      show i + (if gt_LO g q = true then _ else 0) = _
      rw [hlo, ei]
      rfl
    | true =>
      have har0 : 0 < gt_ar g q := by
        rcases gt_cs H hq with h | h | h | h
        · rw [h.1] at hlo; cases hlo
        · omega
        · omega
        · rw [h.1] at hlo; cases hlo
      have hlf : ff_lf F = false := ff_lf_len (by omega)
      have hs0 : gt_s g q 0 = 0 := by unfold gt_s; rw [if_pos hlo]
      have ef : cy_fr g q i pos 0 = i := by
        unfold cy_fr
        rw [if_pos hs0]
      have et : cy_to g q j pos 0 = pos 0 := by
        unfold cy_to
        rw [hs0, if_pos (by omega)]
      have hC := ff_f1_K hlf hK
      rw [ef, et] at hC
      have hR0 : cy_R g A (ff_f1 F) i (pos 0) := ⟨ff_f1_1 hlf, ff_f1_wf hw, ff_f1_ok ho, hC⟩
      have hpl := cy_pos_lt hpos (m := 0) (by omega)
      have hrp : i + ff_rp g (ff_nd q F) = pos 0 := by
        show i + (if gt_LO g q = true then (ff_C g (ff_f1 F)).length else 0) = _
        rw [if_pos hlo, hC, cy_sl_len (by omega)]
        omega
      rw [h0] at hR0
      refine ⟨p - i + 1, yw_c117 H hn hma htb hq hlo (by omega) (p - i) i i _ (ff_f1 F) (Nat.le_refl _) (Nat.lt_succ_self _) (Nat.le_refl _) (by omega) hR0 ?_ ?_⟩
      · intro hall
        rw [← (ff_f1_ch F).2] at hall
        exact stage2 (fun _ => hall) hrp
      · intro hall
        apply hF
        rintro ⟨k, hk1, hk2⟩
        obtain ⟨c1, _⟩ := cy_kidF H hj hk1 hpos hk2 hlo
        rw [h0] at c1
        have eu := cy_R_un H c1 hR0
        apply hall
        rw [← eu, ← (ff_f1_ch k).2]
        exact hk1.2.2.1.2.2.1 hlo
  | succ d ih =>
    intro c N F hc hN hF1 hw ho hK hfl hie
    obtain ⟨N, rfl⟩ : ∃ N', N = N' + 1 := ⟨N - 1, by omega⟩
    have hcar : c < gt_ar g q := by omega
    have hs := gt_s_le H hq hcar
    -- the range
    have hfr : i ≤ cy_fr g q i pos c ∧ cy_fr g q i pos c ≤ A.length ∧ (cy_fr g q i pos c = i → cy_to g q j pos c < j) := by
      unfold cy_fr cy_to
      by_cases hs0 : gt_s g q c = 0
      · rw [if_pos hs0, hs0, if_pos (by omega)]
        exact ⟨Nat.le_refl _, by omega, fun _ => by omega⟩
      · rw [if_neg hs0]
        have h5 := cy_pos_lt hpos (m := gt_s g q c - 1) (by omega)
        have h6 := cy_pos_mono hpos (gt_s g q c - 1) 0 (by omega)
        rw [Nat.zero_add] at h6
        exact ⟨by omega, by omega, fun h => by omega⟩
    have hto : cy_to g q j pos c ≤ j := by
      unfold cy_to
      by_cases hlt : gt_s g q c < gt_PC g q
      · rw [if_pos hlt]
        have h5 := cy_pos_mono hpos (gt_PC g q - 1 - gt_s g q c) (gt_s g q c) (by omega)
        rw [show gt_s g q c + (gt_PC g q - 1 - gt_s g q c) = gt_PC g q - 1 by omega] at h5
        omega
      · rw [if_neg hlt]
        exact Nat.le_refl _
    rw [wY_canRoot_65]
    refine br_f (nI_ge hcar (by omega)) (yw_from H hn hma hq hpos h0 hcar (yw_to H hn hma hq hpos h0 hcar ?_))
    refine yw_reads htb hn (by omega) hfr.2.1 (fun h => by
      by_cases h7 : cy_fr g q i pos c = i
      · have := hfr.2.2 h7; omega
      · omega) ?_ ?_ H
    · rintro ⟨T, hTR⟩
      refine br_f (by decide) (nm_r (nI_1 c) ?_)
      have hlt := cy_R_lt H (by omega) hTR
      obtain ⟨t1, t2, t3, t4⟩ := hTR
      obtain ⟨a1, a2⟩ := cy_asm H hq hpos hnl hF1 hcar hfl hie t1 t4 (Nat.le_of_lt hlt) (by omega)
      refine ih (c + 1) N (ff_sn F T) (by omega) (by omega) ?_ (ff_sn_wf hw t2) (ff_sn_ok ho t3) ?_ a1 a2
      · rw [ff_sn_len (ff_1nlf t1), hF1]
      · cases T with
        | leaf => simp [ff_len] at t1
        | inner m e u pp kk =>
          refine ⟨hK, ?_⟩
          rw [hF1]
          exact t4
    · intro hno
      refine br_t rfl (hF ?_)
      rintro ⟨k, hk1, hk2⟩
      obtain ⟨_, hlen, hKk, _⟩ := cy_root H hj hk1 hpos hk2
      exact hno (cy_K_kid hKk hk1.2.1.2.1 hk1.2.2.1.2.1 c (by omega))
theorem yw_canRoot (H : gt_ok g) (hn : A.length ≤ 128) (hma : mt_ma A a_text a_leadOp a_follow) {i j p : Nat} (htb : cy_tb g A a_rootOf (j - i)) (hq : q < gt_n g) (hpos : cy_pos g A q (gt_PC g q) pos) (h0 : pos 0 = p) (hip : i ≤ p) (hj : j ≤ A.length)
    (hT : (∃ k, cy_R g A (ff_nd q k) i j ∧ i + ff_rp g (ff_nd q k) = p) → post 1) (hF : (¬ ∃ k, cy_R g A (ff_nd q k) i j ∧ i + ff_rp g (ff_nd q k) = p) → post 0) : wpY_canRoot post (f_maxOps, f_maxNodes, f_maxLevels, f_maxNames, nI (gt_n g), nI n, f_listLen, gt_k g, gt_p g, gt_a g, gt_c g, gt_t g, a_text, a_list, a_leadOp, a_follow, a_groupAt, a_groupOp, a_groupNext, a_rootOf, a_found, a_fromAt, a_toAt, a_work, a_mark, a_order) (nI p) (nI i) (nI j) := by
  have h4 := gt_pc4 H hq
  have har := gt_ar3 H hq
  have hld := yw_ld H hma hq hpos h0
  have hpl := cy_pos_lt hpos (m := 0) (by omega)
  have hll := cy_pos_lt hpos (m := gt_PC g q - 1) (by omega)
  rw [← h0] at hT hF
  unfold wpY_canRoot
  dsimp only
  rw [nI_clamp (by omega), hld]
  refine ⟨vp_in_nI (by omega) (by decide), nm_e (yw_last H hn hma hq hpos h0 (yw_ar H hq ?_))⟩
  refine pk_le j (pos (gt_PC g q - 1)) (fun h => hF ?_) (fun h => yw_lo H hq ?_)
  · rintro ⟨k, hk1, hk2⟩
    have := (cy_root H hj hk1 hpos hk2).2.2.2.2.1
    omega
  · have st3 : (gt_LO g q = false → pos 0 = i) → wY_canRoot_43 post (nI p) (nI i) (nI j) (nI q) (nI (pos (gt_PC g q - 1))) (nI (gt_ar g q)) f_maxOps f_maxNodes f_maxLevels f_maxNames (nI (gt_n g)) (nI n) f_listLen (gt_k g) (gt_p g) (gt_a g) (gt_c g) (gt_t g) a_text a_list a_leadOp a_follow a_groupAt a_groupOp a_groupNext a_rootOf a_found a_fromAt a_toAt a_work a_mark a_order := by
      intro hnl
      unfold wY_canRoot_43
      refine yw_ro H hq ?_
      have fin : (gt_RO g q = false → pos (gt_PC g q - 1) + 1 = j) → ∃ n65, wY_canRoot_65 post (nI p) (nI i) (nI j) (nI q) (nI (pos (gt_PC g q - 1))) (nI (gt_ar g q)) f_maxOps f_maxNodes f_maxLevels f_maxNames (nI (gt_n g)) (nI n) f_listLen (gt_k g) (gt_p g) (gt_a g) (gt_c g) (gt_t g) a_text a_list a_leadOp a_follow a_groupAt a_groupOp a_groupNext a_rootOf a_found a_fromAt a_toAt a_work a_mark a_order n65 0 := by
        intro hrr
        exact ⟨gt_ar g q + 1, yw_c65 H hn hma htb hq hpos h0 hip h hj hnl hrr hT hF (gt_ar g q) 0 _ .leaf (by omega) (Nat.lt_succ_self _) rfl trivial trivial trivial (cy_sl_0 (Nat.le_refl _)).symm (Nat.le_refl _)⟩
      cases hro : gt_RO g q with
      | false =>
        refine br_t rfl ?_
        rw [show nI j - 1 = nI (j - 1) by rw [show j = (j - 1) + 1 by omega, nI_pred]; rfl]
        refine pk_eq (pos (gt_PC g q - 1)) (j - 1) (fun h5 => fin (fun _ => by omega)) (fun h5 => hF ?_)
        rintro ⟨k, hk1, hk2⟩
        have := (cy_root H hj hk1 hpos hk2).2.2.2.2.2.2 hro
        omega
      | true =>
        refine br_f (by decide) (fin ?_)
        rw [hro]
        intro h
        cases h
    cases hlo : gt_LO g q with
    | false =>
      refine br_t rfl (pk_eq p i (fun h5 => st3 (fun _ => by omega)) (fun h5 => hF ?_))
      rintro ⟨k, hk1, hk2⟩
      have := (cy_root H hj hk1 hpos hk2).2.2.2.2.2.1 hlo
      omega
    | true =>
      refine br_f (by decide) (st3 ?_)
      rw [hlo]
      intro h
      cases h
theorem yw_f60 (H : gt_ok g) (hn : A.length ≤ 128) (hma : mt_ma A a_text a_leadOp a_follow) (hg : cy_g g A) {i j : Nat} (htb : cy_tb g A a_rootOf (j - i)) (hij : i < j) (hj : j ≤ A.length) (hp : ∀ r, cy_sp g A i j r → post r) :
    ∀ (d p N : Nat), p + d = j → d < N → i ≤ p → (∀ T, cy_R g A T i j → (∃ q k, T = ff_nd q k) ∧ p ≤ i + ff_rp g T) → wY_findRoot_60 post (nI i) (nI j) f_maxOps f_maxNodes f_maxLevels f_maxNames (nI (gt_n g)) (nI n) f_listLen (gt_k g) (gt_p g) (gt_a g) (gt_c g) (gt_t g) a_text a_list a_leadOp a_follow a_groupAt a_groupOp a_groupNext a_rootOf a_found a_fromAt a_toAt a_work a_mark a_order N (nI p) := by
  intro d
  induction d with
  | zero =>
    intro p N hpd hN hip hno
    obtain ⟨N, rfl⟩ : ∃ N', N = N' + 1 := ⟨N - 1, by omega⟩
    rw [wY_findRoot_60]
    refine br_t (nI_le (by omega) (by omega)) (hp _ (Or.inr ⟨?_, rfl⟩))
    rintro ⟨T, hT⟩
    obtain ⟨⟨q, k, e⟩, h2⟩ := hno T hT
    subst e
    obtain ⟨pos, p1, p2⟩ := cy_rpos H hj hT
    have hr := cy_root H hj hT p2 p1.symm
    have h4 := gt_pc4 H hr.1
    have h6 := cy_pos_mono p2 (gt_PC g q - 1) 0 (by omega)
    rw [Nat.zero_add] at h6
    have h7 := hr.2.2.2.2.1
    omega
  | succ d ih =>
    intro p N hpd hN hip hno
    obtain ⟨N, rfl⟩ : ∃ N', N = N' + 1 := ⟨N - 1, by omega⟩
    have hpl : p < A.length := by omega
    have hgp := hg p hpl
    rw [wY_findRoot_60]
    refine br_f (nI_ge (by omega) (by omega)) ⟨vp_in_nI (by omega) (by decide), ?_⟩
    rw [nI_clamp (by omega)]
    match hx : A[p]? with
    | none =>
      rw [List.getElem?_eq_none_iff] at hx
      omega
    | some (t, none, r) =>
      have hl : a_leadOp p = -1 := (hma _ _ hx).2.1
      rw [hl]
      refine br_t (by decide) (nm_r (nI_1 p) (ih (p + 1) N (by omega) (by omega) (by omega) ?_))
      intro T hT
      obtain ⟨⟨q, k, e⟩, h2⟩ := hno T hT
      refine ⟨⟨q, k, e⟩, ?_⟩
      rcases cy_rget H hj hT with ⟨q', k', e', r', hg'⟩ | ⟨_, _, _, _, _, _, ⟨_, _, _, e', _⟩ | ⟨e', _⟩⟩
      · have : p ≠ i + ff_rp g T := by
          intro z
          rw [← z, hx] at hg'
          cases hg'
        omega
      · rw [e] at e'; cases e'
      · rw [e] at e'; cases e'
    | some (t, some q, r) =>
      obtain ⟨hq, pos, p1, p2⟩ := hgp.1 t q r hx
      have hl : a_leadOp p = nI q := yw_ld H hma hq p2 p1
      have hn12 := H.1
      rw [hl]
      refine br_f (nI_pos (by omega)) (yw_canRoot H hn hma htb hq p2 p1 hip hj ?_ ?_)
      · rintro ⟨k, hk1, hk2⟩
        refine br_f (by decide) (hp _ (Or.inl ⟨_, hk1, ?_⟩))
        rw [hk2]
      · intro hnk
        refine br_t rfl (nm_r (nI_1 p) (ih (p + 1) N (by omega) (by omega) (by omega) ?_))
        intro T hT
        obtain ⟨⟨q', k, e⟩, h2⟩ := hno T hT
        refine ⟨⟨q', k, e⟩, ?_⟩
        have : p ≠ i + ff_rp g T := by
          intro z
          subst e
          rcases cy_rget H hj hT with ⟨q2, k2, e', r', hg'⟩ | ⟨_, _, _, _, _, _, ⟨_, _, _, e', _⟩ | ⟨e', _⟩⟩
          · rw [← z, hx] at hg'
            injection hg' with hg'
            injection hg' with _ hg'
            injection hg' with hg' _
            injection hg' with hg'
            unfold ff_nd at e'
            injection e' with _ e' _ _ _
            injection e' with e'
            subst hg' e'
            exact hnk ⟨k, hT, z.symm⟩
          · cases e'
          · cases e'
        omega
theorem yw_findRoot (H : gt_ok g) (hm : f_maxNames + 1 = nI (gt_l g)) (hn : A.length ≤ 128) (hma : mt_ma A a_text a_leadOp a_follow) (hg : cy_g g A) (hat : ∀ x, x ∈ A → cy_p1 g x) {i j : Nat} (htb : cy_tb g A a_rootOf (j - i)) (hij : i < j) (hj : j ≤ A.length) (hp : ∀ r, cy_sp g A i j r → post r) : wpY_findRoot post (f_maxOps, f_maxNodes, f_maxLevels, f_maxNames, nI (gt_n g), nI n, f_listLen, gt_k g, gt_p g, gt_a g, gt_c g, gt_t g, a_text, a_list, a_leadOp, a_follow, a_groupAt, a_groupOp, a_groupNext, a_rootOf, a_found, a_fromAt, a_toAt, a_work, a_mark, a_order) (nI i) (nI j) := by
  have vin : vp_in (nI i) 128 := vp_in_nI (by omega) (by decide)
  have ci : (nI i).toNatClampNeg = i := nI_clamp (by omega)
  have hil : i < A.length := by omega
  obtain ⟨t, l, r, hx⟩ : ∃ t l r, A[i]? = some (t, l, r) := ⟨A[i].1, A[i].2.1, A[i].2.2, by rw [List.getElem?_eq_getElem hil]⟩
  have htx : a_text i = t := (hma _ _ hx).1
  have hfo : a_follow i = mt_fc i r := (hma _ _ hx).2.2
  have loop : (∀ T, cy_R g A T i j → ∃ q k, T = ff_nd q k) → ∃ n60, wY_findRoot_60 post (nI i) (nI j) f_maxOps f_maxNodes f_maxLevels f_maxNames (nI (gt_n g)) (nI n) f_listLen (gt_k g) (gt_p g) (gt_a g) (gt_c g) (gt_t g) a_text a_list a_leadOp a_follow a_groupAt a_groupOp a_groupNext a_rootOf a_found a_fromAt a_toAt a_work a_mark a_order n60 (nI i) := by
    intro hno
    exact ⟨j - i + 1, yw_f60 H hn hma hg htb hij hj hp (j - i) i _ (by omega) (Nat.lt_succ_self _) (Nat.le_refl _) (fun T hT => ⟨hno T hT, Nat.le_add_right _ _⟩)⟩
  have s22 : ¬ (j = i + 1 ∧ gt_at g t = true) → wY_findRoot_22 post (nI i) (nI j) f_maxOps f_maxNodes f_maxLevels f_maxNames (nI (gt_n g)) (nI n) f_listLen (gt_k g) (gt_p g) (gt_a g) (gt_c g) (gt_t g) a_text a_list a_leadOp a_follow a_groupAt a_groupOp a_groupNext a_rootOf a_found a_fromAt a_toAt a_work a_mark a_order := by
    intro hna
    have hcase : (∀ m e k, ¬ cy_R g A (.inner (m + 1) e () .leaf k) i j) → ∀ T, cy_R g A T i j → ∃ q k, T = ff_nd q k := by
      intro hnp T hT
      rcases cy_rget H hj hT with ⟨q', k', e', _⟩ | ⟨_, _, _, t', r', hg', ⟨m, e, k, e', _⟩ | ⟨e', ha, hj1⟩⟩
      · exact ⟨q', k', e'⟩
      · subst e'; exact absurd hT (hnp m e k)
      · rw [hx] at hg'
        injection hg' with hg'
        injection hg' with hg' _
        subst hg'
        exact absurd ⟨hj1, ha⟩ hna
    unfold wY_findRoot_22
    rw [ci, htx, hfo]
    refine ⟨vin, br_c (fun h0 => ⟨vin, ?_⟩) (fun h0 => loop (hcase ?_))⟩
    · subst h0
      obtain ⟨g1, g2, g3⟩ := (hg i hil).2 l r hx
      have h5 := (List.getElem?_eq_some_iff.mp g2).1
      subst g1
      rw [show nI j - 1 = nI (j - 1) by rw [show j = (j - 1) + 1 by omega, nI_pred]; rfl]
      have efc : mt_fc i r = nI (i + r) := by unfold mt_fc; rw [if_neg (by omega)]
      rw [efc]
      refine pk_eq (i + r) (j - 1) (fun h6 => ?_) (fun h6 => loop (hcase ?_))
      · rw [nI_1]
        refine yw_reads htb hn (by omega) (by omega) (fun _ => by omega) ?_ ?_ H
        · rintro ⟨T, hT⟩
          have hlt := cy_R_lt H (by omega) hT
          rw [show r = j - 1 - i by omega] at hx
          rw [h6] at g2
          obtain ⟨w1, w2⟩ := cy_wrap hx g2 (by omega) hj hT
          refine br_f (by decide) (hp _ (Or.inl ⟨_, w1, ?_⟩))
          rw [w2]
          rfl
        · intro hno
          refine br_t rfl (loop (hcase ?_))
          intro m e k hR
          exact hno ⟨_, (cy_unwrap H hj hR).2.2⟩
      · intro m e k hR
        have h7 := (cy_unwrap H hj hR).1
        rw [hx] at h7
        injection h7 with h7
        injection h7 with _ h7
        injection h7 with _ h7
        omega
    · intro m e k hR
      have h7 := (cy_unwrap H hj hR).1
      rw [hx] at h7
      injection h7 with h7
      injection h7 with h7 _
      exact h0 h7
  unfold wpY_findRoot
  dsimp only
  rw [ci, htx, nI_1]
  refine pk_eq j (i + 1) (fun h1 => ⟨vin, yw_atom H hm ?_⟩) (fun h1 => s22 (fun z => h1 z.1))
  cases ha : gt_at g t with
  | false => exact br_t rfl (s22 (by rw [ha]; rintro ⟨_, z⟩; cases z))
  | true =>
    refine br_f (by decide) (hp _ (Or.inl ⟨ff_tk t, ⟨rfl, ⟨trivial, trivial, ha, rfl⟩, ⟨trivial, trivial, trivial⟩, ?_⟩, rfl⟩))
    have h5 := hat (t, l, r) (List.mem_of_getElem? hx) ha
    have h6 : (l, r) = (none, 0) := h5
    injection h6 with h6 h7
    subst h6 h7
    show [(t, none, 0)] = cy_sl A i j
    rw [h1, cy_sl_one hx]
end
end
section
/-! the table is filled by size -/
def cy_t2 (g : gt_T) (A : List ff_A) (R : Nat → Int32) (z i : Nat) : Prop := ∀ a b, a < b → b ≤ A.length → (b - a < z ∨ (b - a = z ∧ a < i)) → cy_sp g A a b (R (a * 129 + b))
def mt_aO (ou : Nat → Int32) (L : List Int32) : Prop := ∀ j x, L[j]? = some x → ou j = x
theorem mt_aO_snoc {ou : Nat → Int32} {L : List Int32} {x : Int32} (h : mt_aO ou L) : mt_aO (upd ou L.length x) (L ++ [x]) := by
  intro j y hj
  by_cases hl : j < L.length
  · rw [List.getElem?_append_left hl] at hj
    rw [pk_un (by omega)]
    exact h j y hj
  · rw [List.getElem?_append_right (by omega)] at hj
    have hk : j - L.length = 0 := by
      obtain ⟨h1, _⟩ := List.getElem?_eq_some_iff.mp hj
      rw [List.length_singleton] at h1
      omega
    rw [hk] at hj
    have ex : x = y := Option.some.inj hj
    rw [show j = L.length by omega, pk_us]
    exact ex
/-! the stack of ranges -/
def cy_aW (fa ta : Nat → Int32) : List (Nat × Nat × ff_F) → Prop
  | [] => True
  | (b, e, _) :: W => fa W.length = nI b ∧ ta W.length = nI e ∧ cy_aW fa ta W
def cy_tW (g : gt_T) (A : List ff_A) : List (Nat × Nat × ff_F) → Prop
  | [] => True
  | (b, e, T) :: W => (cy_R g A T b e ∧ e ≤ A.length) ∧ cy_tW g A W
def cy_rW : List (Nat × Nat × ff_F) → List Int32
  | [] => []
  | (_, _, T) :: W => (ff_post T).reverse ++ cy_rW W
def cy_mW : List (Nat × Nat × ff_F) → Nat
  | [] => 0
  | (b, e, _) :: W => (e - b) + cy_mW W
def cy_kW (g : gt_T) (q i j : Nat) (pos : Nat → Nat) (W : List (Nat × Nat × ff_F)) : ff_F → List (Nat × Nat × ff_F)
  | .leaf => W
  | .inner m e _ p k => (cy_fr g q i pos (ff_len p), cy_to g q j pos (ff_len p), .inner m e () .leaf k) :: cy_kW g q i j pos W p
theorem cy_aW_keep {fa ta fa' ta' : Nat → Int32} : ∀ (W : List (Nat × Nat × ff_F)), (∀ x, x < W.length → fa' x = fa x ∧ ta' x = ta x) → cy_aW fa ta W → cy_aW fa' ta' W := by
  intro W
  induction W with
  | nil => intro _ _; trivial
  | cons x W ih =>
    intro hk h
    obtain ⟨b, e, T⟩ := x
    rw [List.length_cons] at hk
    obtain ⟨h1, h2, h3⟩ := h
    have h4 := hk W.length (by omega)
    exact ⟨h4.1.trans h1, h4.2.trans h2, ih (fun x hx => hk x (by omega)) h3⟩
theorem cy_kW_len {g : gt_T} {q i j : Nat} {pos : Nat → Nat} {W : List (Nat × Nat × ff_F)} : ∀ (F : ff_F), (cy_kW g q i j pos W F).length = W.length + ff_len F := by
  intro F
  induction F with
  | leaf => rfl
  | inner m e u p k ihp ihk =>
    show (cy_kW g q i j pos W p).length + 1 = W.length + (ff_len p + 1)
    rw [ihp]
    omega
theorem cy_kW_a {g : gt_T} {q i j : Nat} {pos : Nat → Nat} {W : List (Nat × Nat × ff_F)} {fa ta : Nat → Int32} (hW : cy_aW fa ta W) : ∀ (F : ff_F), (∀ c, c < ff_len F → fa (W.length + c) = nI (cy_fr g q i pos c) ∧ ta (W.length + c) = nI (cy_to g q j pos c)) → cy_aW fa ta (cy_kW g q i j pos W F) := by
  intro F
  induction F with
  | leaf => intro _; exact hW
  | inner m e u p k ihp ihk =>
    intro h
    have h1 := h (ff_len p) (Nat.lt_succ_self _)
    refine ⟨?_, ?_, ihp (fun c hc => h c (Nat.lt_succ_of_lt hc))⟩
    · rw [cy_kW_len]; exact h1.1
    · rw [cy_kW_len]; exact h1.2
theorem cy_kW_t {g : gt_T} {A : List ff_A} {q i j : Nat} {pos : Nat → Nat} {W : List (Nat × Nat × ff_F)} (hW : cy_tW g A W) : ∀ (F : ff_F), ff_wf g F → ff_ok g F → cy_K g A q i j pos F → (∀ c, c < ff_len F → cy_to g q j pos c ≤ A.length) → cy_tW g A (cy_kW g q i j pos W F) := by
  intro F
  induction F with
  | leaf => intro _ _ _ _; exact hW
  | inner m e u p k ihp ihk =>
    intro hw ho hK ht
    exact ⟨⟨⟨rfl, ⟨trivial, hw.2.1, hw.2.2⟩, ⟨trivial, ho.2.1, ho.2.2⟩, hK.2⟩, ht _ (Nat.lt_succ_self _)⟩, ihp hw.1 ho.1 hK.1 (fun c hc => ht c (Nat.lt_succ_of_lt hc))⟩
theorem cy_kW_r {g : gt_T} {q i j : Nat} {pos : Nat → Nat} {W : List (Nat × Nat × ff_F)} : ∀ (F : ff_F), cy_rW (cy_kW g q i j pos W F) = (ff_post F).reverse ++ cy_rW W := by
  intro F
  induction F with
  | leaf => rfl
  | inner m e u p k ihp ihk =>
    show ([] ++ (ff_post k ++ [ff_ent e])).reverse ++ cy_rW (cy_kW g q i j pos W p) = (ff_post p ++ (ff_post k ++ [ff_ent e])).reverse ++ cy_rW W
    rw [ihp, List.nil_append, List.reverse_append (as := ff_post p), List.append_assoc]
def ff_sN (g : gt_T) : ff_F → Nat
  | .leaf => 0
  | .inner m e _ p k => ff_sN g p + (ff_N g m e k).length
theorem ff_sN_fl (g : gt_T) (q : Nat) : ∀ (F : ff_F), ff_sN g F + ff_len F ≤ (ff_fl g F q).length + (if gt_LO g q = true ∧ ff_lf F = false then 1 else 0) := by
  intro F
  induction F with
  | leaf => exact Nat.zero_le _
  | inner m e u p k ihp ihk =>
    rw [ff_fl_in, List.length_append, List.length_append]
    show ff_sN g p + (ff_N g m e k).length + (ff_len p + 1) ≤ _ + (if gt_LO g q = true ∧ false = false then 1 else 0)
    unfold ff_sp
    by_cases hl : gt_LO g q = true
    · by_cases h0 : ff_len p = 0
      · have ep := ff_lf_leaf (ff_len0.mp h0)
        subst ep
        rw [if_pos ⟨hl, rfl⟩, if_pos ⟨hl, rfl⟩]
        show 0 + _ + (0 + 1) ≤ _
        simp only [List.length_nil]
        omega
      · have : ff_lf p = false := ff_lf_len (by omega)
        rw [if_pos ⟨hl, this⟩] at ihp
        rw [if_neg (fun z => h0 z.2), if_pos ⟨hl, rfl⟩, List.length_singleton]
        omega
    · rw [if_neg (fun z => hl z.1)] at ihp
      rw [if_neg (fun z => hl z.1), if_neg (fun z => hl z.1), List.length_singleton]
      omega
theorem ff_sN_nd {g : gt_T} (H : gt_ok g) {q : Nat} {F : ff_F} (hq : q < gt_n g) (hl : ff_len F = gt_ar g q) : ff_sN g F + gt_PC g q ≤ (ff_N g 0 (.inr q) F).length := by
  have h1 := ff_sN_fl g q F
  rw [ff_N0o, List.length_append]
  unfold ff_tl ff_sp
  rcases gt_cs H hq with ⟨a, b, c, _⟩ | ⟨a, b, c, _⟩ | ⟨a, b, c, _⟩ | ⟨a, b, c, _⟩
  · rw [a] at h1 ⊢; rw [b]; simp at h1 ⊢; omega
  · rw [a] at h1 ⊢; rw [b]
    have : ¬ ff_len F = 0 := by omega
    simp [this] at h1 ⊢
    split at h1 <;> omega
  · rw [a] at h1 ⊢; rw [b]; simp at h1 ⊢
    split at h1 <;> omega
  · rw [a] at h1 ⊢; rw [b]; simp at h1 ⊢; omega
theorem cy_kW_m {g : gt_T} {A : List ff_A} {q i j : Nat} {pos : Nat → Nat} {W : List (Nat × Nat × ff_F)} : ∀ (F : ff_F), cy_K g A q i j pos F → (∀ c, c < ff_len F → cy_to g q j pos c ≤ A.length) → cy_mW (cy_kW g q i j pos W F) = ff_sN g F + cy_mW W := by
  intro F
  induction F with
  | leaf => intro _ _; exact (Nat.zero_add _).symm
  | inner m e u p k ihp ihk =>
    intro hK ht
    show (cy_to g q j pos (ff_len p) - cy_fr g q i pos (ff_len p)) + cy_mW (cy_kW g q i j pos W p) = ff_sN g p + (ff_N g m e k).length + cy_mW W
    rw [ihp hK.1 (fun c hc => ht c (Nat.lt_succ_of_lt hc)), hK.2, cy_sl_len (ht _ (Nat.lt_succ_self _))]
    omega
theorem cy_mW_pos {g : gt_T} (H : gt_ok g) {A : List ff_A} : ∀ (W : List (Nat × Nat × ff_F)), cy_tW g A W → W.length ≤ cy_mW W := by
  intro W
  induction W with
  | nil => intro _; exact Nat.le_refl _
  | cons x W ih =>
    intro h
    obtain ⟨b, e, T⟩ := x
    have h1 := cy_R_lt H h.1.2 h.1.1
    have h2 := ih h.2
    show W.length + 1 ≤ (e - b) + cy_mW W
    omega
/-- the ends of the operands lie within the root's range -/
theorem cy_to_le {g : gt_T} {A : List ff_A} {q j c : Nat} {pos : Nat → Nat} (hpos : cy_pos g A q (gt_PC g q) pos) (hj : j ≤ A.length) : cy_to g q j pos c ≤ A.length := by
  unfold cy_to
  by_cases hlt : gt_s g q c < gt_PC g q
  · rw [if_pos hlt]
    exact Nat.le_of_lt (cy_pos_lt hpos hlt)
  · rw [if_neg hlt]
    exact hj
section
variable {g : gt_T} {n : Nat} {post : Int32 → SY → Prop} {A : List ff_A} {J : Int32 → Int32 → Int32 → (Nat → Int32) → (Nat → Int32) → (Nat → Int32) → (Nat → Int32) → (Nat → Int32) → (Nat → Int32) → (Nat → Int32) → (Nat → Int32) → (Nat → Int32) → (Nat → Int32) → (Nat → Int32) → (Nat → Int32) → (Nat → Int32) → (Nat → Int32) → (Nat → Int32) → (Nat → Int32) → (Nat → Int32) → (Nat → Int32) → (Nat → Int32) → Prop} {J2 : Int32 → (Nat → Int32) → (Nat → Int32) → (Nat → Int32) → (Nat → Int32) → (Nat → Int32) → (Nat → Int32) → (Nat → Int32) → (Nat → Int32) → (Nat → Int32) → (Nat → Int32) → (Nat → Int32) → (Nat → Int32) → (Nat → Int32) → (Nat → Int32) → (Nat → Int32) → (Nat → Int32) → (Nat → Int32) → (Nat → Int32) → (Nat → Int32) → Prop}
variable {f_maxOps f_maxNodes f_maxLevels f_maxNames f_listLen : Int32} {a_text a_list a_leadOp a_follow a_groupAt a_groupOp a_groupNext a_rootOf a_found a_fromAt a_toAt a_work a_mark a_order : Nat → Int32}
theorem yw_r22 (H : gt_ok g) (hm : f_maxNames + 1 = nI (gt_l g)) (hn : A.length = n) (h128 : n ≤ 128) (hma : mt_ma A a_text a_leadOp a_follow) (hg : cy_g g A) (hat : ∀ x, x ∈ A → cy_p1 g x) {z : Nat} (hz : 0 < z) (hzn : z ≤ n)
    (hJ : ∀ R' : Nat → Int32, cy_tb g A R' (z + 1) → J2 (nI (z + 1)) (gt_k g) (gt_p g) (gt_a g) (gt_c g) (gt_t g) a_text a_list a_leadOp a_follow a_groupAt a_groupOp a_groupNext R' a_found a_fromAt a_toAt a_work a_mark a_order) : ∀ (d i N : Nat) (R : Nat → Int32), i + z + d = n + 1 → d < N → cy_t2 g A R z i → wY_read_22 post J2 (nI z) f_maxOps f_maxNodes f_maxLevels f_maxNames (nI (gt_n g)) (nI n) f_listLen N (nI i) (gt_k g) (gt_p g) (gt_a g) (gt_c g) (gt_t g) a_text a_list a_leadOp a_follow a_groupAt a_groupOp a_groupNext R a_found a_fromAt a_toAt a_work a_mark a_order := by
  intro d
  induction d with
  | zero =>
    intro i N R hd hN hR
    obtain ⟨N, rfl⟩ : ∃ N', N = N' + 1 := ⟨N - 1, by omega⟩
    rw [wY_read_22]
    dsimp only
    rw [nI_add]
    refine br_t (nI_lt (by omega) (by omega)) (nm_r (nI_1 z) (hJ R ?_))
    intro a b hab hb hlt
    refine hR a b hab hb ?_
    by_cases h : b - a < z
    · exact Or.inl h
    · exact Or.inr ⟨by omega, by omega⟩
  | succ d ih =>
    intro i N R hd hN hR
    obtain ⟨N, rfl⟩ : ∃ N', N = N' + 1 := ⟨N - 1, by omega⟩
    rw [wY_read_22]
    dsimp only
    rw [nI_add]
    refine br_f (nI_nlt (by omega) (by omega)) (yw_findRoot (A := A) H hm (by omega) hma hg hat ?_ (by omega) (by omega) ?_)
    · intro a b hab hb hlt
      exact hR a b hab hb (Or.inl (by omega))
    · intro r hr
      have e1 : nI i * 129 + nI i + nI z = nI (i * 129 + (i + z)) := by
        rw [cy_ix, nI_add, Nat.add_assoc]
      rw [e1, nI_clamp (by omega)]
      refine ⟨vp_in_nI (by omega) (by decide), nm_e (nm_r (nI_1 i) (ih (i + 1) N _ (by omega) (by omega) ?_))⟩
      intro a b hab hb hlt
      by_cases hx : a = i ∧ b = i + z
      · obtain ⟨rfl, rfl⟩ := hx
        rw [pk_us]
        exact hr
      · rw [pk_un (by omega)]
        exact hR a b hab hb (by omega)
/-- the operands of a root are pushed -/
theorem yw_r245 (H : gt_ok g) (hn : A.length ≤ 128) (hma : mt_ma A a_text a_leadOp a_follow) {q i j p : Nat} {pos : Nat → Nat} (hq : q < gt_n g) (hpos : cy_pos g A q (gt_PC g q) pos) (h0 : pos 0 = p) {w : Nat} (hw : w + 3 < 256) {x1 : Int32} {st : Nat} {fa0 ta0 : Nat → Int32}
    (hJ : ∀ fa ta : Nat → Int32, (∀ x, x < w → fa x = fa0 x ∧ ta x = ta0 x) → (∀ c, c < gt_ar g q → fa (w + c) = nI (cy_fr g q i pos c) ∧ ta (w + c) = nI (cy_to g q j pos c)) → J x1 (nI (w + gt_ar g q)) (nI (st + 1)) (gt_k g) (gt_p g) (gt_a g) (gt_c g) (gt_t g) a_text a_list a_leadOp a_follow a_groupAt a_groupOp a_groupNext a_rootOf a_found fa ta a_work a_mark a_order) :
    ∀ (d c N : Nat) (fa ta : Nat → Int32), c + d = gt_ar g q → d < N → (∀ x, x < w → fa x = fa0 x ∧ ta x = ta0 x) → (∀ c', c' < c → fa (w + c') = nI (cy_fr g q i pos c') ∧ ta (w + c') = nI (cy_to g q j pos c')) →
    wY_read_245 post J x1 (nI st) (nI i) (nI j) (nI p) (nI (gt_ar g q)) f_maxOps f_maxNodes f_maxLevels f_maxNames (nI (gt_n g)) (nI n) f_listLen N (nI (w + c)) (nI c) (gt_k g) (gt_p g) (gt_a g) (gt_c g) (gt_t g) a_text a_list a_leadOp a_follow a_groupAt a_groupOp a_groupNext a_rootOf a_found fa ta a_work a_mark a_order := by
  have har := gt_ar3 H hq
  intro d
  induction d with
  | zero =>
    intro c N fa ta hd hN h1 h2
    obtain ⟨N, rfl⟩ : ∃ N', N = N' + 1 := ⟨N - 1, by omega⟩
    have ec : c = gt_ar g q := hd
    rw [wY_read_245]
    refine br_t (nI_le (by omega) (by omega)) (nm_r (nI_1 st) ?_)
    rw [ec]
    exact hJ fa ta h1 (by rw [← ec]; exact h2)
  | succ d ih =>
    intro c N fa ta hd hN h1 h2
    obtain ⟨N, rfl⟩ : ∃ N', N = N' + 1 := ⟨N - 1, by omega⟩
    have vin : vp_in (nI (w + c)) 256 := vp_in_nI (by omega) (by decide)
    rw [wY_read_245]
    refine br_f (nI_ge (by omega) (by omega)) (yw_from H hn hma hq hpos h0 (by omega) ?_)
    rw [nI_clamp (by omega)]
    refine ⟨vin, nm_e (yw_to H hn hma hq hpos h0 (by omega) ⟨vin, nm_e (nm_r (nI_1 _) (nm_r (nI_1 c) ?_))⟩)⟩
    refine ih (c + 1) N _ _ (by omega) (by omega) ?_ ?_
    · intro x hx
      rw [pk_un (by omega), pk_un (by omega)]
      exact h1 x hx
    · intro c' hc'
      by_cases he : c' = c
      · subst he
        rw [pk_us, pk_us]
        exact ⟨rfl, rfl⟩
      · rw [pk_un (by omega), pk_un (by omega)]
        exact h2 c' (by omega)
theorem yw_r104 (H : gt_ok g) (hn : A.length = n) (h128 : n ≤ 128) (hma : mt_ma A a_text a_leadOp a_follow) (htb : cy_tb g A a_rootOf (n + 1)) : ∀ (d st N : Nat) (W : List (Nat × Nat × ff_F)) (L : List Int32) (fa ta fd : Nat → Int32), cy_mW W ≤ d → d < N → st + cy_mW W ≤ n → L.length ≤ st → cy_aW fa ta W → cy_tW g A W → mt_aO fd L →
    (∀ fa' ta' fd' : Nat → Int32, mt_aO fd' (L ++ cy_rW W) → post (nI (L ++ cy_rW W).length) (f_maxOps, f_maxNodes, f_maxLevels, f_maxNames, nI (gt_n g), nI n, f_listLen, gt_k g, gt_p g, gt_a g, gt_c g, gt_t g, a_text, a_list, a_leadOp, a_follow, a_groupAt, a_groupOp, a_groupNext, a_rootOf, fd', fa', ta', a_work, a_mark, a_order)) →
    wY_read_104 post f_maxOps f_maxNodes f_maxLevels f_maxNames (nI (gt_n g)) (nI n) f_listLen N (nI L.length) (nI W.length) (nI st) (gt_k g) (gt_p g) (gt_a g) (gt_c g) (gt_t g) a_text a_list a_leadOp a_follow a_groupAt a_groupOp a_groupNext a_rootOf fd fa ta a_work a_mark a_order := by
  intro d
  induction d with
  | zero =>
    intro st N W L fa ta fd hd hN hst hL haW htW hfd hp
    obtain ⟨N, rfl⟩ : ∃ N', N = N' + 1 := ⟨N - 1, by omega⟩
    have h1 := cy_mW_pos H W htW
    have eW : W = [] := List.eq_nil_of_length_eq_zero (by omega)
    subst eW
    have hp2 := hp fa ta fd (by rw [show cy_rW [] = [] from rfl, List.append_nil]; exact hfd)
    rw [show cy_rW [] = [] from rfl, List.append_nil] at hp2
    rw [wY_read_104]
    exact br_c (fun _ => hp2) (fun _ => br_t (by show nI 0 ≤ 0; decide) hp2)
  | succ d ih =>
    intro st N W L fa ta fd hd hN hst hL haW htW hfd hp
    obtain ⟨N, rfl⟩ : ∃ N', N = N' + 1 := ⟨N - 1, by omega⟩
    have hmp := cy_mW_pos H W htW
    cases W with
    | nil =>
      have hp2 := hp fa ta fd (by rw [show cy_rW [] = [] from rfl, List.append_nil]; exact hfd)
      rw [show cy_rW [] = [] from rfl, List.append_nil] at hp2
      rw [wY_read_104]
      exact br_c (fun _ => hp2) (fun _ => br_t (by show nI 0 ≤ 0; decide) hp2)
    | cons x W =>
      obtain ⟨b, e, T⟩ := x
      obtain ⟨⟨hR, he⟩, htW⟩ := htW
      obtain ⟨a1, a2, a3⟩ := haW
      have hlt := cy_R_lt H he hR
      have hmW : cy_mW ((b, e, T) :: W) = (e - b) + cy_mW W := rfl
      have hmp2 := cy_mW_pos H W htW
      rw [hmW] at hd hst
      have hget := cy_tb_get H htb he (by omega) hR
      rw [List.length_cons]
      rw [wY_read_104]
      have vin : vp_in (nI W.length) 256 := vp_in_nI (by omega) (by decide)
      have cW : (nI W.length).toNatClampNeg = W.length := nI_clamp (by omega)
      refine br_f (nI_ge (by omega) (by omega)) (br_f (nI_nle (by omega) (by omega)) (nm_r (pk_m1 _) ⟨vin, nm_r (e' := nI b) (by rw [cW]; exact a1) ⟨vin, nm_r (e' := nI e) (by rw [cW]; exact a2) ?_⟩⟩))
      rw [cy_ix, nI_clamp (n := b * 129 + e) (by omega), cW]
      refine ⟨vp_in_nI (by omega) (by decide), nm_r hget ?_⟩
      rcases cy_rget H he hR with ⟨q, k, eT, r, hg⟩ | ⟨h0, h1, h2, t, r, hg, hcs⟩
      · have hpl := (List.getElem?_eq_some_iff.mp hg).1
        have hld : a_leadOp (b + ff_rp g T) = nI q := (hma _ _ hg).2.1
        have htx : a_text (b + ff_rp g T) = gt_PT g q 0 := (hma _ _ hg).1
        have vp : vp_in (nI (b + ff_rp g T)) 128 := vp_in_nI (by omega) (by decide)
        rw [nI_clamp (n := b + ff_rp g T) (by omega), hld, htx]
        subst eT
        obtain ⟨pos, p1, p2⟩ := cy_rpos H he hR
        obtain ⟨hq, hlen, hK, c1, c2, c3, c4⟩ := cy_root H he hR p2 p1.symm
        have h4 := gt_pc4 H hq
        have hn12 := H.1
        have har := gt_ar3 H hq
        refine ⟨vp, nm_e ⟨vp, br_f (gt_pt H hq (by omega)).1 (br_t (nI_pos' (by omega)) ?_)⟩⟩
        unfold wY_read_221
        rw [nI_clamp (n := L.length) (by omega)]
        refine ⟨vp_in_nI (by omega) (by decide), nm_e (nm_r (nI_1 _) (br_t (nI_pos' (by omega)) (yw_ar H hq ⟨gt_ar g q + 1, ?_⟩)))⟩
        have hsN := ff_sN_nd H hq hlen
        have hNl : (ff_N g 0 (.inr q) k).length = e - b := by
          have h5 : ff_N g 0 (.inr q) k = cy_sl A b e := hR.2.2.2
          rw [h5, cy_sl_len he]
        have hto : ∀ c, c < ff_len k → cy_to g q e pos c ≤ A.length := fun c _ => cy_to_le p2 he
        have hkm := cy_kW_m (W := W) k hK hto
        refine yw_r245 H (by omega) hma hq p2 p1 (w := W.length) (i := b) (j := e) (st := st) (fa0 := fa) (ta0 := ta) (by omega) ?_ (gt_ar g q) 0 _ fa ta (by omega) (Nat.lt_succ_self _) (fun x _ => ⟨rfl, rfl⟩) (fun c h => absurd h (Nat.not_lt_zero _))
        intro fa' ta' hfa hta
        have hlen2 : (cy_kW g q b e pos W k).length = W.length + gt_ar g q := by rw [cy_kW_len, hlen]
        have hL2 : (L ++ [100 + nI q]).length = L.length + 1 := by rw [List.length_append]; rfl
        rw [← hlen2, ← hL2]
        refine ih (st + 1) N (cy_kW g q b e pos W k) (L ++ [100 + nI q]) fa' ta' _ (by omega) (by omega) (by omega) (by omega) (cy_kW_a (cy_aW_keep W hfa a3) k (by rw [hlen]; exact hta)) (cy_kW_t htW k hR.2.1.2.1 hR.2.2.1.2.1 hK hto) (mt_aO_snoc hfd) ?_
        have er : (L ++ [100 + nI q]) ++ cy_rW (cy_kW g q b e pos W k) = L ++ cy_rW ((b, e, ff_nd q k) :: W) := by
          rw [cy_kW_r]
          show _ = L ++ (([] ++ (ff_post k ++ [100 + nI q])).reverse ++ cy_rW W)
          rw [List.nil_append, List.reverse_append]
          simp only [List.append_assoc, List.reverse_cons, List.reverse_nil, List.nil_append]
        rw [er]
        exact hp
      · have hpl := (List.getElem?_eq_some_iff.mp hg).1
        have hld : a_leadOp b = -1 := (hma _ _ hg).2.1
        have htx : a_text b = t := (hma _ _ hg).1
        have vp : vp_in (nI b) 128 := vp_in_nI (by omega) (by decide)
        rw [h0, Nat.add_zero, nI_clamp (n := b) (by omega), hld, htx]
        rcases hcs with ⟨m, ee, k, eT, et⟩ | ⟨eT, ha, ej⟩
        · subst eT
          obtain ⟨_, u2, u3⟩ := cy_unwrap H he hR
          have hlt2 := cy_R_lt H (by omega) u3
          have eW : W.length + 1 = ((b + 1, e - 1, Std.DTreeMap.Internal.Impl.inner m ee () .leaf k) :: W : List (Nat × Nat × ff_F)).length := rfl
          refine ⟨vp, nm_e ⟨vp, br_t et ⟨vin, nm_r (by rw [nI_1]) ⟨vin, nm_r (by rw [show e = (e - 1) + 1 by omega, nI_pred]) (nm_r (nI_1 _) (nm_r (nI_1 st) ?_))⟩⟩⟩⟩
          rw [eW]
          refine ih (st + 1) N ((b + 1, e - 1, .inner m ee () .leaf k) :: W) L _ _ fd ?_ (by omega) ?_ (by omega) ⟨pk_us, pk_us, cy_aW_keep W (fun x hx => ⟨pk_un (by omega), pk_un (by omega)⟩) a3⟩ ⟨⟨u3, by omega⟩, htW⟩ hfd hp
          · show (e - 1 - (b + 1)) + cy_mW W ≤ d
            omega
          · show st + 1 + ((e - 1 - (b + 1)) + cy_mW W) ≤ n
            omega
        · refine ⟨vp, nm_e ⟨vp, br_f (gt_at_ne ha).1 (br_f (by decide) ⟨vp, ?_⟩)⟩⟩
          unfold wY_read_221
          rw [nI_clamp (n := L.length) (by omega)]
          refine ⟨vp_in_nI (by omega) (by decide), nm_e (nm_r (nI_1 _) (br_f (by decide) ⟨1, ?_⟩))⟩
          rw [wY_read_245]
          refine br_t (by decide) (nm_r (nI_1 st) ?_)
          have hL2 : (L ++ [t]).length = L.length + 1 := by rw [List.length_append]; rfl
          rw [← hL2]
          refine ih (st + 1) N W (L ++ [t]) fa ta _ (by omega) (by omega) (by omega) (by omega) a3 htW (mt_aO_snoc hfd) ?_
          have er : (L ++ [t]) ++ cy_rW W = L ++ cy_rW ((b, e, T) :: W) := by
            subst eT
            show _ = L ++ ([t] ++ cy_rW W)
            rw [List.append_assoc]
          rw [er]
          exact hp
end
end
section
theorem mt_sc_ge {g : gt_T} : ∀ (l : List Int32) (i : Nat) (s : mt_S), (mt_sc g l i s).1 = -1 ∨ ∃ j, j ≤ i + l.length ∧ (mt_sc g l i s).1 = nI j := by
  intro l
  induction l with
  | nil =>
    intro i s
    show (if ff_lf s.2.1 = true then (nI i, s) else mt_end g i s.2.2 (mt_st g s.1 s.2.1)).1 = -1 ∨ ∃ j, j ≤ i + 0 ∧ (if ff_lf s.2.1 = true then (nI i, s) else mt_end g i s.2.2 (mt_st g s.1 s.2.1)).1 = nI j
    by_cases hl : ff_lf s.2.1 = true
    · rw [if_pos hl]; exact Or.inr ⟨i, Nat.le_refl _, rfl⟩
    · rw [if_neg hl]
      match mt_st g s.1 s.2.1 with
      | ([], c) => exact Or.inl rfl
      | (f :: S, c) => exact Or.inr ⟨i, Nat.le_refl _, rfl⟩
  | cons t l ih =>
    intro i s
    show (match mt_sp g s t with | none => (nI i, s) | some s' => mt_sc g l (i + 1) s').1 = -1 ∨ ∃ j, j ≤ i + (l.length + 1) ∧ (match mt_sp g s t with | none => (nI i, s) | some s' => mt_sc g l (i + 1) s').1 = nI j
    match mt_sp g s t with
    | none => exact Or.inr ⟨i, by omega, rfl⟩
    | some s' =>
      rcases ih (i + 1) s' with h | ⟨j, h1, h2⟩
      · exact Or.inl h
      · exact Or.inr ⟨j, by omega, h2⟩
section
variable {g : gt_T} {n : Nat} {post : Int32 → SY → Prop} {ts : List Int32}
variable {f_maxOps f_maxNodes f_maxLevels f_maxNames f_listLen : Int32} {a_text a_list a_leadOp a_follow a_groupAt a_groupOp a_groupNext a_rootOf a_found a_fromAt a_toAt a_work a_mark a_order : Nat → Int32}
theorem yw_mal (H : gt_ok g) (hm : f_maxNames + 1 = nI (gt_l g)) (h128 : n ≤ 128) (hts : ts.length = n) (htx : mt_aO a_text ts)
    (hp : ∀ ld' fo' ga' go' gn' : Nat → Int32, ((mt_sc g ts 0 mt_0).1 = -1 → mt_ma (ff_C g (mt_sc g ts 0 mt_0).2.2.1) a_text ld' fo') → post (mt_sc g ts 0 mt_0).1 (f_maxOps, f_maxNodes, f_maxLevels, f_maxNames, nI (gt_n g), nI n, f_listLen, gt_k g, gt_p g, gt_a g, gt_c g, gt_t g, a_text, a_list, ld', fo', ga', go', gn', a_rootOf, a_found, a_fromAt, a_toAt, a_work, a_mark, a_order)) : wpY_malformedAt post (f_maxOps, f_maxNodes, f_maxLevels, f_maxNames, nI (gt_n g), nI n, f_listLen, gt_k g, gt_p g, gt_a g, gt_c g, gt_t g, a_text, a_list, a_leadOp, a_follow, a_groupAt, a_groupOp, a_groupNext, a_rootOf, a_found, a_fromAt, a_toAt, a_work, a_mark, a_order) :=
  ⟨n + 1, yw_mal_l H hm h128 ts 0 mt_0 (n + 1) a_leadOp a_follow a_groupAt a_groupOp a_groupNext (by omega) (fun j t h => by rw [Nat.zero_add]; exact htx j t h) (mt_0w g) rfl (mt_ma_0 _ _ _) trivial (by omega) hp⟩
theorem yw_r12 (H : gt_ok g) (hm : f_maxNames + 1 = nI (gt_l g)) (h128 : n ≤ 128) {A : List ff_A} (hn : A.length = n) (hma : mt_ma A a_text a_leadOp a_follow) (hg : cy_g g A) (hat : ∀ x, x ∈ A → cy_p1 g x)
    (hT : ∀ T, cy_R g A T 0 n → ∀ R fd fa ta : Nat → Int32, mt_aO fd (ff_post T).reverse → post (nI (ff_sz T)) (f_maxOps, f_maxNodes, f_maxLevels, f_maxNames, nI (gt_n g), nI n, f_listLen, gt_k g, gt_p g, gt_a g, gt_c g, gt_t g, a_text, a_list, a_leadOp, a_follow, a_groupAt, a_groupOp, a_groupNext, R, fd, fa, ta, a_work, a_mark, a_order)) (hF : (¬ ∃ T, cy_R g A T 0 n) → ∀ R : Nat → Int32, post (-7) (f_maxOps, f_maxNodes, f_maxLevels, f_maxNames, nI (gt_n g), nI n, f_listLen, gt_k g, gt_p g, gt_a g, gt_c g, gt_t g, a_text, a_list, a_leadOp, a_follow, a_groupAt, a_groupOp, a_groupNext, R, a_found, a_fromAt, a_toAt, a_work, a_mark, a_order)) (hn0 : 0 < n) :
    ∀ (d z N : Nat) (R : Nat → Int32), z + d = n + 1 → d < N → 0 < z → cy_tb g A R z → wY_read_12 post f_maxOps f_maxNodes f_maxLevels f_maxNames (nI (gt_n g)) (nI n) f_listLen N (nI z) (gt_k g) (gt_p g) (gt_a g) (gt_c g) (gt_t g) a_text a_list a_leadOp a_follow a_groupAt a_groupOp a_groupNext R a_found a_fromAt a_toAt a_work a_mark a_order := by
  intro d
  induction d with
  | zero =>
    intro z N R hd hN hz htb
    obtain ⟨N, rfl⟩ : ∃ N', N = N' + 1 := ⟨N - 1, by omega⟩
    have ez : z = n + 1 := hd
    subst ez
    have hsp := htb 0 n hn0 (by omega) (by omega)
    rw [Nat.zero_mul, Nat.zero_add] at hsp
    rw [wY_read_12]
    refine br_t (nI_lt (by omega) (by omega)) ⟨vp_in_nI (by omega) (by decide), ?_⟩
    rw [nI_clamp (by omega)]
    rcases hsp with ⟨T, h1, h2⟩ | ⟨h1, h2⟩
    · rw [h2]
      have hrp : 0 + ff_rp g T < A.length := by
        rcases cy_rget H (by omega) h1 with ⟨_, _, _, _, hg⟩ | ⟨h0, _, _, _, _, hg, _⟩
        · exact (List.getElem?_eq_some_iff.mp hg).1
        · rw [h0]; exact (List.getElem?_eq_some_iff.mp hg).1
      refine br_t (nI_pos' (by omega)) (nm_e (nm_e ⟨n + 1, ?_⟩))
      have hW : cy_mW [(0, n, T)] = n := by
        show (n - 0) + 0 = n
        omega
      refine yw_r104 (A := A) H hn h128 hma htb n 0 (n + 1) [(0, n, T)] [] _ _ a_found (by omega) (by omega) (by omega) (Nat.le_refl _) ⟨pk_us, pk_us, trivial⟩ ⟨⟨h1, by omega⟩, trivial⟩ (fun j x h => by simp at h) ?_
      have er : ([] : List Int32) ++ cy_rW [(0, n, T)] = (ff_post T).reverse := by
        show [] ++ ((ff_post T).reverse ++ []) = _
        rw [List.nil_append, List.append_nil]
      rw [er, List.length_reverse, ff_post_len]
      intro fa ta fd hfd
      exact hT T h1 R fd fa ta hfd
    · rw [h2]
      exact br_f (by decide) (hF h1 R)
  | succ d ih =>
    intro z N R hd hN hz htb
    obtain ⟨N, rfl⟩ : ∃ N', N = N' + 1 := ⟨N - 1, by omega⟩
    rw [wY_read_12]
    refine br_f (nI_nlt (by omega) (by omega)) ⟨n + 2, ?_⟩
    refine yw_r22 (A := A) H hm hn h128 hma hg hat hz (by omega) ?_ (n + 1 - z) 0 (n + 2) R (by omega) (by omega) ?_
    · intro R' hR'
      exact ih (z + 1) N R' (by omega) (by omega) (by omega) hR'
    · intro a b hab hb hc
      rcases hc with h | ⟨_, h⟩
      · exact htb a b hab hb h
      · exact absurd h (Nat.not_lt_zero _)
/-- what read answers, by the machine's scan -/
theorem yw_read (H : gt_ok g) (hm : f_maxNames + 1 = nI (gt_l g)) (h128 : n ≤ 128) (hts : ts.length = n) (htx : mt_aO a_text ts)
    (hp1 : (mt_sc g ts 0 mt_0).1 ≠ -1 → ∀ ld fo ga go gn : Nat → Int32, post (-6) (f_maxOps, f_maxNodes, f_maxLevels, f_maxNames, nI (gt_n g), nI n, f_listLen, gt_k g, gt_p g, gt_a g, gt_c g, gt_t g, a_text, a_list, ld, fo, ga, go, gn, a_rootOf, a_found, a_fromAt, a_toAt, a_work, a_mark, a_order))
    (hp2 : ∀ T, mt_sc g ts 0 mt_0 = (-1, [], T, false) → ff_wf g T → ff_len T = 1 → ff_ok g T → (ff_C g T).map Prod.fst = ts → ∀ ld fo ga go gn R fd fa ta : Nat → Int32, mt_aO fd (ff_post T).reverse → post (nI (ff_sz T)) (f_maxOps, f_maxNodes, f_maxLevels, f_maxNames, nI (gt_n g), nI n, f_listLen, gt_k g, gt_p g, gt_a g, gt_c g, gt_t g, a_text, a_list, ld, fo, ga, go, gn, R, fd, fa, ta, a_work, a_mark, a_order))
    (hp3 : ∀ T, mt_sc g ts 0 mt_0 = (-1, [], T, true) → ∀ ld fo ga go gn R : Nat → Int32, post (-7) (f_maxOps, f_maxNodes, f_maxLevels, f_maxNames, nI (gt_n g), nI n, f_listLen, gt_k g, gt_p g, gt_a g, gt_c g, gt_t g, a_text, a_list, ld, fo, ga, go, gn, R, a_found, a_fromAt, a_toAt, a_work, a_mark, a_order)) : wpY_read post (f_maxOps, f_maxNodes, f_maxLevels, f_maxNames, nI (gt_n g), nI n, f_listLen, gt_k g, gt_p g, gt_a g, gt_c g, gt_t g, a_text, a_list, a_leadOp, a_follow, a_groupAt, a_groupOp, a_groupNext, a_rootOf, a_found, a_fromAt, a_toAt, a_work, a_mark, a_order) := by
  unfold wpY_read
  refine yw_mal H hm h128 hts htx ?_
  intro ld fo ga go gn hma
  rcases mt_sc_ge (g := g) ts 0 mt_0 with h1 | ⟨j, hj, h1⟩
  · obtain ⟨c, cl, e1, e2, e3, e4, e5⟩ := mt_sc_ok H ts 0 mt_0 (by omega) (mt_0w g) (mt_0v g) h1
    have e5' : (ff_C g c).map Prod.fst = ts := e5
    have hlen : (ff_C g c).length = n := by rw [← hts, ← e5', List.length_map]
    have hma' := hma h1
    rw [e1] at hma'
    have hma2 : mt_ma (ff_C g c) a_text ld fo := hma'
    have hsz := ff_C_sz H e2 e3
    have hg : cy_g g (ff_C g c) := by
      cases c with
      | leaf => simp [ff_len] at e3
      | inner m e u p k => exact (cy_all H _ e2).2
    have hR : mt_sc g ts 0 mt_0 = (-1, [], c, cl) := Prod.ext h1 e1
    rw [h1]
    refine br_t (by decide) ⟨n + 1, ?_⟩
    refine yw_r12 (A := ff_C g c) H hm h128 hlen hma2 hg (cy_atm H c e2).2 ?_ ?_ (by omega) n 1 (n + 1) a_rootOf (by omega) (by omega) (by omega) ?_
    · intro T hT R fd fa ta hfd
      have hT4 : ff_C g T = ff_C g c := by
        have := hT.2.2.2
        rw [← hlen, cy_sl_all] at this
        exact this
      have htr := mt_sc_tree H hT.1 hT.2.1 hT.2.2.1
      rw [hT4, e5'] at htr
      exact hp2 T htr hT.2.1 hT.1 hT.2.2.1 (by rw [hT4]; exact e5') ld fo ga go gn R fd fa ta hfd
    · intro hno R
      cases hcl : cl with
      | false =>
        exfalso
        apply hno
        refine ⟨c, e3, e2, e4 hcl, ?_⟩
        rw [← hlen, cy_sl_all]
      | true =>
        rw [hcl] at hR
        exact hp3 c hR ld fo ga go gn R
    · intro a b hab hb hlt
      omega
  · rw [h1]
    refine br_f (nI_pos (by omega)) (hp1 ?_ ld fo ga go gn)
    rw [h1]
    exact nI_nm1 (by omega)
end
end
section
/-! the component's scan walks with the machine -/
def mt_nx (g : gt_T) (f : mt_Fr) : Int32 := match f with
  | (none, _) => 0
  | (some q, k) => if gt_s g q (ff_len k) = gt_PC g q then 0 else nI (gt_s g q (ff_len k))
def mt_aS (g : gt_T) (fp fx : Nat → Int32) : List mt_Fr → Prop
  | [] => True
  | f :: S => fp S.length = gt_oc f.1 ∧ fx S.length = mt_nx g f ∧ mt_aS g fp fx S
def mt_out (s : mt_S) : List Int32 := mt_pS s.1 ++ ff_post s.2.1
def mt_tw (g : gt_T) (S : List mt_Fr) : Bool := match S with
  | (some q, k) :: _ => decide (gt_s g q (ff_len k) = gt_PC g q)
  | _ => false
theorem mt_aS_upd {g : gt_T} {fp fx : Nat → Int32} {a b : Int32} {d : Nat} : ∀ (S : List mt_Fr), S.length ≤ d → mt_aS g fp fx S → mt_aS g (upd fp d a) (upd fx d b) S := by
  intro S
  induction S with
  | nil => intro _ _; trivial
  | cons f S ih =>
    intro hd h
    rw [List.length_cons] at hd
    obtain ⟨h1, h2, h3⟩ := h
    refine ⟨?_, ?_, ih (by omega) h3⟩
    · rw [pk_un (by omega)]; exact h1
    · rw [pk_un (by omega)]; exact h2
theorem mt_aS_updx {g : gt_T} {fp fx : Nat → Int32} {b : Int32} {d : Nat} {S : List mt_Fr} (hd : S.length ≤ d) (h : mt_aS g fp fx S) : mt_aS g fp (upd fx d b) S := by
  have := mt_aS_upd (a := fp d) (b := b) S hd h
  have e : upd fp d (fp d) = fp := by
    funext j
    by_cases h : j = d
    · rw [h, pk_us]
    · rw [pk_un h]
  rw [e] at this
  exact this
theorem mt_fr_sz {g : gt_T} (H : gt_ok g) {f : mt_Fr} (hw : mt_wF g f) : (ff_post f.2).length ≤ (mt_fF g f).length ∧ 1 ≤ (mt_fF g f).length := by
  match f, hw with
  | (none, k), hw =>
    have := ff_lf_leaf hw
    subst this
    exact ⟨Nat.zero_le _, Nat.le_refl _⟩
  | (some q, k), ⟨hq, hk, hl, hlo⟩ =>
    have h1 := (ff_size H k hk).1 q
    rw [ff_post_len]
    show ff_sz k ≤ (ff_fl g k q ++ ff_sp g q (ff_len k) 0).length ∧ 1 ≤ (ff_fl g k q ++ ff_sp g q (ff_len k) 0).length
    have hs : 0 < gt_s g q (ff_len k) := by
      unfold gt_s
      split
      · rename_i h
        have := hlo h
        have h2 : ¬ ff_len k = 0 := fun z => by rw [ff_len0.mp z] at this; cases this
        omega
      · omega
    rw [List.length_append, ff_sp_s hs, List.length_singleton]
    by_cases hx : gt_LO g q = true ∧ ff_lf k = false
    · rw [if_pos hx] at h1
      omega
    · rw [if_neg hx] at h1
      omega
theorem mt_out_le {g : gt_T} (H : gt_ok g) : ∀ (S : List mt_Fr), mt_wS g S → (mt_pS S).length ≤ (mt_fS g S).length ∧ S.length ≤ (mt_fS g S).length := by
  intro S
  induction S with
  | nil => intro _; exact ⟨Nat.le_refl _, Nat.le_refl _⟩
  | cons f S ih =>
    intro hw
    obtain ⟨h1, h2⟩ := ih hw.2
    obtain ⟨h3, h4⟩ := mt_fr_sz H hw.1
    show (mt_pS S ++ ff_post f.2).length ≤ (mt_fS g S ++ mt_fF g f).length ∧ S.length + 1 ≤ (mt_fS g S ++ mt_fF g f).length
    rw [List.length_append, List.length_append]
    omega
theorem mt_out_le2 {g : gt_T} (H : gt_ok g) {s : mt_S} (hw : mt_w g s) : (mt_out s).length ≤ (mt_fl g s).length ∧ s.1.length ≤ (mt_fl g s).length := by
  obtain ⟨h1, h2⟩ := mt_out_le H s.1 hw.1
  unfold mt_out mt_fl
  rw [List.length_append, List.length_append]
  have h3 : (ff_post s.2.1).length ≤ (ff_C g s.2.1).length := by
    by_cases hl : ff_len s.2.1 = 0
    · rw [ff_lf_leaf (ff_len0.mp hl)]
      exact Nat.le_refl _
    · have h5 := hw.2.2
      rw [ff_post_len]
      exact (ff_C_sz H hw.2.1 (by omega)).1
  omega
section
variable {g : gt_T} {n : Nat} {post : SX → Prop} {post1 : Int32 → Prop} {post2 : Int32 → SX → Prop}
variable {f_opLimit f_nodeLimit f_levelLimit f_textLimit f_nodeTotal f_treeTotal f_depth f_wanting f_clashing f_outLen f_treeBase f_treeNodes f_workDepth : Int32} {a_opener a_joiner a_inner a_text a_nodeList a_frameOp a_frameNext a_out a_partner a_openAt a_treeOp a_parent a_slot a_kid a_wrapped a_workNode a_workStep : Nat → Int32}
theorem xw_ro (H : gt_ok g) {q : Nat} (hq : q < gt_n g) (hp : post1 (gt_b (gt_RO g q))) : wpX_rightOpen post1 (f_opLimit, f_nodeLimit, f_levelLimit, nI (gt_l g), f_textLimit, nI (gt_n g), nI n, f_nodeTotal, f_treeTotal, f_depth, f_wanting, f_clashing, f_outLen, f_treeBase, f_treeNodes, f_workDepth, gt_k g, gt_p g, gt_a g, gt_c g, gt_t g, a_opener, a_joiner, a_inner, a_text, a_nodeList, a_frameOp, a_frameNext, a_out, a_partner, a_openAt, a_treeOp, a_parent, a_slot, a_kid, a_wrapped, a_workNode, a_workStep) (nI q) := by
  obtain ⟨vin, cl⟩ := gt_in12 H hq
  have hn := H.1
  unfold wpX_rightOpen
  dsimp only
  rw [cl]
  unfold gt_RO at hp
  refine br_f (nI_pos (by omega)) ⟨vin, br_c (fun h => ?_) (fun h => ⟨vin, br_c (fun h2 => ?_) (fun h2 => ?_)⟩)⟩
  · simp only [h, decide_true, Bool.true_or] at hp; exact hp
  · simp only [h2, decide_true, Bool.or_true] at hp; exact hp
  · simp only [h, h2, decide_false, Bool.or_false] at hp; exact hp
theorem xw_lo (H : gt_ok g) {q : Nat} (hq : q < gt_n g) (hp : post1 (gt_b (gt_LO g q))) : wpX_leftOpen post1 (f_opLimit, f_nodeLimit, f_levelLimit, nI (gt_l g), f_textLimit, nI (gt_n g), nI n, f_nodeTotal, f_treeTotal, f_depth, f_wanting, f_clashing, f_outLen, f_treeBase, f_treeNodes, f_workDepth, gt_k g, gt_p g, gt_a g, gt_c g, gt_t g, a_opener, a_joiner, a_inner, a_text, a_nodeList, a_frameOp, a_frameNext, a_out, a_partner, a_openAt, a_treeOp, a_parent, a_slot, a_kid, a_wrapped, a_workNode, a_workStep) (nI q) := by
  obtain ⟨vin, cl⟩ := gt_in12 H hq
  have hn := H.1
  unfold wpX_leftOpen
  dsimp only
  rw [cl]
  unfold gt_LO at hp
  refine br_f (nI_pos (by omega)) ⟨vin, br_c (fun h => ?_) (fun h => ⟨vin, br_c (fun h2 => ?_) (fun h2 => ?_)⟩)⟩
  · simp only [h, decide_true, Bool.true_or] at hp; exact hp
  · simp only [h2, decide_true, Bool.or_true] at hp; exact hp
  · simp only [h, h2, decide_false, Bool.or_false] at hp; exact hp
theorem xw_ar (H : gt_ok g) {q : Nat} (hq : q < gt_n g) (hp : post1 (nI (gt_ar g q))) : wpX_arity post1 (f_opLimit, f_nodeLimit, f_levelLimit, nI (gt_l g), f_textLimit, nI (gt_n g), nI n, f_nodeTotal, f_treeTotal, f_depth, f_wanting, f_clashing, f_outLen, f_treeBase, f_treeNodes, f_workDepth, gt_k g, gt_p g, gt_a g, gt_c g, gt_t g, a_opener, a_joiner, a_inner, a_text, a_nodeList, a_frameOp, a_frameNext, a_out, a_partner, a_openAt, a_treeOp, a_parent, a_slot, a_kid, a_wrapped, a_workNode, a_workStep) (nI q) := by
  obtain ⟨vin, cl⟩ := gt_in12 H hq
  obtain ⟨h1, h2, h3⟩ := H.2.2.2.2.1 q hq
  unfold wpX_arity
  dsimp only
  rw [cl]
  unfold gt_ar at hp
  refine ⟨vin, br_c (fun h => ⟨vin, ?_⟩) (fun h => ⟨vin, br_c (fun h2 => ⟨vin, ?_⟩) (fun h2 => ⟨vin, ?_⟩)⟩)⟩
  · rw [if_pos h] at hp; rw [h3, nI_1]; exact hp
  · rw [if_neg h, if_pos h2] at hp
    rw [h3, show gt_PC g q = (gt_PC g q - 1) + 1 by omega, nI_pred]
    exact hp
  · rw [if_neg h, if_neg h2] at hp; rw [h3]; exact hp
theorem xw_ct (H : gt_ok g) {l r : Nat} (hl : l < gt_n g) (hr : r < gt_n g) (hp : post1 (gt_CT g l r)) : wpX_contest post1 (f_opLimit, f_nodeLimit, f_levelLimit, nI (gt_l g), f_textLimit, nI (gt_n g), nI n, f_nodeTotal, f_treeTotal, f_depth, f_wanting, f_clashing, f_outLen, f_treeBase, f_treeNodes, f_workDepth, gt_k g, gt_p g, gt_a g, gt_c g, gt_t g, a_opener, a_joiner, a_inner, a_text, a_nodeList, a_frameOp, a_frameNext, a_out, a_partner, a_openAt, a_treeOp, a_parent, a_slot, a_kid, a_wrapped, a_workNode, a_workStep) (nI l) (nI r) := by
  obtain ⟨vl, cl⟩ := gt_in12 H hl
  obtain ⟨vr, cr⟩ := gt_in12 H hr
  unfold wpX_contest
  dsimp only
  rw [cl, cr]
  unfold gt_CT at hp
  have st : gt_p g l = gt_p g r → ¬ (gt_a g l = 0 ∧ gt_a g r = 0) → wX_contest_56 post1 (nI l) (nI r) f_opLimit f_nodeLimit f_levelLimit (nI (gt_l g)) f_textLimit (nI (gt_n g)) (nI n) f_nodeTotal f_treeTotal f_depth f_wanting f_clashing f_outLen f_treeBase f_treeNodes f_workDepth (gt_k g) (gt_p g) (gt_a g) (gt_c g) (gt_t g) a_opener a_joiner a_inner a_text a_nodeList a_frameOp a_frameNext a_out a_partner a_openAt a_treeOp a_parent a_slot a_kid a_wrapped a_workNode a_workStep := by
    intro h h0
    unfold wX_contest_56
    rw [cl, cr]
    rw [if_pos h, if_neg h0] at hp
    refine ⟨vl, br_c (fun h1 => ⟨vr, br_c (fun h2 => ?_) (fun h2 => ?_)⟩) (fun h1 => ?_)⟩
    · rw [if_pos ⟨h1, h2⟩] at hp; exact hp
    · rw [if_neg (fun z => h2 z.2)] at hp; exact hp
    · rw [if_neg (fun z => h1 z.1)] at hp; exact hp
  refine ⟨vl, vr, br_c (fun h => ⟨vl, br_c (fun h1 => ⟨vr, br_c (fun h2 => ?_) (fun h2 => ?_)⟩) (fun h1 => ?_)⟩) (fun h => ⟨vl, vr, br_c (fun h2 => ?_) (fun h2 => ?_)⟩)⟩
  · rw [if_pos h, if_pos ⟨h1, h2⟩] at hp; exact hp
  · exact st h (fun z => h2 z.2)
  · exact st h (fun z => h1 z.1)
  · rw [if_neg h, if_pos h2] at hp; exact hp
  · rw [if_neg h, if_neg h2] at hp; exact hp
theorem xw_emit {O : List Int32} {e : Int32} (hO : O.length < 128) (ho : mt_aO a_out O) (hp : ∀ ou : Nat → Int32, mt_aO ou (O ++ [e]) → post (f_opLimit, f_nodeLimit, f_levelLimit, nI (gt_l g), f_textLimit, nI (gt_n g), nI n, f_nodeTotal, f_treeTotal, f_depth, f_wanting, f_clashing, nI (O ++ [e]).length, f_treeBase, f_treeNodes, f_workDepth, gt_k g, gt_p g, gt_a g, gt_c g, gt_t g, a_opener, a_joiner, a_inner, a_text, a_nodeList, a_frameOp, a_frameNext, ou, a_partner, a_openAt, a_treeOp, a_parent, a_slot, a_kid, a_wrapped, a_workNode, a_workStep)) : wpX_emit post (f_opLimit, f_nodeLimit, f_levelLimit, nI (gt_l g), f_textLimit, nI (gt_n g), nI n, f_nodeTotal, f_treeTotal, f_depth, f_wanting, f_clashing, nI O.length, f_treeBase, f_treeNodes, f_workDepth, gt_k g, gt_p g, gt_a g, gt_c g, gt_t g, a_opener, a_joiner, a_inner, a_text, a_nodeList, a_frameOp, a_frameNext, a_out, a_partner, a_openAt, a_treeOp, a_parent, a_slot, a_kid, a_wrapped, a_workNode, a_workStep) e := by
  unfold wpX_emit
  dsimp only
  rw [nI_clamp (by omega)]
  have := hp _ (mt_aO_snoc ho)
  rw [List.length_append, List.length_singleton] at this
  exact br_f (nI_ge (b := 128) hO (by decide)) ⟨vp_in_nI hO (by decide), nm_e (nm_r (nI_1 _) this)⟩
theorem xw_push {d : Nat} {x y : Int32} (hd : d < 128) (hp : post (f_opLimit, f_nodeLimit, f_levelLimit, nI (gt_l g), f_textLimit, nI (gt_n g), nI n, f_nodeTotal, f_treeTotal, nI (d + 1), f_wanting, f_clashing, f_outLen, f_treeBase, f_treeNodes, f_workDepth, gt_k g, gt_p g, gt_a g, gt_c g, gt_t g, a_opener, a_joiner, a_inner, a_text, a_nodeList, upd a_frameOp d x, upd a_frameNext d y, a_out, a_partner, a_openAt, a_treeOp, a_parent, a_slot, a_kid, a_wrapped, a_workNode, a_workStep)) : wpX_pushFrame post (f_opLimit, f_nodeLimit, f_levelLimit, nI (gt_l g), f_textLimit, nI (gt_n g), nI n, f_nodeTotal, f_treeTotal, nI d, f_wanting, f_clashing, f_outLen, f_treeBase, f_treeNodes, f_workDepth, gt_k g, gt_p g, gt_a g, gt_c g, gt_t g, a_opener, a_joiner, a_inner, a_text, a_nodeList, a_frameOp, a_frameNext, a_out, a_partner, a_openAt, a_treeOp, a_parent, a_slot, a_kid, a_wrapped, a_workNode, a_workStep) x y := by
  unfold wpX_pushFrame
  dsimp only
  rw [nI_clamp (by omega)]
  exact br_f (nI_ge (b := 128) hd (by decide)) ⟨vp_in_nI hd (by decide), nm_e ⟨vp_in_nI hd (by decide), nm_e (nm_r (nI_1 _) hp)⟩⟩
theorem xw_topw (H : gt_ok g) {S : List mt_Fr} (hS : S.length ≤ 128) (hw : mt_wS g S) (ha : mt_aS g a_frameOp a_frameNext S) (hp : post1 (gt_b (mt_tw g S))) : wpX_topIsWaiting post1 (f_opLimit, f_nodeLimit, f_levelLimit, nI (gt_l g), f_textLimit, nI (gt_n g), nI n, f_nodeTotal, f_treeTotal, nI S.length, f_wanting, f_clashing, f_outLen, f_treeBase, f_treeNodes, f_workDepth, gt_k g, gt_p g, gt_a g, gt_c g, gt_t g, a_opener, a_joiner, a_inner, a_text, a_nodeList, a_frameOp, a_frameNext, a_out, a_partner, a_openAt, a_treeOp, a_parent, a_slot, a_kid, a_wrapped, a_workNode, a_workStep) := by
  unfold wpX_topIsWaiting
  dsimp only
  match S, hS, hw, ha, hp with
  | [], _, _, _, hp => exact br_t (by decide) hp
  | (none, k) :: S, hS, hw, ha, hp =>
    have hS' : S.length + 1 ≤ 128 := hS
    rw [show nI ((none, k) :: S).length - 1 = nI S.length from nI_pred _, nI_clamp (by omega), ha.1]
    exact br_f (nI_nle (Nat.succ_pos _) (by show S.length + 1 < _; omega)) ⟨vp_in_nI (by omega) (by decide), br_t (by show (-1 : Int32) < 0; decide) hp⟩
  | (some q, k) :: S, hS, hw, ha, hp =>
    have hS' : S.length + 1 ≤ 128 := hS
    have hn := H.1
    have hq := hw.1.1
    have h4 := gt_pc4 H hq
    have hle := gt_s_le H hq hw.1.2.2.1
    rw [show nI ((some q, k) :: S).length - 1 = nI S.length from nI_pred _, nI_clamp (by omega), ha.1, ha.2.1]
    refine br_f (nI_nle (Nat.succ_pos _) (by show S.length + 1 < _; omega)) ⟨vp_in_nI (by omega) (by decide), br_f (nI_pos (by omega)) ⟨vp_in_nI (by omega) (by decide), ?_⟩⟩
    have hp' : post1 (gt_b (decide (gt_s g q (ff_len k) = gt_PC g q))) := hp
    have enx : mt_nx g (some q, k) = if gt_s g q (ff_len k) = gt_PC g q then 0 else nI (gt_s g q (ff_len k)) := rfl
    rw [enx]
    by_cases hs : gt_s g q (ff_len k) = gt_PC g q
    · rw [decide_eq_true hs] at hp'
      rw [if_pos hs]
      exact br_t rfl hp'
    · rw [decide_eq_false hs] at hp'
      rw [if_neg hs]
      refine br_f (nI_ne0 (n := gt_s g q (ff_len k)) ?_ (by omega)) hp'
      unfold gt_s
      split
      · rename_i h
        have := hw.1.2.2.2 h
        have h2 : ¬ ff_len k = 0 := fun z => by rw [ff_len0.mp z] at this; cases this
        omega
      · omega
theorem xw_reduce {q : Nat} {k : ff_F} {S : List mt_Fr} {O : List Int32} (hS : S.length < 128) (hO : O.length < 128) (ho : mt_aO a_out O) (ha : mt_aS g a_frameOp a_frameNext ((some q, k) :: S)) (hp : ∀ ou : Nat → Int32, mt_aO ou (O ++ [100 + nI q]) → post (f_opLimit, f_nodeLimit, f_levelLimit, nI (gt_l g), f_textLimit, nI (gt_n g), nI n, f_nodeTotal, f_treeTotal, nI S.length, f_wanting, f_clashing, nI (O ++ [100 + nI q]).length, f_treeBase, f_treeNodes, f_workDepth, gt_k g, gt_p g, gt_a g, gt_c g, gt_t g, a_opener, a_joiner, a_inner, a_text, a_nodeList, a_frameOp, a_frameNext, ou, a_partner, a_openAt, a_treeOp, a_parent, a_slot, a_kid, a_wrapped, a_workNode, a_workStep)) : wpX_reduceTop post (f_opLimit, f_nodeLimit, f_levelLimit, nI (gt_l g), f_textLimit, nI (gt_n g), nI n, f_nodeTotal, f_treeTotal, nI ((some q, k) :: S).length, f_wanting, f_clashing, nI O.length, f_treeBase, f_treeNodes, f_workDepth, gt_k g, gt_p g, gt_a g, gt_c g, gt_t g, a_opener, a_joiner, a_inner, a_text, a_nodeList, a_frameOp, a_frameNext, a_out, a_partner, a_openAt, a_treeOp, a_parent, a_slot, a_kid, a_wrapped, a_workNode, a_workStep) := by
  unfold wpX_reduceTop
  dsimp only
  refine nm_r (nI_pred S.length) ⟨vp_in_nI hS (by decide), ?_⟩
  rw [nI_clamp (by omega), ha.1]
  exact xw_emit hO ho hp
/-- the operator q starts, its children so far K -/
theorem xw_start (H : gt_ok g) {q : Nat} {K : ff_F} {S : List mt_Fr} {cl : Bool} (hq : q < gt_n g) (hs : gt_s g q (ff_len K) = 1) (hS : S.length < 128) (hO : (mt_pS S ++ ff_post K).length < 128) (ho : mt_aO a_out (mt_pS S ++ ff_post K)) (ha : mt_aS g a_frameOp a_frameNext S)
    (hp : ∀ fp fx ou : Nat → Int32, mt_aS g fp fx (mt_av g q K S cl).1 → mt_aO ou (mt_out (mt_av g q K S cl)) → post (f_opLimit, f_nodeLimit, f_levelLimit, nI (gt_l g), f_textLimit, nI (gt_n g), nI n, f_nodeTotal, f_treeTotal, nI (mt_av g q K S cl).1.length, gt_b (ff_lf (mt_av g q K S cl).2.1), gt_b (mt_av g q K S cl).2.2, nI (mt_out (mt_av g q K S cl)).length, f_treeBase, f_treeNodes, f_workDepth, gt_k g, gt_p g, gt_a g, gt_c g, gt_t g, a_opener, a_joiner, a_inner, a_text, a_nodeList, fp, fx, ou, a_partner, a_openAt, a_treeOp, a_parent, a_slot, a_kid, a_wrapped, a_workNode, a_workStep)) : wpX_startOperator post (f_opLimit, f_nodeLimit, f_levelLimit, nI (gt_l g), f_textLimit, nI (gt_n g), nI n, f_nodeTotal, f_treeTotal, nI S.length, f_wanting, gt_b cl, nI (mt_pS S ++ ff_post K).length, f_treeBase, f_treeNodes, f_workDepth, gt_k g, gt_p g, gt_a g, gt_c g, gt_t g, a_opener, a_joiner, a_inner, a_text, a_nodeList, a_frameOp, a_frameNext, a_out, a_partner, a_openAt, a_treeOp, a_parent, a_slot, a_kid, a_wrapped, a_workNode, a_workStep) (nI q) := by
  obtain ⟨vin, ci⟩ := gt_in12 H hq
  obtain ⟨p1, p2, p3⟩ := H.2.2.2.2.1 q hq
  have h4 := gt_pc4 H hq
  unfold wpX_startOperator
  dsimp only
  rw [ci, p3]
  have pushed : mt_av g q K S cl = ((some q, K) :: S, .leaf, cl) → ∀ y : Int32, y = mt_nx g (some q, K) → post (f_opLimit, f_nodeLimit, f_levelLimit, nI (gt_l g), f_textLimit, nI (gt_n g), nI n, f_nodeTotal, f_treeTotal, nI (S.length + 1), 1, gt_b cl, nI (mt_pS S ++ ff_post K).length, f_treeBase, f_treeNodes, f_workDepth, gt_k g, gt_p g, gt_a g, gt_c g, gt_t g, a_opener, a_joiner, a_inner, a_text, a_nodeList, upd a_frameOp S.length (nI q), upd a_frameNext S.length y, a_out, a_partner, a_openAt, a_treeOp, a_parent, a_slot, a_kid, a_wrapped, a_workNode, a_workStep) := by
    intro e y hy
    rw [e] at hp
    have h := hp (upd a_frameOp S.length (nI q)) (upd a_frameNext S.length y) a_out ⟨pk_us, by rw [pk_us]; exact hy, mt_aS_upd S (Nat.le_refl _) ha⟩ (by show mt_aO a_out ((mt_pS S ++ ff_post K) ++ []); rw [List.append_nil]; exact ho)
    have e2 : mt_out ((some q, K) :: S, (.leaf : ff_F), cl) = mt_pS S ++ ff_post K := List.append_nil _
    rw [e2] at h
    exact h
  refine ⟨vin, pk_le (gt_PC g q) 1 (fun h1 => ?_) (fun h1 => ?_)⟩
  · have hpc : gt_PC g q = 1 := by omega
    refine xw_ro H hq ?_
    cases hr : gt_RO g q with
    | false =>
      have e : mt_av g q K S cl = (S, ff_nd q K, cl) := by
        unfold mt_av
        rw [hr, hs, hpc, if_neg (by simp)]
      refine br_t rfl (xw_emit hO ho ?_)
      intro ou hou
      rw [e] at hp
      have e2 : mt_out (S, ff_nd q K, cl) = (mt_pS S ++ ff_post K) ++ [100 + nI q] := by
        show mt_pS S ++ ([] ++ (ff_post K ++ [100 + nI q])) = _
        rw [List.nil_append, List.append_assoc]
      have h := hp a_frameOp a_frameNext ou ha (by rw [e2]; exact hou)
      rw [e2] at h
      exact h
    | true =>
      have e : mt_av g q K S cl = ((some q, K) :: S, .leaf, cl) := by
        unfold mt_av
        rw [if_pos (Or.inr hr)]
      refine br_f (by decide) (xw_push hS (pushed e 0 ?_))
      show 0 = if gt_s g q (ff_len K) = gt_PC g q then (0 : Int32) else _
      rw [if_pos (by omega)]
  · have e : mt_av g q K S cl = ((some q, K) :: S, .leaf, cl) := by
      unfold mt_av
      rw [if_pos (Or.inl (by omega))]
    refine xw_push hS (pushed e 1 ?_)
    show 1 = if gt_s g q (ff_len K) = gt_PC g q then (0 : Int32) else nI (gt_s g q (ff_len K))
    rw [if_neg (by omega), hs]
    rfl
end
end
section
section
variable {g : gt_T} {n : Nat} {post : SX → Prop} {post2 : Int32 → SX → Prop}
variable {f_opLimit f_nodeLimit f_levelLimit f_textLimit f_nodeTotal f_treeTotal f_depth f_wanting f_clashing f_outLen f_treeBase f_treeNodes f_workDepth : Int32} {a_opener a_joiner a_inner a_text a_nodeList a_frameOp a_frameNext a_out a_partner a_openAt a_treeOp a_parent a_slot a_kid a_wrapped a_workNode a_workStep : Nat → Int32}
theorem xw_settle_l (H : gt_ok g) {fp fx : Nat → Int32} : ∀ (S : List mt_Fr) (c : ff_F) (N : Nat) (ou : Nat → Int32), mt_wS g S → ff_wf g c → ff_len c = 1 → (mt_fS g S ++ ff_C g c).length ≤ 128 → S.length < N → mt_aS g fp fx S → mt_aO ou (mt_pS S ++ ff_post c) →
    (∀ ou' : Nat → Int32, mt_aS g fp fx (mt_st g S c).1 → mt_aO ou' (mt_pS (mt_st g S c).1 ++ ff_post (mt_st g S c).2) → post (f_opLimit, f_nodeLimit, f_levelLimit, nI (gt_l g), f_textLimit, nI (gt_n g), nI n, f_nodeTotal, f_treeTotal, nI (mt_st g S c).1.length, f_wanting, f_clashing, nI (mt_pS (mt_st g S c).1 ++ ff_post (mt_st g S c).2).length, f_treeBase, f_treeNodes, f_workDepth, gt_k g, gt_p g, gt_a g, gt_c g, gt_t g, a_opener, a_joiner, a_inner, a_text, a_nodeList, fp, fx, ou', a_partner, a_openAt, a_treeOp, a_parent, a_slot, a_kid, a_wrapped, a_workNode, a_workStep)) →
    wX_settle_5 post N (nI S.length) f_opLimit f_nodeLimit f_levelLimit (nI (gt_l g)) f_textLimit (nI (gt_n g)) (nI n) f_nodeTotal f_treeTotal (nI S.length) f_wanting f_clashing (nI (mt_pS S ++ ff_post c).length) f_treeBase f_treeNodes f_workDepth (gt_k g) (gt_p g) (gt_a g) (gt_c g) (gt_t g) a_opener a_joiner a_inner a_text a_nodeList fp fx ou a_partner a_openAt a_treeOp a_parent a_slot a_kid a_wrapped a_workNode a_workStep := by
  intro S
  induction S with
  | nil =>
    intro c N ou hS hw h1 hfl hN ha ho hp
    obtain ⟨N, rfl⟩ : ∃ N', N = N' + 1 := ⟨N - 1, by omega⟩
    rw [wX_settle_5]
    exact br_t (by show nI 0 ≤ 0; decide) (hp ou ha ho)
  | cons f S ih =>
    intro c N ou hS hw h1 hfl hN ha ho hp
    obtain ⟨N, rfl⟩ : ∃ N', N = N' + 1 := ⟨N - 1, by omega⟩
    have hlen := (mt_out_le H (f :: S) hS).2
    rw [List.length_append] at hfl
    rw [List.length_cons] at hN hlen
    rw [wX_settle_5]
    refine br_f (nI_nle (Nat.succ_pos _) (by show S.length + 1 < _; omega)) (xw_topw H (by show S.length + 1 ≤ _; omega) hS ha ?_)
    match f, hS, ha, ho, hp, hfl, hlen with
    | (none, k), hS, ha, ho, hp, hfl, hlen => exact br_t rfl (hp ou ha ho)
    | (some q, k), hS, ha, ho, hp, hfl, hlen =>
      by_cases hs : gt_s g q (ff_len k) = gt_PC g q
      · have e1 : mt_st g ((some q, k) :: S) c = mt_st g S (ff_nd q (ff_sn k c)) := by
          show (if gt_s g q (ff_len k) = gt_PC g q then _ else _) = _
          rw [if_pos hs]
        have e2 : gt_b (mt_tw g ((some q, k) :: S)) = 1 := by
          show gt_b (decide (gt_s g q (ff_len k) = gt_PC g q)) = 1
          rw [decide_eq_true hs]
          rfl
        obtain ⟨r1, r2, r3, r4⟩ := mt_red H (S := S) hS.1 hs h1 hw
        have hb := mt_out_le2 H (s := (S, ff_nd q (ff_sn k c), false)) ⟨hS.2, r2, Nat.le_of_eq r3⟩
        have hb1 : (mt_pS S ++ ff_post (ff_nd q (ff_sn k c))).length ≤ (mt_fS g S ++ ff_C g (ff_nd q (ff_sn k c))).length := hb.1
        rw [r1, r4, List.length_append, List.length_append (as := mt_fS g ((some q, k) :: S)), List.length_singleton] at hb1
        rw [e2]
        rw [e1] at hp
        refine br_f (by decide) (xw_reduce (k := k) (by omega) (by omega) ho ha ?_)
        intro ou' hou'
        refine nm_r (pk_m1 _) ?_
        rw [← r4] at hou' ⊢
        refine ih (ff_nd q (ff_sn k c)) N ou' hS.2 r2 r3 ?_ (by omega) ha.2.2 hou' hp
        rw [r1, List.length_append]
        exact hfl
      · have e1 : mt_st g ((some q, k) :: S) c = ((some q, k) :: S, c) := by
          show (if gt_s g q (ff_len k) = gt_PC g q then _ else _) = _
          rw [if_neg hs]
        have e2 : gt_b (mt_tw g ((some q, k) :: S)) = 0 := by
          show gt_b (decide (gt_s g q (ff_len k) = gt_PC g q)) = 0
          rw [decide_eq_false hs]
          rfl
        rw [e2]
        rw [e1] at hp
        exact br_t rfl (hp ou ha ho)
theorem xw_settle (H : gt_ok g) {S : List mt_Fr} {c : ff_F} (hS : mt_wS g S) (hw : ff_wf g c) (h1 : ff_len c = 1) (hfl : (mt_fS g S ++ ff_C g c).length ≤ 128) (ha : mt_aS g a_frameOp a_frameNext S) (ho : mt_aO a_out (mt_pS S ++ ff_post c))
    (hp : ∀ ou' : Nat → Int32, mt_aS g a_frameOp a_frameNext (mt_st g S c).1 → mt_aO ou' (mt_pS (mt_st g S c).1 ++ ff_post (mt_st g S c).2) → post (f_opLimit, f_nodeLimit, f_levelLimit, nI (gt_l g), f_textLimit, nI (gt_n g), nI n, f_nodeTotal, f_treeTotal, nI (mt_st g S c).1.length, f_wanting, f_clashing, nI (mt_pS (mt_st g S c).1 ++ ff_post (mt_st g S c).2).length, f_treeBase, f_treeNodes, f_workDepth, gt_k g, gt_p g, gt_a g, gt_c g, gt_t g, a_opener, a_joiner, a_inner, a_text, a_nodeList, a_frameOp, a_frameNext, ou', a_partner, a_openAt, a_treeOp, a_parent, a_slot, a_kid, a_wrapped, a_workNode, a_workStep)) :
    wpX_settle post (f_opLimit, f_nodeLimit, f_levelLimit, nI (gt_l g), f_textLimit, nI (gt_n g), nI n, f_nodeTotal, f_treeTotal, nI S.length, f_wanting, f_clashing, nI (mt_pS S ++ ff_post c).length, f_treeBase, f_treeNodes, f_workDepth, gt_k g, gt_p g, gt_a g, gt_c g, gt_t g, a_opener, a_joiner, a_inner, a_text, a_nodeList, a_frameOp, a_frameNext, a_out, a_partner, a_openAt, a_treeOp, a_parent, a_slot, a_kid, a_wrapped, a_workNode, a_workStep) :=
  ⟨S.length + 1, xw_settle_l H S c (S.length + 1) a_out hS hw h1 hfl (Nat.lt_succ_self _) ha ho hp⟩
theorem xw_yield_l (H : gt_ok g) {q0 : Nat} (hq0 : q0 < gt_n g) {cl : Bool} {fp fx : Nat → Int32} : ∀ (S : List mt_Fr) (c : ff_F) (N : Nat) (ou : Nat → Int32), mt_wS g S → ff_wf g c → ff_len c = 1 → (mt_fS g S ++ ff_C g c).length ≤ 128 → S.length < N → mt_aS g fp fx S → mt_aO ou (mt_pS S ++ ff_post c) →
    (∀ ou' : Nat → Int32, mt_aS g fp fx (mt_yd g q0 S c).1 → mt_aO ou' (mt_pS (mt_yd g q0 S c).1 ++ ff_post (mt_yd g q0 S c).2.1) → post (f_opLimit, f_nodeLimit, f_levelLimit, nI (gt_l g), f_textLimit, nI (gt_n g), nI n, f_nodeTotal, f_treeTotal, nI (mt_yd g q0 S c).1.length, f_wanting, gt_b (cl || (mt_yd g q0 S c).2.2), nI (mt_pS (mt_yd g q0 S c).1 ++ ff_post (mt_yd g q0 S c).2.1).length, f_treeBase, f_treeNodes, f_workDepth, gt_k g, gt_p g, gt_a g, gt_c g, gt_t g, a_opener, a_joiner, a_inner, a_text, a_nodeList, fp, fx, ou', a_partner, a_openAt, a_treeOp, a_parent, a_slot, a_kid, a_wrapped, a_workNode, a_workStep)) →
    wX_yieldTo_5 post (nI q0) N (nI S.length) f_opLimit f_nodeLimit f_levelLimit (nI (gt_l g)) f_textLimit (nI (gt_n g)) (nI n) f_nodeTotal f_treeTotal (nI S.length) f_wanting (gt_b cl) (nI (mt_pS S ++ ff_post c).length) f_treeBase f_treeNodes f_workDepth (gt_k g) (gt_p g) (gt_a g) (gt_c g) (gt_t g) a_opener a_joiner a_inner a_text a_nodeList fp fx ou a_partner a_openAt a_treeOp a_parent a_slot a_kid a_wrapped a_workNode a_workStep := by
  intro S
  induction S with
  | nil =>
    intro c N ou hS hw h1 hfl hN ha ho hp
    obtain ⟨N, rfl⟩ : ∃ N', N = N' + 1 := ⟨N - 1, by omega⟩
    rw [wX_yieldTo_5]
    have h := hp ou ha ho
    rw [show mt_yd g q0 [] c = ([], c, false) from rfl, Bool.or_false] at h
    exact br_t (by show nI 0 ≤ 0; decide) h
  | cons f S ih =>
    intro c N ou hS hw h1 hfl hN ha ho hp
    obtain ⟨N, rfl⟩ : ∃ N', N = N' + 1 := ⟨N - 1, by omega⟩
    have hlen := (mt_out_le H (f :: S) hS).2
    rw [List.length_append] at hfl
    rw [List.length_cons] at hN hlen
    rw [wX_yieldTo_5]
    refine br_f (nI_nle (Nat.succ_pos _) (by show S.length + 1 < _; omega)) (xw_topw H (by show S.length + 1 ≤ _; omega) hS ha ?_)
    match f, hS, ha, ho, hp, hfl, hlen with
    | (none, k), hS, ha, ho, hp, hfl, hlen =>
      have h := hp ou ha ho
      rw [show mt_yd g q0 ((none, k) :: S) c = ((none, k) :: S, c, false) from rfl, Bool.or_false] at h
      exact br_t rfl h
    | (some q, k), hS, ha, ho, hp, hfl, hlen =>
      by_cases hs : gt_s g q (ff_len k) = gt_PC g q
      · have e2 : gt_b (mt_tw g ((some q, k) :: S)) = 1 := by
          show gt_b (decide (gt_s g q (ff_len k) = gt_PC g q)) = 1
          rw [decide_eq_true hs]
          rfl
        rw [e2]
        refine br_f (by decide) ⟨?_, ?_⟩
        · rw [show nI ((some q, k) :: S).length - 1 = nI S.length from nI_pred _]
          exact vp_in_nI (by omega) (by decide)
        rw [show nI ((some q, k) :: S).length - 1 = nI S.length from nI_pred _, nI_clamp (by omega), ha.1]
        refine xw_ct H hS.1.1 hq0 ?_
        by_cases hc : gt_CT g q q0 = 1
        · have e1 : mt_yd g q0 ((some q, k) :: S) c = mt_yd g q0 S (ff_nd q (ff_sn k c)) := by
            show (if gt_s g q (ff_len k) = gt_PC g q then (if gt_CT g q q0 = 1 then _ else _) else _) = _
            rw [if_pos hs, if_pos hc]
          obtain ⟨r1, r2, r3, r4⟩ := mt_red H (S := S) hS.1 hs h1 hw
          have hb := mt_out_le2 H (s := (S, ff_nd q (ff_sn k c), false)) ⟨hS.2, r2, Nat.le_of_eq r3⟩
          have hb1 : (mt_pS S ++ ff_post (ff_nd q (ff_sn k c))).length ≤ (mt_fS g S ++ ff_C g (ff_nd q (ff_sn k c))).length := hb.1
          rw [r1, r4, List.length_append, List.length_append (as := mt_fS g ((some q, k) :: S)), List.length_singleton] at hb1
          rw [e1] at hp
          refine br_t (by rw [hc]; decide) (xw_reduce (k := k) (by omega) (by omega) ho ha ?_)
          intro ou' hou'
          refine nm_r (pk_m1 _) ?_
          rw [← r4] at hou' ⊢
          refine ih (ff_nd q (ff_sn k c)) N ou' hS.2 r2 r3 ?_ (by omega) ha.2.2 hou' hp
          rw [r1, List.length_append]
          exact hfl
        · have e1 : mt_yd g q0 ((some q, k) :: S) c = ((some q, k) :: S, c, decide (gt_CT g q q0 = 0)) := by
            show (if gt_s g q (ff_len k) = gt_PC g q then (if gt_CT g q q0 = 1 then _ else _) else _) = _
            rw [if_pos hs, if_neg hc]
          have h := hp ou (by rw [e1]; exact ha) (by rw [e1]; exact ho)
          rw [e1] at h
          rcases gt_CT3 g q q0 with h3 | h3 | h3
          · exact absurd h3 hc
          · rw [h3]
            rw [h3] at h
            refine br_f (by decide) (br_t rfl ?_)
            rw [show decide ((0 : Int32) = 0) = true from rfl, Bool.or_true] at h
            exact h
          · rw [h3]
            rw [h3] at h
            refine br_f (by decide) (br_f (by decide) ?_)
            rw [show decide ((-1 : Int32) = 0) = false from rfl, Bool.or_false] at h
            exact h
      · have e1 : mt_yd g q0 ((some q, k) :: S) c = ((some q, k) :: S, c, false) := by
          show (if gt_s g q (ff_len k) = gt_PC g q then _ else _) = _
          rw [if_neg hs]
        have e2 : gt_b (mt_tw g ((some q, k) :: S)) = 0 := by
          show gt_b (decide (gt_s g q (ff_len k) = gt_PC g q)) = 0
          rw [decide_eq_false hs]
          rfl
        rw [e2]
        have h := hp ou (by rw [e1]; exact ha) (by rw [e1]; exact ho)
        rw [e1, Bool.or_false] at h
        exact br_t rfl h
theorem xw_yield (H : gt_ok g) {q0 : Nat} (hq0 : q0 < gt_n g) {cl : Bool} {S : List mt_Fr} {c : ff_F} (hS : mt_wS g S) (hw : ff_wf g c) (h1 : ff_len c = 1) (hfl : (mt_fS g S ++ ff_C g c).length ≤ 128) (ha : mt_aS g a_frameOp a_frameNext S) (ho : mt_aO a_out (mt_pS S ++ ff_post c))
    (hp : ∀ ou' : Nat → Int32, mt_aS g a_frameOp a_frameNext (mt_yd g q0 S c).1 → mt_aO ou' (mt_pS (mt_yd g q0 S c).1 ++ ff_post (mt_yd g q0 S c).2.1) → post (f_opLimit, f_nodeLimit, f_levelLimit, nI (gt_l g), f_textLimit, nI (gt_n g), nI n, f_nodeTotal, f_treeTotal, nI (mt_yd g q0 S c).1.length, f_wanting, gt_b (cl || (mt_yd g q0 S c).2.2), nI (mt_pS (mt_yd g q0 S c).1 ++ ff_post (mt_yd g q0 S c).2.1).length, f_treeBase, f_treeNodes, f_workDepth, gt_k g, gt_p g, gt_a g, gt_c g, gt_t g, a_opener, a_joiner, a_inner, a_text, a_nodeList, a_frameOp, a_frameNext, ou', a_partner, a_openAt, a_treeOp, a_parent, a_slot, a_kid, a_wrapped, a_workNode, a_workStep)) :
    wpX_yieldTo post (f_opLimit, f_nodeLimit, f_levelLimit, nI (gt_l g), f_textLimit, nI (gt_n g), nI n, f_nodeTotal, f_treeTotal, nI S.length, f_wanting, gt_b cl, nI (mt_pS S ++ ff_post c).length, f_treeBase, f_treeNodes, f_workDepth, gt_k g, gt_p g, gt_a g, gt_c g, gt_t g, a_opener, a_joiner, a_inner, a_text, a_nodeList, a_frameOp, a_frameNext, a_out, a_partner, a_openAt, a_treeOp, a_parent, a_slot, a_kid, a_wrapped, a_workNode, a_workStep) (nI q0) :=
  ⟨S.length + 1, xw_yield_l H hq0 S c (S.length + 1) a_out hS hw h1 hfl (Nat.lt_succ_self _) ha ho hp⟩
end
end
section
def gt_o1 : Option Nat → Int32
  | none => 0
  | some q => nI (q + 1)
/-- the uses of names -/
def xo_ok (g : gt_T) (op jo inn : Nat → Int32) : Prop := ∀ t, 2 ≤ t → t ≤ gt_l g → op t = gt_o1 (gt_ld g true (nI t)) ∧ jo t = gt_o1 (gt_ld g false (nI t)) ∧ inn t = gt_b (gt_ip g 1 3 (nI t))
theorem gt_o1_0 {o : Option Nat} (h : ∀ q, o = some q → q < 12) : gt_o1 o = 0 ↔ o = none := by
  cases o with
  | none => exact ⟨fun _ => rfl, fun _ => rfl⟩
  | some q =>
    have := h q rfl
    constructor
    · intro z; exact absurd z (nI_ne0 (Nat.succ_pos _) (by omega))
    · intro z; cases z
theorem gt_at_o {g : gt_T} (H : gt_ok g) {t : Nat} (h2 : 2 ≤ t) (hl : t ≤ gt_l g) : gt_at g (nI t) = (decide (gt_ld g true (nI t) = none) && decide (gt_ld g false (nI t) = none) && !gt_ip g 1 3 (nI t)) := by
  have hl31 := H.2.1
  have e1 : decide ((2 : Int32) ≤ nI t) = true := decide_eq_true (nI_le (a := 2) h2 (by omega))
  have e2 : decide (nI t ≤ nI (gt_l g)) = true := decide_eq_true (nI_le hl (by omega))
  unfold gt_at
  rw [e1, e2, Bool.true_and, Bool.true_and]
  cases h3 : gt_ip g 1 3 (nI t) with
  | true =>
    obtain ⟨q, m, a, b, c, d, e⟩ := gt_ip_iff.mp h3
    rw [gt_ip_iff.mpr ⟨q, m, a, b, Nat.zero_le _, d, e⟩]
    simp
  | false =>
    rw [Bool.not_false, Bool.and_true]
    cases h0 : gt_ip g 0 3 (nI t) with
    | false =>
      have hno : ∀ q, q < gt_n g → gt_PT g q 0 ≠ nI t := by
        intro q hq e
        have := gt_ip_iff.mpr ⟨q, 0, hq, (gt_pc4 H hq).1, Nat.zero_le _, Nat.zero_le 3, e⟩
        rw [this] at h0
        cases h0
      rw [gt_ld_no hno, gt_ld_no hno]
      rfl
    | true =>
      obtain ⟨q, m, a, b, c, d, e⟩ := gt_ip_iff.mp h0
      have hm : m = 0 := by
        cases m with
        | zero => rfl
        | succ m =>
          have := gt_ip_iff.mpr ⟨q, m + 1, a, b, Nat.succ_le_succ (Nat.zero_le m), d, e⟩
          rw [this] at h3
          cases h3
      subst hm
      cases hlo : gt_LO g q with
      | false =>
        have := gt_ld_mk H (w := true) a hlo
        rw [e] at this
        rw [this]
        rfl
      | true =>
        have := gt_ld_mk H (w := false) a hlo
        rw [e] at this
        rw [this, show decide ((some q : Option Nat) = none) = false from rfl, Bool.and_false]
        rfl
section
variable {g : gt_T} {n : Nat} {post : SX → Prop} {post1 : Int32 → Prop} {post2 : Int32 → SX → Prop}
variable {f_opLimit f_nodeLimit f_levelLimit f_textLimit f_nodeTotal f_treeTotal f_depth f_wanting f_clashing f_outLen f_treeBase f_treeNodes f_workDepth : Int32} {a_opener a_joiner a_inner a_text a_nodeList a_frameOp a_frameNext a_out a_partner a_openAt a_treeOp a_parent a_slot a_kid a_wrapped a_workNode a_workStep : Nat → Int32}
theorem xw_atomn (H : gt_ok g) (hx : xo_ok g a_opener a_joiner a_inner) {t : Nat} (h2 : 2 ≤ t) (hl : t ≤ gt_l g) (hp : post1 (gt_b (gt_at g (nI t)))) : wpX_isAtomName post1 (f_opLimit, f_nodeLimit, f_levelLimit, nI (gt_l g), f_textLimit, nI (gt_n g), nI n, f_nodeTotal, f_treeTotal, f_depth, f_wanting, f_clashing, f_outLen, f_treeBase, f_treeNodes, f_workDepth, gt_k g, gt_p g, gt_a g, gt_c g, gt_t g, a_opener, a_joiner, a_inner, a_text, a_nodeList, a_frameOp, a_frameNext, a_out, a_partner, a_openAt, a_treeOp, a_parent, a_slot, a_kid, a_wrapped, a_workNode, a_workStep) (nI t) := by
  have hl31 := H.2.1
  have hn := H.1
  obtain ⟨x1, x2, x3⟩ := hx t h2 hl
  have vin : vp_in (nI t) 32 := vp_in_nI (by omega) (by decide)
  have b1 : ∀ w q, gt_ld g w (nI t) = some q → q < 12 := fun w q h => by have := (gt_ld_some h).1; omega
  rw [gt_at_o H h2 hl] at hp
  unfold wpX_isAtomName
  dsimp only
  rw [nI_clamp (by omega), x1, x2, x3]
  rw [gt_o1_0 (b1 true), gt_o1_0 (b1 false), gt_b_0]
  refine ⟨vin, br_c (fun h => ⟨vin, br_c (fun h' => ⟨vin, br_c (fun h'' => ?_) (fun h'' => ?_)⟩) (fun h' => ?_)⟩) (fun h => ?_)⟩
  · rw [decide_eq_true h, decide_eq_true h', h''] at hp; exact hp
  · have : gt_ip g 1 3 (nI t) = true := by
      cases h3 : gt_ip g 1 3 (nI t) with
      | true => rfl
      | false => exact absurd h3 h''
    rw [this, Bool.not_true, Bool.and_false] at hp; exact hp
  · rw [decide_eq_false h', Bool.and_false, Bool.false_and] at hp; exact hp
  · rw [decide_eq_false h, Bool.false_and, Bool.false_and] at hp; exact hp
theorem xw_close (H : gt_ok g) {S : List mt_Fr} {c : ff_F} (hS : mt_wS g S) (hw : ff_wf g c) (h1 : ff_len c = 1) (hfl : (mt_fS g S ++ ff_C g c).length ≤ 128) (ha : mt_aS g a_frameOp a_frameNext S) (ho : mt_aO a_out (mt_pS S ++ ff_post c))
    (hT : ∀ (k : ff_F) (S' : List mt_Fr) (c' : ff_F) (ou' : Nat → Int32), mt_st g S c = ((none, k) :: S', c') → mt_aS g a_frameOp a_frameNext S' → mt_aO ou' (mt_pS S' ++ ff_post c') → post2 1 (f_opLimit, f_nodeLimit, f_levelLimit, nI (gt_l g), f_textLimit, nI (gt_n g), nI n, f_nodeTotal, f_treeTotal, nI S'.length, f_wanting, f_clashing, nI (mt_pS S' ++ ff_post c').length, f_treeBase, f_treeNodes, f_workDepth, gt_k g, gt_p g, gt_a g, gt_c g, gt_t g, a_opener, a_joiner, a_inner, a_text, a_nodeList, a_frameOp, a_frameNext, ou', a_partner, a_openAt, a_treeOp, a_parent, a_slot, a_kid, a_wrapped, a_workNode, a_workStep))
    (hF : (∀ k S' c', mt_st g S c ≠ ((none, k) :: S', c')) → ∀ (d o : Int32) (ou' : Nat → Int32), post2 0 (f_opLimit, f_nodeLimit, f_levelLimit, nI (gt_l g), f_textLimit, nI (gt_n g), nI n, f_nodeTotal, f_treeTotal, d, f_wanting, f_clashing, o, f_treeBase, f_treeNodes, f_workDepth, gt_k g, gt_p g, gt_a g, gt_c g, gt_t g, a_opener, a_joiner, a_inner, a_text, a_nodeList, a_frameOp, a_frameNext, ou', a_partner, a_openAt, a_treeOp, a_parent, a_slot, a_kid, a_wrapped, a_workNode, a_workStep)) :
    wpX_closeParenthesis post2 (f_opLimit, f_nodeLimit, f_levelLimit, nI (gt_l g), f_textLimit, nI (gt_n g), nI n, f_nodeTotal, f_treeTotal, nI S.length, f_wanting, f_clashing, nI (mt_pS S ++ ff_post c).length, f_treeBase, f_treeNodes, f_workDepth, gt_k g, gt_p g, gt_a g, gt_c g, gt_t g, a_opener, a_joiner, a_inner, a_text, a_nodeList, a_frameOp, a_frameNext, a_out, a_partner, a_openAt, a_treeOp, a_parent, a_slot, a_kid, a_wrapped, a_workNode, a_workStep) := by
  unfold wpX_closeParenthesis
  refine xw_settle H hS hw h1 hfl ha ho ?_
  intro ou' ha' ho'
  obtain ⟨r1, r2, r3, r4, r5⟩ := mt_st_k H S c hS hw h1
  match e : mt_st g S c with
  | ([], c') =>
    rw [e] at hF
    exact br_t rfl (hF (fun _ _ _ z => by cases z) _ _ _)
  | ((none, k) :: S', c') =>
    rw [e] at ha' ho' r1 r2
    dsimp only at ha' ho' r1 r2
    have hlen := (mt_out_le H _ r2).2
    have hlen' : S'.length + 1 ≤ (mt_fS g ((none, k) :: S')).length := hlen
    rw [← r1, List.length_append] at hfl
    have hk : k = .leaf := ff_lf_leaf r2.1
    have eo : mt_pS ((none, k) :: S') = mt_pS S' := by
      rw [hk]
      exact List.append_nil _
    have ho2 : mt_aO ou' (mt_pS S' ++ ff_post c') := by rw [← eo]; exact ho'
    have h9 := hT k S' c' ou' e ha'.2.2 ho2
    dsimp only
    rw [eo, show nI ((none, k) :: S').length - 1 = nI S'.length from nI_pred _, nI_clamp (by omega), ha'.1]
    refine br_f (nI_ne0 (Nat.succ_pos _) (by show S'.length + 1 < _; omega)) ⟨vp_in_nI (by omega) (by decide), br_t (by show (-1 : Int32) < 0; decide) (nm_e h9)⟩
  | ((some q, k) :: S', c') =>
    rw [e] at ha' ho' r1 r2 hF
    dsimp only at ha' ho' r1 r2
    have hlen := (mt_out_le H _ r2).2
    have hlen' : S'.length + 1 ≤ (mt_fS g ((some q, k) :: S')).length := hlen
    rw [← r1, List.length_append] at hfl
    have hq := r2.1.1
    have hn := H.1
    dsimp only
    rw [show nI ((some q, k) :: S').length - 1 = nI S'.length from nI_pred _, nI_clamp (by omega), ha'.1]
    refine br_f (nI_ne0 (Nat.succ_pos _) (by show S'.length + 1 < _; omega)) ⟨vp_in_nI (by omega) (by decide), br_f (nI_pos (by omega)) (hF (fun _ _ _ z => by cases z) _ _ _)⟩
theorem xw_inner (H : gt_ok g) {S : List mt_Fr} {c : ff_F} {cl : Bool} {t : Int32} (hS : mt_wS g S) (hw : ff_wf g c) (h1 : ff_len c = 1) (hfl : (mt_fS g S ++ ff_C g c).length < 128) (ha : mt_aS g a_frameOp a_frameNext S) (ho : mt_aO a_out (mt_pS S ++ ff_post c))
    (hT : ∀ (s' : mt_S) (fx' ou' : Nat → Int32), mt_in g t cl (mt_st g S c) = some s' → mt_aS g a_frameOp fx' s'.1 → mt_aO ou' (mt_out s') → post2 1 (f_opLimit, f_nodeLimit, f_levelLimit, nI (gt_l g), f_textLimit, nI (gt_n g), nI n, f_nodeTotal, f_treeTotal, nI s'.1.length, gt_b (ff_lf s'.2.1), gt_b s'.2.2, nI (mt_out s').length, f_treeBase, f_treeNodes, f_workDepth, gt_k g, gt_p g, gt_a g, gt_c g, gt_t g, a_opener, a_joiner, a_inner, a_text, a_nodeList, a_frameOp, fx', ou', a_partner, a_openAt, a_treeOp, a_parent, a_slot, a_kid, a_wrapped, a_workNode, a_workStep))
    (hF : mt_in g t cl (mt_st g S c) = none → ∀ (d o : Int32) (ou' : Nat → Int32), post2 0 (f_opLimit, f_nodeLimit, f_levelLimit, nI (gt_l g), f_textLimit, nI (gt_n g), nI n, f_nodeTotal, f_treeTotal, d, f_wanting, gt_b cl, o, f_treeBase, f_treeNodes, f_workDepth, gt_k g, gt_p g, gt_a g, gt_c g, gt_t g, a_opener, a_joiner, a_inner, a_text, a_nodeList, a_frameOp, a_frameNext, ou', a_partner, a_openAt, a_treeOp, a_parent, a_slot, a_kid, a_wrapped, a_workNode, a_workStep)) :
    wpX_meetInner post2 (f_opLimit, f_nodeLimit, f_levelLimit, nI (gt_l g), f_textLimit, nI (gt_n g), nI n, f_nodeTotal, f_treeTotal, nI S.length, f_wanting, gt_b cl, nI (mt_pS S ++ ff_post c).length, f_treeBase, f_treeNodes, f_workDepth, gt_k g, gt_p g, gt_a g, gt_c g, gt_t g, a_opener, a_joiner, a_inner, a_text, a_nodeList, a_frameOp, a_frameNext, a_out, a_partner, a_openAt, a_treeOp, a_parent, a_slot, a_kid, a_wrapped, a_workNode, a_workStep) t := by
  unfold wpX_meetInner
  refine xw_settle H hS hw h1 (by omega) ha ho ?_
  intro ou' ha' ho'
  obtain ⟨r1, r2, r3, r4, r5⟩ := mt_st_k H S c hS hw h1
  have htop := mt_st_top H S c hS
  match e : mt_st g S c with
  | ([], c') =>
    rw [e] at hF
    exact br_t rfl (hF rfl _ _ _)
  | ((none, k) :: S', c') =>
    rw [e] at ha' ho' r1 r2 hF
    dsimp only at ha' ho' r1 r2
    have hlen := (mt_out_le H _ r2).2
    have hlen' : S'.length + 1 ≤ (mt_fS g ((none, k) :: S')).length := hlen
    rw [← r1, List.length_append] at hfl
    dsimp only
    rw [show nI ((none, k) :: S').length - 1 = nI S'.length from nI_pred _, nI_clamp (by omega), ha'.1]
    refine br_f (nI_ne0 (Nat.succ_pos _) (by show S'.length + 1 < _; omega)) ⟨vp_in_nI (by omega) (by decide), nm_e (br_f (by show ¬ (0 : Int32) ≤ -1; decide) (hF rfl _ _ _))⟩
  | ((some q, k) :: S', c') =>
    have hsl := htop q k S' (by rw [e])
    rw [e] at ha' ho' r1 r2 r3 r4 hF hT
    dsimp only at ha' ho' r1 r2 r3 r4
    have hlen := (mt_out_le H _ r2).2
    have hlen' : S'.length + 1 ≤ (mt_fS g ((some q, k) :: S')).length := hlen
    rw [← r1] at hfl
    have hout := mt_out_le2 H (s := ((some q, k) :: S', c', cl)) ⟨r2, r3, Nat.le_of_eq r4⟩
    have hout1 : (mt_pS ((some q, k) :: S') ++ ff_post c').length ≤ (mt_fS g ((some q, k) :: S') ++ ff_C g c').length := hout.1
    have hfl2 := hfl
    rw [List.length_append] at hfl2
    have hq := r2.1.1
    have hn := H.1
    have h4 := gt_pc4 H hq
    obtain ⟨vq, cq⟩ := gt_in12 H hq
    obtain ⟨_, _, p3⟩ := H.2.2.2.2.1 q hq
    have enx : mt_nx g (some q, k) = nI (gt_s g q (ff_len k)) := by
      show (if gt_s g q (ff_len k) = gt_PC g q then 0 else _) = _
      rw [if_neg (by omega)]
    have hfx := ha'.2.1
    rw [enx] at hfx
    have e1 : (4 : Int32) * nI q + nI (gt_s g q (ff_len k)) = nI (4 * q + gt_s g q (ff_len k)) := by
      rw [show (4 : Int32) = nI 4 from rfl, pk_mul, nI_add]
    have vd : vp_in (nI S'.length) 128 := vp_in_nI (by omega) (by decide)
    have ein : mt_in g t cl ((some q, k) :: S', c') = if gt_PT g q (gt_s g q (ff_len k)) = t then some (mt_av g q (ff_sn k c') S' cl) else none := rfl
    have hcl := ff_1nlf r4
    have hsn := ff_sn_len (k := k) hcl
    have hadd := gt_s_add g q (ff_len k)
    have eo : mt_pS S' ++ ff_post (ff_sn k c') = mt_pS ((some q, k) :: S') ++ ff_post c' := by
      rw [ff_sn_post r4, ← List.append_assoc]
      rfl
    dsimp only
    rw [show nI ((some q, k) :: S').length - 1 = nI S'.length from nI_pred _, nI_clamp (by omega), show a_frameOp S'.length = nI q from ha'.1, hfx]
    refine br_f (nI_ne0 (Nat.succ_pos _) (by show S'.length + 1 < _; omega)) ⟨vd, nm_e (br_t (nI_pos' (by omega)) ⟨vd, nm_e ⟨vq, ?_⟩⟩)⟩
    rw [cq, p3, e1, nI_clamp (n := 4 * q + gt_s g q (ff_len k)) (by omega)]
    refine br_f (nI_ge hsl (by omega)) ⟨vp_in_nI (by omega) (by decide), br_c (fun ht => ?_) (fun ht => hF ?_ _ _ _)⟩
    · have ht' : gt_PT g q (gt_s g q (ff_len k)) = t := ht
      rw [ein, if_pos ht'] at hT
      rw [nI_1]
      have pushed : mt_av g q (ff_sn k c') S' cl = ((some q, ff_sn k c') :: S', .leaf, cl) → ∀ y : Int32, y = mt_nx g (some q, ff_sn k c') → post2 1 (f_opLimit, f_nodeLimit, f_levelLimit, nI (gt_l g), f_textLimit, nI (gt_n g), nI n, f_nodeTotal, f_treeTotal, nI ((some q, k) :: S').length, 1, gt_b cl, nI (mt_pS ((some q, k) :: S') ++ ff_post c').length, f_treeBase, f_treeNodes, f_workDepth, gt_k g, gt_p g, gt_a g, gt_c g, gt_t g, a_opener, a_joiner, a_inner, a_text, a_nodeList, a_frameOp, upd a_frameNext S'.length y, ou', a_partner, a_openAt, a_treeOp, a_parent, a_slot, a_kid, a_wrapped, a_workNode, a_workStep) := by
        intro e2 y hy
        have e3 : mt_out (mt_av g q (ff_sn k c') S' cl) = mt_pS ((some q, k) :: S') ++ ff_post c' := by
          rw [e2]
          show (mt_pS S' ++ ff_post (ff_sn k c')) ++ [] = _
          rw [List.append_nil, eo]
        have h := hT (mt_av g q (ff_sn k c') S' cl) (upd a_frameNext S'.length y) ou' rfl (by
          rw [e2]
          exact ⟨ha'.1, by rw [pk_us]; exact hy, mt_aS_updx (Nat.le_refl _) ha'.2.2⟩) (by rw [e3]; exact ho')
        rw [e3, e2] at h
        exact h
      refine ⟨vq, pk_le (gt_PC g q) (gt_s g q (ff_len k) + 1) (fun hle => ?_) (fun hle => ?_)⟩
      · have hs : gt_s g q (ff_len (ff_sn k c')) = gt_PC g q := by rw [hsn, hadd]; omega
        refine xw_ro H hq ?_
        cases hr : gt_RO g q with
        | false =>
          have e2 : mt_av g q (ff_sn k c') S' cl = (S', ff_nd q (ff_sn k c'), cl) := by
            unfold mt_av
            rw [if_neg (by rw [hr, hs]; simp)]
          refine br_t rfl (xw_reduce (k := k) (by omega) (by omega) ho' ha' ?_)
          intro ou2 hou2
          have e3 : mt_out (mt_av g q (ff_sn k c') S' cl) = (mt_pS ((some q, k) :: S') ++ ff_post c') ++ [100 + nI q] := by
            rw [e2]
            show mt_pS S' ++ ([] ++ (ff_post (ff_sn k c') ++ [100 + nI q])) = _
            rw [List.nil_append, ← List.append_assoc, eo]
          have h := hT (mt_av g q (ff_sn k c') S' cl) a_frameNext ou2 rfl (by rw [e2]; exact ha'.2.2) (by rw [e3]; exact hou2)
          rw [e3, e2] at h
          exact h
        | true =>
          have e2 : mt_av g q (ff_sn k c') S' cl = ((some q, ff_sn k c') :: S', .leaf, cl) := by
            unfold mt_av
            rw [if_pos (Or.inr hr)]
          refine br_f (by decide) ⟨vd, nm_e (pushed e2 0 ?_)⟩
          show 0 = if gt_s g q (ff_len (ff_sn k c')) = gt_PC g q then (0 : Int32) else _
          rw [if_pos hs]
      · have e2 : mt_av g q (ff_sn k c') S' cl = ((some q, ff_sn k c') :: S', .leaf, cl) := by
          unfold mt_av
          rw [if_pos (Or.inl (by rw [hsn, hadd]; exact hle))]
        refine ⟨vd, nm_e (pushed e2 _ ?_)⟩
        show nI (gt_s g q (ff_len k) + 1) = if gt_s g q (ff_len (ff_sn k c')) = gt_PC g q then (0 : Int32) else nI (gt_s g q (ff_len (ff_sn k c')))
        rw [hsn, hadd, if_neg (by omega)]
    · rw [ein, if_neg (show ¬ gt_PT g q (gt_s g q (ff_len k)) = t from ht)]
end
end
section
theorem nar_b (b : Bool) : narrow .boolean (.int (gt_b b)) = .int (gt_b b) := by cases b <;> rfl
section
variable {g : gt_T} {n : Nat} {post2 : Int32 → SX → Prop}
variable {f_opLimit f_nodeLimit f_levelLimit f_textLimit f_nodeTotal f_treeTotal f_depth f_wanting f_clashing f_outLen f_treeBase f_treeNodes f_workDepth : Int32} {a_opener a_joiner a_inner a_text a_nodeList a_frameOp a_frameNext a_out a_partner a_openAt a_treeOp a_parent a_slot a_kid a_wrapped a_workNode a_workStep : Nat → Int32}
theorem xw_want (H : gt_ok g) (hx : xo_ok g a_opener a_joiner a_inner) {S : List mt_Fr} {cl : Bool} {t : Nat} (hl : t ≤ gt_l g) (hw : mt_w g (S, .leaf, cl)) (hfl : (mt_fl g (S, .leaf, cl)).length < 128) (ha : mt_aS g a_frameOp a_frameNext S) (ho : mt_aO a_out (mt_out (S, .leaf, cl)))
    (hT : ∀ (s' : mt_S) (fp fx ou : Nat → Int32), mt_sp g (S, .leaf, cl) (nI t) = some s' → mt_aS g fp fx s'.1 → mt_aO ou (mt_out s') → post2 1 (f_opLimit, f_nodeLimit, f_levelLimit, nI (gt_l g), f_textLimit, nI (gt_n g), nI n, f_nodeTotal, f_treeTotal, nI s'.1.length, gt_b (ff_lf s'.2.1), gt_b s'.2.2, nI (mt_out s').length, f_treeBase, f_treeNodes, f_workDepth, gt_k g, gt_p g, gt_a g, gt_c g, gt_t g, a_opener, a_joiner, a_inner, a_text, a_nodeList, fp, fx, ou, a_partner, a_openAt, a_treeOp, a_parent, a_slot, a_kid, a_wrapped, a_workNode, a_workStep))
    (hF : mt_sp g (S, .leaf, cl) (nI t) = none → ∀ (d w c o : Int32) (fp fx ou : Nat → Int32), post2 0 (f_opLimit, f_nodeLimit, f_levelLimit, nI (gt_l g), f_textLimit, nI (gt_n g), nI n, f_nodeTotal, f_treeTotal, d, w, c, o, f_treeBase, f_treeNodes, f_workDepth, gt_k g, gt_p g, gt_a g, gt_c g, gt_t g, a_opener, a_joiner, a_inner, a_text, a_nodeList, fp, fx, ou, a_partner, a_openAt, a_treeOp, a_parent, a_slot, a_kid, a_wrapped, a_workNode, a_workStep)) :
    wpX_meetWanting post2 (f_opLimit, f_nodeLimit, f_levelLimit, nI (gt_l g), f_textLimit, nI (gt_n g), nI n, f_nodeTotal, f_treeTotal, nI S.length, 1, gt_b cl, nI (mt_out (S, (.leaf : ff_F), cl)).length, f_treeBase, f_treeNodes, f_workDepth, gt_k g, gt_p g, gt_a g, gt_c g, gt_t g, a_opener, a_joiner, a_inner, a_text, a_nodeList, a_frameOp, a_frameNext, a_out, a_partner, a_openAt, a_treeOp, a_parent, a_slot, a_kid, a_wrapped, a_workNode, a_workStep) (nI t) := by
  have hl31 := H.2.1
  have hn := H.1
  obtain ⟨b1, b2⟩ := mt_out_le2 H hw
  have b2' : S.length ≤ (mt_fl g (S, (.leaf : ff_F), cl)).length := b2
  have eo : mt_out (S, (.leaf : ff_F), cl) = mt_pS S := List.append_nil _
  unfold wpX_meetWanting
  dsimp only
  refine pk_eq t 0 (fun h0 => ?_) (fun h0 => ?_)
  · subst h0
    have esp : mt_sp g (S, (.leaf : ff_F), cl) (nI 0) = some ((none, .leaf) :: S, .leaf, cl) := by
      unfold mt_sp
      dsimp only
      rw [if_pos ff_lf_l, if_pos (show nI 0 = 0 from rfl)]
    refine xw_push (by omega) ?_
    have e2 : mt_out ((none, (.leaf : ff_F)) :: S, (.leaf : ff_F), cl) = mt_out (S, (.leaf : ff_F), cl) := by
      show (mt_pS S ++ []) ++ [] = mt_pS S ++ []
      rw [List.append_nil]
    have h := hT _ (upd a_frameOp S.length (-1)) (upd a_frameNext S.length 0) a_out esp ⟨pk_us, pk_us, mt_aS_upd S (Nat.le_refl _) ha⟩ (by rw [e2]; exact ho)
    rw [e2] at h
    exact h
  · refine pk_eq t 1 (fun h1 => hF ?_ _ _ _ _ _ _ _) (fun h1 => ?_)
    · subst h1
      unfold mt_sp
      dsimp only
      rw [if_pos ff_lf_l, if_neg (by decide), if_pos (show nI 1 = 1 from rfl)]
    · have ht0 : ¬ nI t = 0 := nI_ne0 (by omega) (by omega)
      have ht1 : ¬ nI t = 1 := by
        intro z
        have := (nI_eq (a := t) (b := 1) (by omega) (by omega)).mp z
        exact h1 this
      obtain ⟨x1, x2, x3⟩ := hx t (by omega) hl
      refine xw_atomn H hx (by omega) hl ?_
      cases hat : gt_at g (nI t) with
      | false =>
        refine br_t rfl ⟨vp_in_nI (by omega) (by decide), ?_⟩
        rw [nI_clamp (by omega), x1]
        have esp : mt_sp g (S, (.leaf : ff_F), cl) (nI t) = match gt_ld g true (nI t) with | some q => some (mt_av g q .leaf S cl) | none => none := by
          unfold mt_sp
          dsimp only
          rw [if_pos ff_lf_l, if_neg ht0, if_neg ht1, if_neg (by rw [hat]; decide)]
          rfl
        cases hld : gt_ld g true (nI t) with
        | none =>
          refine nm_r (e' := -1) (by decide) (br_f (by decide) (hF ?_ _ _ _ _ _ _ _))
          rw [esp, hld]
        | some q =>
          obtain ⟨q1, q2, q3⟩ := gt_ld_some hld
          refine nm_r (nI_pred q) (br_t (nI_pos' (by omega)) ?_)
          refine xw_start (K := .leaf) (S := S) (cl := cl) H q1 ?_ (by omega) (by rw [eo] at b1; show (mt_pS S ++ []).length < 128; rw [List.append_nil]; omega) ho ha ?_
          · show gt_s g q 0 = 1
            unfold gt_s
            rw [q3]
            rfl
          · intro fp fx ou h1 h2
            refine hT _ fp fx ou ?_ h1 h2
            rw [esp, hld]
      | true =>
        have esp : mt_sp g (S, (.leaf : ff_F), cl) (nI t) = some (S, ff_tk (nI t), cl) := by
          unfold mt_sp
          dsimp only
          rw [if_pos ff_lf_l, if_neg ht0, if_neg ht1, if_pos hat]
        refine br_f (by decide) (xw_emit (by omega) ho ?_)
        intro ou hou
        have e2 : mt_out (S, ff_tk (nI t), cl) = mt_out (S, (.leaf : ff_F), cl) ++ [nI t] := by
          rw [eo]
          rfl
        have h := hT _ a_frameOp a_frameNext ou esp ha (by rw [e2]; exact hou)
        rw [e2] at h
        exact h
theorem xw_have (H : gt_ok g) (hx : xo_ok g a_opener a_joiner a_inner) {S : List mt_Fr} {c : ff_F} {cl : Bool} {t : Nat} (hl : t ≤ gt_l g) (hw : mt_w g (S, c, cl)) (hlf : ff_lf c = false) (hfl : (mt_fl g (S, c, cl)).length < 128) (ha : mt_aS g a_frameOp a_frameNext S) (ho : mt_aO a_out (mt_out (S, c, cl)))
    (hT : ∀ (s' : mt_S) (fp fx ou : Nat → Int32), mt_sp g (S, c, cl) (nI t) = some s' → mt_aS g fp fx s'.1 → mt_aO ou (mt_out s') → post2 1 (f_opLimit, f_nodeLimit, f_levelLimit, nI (gt_l g), f_textLimit, nI (gt_n g), nI n, f_nodeTotal, f_treeTotal, nI s'.1.length, gt_b (ff_lf s'.2.1), gt_b s'.2.2, nI (mt_out s').length, f_treeBase, f_treeNodes, f_workDepth, gt_k g, gt_p g, gt_a g, gt_c g, gt_t g, a_opener, a_joiner, a_inner, a_text, a_nodeList, fp, fx, ou, a_partner, a_openAt, a_treeOp, a_parent, a_slot, a_kid, a_wrapped, a_workNode, a_workStep))
    (hF : mt_sp g (S, c, cl) (nI t) = none → ∀ (d w c o : Int32) (fp fx ou : Nat → Int32), post2 0 (f_opLimit, f_nodeLimit, f_levelLimit, nI (gt_l g), f_textLimit, nI (gt_n g), nI n, f_nodeTotal, f_treeTotal, d, w, c, o, f_treeBase, f_treeNodes, f_workDepth, gt_k g, gt_p g, gt_a g, gt_c g, gt_t g, a_opener, a_joiner, a_inner, a_text, a_nodeList, fp, fx, ou, a_partner, a_openAt, a_treeOp, a_parent, a_slot, a_kid, a_wrapped, a_workNode, a_workStep)) :
    wpX_meetHaving post2 (f_opLimit, f_nodeLimit, f_levelLimit, nI (gt_l g), f_textLimit, nI (gt_n g), nI n, f_nodeTotal, f_treeTotal, nI S.length, 0, gt_b cl, nI (mt_out (S, c, cl)).length, f_treeBase, f_treeNodes, f_workDepth, gt_k g, gt_p g, gt_a g, gt_c g, gt_t g, a_opener, a_joiner, a_inner, a_text, a_nodeList, a_frameOp, a_frameNext, a_out, a_partner, a_openAt, a_treeOp, a_parent, a_slot, a_kid, a_wrapped, a_workNode, a_workStep) (nI t) := by
  have hl31 := H.2.1
  have hn := H.1
  have h1c : ff_len c = 1 := mt_w1 hw hlf
  obtain ⟨b1, b2⟩ := mt_out_le2 H hw
  unfold wpX_meetHaving
  dsimp only
  have esp : mt_sp g (S, c, cl) (nI t) = if nI t = 0 then none else if nI t = 1 then mt_cl cl (mt_st g S c) else match gt_ld g false (nI t) with | some q => some (mt_av g q (mt_yd g q S c).2.1 (mt_yd g q S c).1 (cl || (mt_yd g q S c).2.2)) | none => mt_in g (nI t) cl (mt_st g S c) := by
    unfold mt_sp
    dsimp only
    rw [if_neg (by rw [hlf]; decide)]
    rfl
  refine pk_eq t 0 (fun h0 => hF ?_ _ _ _ _ _ _ _) (fun h0 => ?_)
  · subst h0
    rw [esp, if_pos (show nI 0 = 0 from rfl)]
  · have ht0 : ¬ nI t = 0 := nI_ne0 (by omega) (by omega)
    rw [if_neg ht0] at esp
    refine pk_eq t 1 (fun h1 => ?_) (fun h1 => ?_)
    · subst h1
      rw [if_pos (show nI 1 = 1 from rfl)] at esp
      refine xw_close (S := S) (c := c) H hw.1 hw.2.1 h1c (Nat.le_of_lt hfl) ha ho ?_ ?_
      · intro k S' c' ou' e2 ha' ho'
        refine ⟨nar_b true, ?_⟩
        have e3 : mt_sp g (S, c, cl) (nI 1) = some (S', ff_wp c', cl) := by
          rw [esp, e2]
          rfl
        have r := mt_st_k H S c hw.1 hw.2.1 h1c
        rw [e2] at r
        have r4 : ff_len c' = 1 := r.2.2.2.1
        have e4 : mt_out (S', ff_wp c', cl) = mt_pS S' ++ ff_post c' := by
          cases c' with
          | leaf => rfl
          | inner m e u p kk => rfl
        have e5 : ff_lf (ff_wp c') = false := by
          cases c' with
          | leaf => simp [ff_len] at r4
          | inner m e u p kk => rfl
        have h := hT _ a_frameOp a_frameNext ou' e3 ha' (by rw [e4]; exact ho')
        rw [e4, show ff_lf (S', ff_wp c', cl).2.1 = false from e5] at h
        exact h
      · intro hno d o ou'
        refine ⟨nar_b false, hF ?_ _ _ _ _ _ _ _⟩
        rw [esp]
        match e2 : mt_st g S c with
        | ([], c') => rfl
        | ((some q, k) :: S', c') => rfl
        | ((none, k) :: S', c') => exact absurd e2 (hno k S' c')
    · have ht1 : ¬ nI t = 1 := by
        intro z
        have := (nI_eq (a := t) (b := 1) (by omega) (by omega)).mp z
        exact h1 this
      rw [if_neg ht1] at esp
      obtain ⟨x1, x2, x3⟩ := hx t (by omega) hl
      refine ⟨vp_in_nI (by omega) (by decide), ?_⟩
      rw [nI_clamp (by omega), x2]
      cases hld : gt_ld g false (nI t) with
      | none =>
        rw [hld] at esp
        refine nm_r (e' := -1) (by decide) (br_t (by decide) ?_)
        refine xw_inner (S := S) (c := c) (cl := cl) H hw.1 hw.2.1 h1c hfl ha ho ?_ ?_
        · intro s' fx' ou' e2 ha' ho'
          exact ⟨nar_b true, hT s' a_frameOp fx' ou' (esp.trans e2) ha' ho'⟩
        · intro e2 d o ou'
          exact ⟨nar_b false, hF (esp.trans e2) _ _ _ _ _ _ _⟩
      | some q =>
        rw [hld] at esp
        obtain ⟨q1, q2, q3⟩ := gt_ld_some hld
        have q3' : gt_LO g q = true := q3
        refine nm_r (nI_pred q) (br_f (nI_pos (by omega)) ?_)
        refine xw_yield (S := S) (c := c) (cl := cl) H q1 hw.1 hw.2.1 h1c (Nat.le_of_lt hfl) ha ho ?_
        intro ou' ha' ho'
        obtain ⟨r1, r2, r3, r4, r5⟩ := mt_yd_k H q S c hw.1 hw.2.1 h1c
        have hb := mt_out_le2 H (s := ((mt_yd g q S c).1, (mt_yd g q S c).2.1, false)) ⟨r2, r3, Nat.le_of_eq r4⟩
        have hb1 : (mt_pS (mt_yd g q S c).1 ++ ff_post (mt_yd g q S c).2.1).length ≤ (mt_fS g (mt_yd g q S c).1 ++ ff_C g (mt_yd g q S c).2.1).length := hb.1
        have hb2 : (mt_yd g q S c).1.length ≤ (mt_fS g (mt_yd g q S c).1 ++ ff_C g (mt_yd g q S c).2.1).length := hb.2
        have hfl' : (mt_fS g S ++ ff_C g c).length < 128 := hfl
        rw [r1] at hb1 hb2
        refine xw_start (K := (mt_yd g q S c).2.1) (S := (mt_yd g q S c).1) (cl := cl || (mt_yd g q S c).2.2) H q1 ?_ (by omega) (by omega) ho' ha' ?_
        · rw [r4]
          unfold gt_s
          rw [if_pos q3']
        · intro fp fx ou h1 h2
          exact hT _ fp fx ou esp h1 h2
theorem xw_scan_l (H : gt_ok g) (hx : xo_ok g a_opener a_joiner a_inner) (hn : n ≤ 128) : ∀ (l : List Int32) (i : Nat) (s : mt_S) (N : Nat) (fp fx ou : Nat → Int32), i + l.length = n → (∀ j t, l[j]? = some t → a_text (i + j) = t) → (∀ t, t ∈ l → ∃ k, k ≤ gt_l g ∧ t = nI k) → mt_w g s → mt_v g s → (mt_fl g s).length = i → mt_aS g fp fx s.1 → mt_aO ou (mt_out s) → l.length < N →
    ((mt_sc g l i s).1 ≠ -1 → ∀ (d w c o : Int32) (fp fx ou : Nat → Int32), post2 (mt_sc g l i s).1 (f_opLimit, f_nodeLimit, f_levelLimit, nI (gt_l g), f_textLimit, nI (gt_n g), nI n, f_nodeTotal, f_treeTotal, d, w, c, o, f_treeBase, f_treeNodes, f_workDepth, gt_k g, gt_p g, gt_a g, gt_c g, gt_t g, a_opener, a_joiner, a_inner, a_text, a_nodeList, fp, fx, ou, a_partner, a_openAt, a_treeOp, a_parent, a_slot, a_kid, a_wrapped, a_workNode, a_workStep)) →
    (∀ T cl, mt_sc g l i s = (-1, [], T, cl) → ∀ (fp fx ou : Nat → Int32), mt_aO ou (ff_post T) → post2 (-1) (f_opLimit, f_nodeLimit, f_levelLimit, nI (gt_l g), f_textLimit, nI (gt_n g), nI n, f_nodeTotal, f_treeTotal, 0, 0, gt_b cl, nI (ff_post T).length, f_treeBase, f_treeNodes, f_workDepth, gt_k g, gt_p g, gt_a g, gt_c g, gt_t g, a_opener, a_joiner, a_inner, a_text, a_nodeList, fp, fx, ou, a_partner, a_openAt, a_treeOp, a_parent, a_slot, a_kid, a_wrapped, a_workNode, a_workStep)) →
    wX_scan_22 post2 N (nI i) f_opLimit f_nodeLimit f_levelLimit (nI (gt_l g)) f_textLimit (nI (gt_n g)) (nI n) f_nodeTotal f_treeTotal (nI s.1.length) (gt_b (ff_lf s.2.1)) (gt_b s.2.2) (nI (mt_out s).length) f_treeBase f_treeNodes f_workDepth (gt_k g) (gt_p g) (gt_a g) (gt_c g) (gt_t g) a_opener a_joiner a_inner a_text a_nodeList fp fx ou a_partner a_openAt a_treeOp a_parent a_slot a_kid a_wrapped a_workNode a_workStep := by
  intro l
  induction l with
  | nil =>
    intro i s N fp fx ou hi htx htok hw hv hfl ha ho hN hp1 hp2
    obtain ⟨N, rfl⟩ : ∃ N', N = N' + 1 := ⟨N - 1, by omega⟩
    have hin : i = n := hi
    have e0 : mt_sc g [] i s = if ff_lf s.2.1 = true then (nI i, s) else mt_end g i s.2.2 (mt_st g s.1 s.2.1) := rfl
    rw [e0] at hp1 hp2
    rw [wX_scan_22]
    refine br_t (nI_le (by omega) (by omega)) ?_
    cases hl : ff_lf s.2.1 with
    | true =>
      rw [if_pos hl] at hp1
      refine br_f (by decide) ?_
      have h9 := hp1 (nI_nm1 (by omega)) (nI s.1.length) (gt_b true) (gt_b s.2.2) (nI (mt_out s).length) fp fx ou
      have h10 : post2 (nI i) _ := h9
      rw [hin] at h10
      exact h10
    | false =>
      rw [if_neg (by rw [hl]; decide)] at hp1 hp2
      have h1 := mt_w1 hw hl
      refine br_t rfl (xw_settle (S := s.1) (c := s.2.1) H hw.1 hw.2.1 h1 (by show (mt_fl g s).length ≤ 128; omega) ha ho ?_)
      intro ou' ha' ho'
      obtain ⟨r1, r2, r3, r4, r5⟩ := mt_st_k H s.1 s.2.1 hw.1 hw.2.1 h1
      match e : mt_st g s.1 s.2.1 with
      | ([], c) =>
        rw [e] at ho' hp2
        exact br_t (by show nI 0 ≤ 0; decide) (hp2 c s.2.2 rfl fp fx ou' ho')
      | (f :: S, c) =>
        rw [e] at r1 r2 hp1
        have hlen := (mt_out_le H _ r2).2
        have hlen' : S.length + 1 ≤ (mt_fS g (f :: S)).length := hlen
        have hfl2 : (mt_fS g (f :: S) ++ ff_C g c).length = i := by
          rw [← hfl]
          exact congrArg List.length r1
        rw [List.length_append] at hfl2
        refine br_f (nI_nle (Nat.succ_pos _) (by show S.length + 1 < _; omega)) ?_
        have key : ∀ x : Int32, x = nI i → ∀ u : SX, post2 (nI i) u → post2 x u := fun x hx u h => by rw [hx]; exact h
        exact key _ (by rw [hin]) _ (hp1 (nI_nm1 (by omega)) _ _ _ _ fp fx ou')
  | cons t l ih =>
    intro i s N fp fx ou hi htx htok hw hv hfl ha ho hN hp1 hp2
    obtain ⟨N, rfl⟩ : ∃ N', N = N' + 1 := ⟨N - 1, by omega⟩
    rw [List.length_cons] at hi hN
    have hscn : mt_sc g (t :: l) i s = match mt_sp g s t with | none => (nI i, s) | some s' => mt_sc g l (i + 1) s' := rfl
    have ht : a_text i = t := htx 0 t rfl
    obtain ⟨k, hk, ek⟩ := htok t (List.mem_cons_self ..)
    have flt : mt_sp g s t = none → ∀ (d w c o : Int32) (fp fx ou : Nat → Int32), wX_scan_59 post2 (wX_scan_22 post2 N) (nI i) 0 f_opLimit f_nodeLimit f_levelLimit (nI (gt_l g)) f_textLimit (nI (gt_n g)) (nI n) f_nodeTotal f_treeTotal d w c o f_treeBase f_treeNodes f_workDepth (gt_k g) (gt_p g) (gt_a g) (gt_c g) (gt_t g) a_opener a_joiner a_inner a_text a_nodeList fp fx ou a_partner a_openAt a_treeOp a_parent a_slot a_kid a_wrapped a_workNode a_workStep := by
      intro h d w c o fp fx ou
      rw [h] at hscn
      rw [hscn] at hp1
      unfold wX_scan_59
      exact br_t rfl (hp1 (nI_nm1 (by omega)) d w c o fp fx ou)
    have cont : ∀ (s' : mt_S) (fp' fx' ou' : Nat → Int32), mt_sp g s t = some s' → mt_aS g fp' fx' s'.1 → mt_aO ou' (mt_out s') → wX_scan_59 post2 (wX_scan_22 post2 N) (nI i) 1 f_opLimit f_nodeLimit f_levelLimit (nI (gt_l g)) f_textLimit (nI (gt_n g)) (nI n) f_nodeTotal f_treeTotal (nI s'.1.length) (gt_b (ff_lf s'.2.1)) (gt_b s'.2.2) (nI (mt_out s').length) f_treeBase f_treeNodes f_workDepth (gt_k g) (gt_p g) (gt_a g) (gt_c g) (gt_t g) a_opener a_joiner a_inner a_text a_nodeList fp' fx' ou' a_partner a_openAt a_treeOp a_parent a_slot a_kid a_wrapped a_workNode a_workStep := by
      intro s' fp' fx' ou' h ha' ho'
      rw [h] at hscn
      rw [hscn] at hp1 hp2
      obtain ⟨w1, w2, w3⟩ := mt_step H hw hv h
      have hfl' : (mt_fl g s').length = i + 1 := by
        have := congrArg List.length w3
        rw [List.length_map, List.length_append, List.length_map, hfl] at this
        exact this
      unfold wX_scan_59
      refine br_f (by decide) (nm_r (nI_1 i) ?_)
      refine ih (i + 1) s' N fp' fx' ou' (by omega) ?_ (fun t ht => htok t (List.mem_cons_of_mem _ ht)) w1 w2 hfl' ha' ho' (by omega) hp1 hp2
      intro j t' hj
      have := htx (j + 1) t' hj
      rw [show i + 1 + j = i + (j + 1) by omega]
      exact this
    rw [wX_scan_22]
    refine br_f (nI_ge (by omega) (by omega)) ⟨vp_in_nI (by omega) (by decide), nm_r (e' := nI k) (by rw [nI_clamp (by omega), ht]; exact ek) ?_⟩
    rw [ek] at flt cont
    obtain ⟨S, c, cl⟩ := s
    cases hl : ff_lf c with
    | true =>
      have ec := ff_lf_leaf hl
      subst ec
      exact br_f (by decide) (xw_want (S := S) (cl := cl) H hx hk hw (by omega) ha ho cont flt)
    | false =>
      exact br_t rfl (xw_have (S := S) (c := c) (cl := cl) H hx hk hw hl (by omega) ha ho cont flt)
theorem xw_scan (H : gt_ok g) (hx : xo_ok g a_opener a_joiner a_inner) (hn : n ≤ 128) {ts : List Int32} (hts : ts.length = n) (htx : mt_aO a_text ts) (htok : ∀ t, t ∈ ts → ∃ k, k ≤ gt_l g ∧ t = nI k)
    (hp1 : (mt_sc g ts 0 mt_0).1 ≠ -1 → ∀ (d w c o : Int32) (fp fx ou : Nat → Int32), post2 (mt_sc g ts 0 mt_0).1 (f_opLimit, f_nodeLimit, f_levelLimit, nI (gt_l g), f_textLimit, nI (gt_n g), nI n, f_nodeTotal, f_treeTotal, d, w, c, o, f_treeBase, f_treeNodes, f_workDepth, gt_k g, gt_p g, gt_a g, gt_c g, gt_t g, a_opener, a_joiner, a_inner, a_text, a_nodeList, fp, fx, ou, a_partner, a_openAt, a_treeOp, a_parent, a_slot, a_kid, a_wrapped, a_workNode, a_workStep))
    (hp2 : ∀ T cl, mt_sc g ts 0 mt_0 = (-1, [], T, cl) → ∀ (fp fx ou : Nat → Int32), mt_aO ou (ff_post T) → post2 (-1) (f_opLimit, f_nodeLimit, f_levelLimit, nI (gt_l g), f_textLimit, nI (gt_n g), nI n, f_nodeTotal, f_treeTotal, 0, 0, gt_b cl, nI (ff_post T).length, f_treeBase, f_treeNodes, f_workDepth, gt_k g, gt_p g, gt_a g, gt_c g, gt_t g, a_opener, a_joiner, a_inner, a_text, a_nodeList, fp, fx, ou, a_partner, a_openAt, a_treeOp, a_parent, a_slot, a_kid, a_wrapped, a_workNode, a_workStep)) :
    wpX_scan post2 (f_opLimit, f_nodeLimit, f_levelLimit, nI (gt_l g), f_textLimit, nI (gt_n g), nI n, f_nodeTotal, f_treeTotal, f_depth, f_wanting, f_clashing, f_outLen, f_treeBase, f_treeNodes, f_workDepth, gt_k g, gt_p g, gt_a g, gt_c g, gt_t g, a_opener, a_joiner, a_inner, a_text, a_nodeList, a_frameOp, a_frameNext, a_out, a_partner, a_openAt, a_treeOp, a_parent, a_slot, a_kid, a_wrapped, a_workNode, a_workStep) :=
  ⟨n + 1, xw_scan_l H hx hn ts 0 mt_0 (n + 1) a_frameOp a_frameNext a_out (by omega) (fun j t h => by rw [Nat.zero_add]; exact htx j t h) htok (mt_0w g) (mt_0v g) rfl trivial (fun j x h => by simp [mt_out, mt_0, mt_pS, ff_post] at h) (by omega) hp1 hp2⟩
end
end
section
/-! the list of nodes as a forest -/
theorem gt_at_j {g : gt_T} (H : gt_ok g) {t : Int32} (h : gt_at g t = true) : ∃ j, 2 ≤ j ∧ j ≤ gt_l g ∧ t = nI j := by
  have hl := H.2.1
  unfold gt_at at h
  simp only [Bool.and_eq_true, decide_eq_true_eq] at h
  obtain ⟨⟨h2, h3⟩, _⟩ := h
  have h0 : ¬ t < 0 := by
    rw [Int32.lt_iff_toInt_lt]
    rw [Int32.le_iff_toInt_le] at h2
    have e1 : (2 : Int32).toInt = 2 := by decide
    have e2 : (0 : Int32).toInt = 0 := by decide
    omega
  obtain ⟨j, hj, rfl⟩ := nI_of2 (nI_toInt (n := gt_l g) (by omega)) h0 h3
  refine ⟨j, ?_, hj, rfl⟩
  have := (nI_leI (a := 2) (b := j) (by decide) (by omega)).mp h2
  exact this
def ff_ar (g : gt_T) (e : Int32 ⊕ Nat) : Nat := match e with
  | .inl _ => 0
  | .inr q => gt_ar g q
theorem ff_we_ar {g : gt_T} {e : Int32 ⊕ Nat} {k : ff_F} (h : ff_we g e k) : ff_len k = ff_ar g e := by
  match e, h with
  | .inl t, h => exact ff_len0.mpr h.2
  | .inr q, h => exact h.2
theorem ff_ar3 {g : gt_T} (H : gt_ok g) {e : Int32 ⊕ Nat} {k : ff_F} (h : ff_we g e k) : ff_ar g e ≤ 3 := by
  match e, h with
  | .inl t, h => exact Nat.zero_le _
  | .inr q, h => exact gt_ar3 H h.1
/-- the forest F stands in the list l from place a on -/
def ff_at (l : Nat → Int32) (a : Nat) (F : ff_F) : Prop := ∀ j x, (ff_post F)[j]? = some x → l (a + j) = x
theorem ff_at_in {l : Nat → Int32} {a m : Nat} {e : Int32 ⊕ Nat} {u : Unit} {p k : ff_F} (h : ff_at l a (.inner m e u p k)) : ff_at l a p ∧ ff_at l (a + ff_sz p) k ∧ l (a + ff_sz p + ff_sz k) = ff_ent e := by
  have h0 : ∀ j x, (ff_post p ++ (ff_post k ++ [ff_ent e]))[j]? = some x → l (a + j) = x := h
  refine ⟨?_, ?_, ?_⟩
  · intro j x hj
    obtain ⟨h1, _⟩ := List.getElem?_eq_some_iff.mp hj
    exact h0 j x (by rw [List.getElem?_append_left h1]; exact hj)
  · intro j x hj
    obtain ⟨h1, _⟩ := List.getElem?_eq_some_iff.mp hj
    have := h0 (ff_sz p + j) x (by
      rw [List.getElem?_append_right (by rw [ff_post_len]; omega), ff_post_len, Nat.add_sub_cancel_left, List.getElem?_append_left h1]
      exact hj)
    rw [Nat.add_assoc]
    exact this
  · have := h0 (ff_sz p + ff_sz k) (ff_ent e) (by
      rw [List.getElem?_append_right (by rw [ff_post_len]; omega), ff_post_len, Nat.add_sub_cancel_left, List.getElem?_append_right (by rw [ff_post_len]; omega), ff_post_len, Nat.sub_self]
      rfl)
    rw [Nat.add_assoc]
    exact this
theorem nI_s1 (n : Nat) : nI (n + 1) - 1 = nI n := nI_pred n
theorem nI_need {x r : Nat} : nI (x + 1) + (nI r - 1) = nI (r + x) := by
  rw [← nI_1, ← nI_add]
  generalize nI x = a
  generalize nI r = b
  grind
theorem nI_cnt {x r : Nat} : nI (x + r) + (1 - nI r) = nI (x + 1) := by
  rw [← nI_1, ← nI_add]
  generalize nI x = a
  generalize nI r = b
  grind
theorem ff_len_sz : ∀ (F : ff_F), ff_len F ≤ ff_sz F := by
  intro F
  induction F with
  | leaf => exact Nat.le_refl _
  | inner m e u p k ihp ihk =>
    show ff_len p + 1 ≤ ff_sz p + ff_sz k + 1
    omega
section
variable {g : gt_T} {n : Nat} {post : Int32 → Prop}
variable {f_opLimit f_nodeLimit f_levelLimit f_textLimit f_nodeTotal f_treeTotal f_depth f_wanting f_clashing f_outLen f_treeBase f_treeNodes f_workDepth : Int32} {a_opener a_joiner a_inner a_text a_nodeList a_frameOp a_frameNext a_out a_partner a_openAt a_treeOp a_parent a_slot a_kid a_wrapped a_workNode a_workStep : Nat → Int32}
theorem xw_aoe (H : gt_ok g) {e : Int32 ⊕ Nat} {k : ff_F} (he : ff_we g e k) (hp : post (nI (ff_ar g e))) : wpX_arityOfEntry post (f_opLimit, f_nodeLimit, f_levelLimit, nI (gt_l g), f_textLimit, nI (gt_n g), nI n, f_nodeTotal, f_treeTotal, f_depth, f_wanting, f_clashing, f_outLen, f_treeBase, f_treeNodes, f_workDepth, gt_k g, gt_p g, gt_a g, gt_c g, gt_t g, a_opener, a_joiner, a_inner, a_text, a_nodeList, a_frameOp, a_frameNext, a_out, a_partner, a_openAt, a_treeOp, a_parent, a_slot, a_kid, a_wrapped, a_workNode, a_workStep) (ff_ent e) := by
  have hl31 := H.2.1
  unfold wpX_arityOfEntry
  match e, he, hp with
  | .inl t, he, hp =>
    obtain ⟨j, h2, hj, ht⟩ := gt_at_j H he.1
    refine br_f ?_ hp
    show ¬ (100 : Int32) ≤ t
    rw [ht]
    exact nI_ge (b := 100) (by omega) (by decide)
  | .inr q, hq, hp =>
    have hn := H.1
    have hq' : q < gt_n g := hq.1
    have e1 : ff_ent (.inr q) = nI (100 + q) := (nI_add 100 q)
    have e2 : nI (100 + q) - 100 = nI q := by
      have := pk_sub (a := 100 + q) (b := 100) (by omega)
      rw [show 100 + q - 100 = q by omega] at this
      exact this
    rw [e1]
    refine br_t (nI_le (a := 100) (by omega) (by omega)) ?_
    rw [e2]
    exact xw_ar H hq' hp
theorem xw_size_l (H : gt_ok g) {x1 : Int32} : ∀ (F : ff_F) (a d N : Nat), ff_wf g F → ff_at a_nodeList a F → a + ff_sz F ≤ 32 → d + ff_sz F ≤ 200 → wX_sizeOfTree_4 post x1 f_opLimit f_nodeLimit f_levelLimit (nI (gt_l g)) f_textLimit (nI (gt_n g)) (nI n) f_nodeTotal f_treeTotal f_depth f_wanting f_clashing f_outLen f_treeBase f_treeNodes f_workDepth (gt_k g) (gt_p g) (gt_a g) (gt_c g) (gt_t g) a_opener a_joiner a_inner a_text a_nodeList a_frameOp a_frameNext a_out a_partner a_openAt a_treeOp a_parent a_slot a_kid a_wrapped a_workNode a_workStep N (nI d) (nI a - 1) → wX_sizeOfTree_4 post x1 f_opLimit f_nodeLimit f_levelLimit (nI (gt_l g)) f_textLimit (nI (gt_n g)) (nI n) f_nodeTotal f_treeTotal f_depth f_wanting f_clashing f_outLen f_treeBase f_treeNodes f_workDepth (gt_k g) (gt_p g) (gt_a g) (gt_c g) (gt_t g) a_opener a_joiner a_inner a_text a_nodeList a_frameOp a_frameNext a_out a_partner a_openAt a_treeOp a_parent a_slot a_kid a_wrapped a_workNode a_workStep (N + ff_sz F) (nI (ff_len F + d)) (nI (a + ff_sz F) - 1) := by
  intro F
  induction F with
  | leaf => intro a d N _ _ _ _ h; rw [show ff_len (.leaf : ff_F) + d = d from Nat.zero_add d]; exact h
  | inner m e u p k ihp ihk =>
    intro a d N hw hat hle hd h
    obtain ⟨h1, h2, h3⟩ := ff_at_in hat
    have hle' : a + (ff_sz p + ff_sz k + 1) ≤ 32 := hle
    have hlp := ff_len_sz p
    have hlk := ff_len_sz k
    have har := ff_we_ar hw.2.2
    have hd' : d + (ff_sz p + ff_sz k + 1) ≤ 200 := hd
    have s1 := ihp a d N hw.1 h1 (by omega) (by omega) h
    have s2 := ihk (a + ff_sz p) (ff_len p + d) (N + ff_sz p) hw.2.1 h2 (by omega) (by omega) s1
    rw [show N + ff_sz (.inner m e u p k) = (N + ff_sz p + ff_sz k) + 1 by show N + (ff_sz p + ff_sz k + 1) = _; omega, show nI (a + ff_sz (.inner m e u p k)) - 1 = nI (a + ff_sz p + ff_sz k) by rw [show a + ff_sz (.inner m e u p k) = (a + ff_sz p + ff_sz k) + 1 by show a + (ff_sz p + ff_sz k + 1) = _; omega, nI_pred], show ff_len (.inner m e u p k) + d = (ff_len p + d) + 1 by show ff_len p + 1 + d = _; omega]
    rw [wX_sizeOfTree_4]
    refine br_f (nI_pos (by omega)) (br_f (nI_nle (Nat.succ_pos _) (by omega)) ⟨vp_in_nI (by omega) (by decide), ?_⟩)
    rw [nI_clamp (by omega), h3]
    refine xw_aoe H hw.2.2 (nm_r nI_need (nm_r (e' := nI (a + ff_sz p + ff_sz k) - 1) ?_ ?_))
    · generalize nI (a + ff_sz p + ff_sz k) = z; grind
    · rw [← har]
      exact s2
/-- the size of the tree that ends ahead of place b -/
theorem xw_size (H : gt_ok g) {T : ff_F} {a b : Nat} (h1 : ff_len T = 1) (hw : ff_wf g T) (hat : ff_at a_nodeList a T) (hb : b = a + ff_sz T) (hle : b ≤ 32) {x : Int32} (hx : x = nI b - 1) (hp : post (nI (ff_sz T))) : wpX_sizeOfTree post (f_opLimit, f_nodeLimit, f_levelLimit, nI (gt_l g), f_textLimit, nI (gt_n g), nI n, f_nodeTotal, f_treeTotal, f_depth, f_wanting, f_clashing, f_outLen, f_treeBase, f_treeNodes, f_workDepth, gt_k g, gt_p g, gt_a g, gt_c g, gt_t g, a_opener, a_joiner, a_inner, a_text, a_nodeList, a_frameOp, a_frameNext, a_out, a_partner, a_openAt, a_treeOp, a_parent, a_slot, a_kid, a_wrapped, a_workNode, a_workStep) x := by
  subst hb hx
  have hv : nI (a + ff_sz T) - 1 - (nI a - 1) = nI (ff_sz T) := by
    rw [← nI_add]
    generalize nI a = z
    generalize nI (ff_sz T) = y
    grind
  refine ⟨1 + ff_sz T, ?_⟩
  have h0 : wX_sizeOfTree_4 post (nI (a + ff_sz T) - 1) f_opLimit f_nodeLimit f_levelLimit (nI (gt_l g)) f_textLimit (nI (gt_n g)) (nI n) f_nodeTotal f_treeTotal f_depth f_wanting f_clashing f_outLen f_treeBase f_treeNodes f_workDepth (gt_k g) (gt_p g) (gt_a g) (gt_c g) (gt_t g) a_opener a_joiner a_inner a_text a_nodeList a_frameOp a_frameNext a_out a_partner a_openAt a_treeOp a_parent a_slot a_kid a_wrapped a_workNode a_workStep 1 (nI 0) (nI a - 1) := by
    rw [wX_sizeOfTree_4]
    dsimp only
    rw [hv]
    exact br_c (fun _ => hp) (fun _ => br_t (by decide) hp)
  have h := xw_size_l H T a 0 1 hw hat hle (by omega) h0
  rw [h1] at h
  exact h
end
section
variable {g : gt_T} {n : Nat} {post : Int32 → Prop}
variable {f_maxOps f_maxNodes f_maxLevels f_maxNames f_listLen : Int32} {a_text a_list a_leadOp a_follow a_groupAt a_groupOp a_groupNext a_rootOf a_found a_fromAt a_toAt a_work a_mark a_order : Nat → Int32}
theorem yw_aoe (H : gt_ok g) {e : Int32 ⊕ Nat} {k : ff_F} (he : ff_we g e k) (hp : post (nI (ff_ar g e))) : wpY_operandsOf post (f_maxOps, f_maxNodes, f_maxLevels, f_maxNames, nI (gt_n g), nI n, f_listLen, gt_k g, gt_p g, gt_a g, gt_c g, gt_t g, a_text, a_list, a_leadOp, a_follow, a_groupAt, a_groupOp, a_groupNext, a_rootOf, a_found, a_fromAt, a_toAt, a_work, a_mark, a_order) (ff_ent e) := by
  have hl31 := H.2.1
  refine yw_ops H ?_ ?_
  · match e, he with
    | .inl t, he =>
      obtain ⟨j, h2, hj, ht⟩ := gt_at_j H he.1
      exact ⟨j, by omega, ht⟩
    | .inr q, hq => exact hq.1
  · match e, hp with
    | .inl t, hp => exact hp
    | .inr q, hp => exact hp
theorem yw_start_p (H : gt_ok g) : ∀ (F : ff_F) (a d N : Nat), ff_wf g F → ff_at a_list a F → a + ff_sz F ≤ 32 → d + ff_sz F ≤ 200 → 1 ≤ d → wY_startOf_4 post f_maxOps f_maxNodes f_maxLevels f_maxNames (nI (gt_n g)) (nI n) f_listLen (gt_k g) (gt_p g) (gt_a g) (gt_c g) (gt_t g) a_text a_list a_leadOp a_follow a_groupAt a_groupOp a_groupNext a_rootOf a_found a_fromAt a_toAt a_work a_mark a_order N (nI d) (nI a - 1) → wY_startOf_4 post f_maxOps f_maxNodes f_maxLevels f_maxNames (nI (gt_n g)) (nI n) f_listLen (gt_k g) (gt_p g) (gt_a g) (gt_c g) (gt_t g) a_text a_list a_leadOp a_follow a_groupAt a_groupOp a_groupNext a_rootOf a_found a_fromAt a_toAt a_work a_mark a_order (N + ff_sz F) (nI (ff_len F + d)) (nI (a + ff_sz F) - 1) := by
  intro F
  induction F with
  | leaf => intro a d N _ _ _ _ _ h; rw [show ff_len (.leaf : ff_F) + d = d from Nat.zero_add d]; exact h
  | inner m e u p k ihp ihk =>
    intro a d N hw hat hle hd hd1 h
    obtain ⟨h1, h2, h3⟩ := ff_at_in hat
    have hle' : a + (ff_sz p + ff_sz k + 1) ≤ 32 := hle
    have hlp := ff_len_sz p
    have hlk := ff_len_sz k
    have har := ff_we_ar hw.2.2
    have hd' : d + (ff_sz p + ff_sz k + 1) ≤ 200 := hd
    have s1 := ihp a d N hw.1 h1 (by omega) (by omega) hd1 h
    have s2 := ihk (a + ff_sz p) (ff_len p + d) (N + ff_sz p) hw.2.1 h2 (by omega) (by omega) (by omega) s1
    rw [show N + ff_sz (.inner m e u p k) = (N + ff_sz p + ff_sz k) + 1 by show N + (ff_sz p + ff_sz k + 1) = _; omega, show nI (a + ff_sz (.inner m e u p k)) - 1 = nI (a + ff_sz p + ff_sz k) by rw [show a + ff_sz (.inner m e u p k) = (a + ff_sz p + ff_sz k) + 1 by show a + (ff_sz p + ff_sz k + 1) = _; omega, nI_pred], show ff_len (.inner m e u p k) + d = (ff_len p + d) + 1 by show ff_len p + 1 + d = _; omega]
    rw [wY_startOf_4]
    refine br_f (nI_pos (by omega)) ⟨vp_in_nI (by omega) (by decide), ?_⟩
    rw [nI_clamp (by omega), h3]
    refine yw_aoe H hw.2.2 (nm_r nI_need (br_f (nI_ne0 (by omega) (by have := ff_ar3 H hw.2.2; omega)) (nm_r (e' := nI (a + ff_sz p + ff_sz k) - 1) ?_ ?_)))
    · generalize nI (a + ff_sz p + ff_sz k) = z; grind
    · rw [← har]
      exact s2
theorem yw_start_f (H : gt_ok g) : ∀ (F : ff_F) (a N : Nat), ff_wf g F → ff_lf F = false → ff_at a_list a F → a + ff_sz F ≤ 32 → ff_sz F < N → post (nI a) → wY_startOf_4 post f_maxOps f_maxNodes f_maxLevels f_maxNames (nI (gt_n g)) (nI n) f_listLen (gt_k g) (gt_p g) (gt_a g) (gt_c g) (gt_t g) a_text a_list a_leadOp a_follow a_groupAt a_groupOp a_groupNext a_rootOf a_found a_fromAt a_toAt a_work a_mark a_order N (nI (ff_len F)) (nI (a + ff_sz F) - 1) := by
  intro F
  induction F with
  | leaf => intro a N _ h; cases h
  | inner m e u p k ihp ihk =>
    intro a N hw _ hat hle hN hp
    obtain ⟨h1, h2, h3⟩ := ff_at_in hat
    have hle' : a + (ff_sz p + ff_sz k + 1) ≤ 32 := hle
    have hN' : ff_sz p + ff_sz k + 1 < N := hN
    have hlp := ff_len_sz p
    have hlk := ff_len_sz k
    have har := ff_we_ar hw.2.2
    obtain ⟨N, rfl⟩ : ∃ N', N = N' + 1 := ⟨N - 1, by omega⟩
    rw [show nI (a + ff_sz (.inner m e u p k)) - 1 = nI (a + ff_sz p + ff_sz k) by rw [show a + ff_sz (.inner m e u p k) = (a + ff_sz p + ff_sz k) + 1 by show a + (ff_sz p + ff_sz k + 1) = _; omega, nI_pred], show ff_len (.inner m e u p k) = ff_len p + 1 from rfl]
    rw [wY_startOf_4]
    refine br_f (nI_pos (by omega)) ⟨vp_in_nI (by omega) (by decide), ?_⟩
    rw [nI_clamp (by omega), h3]
    refine yw_aoe H hw.2.2 (nm_r nI_need ?_)
    rw [← har]
    by_cases h0 : ff_len k + ff_len p = 0
    · have ek := ff_lf_leaf (ff_len0.mp (show ff_len k = 0 by omega))
      have ep := ff_lf_leaf (ff_len0.mp (show ff_len p = 0 by omega))
      subst ek ep
      exact br_t rfl hp
    · refine br_f (nI_ne0 (by omega) (by omega)) (nm_r (e' := nI (a + ff_sz p + ff_sz k) - 1) (by generalize nI (a + ff_sz p + ff_sz k) = z; grind) ?_)
      by_cases hp0 : ff_len p = 0
      · have ep := ff_lf_leaf (ff_len0.mp hp0)
        subst ep
        have := ihk a N hw.2.1 (ff_lf_len (by omega)) h2 (by show a + ff_sz k ≤ 32; omega) (by omega) hp
        exact this
      · have hs := ihp a (N - ff_sz k) hw.1 (ff_lf_len (by omega)) h1 (by omega) (by omega) hp
        have := yw_start_p H k (a + ff_sz p) (ff_len p) (N - ff_sz k) hw.2.1 h2 (by omega) (by omega) (by omega) hs
        rw [show N - ff_sz k + ff_sz k = N by omega] at this
        exact this
theorem yw_start (H : gt_ok g) {T : ff_F} {a b : Nat} (h1 : ff_len T = 1) (hw : ff_wf g T) (hat : ff_at a_list a T) (hb : b = a + ff_sz T) (hle : b ≤ 32) {x : Int32} (hx : x = nI b - 1) (hp : post (nI a)) : wpY_startOf post (f_maxOps, f_maxNodes, f_maxLevels, f_maxNames, nI (gt_n g), nI n, f_listLen, gt_k g, gt_p g, gt_a g, gt_c g, gt_t g, a_text, a_list, a_leadOp, a_follow, a_groupAt, a_groupOp, a_groupNext, a_rootOf, a_found, a_fromAt, a_toAt, a_work, a_mark, a_order) x := by
  subst hb hx
  refine ⟨ff_sz T + 1, ?_⟩
  have h : wY_startOf_4 post f_maxOps f_maxNodes f_maxLevels f_maxNames (nI (gt_n g)) (nI n) f_listLen (gt_k g) (gt_p g) (gt_a g) (gt_c g) (gt_t g) a_text a_list a_leadOp a_follow a_groupAt a_groupOp a_groupNext a_rootOf a_found a_fromAt a_toAt a_work a_mark a_order (ff_sz T + 1) (nI (ff_len T)) (nI (a + ff_sz T) - 1) := yw_start_f H T a (ff_sz T + 1) hw (ff_1nlf h1) hat hle (Nat.lt_succ_self _) hp
  rw [h1] at h
  exact h
theorem yw_tc_l (H : gt_ok g) {nt : Nat} : ∀ (F : ff_F) (a c N : Nat), ff_wf g F → ff_at a_list a F → a + ff_sz F ≤ nt → nt ≤ 32 → c + ff_sz F ≤ 200 → wY_treeCount_4 post f_maxOps f_maxNodes f_maxLevels f_maxNames (nI (gt_n g)) (nI n) (nI nt) (gt_k g) (gt_p g) (gt_a g) (gt_c g) (gt_t g) a_text a_list a_leadOp a_follow a_groupAt a_groupOp a_groupNext a_rootOf a_found a_fromAt a_toAt a_work a_mark a_order N (nI (c + ff_len F)) (nI (a + ff_sz F)) → wY_treeCount_4 post f_maxOps f_maxNodes f_maxLevels f_maxNames (nI (gt_n g)) (nI n) (nI nt) (gt_k g) (gt_p g) (gt_a g) (gt_c g) (gt_t g) a_text a_list a_leadOp a_follow a_groupAt a_groupOp a_groupNext a_rootOf a_found a_fromAt a_toAt a_work a_mark a_order (N + ff_sz F) (nI c) (nI a) := by
  intro F
  induction F with
  | leaf => intro a c N _ _ _ _ _ h; exact h
  | inner m e u p k ihp ihk =>
    intro a c N hw hat hle hnt hc h
    obtain ⟨h1, h2, h3⟩ := ff_at_in hat
    have hle' : a + (ff_sz p + ff_sz k + 1) ≤ nt := hle
    have hlp := ff_len_sz p
    have hlk := ff_len_sz k
    have har := ff_we_ar hw.2.2
    have hc' : c + (ff_sz p + ff_sz k + 1) ≤ 200 := hc
    rw [show N + ff_sz (.inner m e u p k) = ((N + 1) + ff_sz k) + ff_sz p by show N + (ff_sz p + ff_sz k + 1) = _; omega]
    refine ihp a c _ hw.1 h1 (by omega) hnt (by omega) ?_
    refine ihk (a + ff_sz p) (c + ff_len p) (N + 1) hw.2.1 h2 (by omega) hnt (by omega) ?_
    rw [wY_treeCount_4]
    refine br_f (nI_ge (by omega) (by omega)) ⟨vp_in_nI (by omega) (by decide), ?_⟩
    rw [nI_clamp (by omega), h3]
    refine yw_aoe H hw.2.2 ?_
    rw [har]
    refine nm_r nI_cnt (nm_r (nI_1 _) ?_)
    rw [show c + ff_len (.inner m e u p k) = c + ff_len p + 1 from rfl, show a + ff_sz (.inner m e u p k) = a + ff_sz p + ff_sz k + 1 by show a + (ff_sz p + ff_sz k + 1) = _; omega] at h
    exact h
theorem yw_tc (H : gt_ok g) {F : ff_F} {nt : Nat} (hw : ff_wf g F) (hat : ff_at a_list 0 F) (hnt : ff_sz F = nt) (hle : nt ≤ 32) (hp : post (nI (ff_len F))) : wpY_treeCount post (f_maxOps, f_maxNodes, f_maxLevels, f_maxNames, nI (gt_n g), nI n, nI nt, gt_k g, gt_p g, gt_a g, gt_c g, gt_t g, a_text, a_list, a_leadOp, a_follow, a_groupAt, a_groupOp, a_groupNext, a_rootOf, a_found, a_fromAt, a_toAt, a_work, a_mark, a_order) := by
  have hlp := ff_len_sz F
  refine ⟨1 + ff_sz F, ?_⟩
  refine yw_tc_l H F 0 0 1 hw hat (by omega) hle (by omega) ?_
  rw [wY_treeCount_4]
  rw [Nat.zero_add, Nat.zero_add]
  exact br_t (nI_le (by omega) (by omega)) hp
end
end
section
/-! the relation -/
def rl_ok (g : gt_T) (opL nodeL levL : Nat) (ts : List Int32) (F : ff_F) (op jo inn xt yt xl yl : Nat → Int32) : Prop :=
  gt_ok g ∧ 5 ≤ gt_l g ∧ (gt_n g ≤ opL ∧ opL ≤ 12) ∧ (4 ≤ nodeL ∧ nodeL ≤ 32) ∧ levL ≤ 10 ∧ xo_ok g op jo inn ∧ ts.length ≤ 4 * nodeL ∧ mt_aO xt ts ∧ mt_aO yt ts ∧ (∀ t, t ∈ ts → ∃ k, k ≤ gt_l g ∧ t = nI k) ∧ ff_wf g F ∧ ff_sz F ≤ nodeL ∧ ff_at xl 0 F ∧ ff_at yl 0 F
def i_Rel (k : Nat) (u : SX) (v : SY) : Prop := ∃ (g : gt_T) (opL nodeL levL : Nat) (ts : List Int32) (F : ff_F) (f_depth f_wanting f_clashing f_outLen f_treeBase f_treeNodes f_workDepth : Int32) (a_opener a_joiner a_inner xt xl a_frameOp a_frameNext a_out a_partner a_openAt a_treeOp a_parent a_slot a_kid a_wrapped a_workNode a_workStep yt yl a_leadOp a_follow a_groupAt a_groupOp a_groupNext a_rootOf a_found a_fromAt a_toAt a_work a_mark a_order : Nat → Int32),
  u = (nI opL, nI nodeL, nI levL, nI (gt_l g), nI (4 * nodeL), nI (gt_n g), nI ts.length, nI (ff_sz F), nI (ff_len F), f_depth, f_wanting, f_clashing, f_outLen, f_treeBase, f_treeNodes, f_workDepth, gt_k g, gt_p g, gt_a g, gt_c g, gt_t g, a_opener, a_joiner, a_inner, xt, xl, a_frameOp, a_frameNext, a_out, a_partner, a_openAt, a_treeOp, a_parent, a_slot, a_kid, a_wrapped, a_workNode, a_workStep) ∧ v = (nI opL, nI nodeL, nI levL, nI (gt_l g - 1), nI (gt_n g), nI ts.length, nI (ff_sz F), gt_k g, gt_p g, gt_a g, gt_c g, gt_t g, yt, yl, a_leadOp, a_follow, a_groupAt, a_groupOp, a_groupNext, a_rootOf, a_found, a_fromAt, a_toAt, a_work, a_mark, a_order) ∧ rl_ok g opL nodeL levL ts F a_opener a_joiner a_inner xt yt xl yl
theorem i_up {k : Nat} {u : SX} {v : SY} (h : i_Rel k u v) : i_Rel (k + 5) u v := h
theorem rl_in {k : Nat} {g : gt_T} {opL nodeL levL : Nat} {ts : List Int32} {F : ff_F} {f_depth f_wanting f_clashing f_outLen f_treeBase f_treeNodes f_workDepth : Int32} {a_opener a_joiner a_inner xt xl a_frameOp a_frameNext a_out a_partner a_openAt a_treeOp a_parent a_slot a_kid a_wrapped a_workNode a_workStep yt yl a_leadOp a_follow a_groupAt a_groupOp a_groupNext a_rootOf a_found a_fromAt a_toAt a_work a_mark a_order : Nat → Int32}
    (h : rl_ok g opL nodeL levL ts F a_opener a_joiner a_inner xt yt xl yl) : i_Rel k (nI opL, nI nodeL, nI levL, nI (gt_l g), nI (4 * nodeL), nI (gt_n g), nI ts.length, nI (ff_sz F), nI (ff_len F), f_depth, f_wanting, f_clashing, f_outLen, f_treeBase, f_treeNodes, f_workDepth, gt_k g, gt_p g, gt_a g, gt_c g, gt_t g, a_opener, a_joiner, a_inner, xt, xl, a_frameOp, a_frameNext, a_out, a_partner, a_openAt, a_treeOp, a_parent, a_slot, a_kid, a_wrapped, a_workNode, a_workStep) (nI opL, nI nodeL, nI levL, nI (gt_l g - 1), nI (gt_n g), nI ts.length, nI (ff_sz F), gt_k g, gt_p g, gt_a g, gt_c g, gt_t g, yt, yl, a_leadOp, a_follow, a_groupAt, a_groupOp, a_groupNext, a_rootOf, a_found, a_fromAt, a_toAt, a_work, a_mark, a_order) :=
  ⟨g, opL, nodeL, levL, ts, F, f_depth, f_wanting, f_clashing, f_outLen, f_treeBase, f_treeNodes, f_workDepth, a_opener, a_joiner, a_inner, xt, xl, a_frameOp, a_frameNext, a_out, a_partner, a_openAt, a_treeOp, a_parent, a_slot, a_kid, a_wrapped, a_workNode, a_workStep, yt, yl, a_leadOp, a_follow, a_groupAt, a_groupOp, a_groupNext, a_rootOf, a_found, a_fromAt, a_toAt, a_work, a_mark, a_order, rfl, rfl, h⟩
theorem rl_el {k : Nat} {P : SX → SY → Prop} {u : SX} {v : SY} (I : i_Rel k u v)
    (h : ∀ (g : gt_T) (opL nodeL levL : Nat) (ts : List Int32) (F : ff_F) (f_depth f_wanting f_clashing f_outLen f_treeBase f_treeNodes f_workDepth : Int32) (a_opener a_joiner a_inner xt xl a_frameOp a_frameNext a_out a_partner a_openAt a_treeOp a_parent a_slot a_kid a_wrapped a_workNode a_workStep yt yl a_leadOp a_follow a_groupAt a_groupOp a_groupNext a_rootOf a_found a_fromAt a_toAt a_work a_mark a_order : Nat → Int32),
      rl_ok g opL nodeL levL ts F a_opener a_joiner a_inner xt yt xl yl → P (nI opL, nI nodeL, nI levL, nI (gt_l g), nI (4 * nodeL), nI (gt_n g), nI ts.length, nI (ff_sz F), nI (ff_len F), f_depth, f_wanting, f_clashing, f_outLen, f_treeBase, f_treeNodes, f_workDepth, gt_k g, gt_p g, gt_a g, gt_c g, gt_t g, a_opener, a_joiner, a_inner, xt, xl, a_frameOp, a_frameNext, a_out, a_partner, a_openAt, a_treeOp, a_parent, a_slot, a_kid, a_wrapped, a_workNode, a_workStep) (nI opL, nI nodeL, nI levL, nI (gt_l g - 1), nI (gt_n g), nI ts.length, nI (ff_sz F), gt_k g, gt_p g, gt_a g, gt_c g, gt_t g, yt, yl, a_leadOp, a_follow, a_groupAt, a_groupOp, a_groupNext, a_rootOf, a_found, a_fromAt, a_toAt, a_work, a_mark, a_order)) : P u v :=
  I.elim fun g I => I.elim fun opL I => I.elim fun nodeL I => I.elim fun levL I => I.elim fun ts I => I.elim fun F I => I.elim fun f_depth I => I.elim fun f_wanting I => I.elim fun f_clashing I => I.elim fun f_outLen I => I.elim fun f_treeBase I => I.elim fun f_treeNodes I => I.elim fun f_workDepth I => I.elim fun a_opener I => I.elim fun a_joiner I => I.elim fun a_inner I => I.elim fun xt I => I.elim fun xl I => I.elim fun a_frameOp I => I.elim fun a_frameNext I => I.elim fun a_out I => I.elim fun a_partner I => I.elim fun a_openAt I => I.elim fun a_treeOp I => I.elim fun a_parent I => I.elim fun a_slot I => I.elim fun a_kid I => I.elim fun a_wrapped I => I.elim fun a_workNode I => I.elim fun a_workStep I => I.elim fun yt I => I.elim fun yl I => I.elim fun a_leadOp I => I.elim fun a_follow I => I.elim fun a_groupAt I => I.elim fun a_groupOp I => I.elim fun a_groupNext I => I.elim fun a_rootOf I => I.elim fun a_found I => I.elim fun a_fromAt I => I.elim fun a_toAt I => I.elim fun a_work I => I.elim fun a_mark I => I.elim fun a_order I =>
    I.1 ▸ I.2.1 ▸ h g opL nodeL levL ts F f_depth f_wanting f_clashing f_outLen f_treeBase f_treeNodes f_workDepth a_opener a_joiner a_inner xt xl a_frameOp a_frameNext a_out a_partner a_openAt a_treeOp a_parent a_slot a_kid a_wrapped a_workNode a_workStep yt yl a_leadOp a_follow a_groupAt a_groupOp a_groupNext a_rootOf a_found a_fromAt a_toAt a_work a_mark a_order I.2.2
def cl_v (x lo hi : Int32) : Int32 := if lo ≤ x then (if x ≤ hi then x else hi) else lo
theorem cl_n {x lo hi : Int32} {a b : Nat} (hlo : lo = nI a) (hhi : hi = nI b) (hb : b < 2 ^ 31) (hab : a ≤ b) : ∃ j, a ≤ j ∧ j ≤ b ∧ cl_v x lo hi = nI j := by
  subst hlo hhi
  unfold cl_v
  by_cases h1 : nI a ≤ x
  · rw [if_pos h1]
    by_cases h2 : x ≤ nI b
    · rw [if_pos h2]
      have h0 : ¬ x < 0 := by
        rw [Int32.lt_iff_toInt_lt]
        rw [Int32.le_iff_toInt_le, nI_toInt (by omega)] at h1
        have e2 : (0 : Int32).toInt = 0 := by decide
        omega
      obtain ⟨j, hj, rfl⟩ := nI_of h0
      exact ⟨j, (nI_leI (by omega) hj).mp h1, (nI_leI hj hb).mp h2, rfl⟩
    · rw [if_neg h2]
      exact ⟨b, hab, Nat.le_refl _, rfl⟩
  · rw [if_neg h1]
    exact ⟨a, Nat.le_refl _, hab, rfl⟩
section
variable {post : Int32 → Prop}
variable {f_opLimit f_nodeLimit f_levelLimit f_lastName f_textLimit f_opTotal f_textLen f_nodeTotal f_treeTotal f_depth f_wanting f_clashing f_outLen f_treeBase f_treeNodes f_workDepth : Int32} {a_kinds a_precs a_assocs a_partCounts a_parts a_opener a_joiner a_inner a_text a_nodeList a_frameOp a_frameNext a_out a_partner a_openAt a_treeOp a_parent a_slot a_kid a_wrapped a_workNode a_workStep : Nat → Int32}
theorem xw_clamp {x lo hi : Int32} (hp : post (cl_v x lo hi)) : wpX_clamp post (f_opLimit, f_nodeLimit, f_levelLimit, f_lastName, f_textLimit, f_opTotal, f_textLen, f_nodeTotal, f_treeTotal, f_depth, f_wanting, f_clashing, f_outLen, f_treeBase, f_treeNodes, f_workDepth, a_kinds, a_precs, a_assocs, a_partCounts, a_parts, a_opener, a_joiner, a_inner, a_text, a_nodeList, a_frameOp, a_frameNext, a_out, a_partner, a_openAt, a_treeOp, a_parent, a_slot, a_kid, a_wrapped, a_workNode, a_workStep) x lo hi := by
  unfold cl_v at hp
  refine br_c (fun h => br_c (fun h2 => ?_) (fun h2 => ?_)) (fun h => ?_)
  · rw [if_pos h, if_pos h2] at hp; exact hp
  · rw [if_pos h, if_neg h2] at hp; exact hp
  · rw [if_neg h] at hp; exact hp
end
section
variable {post : Int32 → Prop}
variable {f_maxOps f_maxNodes f_maxLevels f_maxNames f_opNum f_textLen f_listLen : Int32} {a_opKind a_opPrec a_opAssoc a_partCount a_parts a_text a_list a_leadOp a_follow a_groupAt a_groupOp a_groupNext a_rootOf a_found a_fromAt a_toAt a_work a_mark a_order : Nat → Int32}
theorem yw_clamp {x lo hi : Int32} (hp : post (cl_v x lo hi)) : wpY_clamp post (f_maxOps, f_maxNodes, f_maxLevels, f_maxNames, f_opNum, f_textLen, f_listLen, a_opKind, a_opPrec, a_opAssoc, a_partCount, a_parts, a_text, a_list, a_leadOp, a_follow, a_groupAt, a_groupOp, a_groupNext, a_rootOf, a_found, a_fromAt, a_toAt, a_work, a_mark, a_order) x lo hi := by
  unfold cl_v at hp
  refine br_c (fun h => br_c (fun h2 => ?_) (fun h2 => ?_)) (fun h => ?_)
  · rw [if_pos h, if_pos h2] at hp; exact hp
  · rw [if_pos h, if_neg h2] at hp; exact hp
  · rw [if_neg h] at hp; exact hp
end
def rl_g0 (l : Nat) : gt_T := (0, l, fun _ => 0, fun _ => 0, fun _ => 0, fun _ => 0, fun _ => 0)
theorem rl_0 {opL nodeL levL nm : Nat} (h1 : opL ≤ 12) (h2 : 4 ≤ nodeL) (h3 : nodeL ≤ 32) (h4 : levL ≤ 10) (h5 : 4 ≤ nm) (h6 : nm ≤ 30) : rl_ok (rl_g0 (nm + 1)) opL nodeL levL [] .leaf (fun _ => 0) (fun _ => 0) (fun _ => 0) (fun _ => 0) (fun _ => 0) (fun _ => 0) (fun _ => 0) := by
  have hn : gt_n (rl_g0 (nm + 1)) = 0 := rfl
  have hl : gt_l (rl_g0 (nm + 1)) = nm + 1 := rfl
  refine ⟨⟨by omega, by omega, fun q hq => absurd hq (Nat.not_lt_zero _), fun q hq => absurd hq (Nat.not_lt_zero _), fun q hq => absurd hq (Nat.not_lt_zero _), fun q m hq => absurd hq (Nat.not_lt_zero _), fun q q' hq => absurd hq (Nat.not_lt_zero _), fun q q' m hq => absurd hq (Nat.not_lt_zero _)⟩, by omega, ⟨Nat.zero_le _, h1⟩, ⟨h2, h3⟩, h4, ?_, Nat.zero_le _, ?_, ?_, ?_, trivial, Nat.zero_le _, ?_, ?_⟩
  · intro t _ _
    exact ⟨rfl, rfl, rfl⟩
  · intro j x h; simp at h
  · intro j x h; simp at h
  · intro t h; cases h
  · intro j x h; simp [ff_post] at h
  · intro j x h; simp [ff_post] at h
theorem i_vc0 (k0 : Int32) (k1 : Int32) (k2 : Int32) (k3 : Int32) : wpX_init (fun u => wpY_init (fun v => i_Rel 4 u v) k0 k1 k2 k3) k0 k1 k2 k3 := by
  obtain ⟨a, a1, a2, ea⟩ := cl_n (x := k0) (lo := 2) (hi := 12) (a := 2) (b := 12) rfl rfl (by decide) (by decide)
  obtain ⟨b, b1, b2, eb⟩ := cl_n (x := k1) (lo := 4) (hi := 32) (a := 4) (b := 32) rfl rfl (by decide) (by decide)
  obtain ⟨c, c1, c2, ec⟩ := cl_n (x := k2) (lo := 2) (hi := 10) (a := 2) (b := 10) rfl rfl (by decide) (by decide)
  obtain ⟨d, d1, d2, ed⟩ := cl_n (x := k3) (lo := 4) (hi := 30) (a := 4) (b := 30) rfl rfl (by decide) (by decide)
  unfold wpX_init
  refine xw_clamp (xw_clamp (xw_clamp (xw_clamp ?_)))
  rw [ea, eb, ec, ed]
  refine nm_r (nI_1 d) (nm_r (pk_mul 4 b) ?_)
  unfold wpY_init
  refine yw_clamp (yw_clamp (yw_clamp (yw_clamp ?_)))
  rw [ea, eb, ec, ed]
  exact rl_in (g := rl_g0 (d + 1)) (opL := a) (nodeL := b) (levL := c) (ts := []) (F := .leaf) (rl_0 a2 b1 b2 c2 d1 d2)
end
section
section
variable {g : gt_T} {n : Nat} {post : Int32 → Prop}
variable {f_opLimit f_nodeLimit f_levelLimit f_textLimit f_nodeTotal f_treeTotal f_depth f_wanting f_clashing f_outLen f_treeBase f_treeNodes f_workDepth : Int32} {a_opener a_joiner a_inner a_text a_nodeList a_frameOp a_frameNext a_out a_partner a_openAt a_treeOp a_parent a_slot a_kid a_wrapped a_workNode a_workStep : Nat → Int32}
theorem xw_isOp1 (H : gt_ok g) {q : Nat} (hq : q < gt_n g) (hp : post 1) : wpX_isOp post (f_opLimit, f_nodeLimit, f_levelLimit, nI (gt_l g), f_textLimit, nI (gt_n g), nI n, f_nodeTotal, f_treeTotal, f_depth, f_wanting, f_clashing, f_outLen, f_treeBase, f_treeNodes, f_workDepth, gt_k g, gt_p g, gt_a g, gt_c g, gt_t g, a_opener, a_joiner, a_inner, a_text, a_nodeList, a_frameOp, a_frameNext, a_out, a_partner, a_openAt, a_treeOp, a_parent, a_slot, a_kid, a_wrapped, a_workNode, a_workStep) (nI q) := by
  have hn := H.1
  exact br_f (nI_pos (by omega)) (br_f (nI_ge hq (by omega)) hp)
theorem xw_isOp0 (H : gt_ok g) {x : Int32} (hx : x < 0 ∨ nI (gt_n g) ≤ x) (hp : post 0) : wpX_isOp post (f_opLimit, f_nodeLimit, f_levelLimit, nI (gt_l g), f_textLimit, nI (gt_n g), nI n, f_nodeTotal, f_treeTotal, f_depth, f_wanting, f_clashing, f_outLen, f_treeBase, f_treeNodes, f_workDepth, gt_k g, gt_p g, gt_a g, gt_c g, gt_t g, a_opener, a_joiner, a_inner, a_text, a_nodeList, a_frameOp, a_frameNext, a_out, a_partner, a_openAt, a_treeOp, a_parent, a_slot, a_kid, a_wrapped, a_workNode, a_workStep) x := by
  refine br_c (fun _ => hp) (fun h => br_t ?_ hp)
  rcases hx with h2 | h2
  · exact absurd h2 h
  · exact h2
theorem xw_name {t : Int32} (hp : post (gt_b (gt_nm g t))) : wpX_isName post (f_opLimit, f_nodeLimit, f_levelLimit, nI (gt_l g), f_textLimit, nI (gt_n g), nI n, f_nodeTotal, f_treeTotal, f_depth, f_wanting, f_clashing, f_outLen, f_treeBase, f_treeNodes, f_workDepth, gt_k g, gt_p g, gt_a g, gt_c g, gt_t g, a_opener, a_joiner, a_inner, a_text, a_nodeList, a_frameOp, a_frameNext, a_out, a_partner, a_openAt, a_treeOp, a_parent, a_slot, a_kid, a_wrapped, a_workNode, a_workStep) t := by
  unfold wpX_isName
  dsimp only
  unfold gt_nm at hp
  refine br_c (fun h => ?_) (fun h => br_c (fun h2 => ?_) (fun h2 => ?_))
  · rw [decide_eq_false (p := 2 ≤ t) (by rw [Int32.not_le]; exact h)] at hp; exact hp
  · rw [decide_eq_false (p := t ≤ nI (gt_l g)) (by rw [Int32.not_le]; exact h2), Bool.and_false] at hp; exact hp
  · rw [Int32.not_lt] at h h2
    rw [decide_eq_true h, decide_eq_true h2] at hp; exact hp
def rk_ok (levL : Nat) (p a : Int32) : Bool := decide (¬ p < 0) && decide (¬ nI levL ≤ p) && decide (¬ a < 0) && decide (¬ 2 < a)
theorem xw_rank {levL : Nat} {p a : Int32} (hp : post (gt_b (rk_ok levL p a))) : wpX_isRank post (f_opLimit, f_nodeLimit, nI levL, nI (gt_l g), f_textLimit, nI (gt_n g), nI n, f_nodeTotal, f_treeTotal, f_depth, f_wanting, f_clashing, f_outLen, f_treeBase, f_treeNodes, f_workDepth, gt_k g, gt_p g, gt_a g, gt_c g, gt_t g, a_opener, a_joiner, a_inner, a_text, a_nodeList, a_frameOp, a_frameNext, a_out, a_partner, a_openAt, a_treeOp, a_parent, a_slot, a_kid, a_wrapped, a_workNode, a_workStep) p a := by
  unfold wpX_isRank
  dsimp only
  unfold rk_ok at hp
  refine br_c (fun h => ?_) (fun h => br_c (fun h2 => ?_) (fun h2 => br_c (fun h3 => ?_) (fun h3 => br_c (fun h4 => ?_) (fun h4 => ?_))))
  · rw [decide_eq_false (p := ¬ p < 0) (fun z => z h)] at hp; exact hp
  · rw [decide_eq_false (p := ¬ nI levL ≤ p) (fun z => z h2), Bool.and_false] at hp; exact hp
  · rw [decide_eq_false (p := ¬ a < 0) (fun z => z h3), Bool.and_false] at hp; exact hp
  · rw [decide_eq_false (p := ¬ 2 < a) (fun z => z h4), Bool.and_false] at hp; exact hp
  · rw [decide_eq_true h, decide_eq_true h2, decide_eq_true h3, decide_eq_true h4] at hp; exact hp
end
section
variable {g : gt_T} {n : Nat} {post : Int32 → Prop}
variable {f_maxOps f_maxNodes f_maxLevels f_maxNames f_listLen : Int32} {a_text a_list a_leadOp a_follow a_groupAt a_groupOp a_groupNext a_rootOf a_found a_fromAt a_toAt a_work a_mark a_order : Nat → Int32}
theorem yw_isOp1 (H : gt_ok g) {q : Nat} (hq : q < gt_n g) (hp : post 1) : wpY_isOp post (f_maxOps, f_maxNodes, f_maxLevels, f_maxNames, nI (gt_n g), nI n, f_listLen, gt_k g, gt_p g, gt_a g, gt_c g, gt_t g, a_text, a_list, a_leadOp, a_follow, a_groupAt, a_groupOp, a_groupNext, a_rootOf, a_found, a_fromAt, a_toAt, a_work, a_mark, a_order) (nI q) := by
  have hn := H.1
  exact br_f (nI_pos (by omega)) (br_f (nI_ge hq (by omega)) hp)
theorem yw_isOp0 (H : gt_ok g) {x : Int32} (hx : x < 0 ∨ nI (gt_n g) ≤ x) (hp : post 0) : wpY_isOp post (f_maxOps, f_maxNodes, f_maxLevels, f_maxNames, nI (gt_n g), nI n, f_listLen, gt_k g, gt_p g, gt_a g, gt_c g, gt_t g, a_text, a_list, a_leadOp, a_follow, a_groupAt, a_groupOp, a_groupNext, a_rootOf, a_found, a_fromAt, a_toAt, a_work, a_mark, a_order) x := by
  refine br_c (fun _ => hp) (fun h => br_t ?_ hp)
  rcases hx with h2 | h2
  · exact absurd h2 h
  · exact h2
theorem yw_rank {levL : Nat} {p a : Int32} (hp : post (gt_b (!rk_ok levL p a))) : wpY_badRank post (f_maxOps, f_maxNodes, nI levL, f_maxNames, nI (gt_n g), nI n, f_listLen, gt_k g, gt_p g, gt_a g, gt_c g, gt_t g, a_text, a_list, a_leadOp, a_follow, a_groupAt, a_groupOp, a_groupNext, a_rootOf, a_found, a_fromAt, a_toAt, a_work, a_mark, a_order) p a := by
  unfold wpY_badRank
  dsimp only
  unfold rk_ok at hp
  refine br_c (fun h => ?_) (fun h => br_c (fun h2 => ?_) (fun h2 => br_c (fun h3 => ?_) (fun h3 => br_c (fun h4 => ?_) (fun h4 => ?_))))
  · rw [decide_eq_false (p := ¬ p < 0) (fun z => z h)] at hp; exact hp
  · rw [decide_eq_false (p := ¬ nI levL ≤ p) (fun z => z h2), Bool.and_false] at hp; exact hp
  · rw [decide_eq_false (p := ¬ a < 0) (fun z => z h3), Bool.and_false] at hp; exact hp
  · rw [decide_eq_true h, decide_eq_true h2, decide_eq_true h3, decide_eq_true (p := ¬ 2 < a) (Int32.not_lt.mpr h4)] at hp; exact hp
  · rw [decide_eq_false (p := ¬ 2 < a) (fun z => z (Int32.not_le.mp h4)), Bool.and_false] at hp; exact hp
end
theorem gl_1 {g : gt_T} (h : 5 ≤ gt_l g) : nI (gt_l g - 1) + 1 = nI (gt_l g) := by rw [nI_1, show gt_l g - 1 + 1 = gt_l g by omega]
/-! the owed methods that only read, or touch the text -/
theorem i_vc_opCount {k : Nat} {u : SX} {v : SY} (I : i_Rel k u v) (hk : k + 5 ≤ 2564) : wpX_opCount (fun r => wpY_opCount (fun r' => r' = r ∧ i_Rel (k + 5) u v) v) u := by
  refine rl_el (P := fun u v => wpX_opCount (fun r => wpY_opCount (fun r' => r' = r ∧ i_Rel (k + 5) u v) v) u) I ?_
  intro g opL nodeL levL ts F f_depth f_wanting f_clashing f_outLen f_treeBase f_treeNodes f_workDepth a_opener a_joiner a_inner xt xl a_frameOp a_frameNext a_out a_partner a_openAt a_treeOp a_parent a_slot a_kid a_wrapped a_workNode a_workStep yt yl a_leadOp a_follow a_groupAt a_groupOp a_groupNext a_rootOf a_found a_fromAt a_toAt a_work a_mark a_order hR
  exact ⟨rfl, rl_in hR⟩
theorem i_vc_textLength {k : Nat} {u : SX} {v : SY} (I : i_Rel k u v) (hk : k + 5 ≤ 2564) : wpX_textLength (fun r => wpY_textLength (fun r' => r' = r ∧ i_Rel (k + 5) u v) v) u := by
  refine rl_el (P := fun u v => wpX_textLength (fun r => wpY_textLength (fun r' => r' = r ∧ i_Rel (k + 5) u v) v) u) I ?_
  intro g opL nodeL levL ts F f_depth f_wanting f_clashing f_outLen f_treeBase f_treeNodes f_workDepth a_opener a_joiner a_inner xt xl a_frameOp a_frameNext a_out a_partner a_openAt a_treeOp a_parent a_slot a_kid a_wrapped a_workNode a_workStep yt yl a_leadOp a_follow a_groupAt a_groupOp a_groupNext a_rootOf a_found a_fromAt a_toAt a_work a_mark a_order hR
  exact ⟨rfl, rl_in hR⟩
theorem i_vc_nodeCount {k : Nat} {u : SX} {v : SY} (I : i_Rel k u v) (hk : k + 5 ≤ 2564) : wpX_nodeCount (fun r => wpY_nodeCount (fun r' => r' = r ∧ i_Rel (k + 5) u v) v) u := by
  refine rl_el (P := fun u v => wpX_nodeCount (fun r => wpY_nodeCount (fun r' => r' = r ∧ i_Rel (k + 5) u v) v) u) I ?_
  intro g opL nodeL levL ts F f_depth f_wanting f_clashing f_outLen f_treeBase f_treeNodes f_workDepth a_opener a_joiner a_inner xt xl a_frameOp a_frameNext a_out a_partner a_openAt a_treeOp a_parent a_slot a_kid a_wrapped a_workNode a_workStep yt yl a_leadOp a_follow a_groupAt a_groupOp a_groupNext a_rootOf a_found a_fromAt a_toAt a_work a_mark a_order hR
  exact ⟨rfl, rl_in hR⟩
theorem i_vc_treeCount {k : Nat} {u : SX} {v : SY} (I : i_Rel k u v) (hk : k + 5 ≤ 2564) : wpX_treeCount (fun r => wpY_treeCount (fun r' => r' = r ∧ i_Rel (k + 5) u v) v) u := by
  refine rl_el (P := fun u v => wpX_treeCount (fun r => wpY_treeCount (fun r' => r' = r ∧ i_Rel (k + 5) u v) v) u) I ?_
  intro g opL nodeL levL ts F f_depth f_wanting f_clashing f_outLen f_treeBase f_treeNodes f_workDepth a_opener a_joiner a_inner xt xl a_frameOp a_frameNext a_out a_partner a_openAt a_treeOp a_parent a_slot a_kid a_wrapped a_workNode a_workStep yt yl a_leadOp a_follow a_groupAt a_groupOp a_groupNext a_rootOf a_found a_fromAt a_toAt a_work a_mark a_order hR
  have hR' := hR
  obtain ⟨H, hl, ho, hn, hlv, hx, hts, hxt, hyt, htk, hw, hsz, hxl, hyl⟩ := hR
  exact yw_tc H hw hyl rfl (by omega) ⟨rfl, rl_in hR'⟩
theorem i_vc_clearText {k : Nat} {u : SX} {v : SY} (I : i_Rel k u v) (hk : k + 5 ≤ 2564) : wpX_clearText (fun u' => wpY_clearText (fun v' => i_Rel (k + 5) u' v') v) u := by
  refine rl_el (P := fun u v => wpX_clearText (fun u' => wpY_clearText (fun v' => i_Rel (k + 5) u' v') v) u) I ?_
  intro g opL nodeL levL ts F f_depth f_wanting f_clashing f_outLen f_treeBase f_treeNodes f_workDepth a_opener a_joiner a_inner xt xl a_frameOp a_frameNext a_out a_partner a_openAt a_treeOp a_parent a_slot a_kid a_wrapped a_workNode a_workStep yt yl a_leadOp a_follow a_groupAt a_groupOp a_groupNext a_rootOf a_found a_fromAt a_toAt a_work a_mark a_order hR
  obtain ⟨H, hl, ho, hn, hlv, hx, hts, hxt, hyt, htk, hw, hsz, hxl, hyl⟩ := hR
  unfold wpX_clearText wpY_clearText
  dsimp only
  refine rl_in (k := k + 5) (ts := []) ⟨H, hl, ho, hn, hlv, hx, Nat.zero_le _, ?_, ?_, ?_, hw, hsz, hxl, hyl⟩
  · intro j x h; simp at h
  · intro j x h; simp at h
  · intro t h; cases h
theorem mt_aO_at {ou : Nat → Int32} {L : List Int32} (h : mt_aO ou L) {j : Nat} (hj : j < L.length) : ou j = L[j] := h j _ (List.getElem?_eq_getElem hj)
theorem i_vc_textAt {k : Nat} {u : SX} {v : SY} (I : i_Rel k u v) (hk : k + 5 ≤ 2564) (v1 : Int32) : wpX_textAt (fun r => wpY_textAt (fun r' => r' = r ∧ i_Rel (k + 5) u v) v v1) u v1 := by
  refine rl_el (P := fun u v => wpX_textAt (fun r => wpY_textAt (fun r' => r' = r ∧ i_Rel (k + 5) u v) v v1) u v1) I ?_
  intro g opL nodeL levL ts F f_depth f_wanting f_clashing f_outLen f_treeBase f_treeNodes f_workDepth a_opener a_joiner a_inner xt xl a_frameOp a_frameNext a_out a_partner a_openAt a_treeOp a_parent a_slot a_kid a_wrapped a_workNode a_workStep yt yl a_leadOp a_follow a_groupAt a_groupOp a_groupNext a_rootOf a_found a_fromAt a_toAt a_work a_mark a_order hR
  have hR' := hR
  obtain ⟨H, hl, ho, hn, hlv, hx, hts, hxt, hyt, htk, hw, hsz, hxl, hyl⟩ := hR
  rcases pk_ix v1 (n := ts.length) (by omega) with h | h | ⟨j, hj, rfl⟩
  · exact br_t h (br_t h ⟨rfl, rl_in hR'⟩)
  · have h0 : ¬ v1 < 0 := by
      intro z
      rw [Int32.lt_iff_toInt_lt] at z
      rw [Int32.le_iff_toInt_le, nI_toInt (by omega)] at h
      have e2 : (0 : Int32).toInt = 0 := by decide
      omega
    exact br_f h0 (br_f (Int32.not_lt.mpr h) (br_f h0 (br_t h ⟨rfl, rl_in hR'⟩)))
  · have vin : vp_in (nI j) 128 := vp_in_nI (by omega) (by decide)
    have h0 : ¬ nI j < 0 := nI_pos (by omega)
    refine br_f h0 (br_t (nI_lt hj (by omega)) ⟨vin, br_f h0 (br_f (nI_ge hj (by omega)) ⟨vin, ?_, rl_in hR'⟩)⟩)
    rw [nI_clamp (by omega), mt_aO_at hxt hj, mt_aO_at hyt hj]
theorem i_vc_nodeAt {k : Nat} {u : SX} {v : SY} (I : i_Rel k u v) (hk : k + 5 ≤ 2564) (v1 : Int32) : wpX_nodeAt (fun r => wpY_nodeAt (fun r' => r' = r ∧ i_Rel (k + 5) u v) v v1) u v1 := by
  refine rl_el (P := fun u v => wpX_nodeAt (fun r => wpY_nodeAt (fun r' => r' = r ∧ i_Rel (k + 5) u v) v v1) u v1) I ?_
  intro g opL nodeL levL ts F f_depth f_wanting f_clashing f_outLen f_treeBase f_treeNodes f_workDepth a_opener a_joiner a_inner xt xl a_frameOp a_frameNext a_out a_partner a_openAt a_treeOp a_parent a_slot a_kid a_wrapped a_workNode a_workStep yt yl a_leadOp a_follow a_groupAt a_groupOp a_groupNext a_rootOf a_found a_fromAt a_toAt a_work a_mark a_order hR
  have hR' := hR
  obtain ⟨H, hl, ho, hn, hlv, hx, hts, hxt, hyt, htk, hw, hsz, hxl, hyl⟩ := hR
  rcases pk_ix v1 (n := ff_sz F) (by omega) with h | h | ⟨j, hj, rfl⟩
  · exact br_t h (br_t h ⟨rfl, rl_in hR'⟩)
  · have h0 : ¬ v1 < 0 := by
      intro z
      rw [Int32.lt_iff_toInt_lt] at z
      rw [Int32.le_iff_toInt_le, nI_toInt (by omega)] at h
      have e2 : (0 : Int32).toInt = 0 := by decide
      omega
    exact br_f h0 (br_f (Int32.not_lt.mpr h) (br_f h0 (br_t h ⟨rfl, rl_in hR'⟩)))
  · have vin : vp_in (nI j) 32 := vp_in_nI (by omega) (by decide)
    have h0 : ¬ nI j < 0 := nI_pos (by omega)
    refine br_f h0 (br_t (nI_lt hj (by omega)) ⟨vin, br_f h0 (br_f (nI_ge hj (by omega)) ⟨vin, ?_, rl_in hR'⟩)⟩)
    have hj2 : j < (ff_post F).length := by rw [ff_post_len]; exact hj
    have e1 := hxl j _ (List.getElem?_eq_getElem hj2)
    have e2 := hyl j _ (List.getElem?_eq_getElem hj2)
    rw [Nat.zero_add] at e1 e2
    rw [nI_clamp (by omega), e1, e2]
theorem i_vc_put {k : Nat} {u : SX} {v : SY} (I : i_Rel k u v) (hk : k + 5 ≤ 2564) (v1 : Int32) : wpX_put (fun r u' => wpY_put (fun r' v' => r' = r ∧ i_Rel (k + 5) u' v') v v1) u v1 := by
  refine rl_el (P := fun u v => wpX_put (fun r u' => wpY_put (fun r' v' => r' = r ∧ i_Rel (k + 5) u' v') v v1) u v1) I ?_
  intro g opL nodeL levL ts F f_depth f_wanting f_clashing f_outLen f_treeBase f_treeNodes f_workDepth a_opener a_joiner a_inner xt xl a_frameOp a_frameNext a_out a_partner a_openAt a_treeOp a_parent a_slot a_kid a_wrapped a_workNode a_workStep yt yl a_leadOp a_follow a_groupAt a_groupOp a_groupNext a_rootOf a_found a_fromAt a_toAt a_work a_mark a_order hR
  have hR' := hR
  obtain ⟨H, hl, ho, hn, hlv, hx, hts, hxt, hyt, htk, hw, hsz, hxl, hyl⟩ := hR
  have hl31 := H.2.1
  have hg1 := gl_1 hl
  unfold wpX_put wpY_put
  dsimp only
  rw [hg1]
  refine br_c (fun h => br_t h ⟨rfl, rl_in hR'⟩) (fun h => br_c (fun h2 => ?_) (fun h2 => br_f h (br_f h2 ⟨rfl, rl_in hR'⟩)))
  obtain ⟨t, ht, rfl⟩ := nI_of2 (nI_toInt (n := gt_l g) (by omega)) h h2
  have e4 : (4 : Int32) * nI nodeL = nI (4 * nodeL) := pk_mul 4 nodeL
  refine pk_lt ts.length (4 * nodeL) (fun h3 => ?_) (fun h3 => ?_)
  · unfold wpX_append
    dsimp only
    rw [nI_clamp (by omega)]
    have vin : vp_in (nI ts.length) 128 := vp_in_nI (by omega) (by decide)
    refine br_f (nI_ge h3 (by omega)) ⟨vin, nm_e (nm_r (nI_1 _) ?_)⟩
    rw [e4]
    refine br_f h (br_t h2 ?_)
    refine pk_eq ts.length (4 * nodeL) (fun z => by omega) (fun _ => ⟨vin, nm_e (nm_r (nI_1 _) ⟨rfl, ?_⟩)⟩)
    have el : ts.length + 1 = (ts ++ [nI t]).length := by rw [List.length_append]; rfl
    rw [el]
    refine rl_in ⟨H, hl, ho, hn, hlv, hx, by rw [List.length_append, List.length_singleton]; omega, mt_aO_snoc hxt, mt_aO_snoc hyt, ?_, hw, hsz, hxl, hyl⟩
    intro t' ht'
    rcases List.mem_append.mp ht' with e | e
    · exact htk t' e
    · rw [List.mem_singleton] at e
      exact ⟨t, ht, e⟩
  · rw [e4]
    refine br_f h (br_t h2 ?_)
    exact pk_eq ts.length (4 * nodeL) (fun _ => ⟨rfl, rl_in hR'⟩) (fun z => by omega)
theorem i_vc_malformedAt {k : Nat} {u : SX} {v : SY} (I : i_Rel k u v) (hk : k + 5 ≤ 2564) : wpX_malformedAt (fun r u' => wpY_malformedAt (fun r' v' => r' = r ∧ i_Rel (k + 5) u' v') v) u := by
  refine rl_el (P := fun u v => wpX_malformedAt (fun r u' => wpY_malformedAt (fun r' v' => r' = r ∧ i_Rel (k + 5) u' v') v) u) I ?_
  intro g opL nodeL levL ts F f_depth f_wanting f_clashing f_outLen f_treeBase f_treeNodes f_workDepth a_opener a_joiner a_inner xt xl a_frameOp a_frameNext a_out a_partner a_openAt a_treeOp a_parent a_slot a_kid a_wrapped a_workNode a_workStep yt yl a_leadOp a_follow a_groupAt a_groupOp a_groupNext a_rootOf a_found a_fromAt a_toAt a_work a_mark a_order hR
  have hR' := hR
  obtain ⟨H, hl, ho, hn, hlv, hx, hts, hxt, hyt, htk, hw, hsz, hxl, hyl⟩ := hR
  have hg1 := gl_1 hl
  unfold wpX_malformedAt
  refine xw_scan (ts := ts) H hx (by omega) rfl hxt htk ?_ ?_
  · intro _ d w c o fp fx ou
    exact yw_mal (ts := ts) H hg1 (by omega) rfl hyt (fun _ _ _ _ _ _ => ⟨rfl, rl_in hR'⟩)
  · intro T cl e fp fx ou _
    refine yw_mal (ts := ts) H hg1 (by omega) rfl hyt (fun _ _ _ _ _ _ => ⟨?_, rl_in hR'⟩)
    rw [e]
end
section
/-! tables that change -/
def gt_add (g : gt_T) (kd pr as tk : Int32) : gt_T := (gt_n g + 1, gt_l g, upd (gt_k g) (gt_n g) kd, upd (gt_p g) (gt_n g) pr, upd (gt_a g) (gt_n g) as, upd (gt_c g) (gt_n g) 1, upd (gt_t g) (4 * gt_n g) tk)
def gt_ext (g : gt_T) (q : Nat) (tk : Int32) : gt_T := (gt_n g, gt_l g, gt_k g, gt_p g, gt_a g, upd (gt_c g) q (nI (gt_PC g q + 1)), upd (gt_t g) (4 * q + gt_PC g q) tk)
def gt_rrk (g : gt_T) (q : Nat) (pr as : Int32) : gt_T := (gt_n g, gt_l g, gt_k g, upd (gt_p g) q pr, upd (gt_a g) q as, gt_c g, gt_t g)
theorem rr_wf {g : gt_T} {q : Nat} {pr as : Int32} : ∀ (F : ff_F), ff_wf g F → ff_wf (gt_rrk g q pr as) F := by
  intro F
  induction F with
  | leaf => intro h; exact h
  | inner m e u p k ihp ihk =>
    intro h
    refine ⟨ihp h.1, ihk h.2.1, ?_⟩
    match e, h with
    | .inl t, h => exact h.2.2
    | .inr q, h => exact h.2.2
theorem rr_ok {g : gt_T} (H : gt_ok g) {q : Nat} {pr as : Int32} (ha : as = 0 ∨ as = 1 ∨ as = 2) : gt_ok (gt_rrk g q pr as) := by
  obtain ⟨h1, h2, h3, h4, h5, h6, h7, h8⟩ := H
  refine ⟨h1, h2, h3, ?_, h5, h6, h7, h8⟩
  intro q' hq'
  show upd (gt_a g) q as q' = 0 ∨ upd (gt_a g) q as q' = 1 ∨ upd (gt_a g) q as q' = 2
  by_cases h : q' = q
  · rw [h, pk_us]; exact ha
  · rw [pk_un h]; exact h4 q' hq'
theorem rk_as {levL : Nat} {p a : Int32} (h : rk_ok levL p a = true) : a = 0 ∨ a = 1 ∨ a = 2 := by
  unfold rk_ok at h
  simp only [Bool.and_eq_true, decide_eq_true_eq] at h
  obtain ⟨⟨⟨_, _⟩, h3⟩, h4⟩ := h
  obtain ⟨j, hj, rfl⟩ := nI_of2 (n := 2) (M := 2) (by decide) h3 (Int32.not_lt.mp h4)
  have : j = 0 ∨ j = 1 ∨ j = 2 := by omega
  rcases this with rfl | rfl | rfl
  · exact Or.inl rfl
  · exact Or.inr (Or.inl rfl)
  · exact Or.inr (Or.inr rfl)
theorem i_vc_rerank {k : Nat} {u : SX} {v : SY} (I : i_Rel k u v) (hk : k + 5 ≤ 2564) (v1 : Int32) (v2 : Int32) (v3 : Int32) : wpX_rerank (fun r u' => wpY_rerank (fun r' v' => r' = r ∧ i_Rel (k + 5) u' v') v v1 v2 v3) u v1 v2 v3 := by
  refine rl_el (P := fun u v => wpX_rerank (fun r u' => wpY_rerank (fun r' v' => r' = r ∧ i_Rel (k + 5) u' v') v v1 v2 v3) u v1 v2 v3) I ?_
  intro g opL nodeL levL ts F f_depth f_wanting f_clashing f_outLen f_treeBase f_treeNodes f_workDepth a_opener a_joiner a_inner xt xl a_frameOp a_frameNext a_out a_partner a_openAt a_treeOp a_parent a_slot a_kid a_wrapped a_workNode a_workStep yt yl a_leadOp a_follow a_groupAt a_groupOp a_groupNext a_rootOf a_found a_fromAt a_toAt a_work a_mark a_order hR
  have hR' := hR
  obtain ⟨H, hl, ho, hn, hlv, hx, hts, hxt, hyt, htk, hw, hsz, hxl, hyl⟩ := hR
  unfold wpX_rerank wpY_rerank
  have hbad : (v1 < 0 ∨ nI (gt_n g) ≤ v1) ∨ ∃ j, j < gt_n g ∧ v1 = nI j := by
    rcases pk_ix v1 (n := gt_n g) (by omega) with h | h | h
    · exact Or.inl (Or.inl h)
    · exact Or.inl (Or.inr h)
    · exact Or.inr h
  rcases hbad with hb | ⟨q, hq, rfl⟩
  · exact xw_isOp0 H hb (br_t rfl (yw_isOp0 H hb (br_t rfl ⟨rfl, rl_in hR'⟩)))
  · obtain ⟨vin, cq⟩ := gt_in12 H hq
    refine xw_isOp1 H hq (br_f (by decide) (xw_rank (levL := levL) ?_))
    cases hr : rk_ok levL v2 v3 with
    | false =>
      refine br_t rfl (yw_isOp1 H hq (br_f (by decide) (yw_rank (levL := levL) ?_)))
      rw [hr]
      exact br_f (by decide) ⟨rfl, rl_in hR'⟩
    | true =>
      refine br_f (by decide) ?_
      rw [cq]
      refine ⟨vin, nm_e ⟨vin, nm_e ?_⟩⟩
      refine yw_isOp1 H hq (br_f (by decide) (yw_rank (levL := levL) ?_))
      rw [hr]
      refine br_t rfl ?_
      refine ⟨vin, nm_e ⟨vin, nm_e ⟨rfl, ?_⟩⟩⟩
      exact rl_in (g := gt_rrk g q v2 v3) ⟨rr_ok H (rk_as hr), hl, ho, hn, hlv, hx, hts, hxt, hyt, htk, rr_wf F hw, hsz, hxl, hyl⟩
theorem i_vc_opInfo {k : Nat} {u : SX} {v : SY} (I : i_Rel k u v) (hk : k + 5 ≤ 2564) (v1 : Int32) (v2 : Int32) : wpX_opInfo (fun r => wpY_opInfo (fun r' => r' = r ∧ i_Rel (k + 5) u v) v v1 v2) u v1 v2 := by
  refine rl_el (P := fun u v => wpX_opInfo (fun r => wpY_opInfo (fun r' => r' = r ∧ i_Rel (k + 5) u v) v v1 v2) u v1 v2) I ?_
  intro g opL nodeL levL ts F f_depth f_wanting f_clashing f_outLen f_treeBase f_treeNodes f_workDepth a_opener a_joiner a_inner xt xl a_frameOp a_frameNext a_out a_partner a_openAt a_treeOp a_parent a_slot a_kid a_wrapped a_workNode a_workStep yt yl a_leadOp a_follow a_groupAt a_groupOp a_groupNext a_rootOf a_found a_fromAt a_toAt a_work a_mark a_order hR
  have hR' := hR
  obtain ⟨H, hl, ho, hn, hlv, hx, hts, hxt, hyt, htk, hw, hsz, hxl, hyl⟩ := hR
  unfold wpX_opInfo wpY_opInfo
  have hbad : (v1 < 0 ∨ nI (gt_n g) ≤ v1) ∨ ∃ j, j < gt_n g ∧ v1 = nI j := by
    rcases pk_ix v1 (n := gt_n g) (by omega) with h | h | h
    · exact Or.inl (Or.inl h)
    · exact Or.inl (Or.inr h)
    · exact Or.inr h
  rcases hbad with hb | ⟨q, hq, rfl⟩
  · exact xw_isOp0 H hb (br_t rfl (yw_isOp0 H hb (br_t rfl ⟨rfl, rl_in hR'⟩)))
  · obtain ⟨vin, cq⟩ := gt_in12 H hq
    obtain ⟨p1, p2, p3⟩ := H.2.2.2.2.1 q hq
    have h4 := gt_pc4 H hq
    have hn12 := H.1
    refine xw_isOp1 H hq (br_f (by decide) ?_)
    refine br_c (fun h => yw_isOp1 H hq (br_f (by decide) (br_t h ⟨rfl, rl_in hR'⟩))) (fun h => br_c (fun h2 => ?_) (fun h2 => yw_isOp1 H hq (br_f (by decide) (br_f h (br_f h2 ⟨rfl, rl_in hR'⟩)))))
    obtain ⟨j, hj, rfl⟩ := nI_of2 (n := 7) (M := 7) (by decide) h h2
    rw [cq]
    have hY : ∀ {Q : Int32 → Prop} {r : Int32}, Q r → Q r := fun h => h
    by_cases hj4 : j < 4
    · have hlt : nI j < 4 := nI_lt (b := 4) hj4 (by decide)
      have hjj : j = 0 ∨ j = 1 ∨ j = 2 ∨ j = 3 := by omega
      rcases hjj with rfl | rfl | rfl | rfl
      · exact br_t rfl ⟨vin, yw_isOp1 H hq (br_f (by decide) (br_f h (br_t h2 (br_t hlt (br_t rfl ⟨vin, rfl, rl_in hR'⟩)))))⟩
      · exact br_f (by decide) (br_t rfl ⟨vin, yw_isOp1 H hq (br_f (by decide) (br_f h (br_t h2 (br_t hlt (br_f (by decide) (br_t rfl ⟨vin, rfl, rl_in hR'⟩))))))⟩)
      · exact br_f (by decide) (br_f (by decide) (br_t rfl ⟨vin, yw_isOp1 H hq (br_f (by decide) (br_f h (br_t h2 (br_t hlt (br_f (by decide) (br_f (by decide) (br_t rfl ⟨vin, rfl, rl_in hR'⟩)))))))⟩))
      · exact br_f (by decide) (br_f (by decide) (br_f (by decide) (br_t rfl ⟨vin, yw_isOp1 H hq (br_f (by decide) (br_f h (br_t h2 (br_t hlt (br_f (by decide) (br_f (by decide) (br_f (by decide) ⟨vin, rfl, rl_in hR'⟩)))))))⟩)))
    · have hlt : ¬ nI j < 4 := nI_nlt (b := 4) (by omega) (by omega)
      have e4 : nI j - 4 = nI (j - 4) := pk_sub (b := 4) (by omega)
      have hne : ∀ c, c < 4 → ¬ nI j = nI c := fun c hc z => by
        have := (nI_eq (by omega) (by omega)).mp z
        omega
      have e5 : (4 : Int32) * nI q + nI (j - 4) = nI (4 * q + (j - 4)) := by
        rw [show (4 : Int32) = nI 4 from rfl, pk_mul, nI_add]
      have e6 : (4 : Int32) * nI q + nI j - 4 = nI (4 * q + (j - 4)) := by
        rw [show (4 : Int32) * nI q = nI (4 * q) from pk_mul 4 q, nI_add]
        have := pk_sub (a := 4 * q + j) (b := 4) (by omega)
        rw [show 4 * q + j - 4 = 4 * q + (j - 4) by omega] at this
        exact this
      refine br_f (hne 0 (by decide)) (br_f (hne 1 (by decide)) (br_f (hne 2 (by decide)) (br_f (hne 3 (by decide)) (nm_r e4 ⟨vin, ?_⟩))))
      rw [p3, e5]
      refine pk_lt (j - 4) (gt_PC g q) (fun h5 => ?_) (fun h5 => ?_)
      · have vin2 : vp_in (nI (4 * q + (j - 4))) 48 := vp_in_nI (by omega) (by decide)
        refine ⟨vin2, yw_isOp1 H hq (br_f (by decide) (br_f h (br_t h2 (br_f hlt ⟨vin, ?_⟩))))⟩
        rw [e4, p3, e6]
        exact br_f (nI_ge h5 (by omega)) ⟨vin2, rfl, rl_in hR'⟩
      · refine yw_isOp1 H hq (br_f (by decide) (br_f h (br_t h2 (br_f hlt ⟨vin, ?_⟩))))
        rw [e4, p3]
        exact br_t (nI_le h5 (by omega)) ⟨rfl, rl_in hR'⟩
end
section
/-! a new operator -/
theorem ad_lt {g : gt_T} {kd pr as tk : Int32} {q : Nat} (hq : q < gt_n g) : gt_k (gt_add g kd pr as tk) q = gt_k g q ∧ gt_a (gt_add g kd pr as tk) q = gt_a g q ∧ gt_c (gt_add g kd pr as tk) q = gt_c g q ∧ (∀ m, m < 4 → gt_PT (gt_add g kd pr as tk) q m = gt_PT g q m) :=
  ⟨pk_un (by omega), pk_un (by omega), pk_un (by omega), fun m hm => pk_un (by omega)⟩
theorem ad_n {g : gt_T} {kd pr as tk : Int32} : gt_k (gt_add g kd pr as tk) (gt_n g) = kd ∧ gt_a (gt_add g kd pr as tk) (gt_n g) = as ∧ gt_c (gt_add g kd pr as tk) (gt_n g) = 1 ∧ gt_PT (gt_add g kd pr as tk) (gt_n g) 0 = tk :=
  ⟨pk_us, pk_us, pk_us, pk_us⟩
theorem ad_PC {g : gt_T} {kd pr as tk : Int32} {q : Nat} (hq : q < gt_n g) : gt_PC (gt_add g kd pr as tk) q = gt_PC g q := by
  unfold gt_PC
  rw [(ad_lt hq).2.2.1]
theorem ad_PCn {g : gt_T} {kd pr as tk : Int32} : gt_PC (gt_add g kd pr as tk) (gt_n g) = 1 := by
  unfold gt_PC
  rw [ad_n.2.2.1]
  rfl
theorem ad_LO {g : gt_T} {kd pr as tk : Int32} {q : Nat} (hq : q < gt_n g) : gt_LO (gt_add g kd pr as tk) q = gt_LO g q := by
  unfold gt_LO
  rw [(ad_lt hq).1]
theorem ad_LOn {g : gt_T} {kd pr as tk : Int32} : gt_LO (gt_add g kd pr as tk) (gt_n g) = (decide (kd = 1) || decide (kd = 2)) := by
  unfold gt_LO
  rw [ad_n.1]
theorem ad_mx {g : gt_T} {kd pr as tk : Int32} {q : Nat} (hq : q < gt_n g) : gt_mx (gt_add g kd pr as tk) q = gt_mx g q := by
  unfold gt_mx
  rw [(ad_lt hq).1]
theorem ad_ok {g : gt_T} (H : gt_ok g) (hn : gt_n g < 12) {kd pr as : Int32} (hk : kd = 0 ∨ kd = 1 ∨ kd = 2 ∨ kd = 3) (ha : as = 0 ∨ as = 1 ∨ as = 2) {t : Nat} (h2 : 2 ≤ t) (hl : t ≤ gt_l g) {w : Bool} (hw : (decide (kd = 1) || decide (kd = 2)) = !w) (hip : gt_ip g 1 3 (nI t) = false) (hld : gt_ld g w (nI t) = none) : gt_ok (gt_add g kd pr as (nI t)) := by
  have hn' : gt_n (gt_add g kd pr as (nI t)) = gt_n g + 1 := rfl
  have hspl : ∀ q, q < gt_n (gt_add g kd pr as (nI t)) → q < gt_n g ∨ q = gt_n g := by intro q h; rw [hn'] at h; omega
  have hnin : ∀ q m, q < gt_n g → 1 ≤ m → m < gt_PC g q → gt_PT g q m ≠ nI t := by
    intro q m hq hm hm2 e
    have h4 := gt_pc4 H hq
    have := gt_ip_iff.mpr ⟨q, m, hq, hm2, hm, (show m ≤ 3 by omega), e⟩
    rw [this] at hip
    cases hip
  refine ⟨by rw [hn']; omega, H.2.1, ?_, ?_, ?_, ?_, ?_, ?_⟩
  · intro q hq
    rcases hspl q hq with h | h
    · rw [(ad_lt h).1]; exact H.2.2.1 q h
    · subst h; rw [ad_n.1]; exact hk
  · intro q hq
    rcases hspl q hq with h | h
    · rw [(ad_lt h).2.1]; exact H.2.2.2.1 q h
    · subst h; rw [ad_n.2.1]; exact ha
  · intro q hq
    rcases hspl q hq with h | h
    · rw [ad_PC h, ad_mx h, (ad_lt h).2.2.1]; exact H.2.2.2.2.1 q h
    · subst h
      rw [ad_PCn, ad_n.2.2.1]
      refine ⟨Nat.le_refl _, ?_, rfl⟩
      unfold gt_mx
      split
      · decide
      · split <;> decide
  · intro q m hq hm
    rcases hspl q hq with h | h
    · rw [ad_PC h] at hm
      have h4 := gt_pc4 H h
      rw [(ad_lt h).2.2.2 m (by omega)]
      exact H.2.2.2.2.2.1 q m h hm
    · subst h
      rw [ad_PCn] at hm
      have : m = 0 := by omega
      subst this
      rw [ad_n.2.2.2]
      exact ⟨t, h2, hl, rfl⟩
  · intro q q' hq hq' e1 e2
    rcases hspl q hq with h | h <;> rcases hspl q' hq' with h' | h'
    · rw [(ad_lt h).2.2.2 0 (by decide), (ad_lt h').2.2.2 0 (by decide)] at e1
      rw [ad_LO h, ad_LO h'] at e2
      exact H.2.2.2.2.2.2.1 q q' h h' e1 e2
    · subst h'
      rw [(ad_lt h).2.2.2 0 (by decide), ad_n.2.2.2] at e1
      rw [ad_LO h, ad_LOn, hw] at e2
      have := gt_ld_none hld q h e1
      rw [this] at e2
      cases w <;> cases e2
    · subst h
      rw [(ad_lt h').2.2.2 0 (by decide), ad_n.2.2.2] at e1
      rw [ad_LO h', ad_LOn, hw] at e2
      have := gt_ld_none hld q' h' e1.symm
      rw [this] at e2
      cases w <;> cases e2
    · rw [h, h']
  · intro q q' m hq hq' h1 hm
    rcases hspl q hq with h | h
    · rw [ad_PC h] at hm
      have h4 := gt_pc4 H h
      rw [(ad_lt h).2.2.2 m (by omega)]
      rcases hspl q' hq' with h' | h'
      · rw [(ad_lt h').2.2.2 0 (by decide)]
        exact H.2.2.2.2.2.2.2 q q' m h h' h1 hm
      · subst h'
        rw [ad_n.2.2.2]
        exact hnin q m h h1 hm
    · subst h
      rw [ad_PCn] at hm
      omega
theorem ad_ld {g : gt_T} (H : gt_ok g) {kd pr as : Int32} {t : Nat} (H' : gt_ok (gt_add g kd pr as (nI t))) (w' : Bool) (x : Int32) (hx : x ≠ nI t ∨ (decide (kd = 1) || decide (kd = 2)) = w') : gt_ld (gt_add g kd pr as (nI t)) w' x = gt_ld g w' x := by
  have hn' : gt_n (gt_add g kd pr as (nI t)) = gt_n g + 1 := rfl
  cases e : gt_ld g w' x with
  | some q =>
    obtain ⟨a, b, c⟩ := gt_ld_some e
    have := gt_ld_mk H' (w := w') (q := q) (by rw [hn']; omega) (by rw [ad_LO a]; exact c)
    rw [(ad_lt a).2.2.2 0 (by decide), b] at this
    exact this
  | none =>
    apply gt_ld_no2
    intro q hq hp
    rw [hn'] at hq
    by_cases h : q < gt_n g
    · rw [(ad_lt h).2.2.2 0 (by decide)] at hp
      rw [ad_LO h]
      exact gt_ld_none e q h hp
    · have hqn : q = gt_n g := by omega
      subst hqn
      rw [ad_n.2.2.2] at hp
      rw [ad_LOn]
      rcases hx with h1 | h1
      · exact absurd hp.symm h1
      · exact h1
theorem ad_ip {g : gt_T} (H : gt_ok g) {kd pr as : Int32} {t : Nat} (x : Int32) : gt_ip (gt_add g kd pr as (nI t)) 1 3 x = gt_ip g 1 3 x := by
  have hn' : gt_n (gt_add g kd pr as (nI t)) = gt_n g + 1 := rfl
  rw [Bool.eq_iff_iff, gt_ip_iff, gt_ip_iff]
  constructor
  · rintro ⟨q, m, a, b, c, d, e⟩
    rw [hn'] at a
    by_cases h : q < gt_n g
    · rw [ad_PC h] at b
      rw [(ad_lt h).2.2.2 m (by omega)] at e
      exact ⟨q, m, h, b, c, d, e⟩
    · have hqn : q = gt_n g := by omega
      subst hqn
      rw [ad_PCn] at b
      omega
  · rintro ⟨q, m, a, b, c, d, e⟩
    refine ⟨q, m, by rw [hn']; omega, by rw [ad_PC a]; exact b, c, d, ?_⟩
    rw [(ad_lt a).2.2.2 m (by omega)]
    exact e
/-- the uses of names behind a new operator: w says whether it opens -/
theorem ad_xo {g : gt_T} (H : gt_ok g) {op jo inn : Nat → Int32} (hx : xo_ok g op jo inn) {kd pr as : Int32} {t : Nat} (h2 : 2 ≤ t) (hl : t ≤ gt_l g) (H' : gt_ok (gt_add g kd pr as (nI t))) :
    ((decide (kd = 1) || decide (kd = 2)) = false → xo_ok (gt_add g kd pr as (nI t)) (upd op t (nI (gt_n g + 1))) jo inn) ∧ ((decide (kd = 1) || decide (kd = 2)) = true → xo_ok (gt_add g kd pr as (nI t)) op (upd jo t (nI (gt_n g + 1))) inn) := by
  have hl31 := H.2.1
  have hn' : gt_n (gt_add g kd pr as (nI t)) = gt_n g + 1 := rfl
  have hnew : ∀ w, (decide (kd = 1) || decide (kd = 2)) = !w → gt_ld (gt_add g kd pr as (nI t)) w (nI t) = some (gt_n g) := by
    intro w hw
    have := gt_ld_mk H' (w := w) (q := gt_n g) (by rw [hn']; omega) (by rw [ad_LOn]; exact hw)
    rw [ad_n.2.2.2] at this
    exact this
  constructor
  · intro hw x hx2 hxl
    have hxl' : x ≤ gt_l g := hxl
    obtain ⟨a, b, c⟩ := hx x hx2 hxl'
    rw [ad_ip H, ad_ld H H' false (nI x) (Or.inr hw)]
    refine ⟨?_, b, c⟩
    by_cases e : x = t
    · subst e
      rw [pk_us, hnew true hw]
      rfl
    · rw [pk_un e, ad_ld H H' true (nI x) (Or.inl (fun z => e ((nI_eq (by omega) (by omega)).mp z)))]
      exact a
  · intro hw x hx2 hxl
    have hxl' : x ≤ gt_l g := hxl
    obtain ⟨a, b, c⟩ := hx x hx2 hxl'
    rw [ad_ip H, ad_ld H H' true (nI x) (Or.inr hw)]
    refine ⟨a, ?_, c⟩
    by_cases e : x = t
    · subst e
      rw [pk_us, hnew false hw]
      rfl
    · rw [pk_un e, ad_ld H H' false (nI x) (Or.inl (fun z => e ((nI_eq (by omega) (by omega)).mp z)))]
      exact b
theorem gt_nm_j {g : gt_T} (H : gt_ok g) {t : Int32} (h : gt_nm g t = true) : ∃ j, 2 ≤ j ∧ j ≤ gt_l g ∧ t = nI j := by
  have hl := H.2.1
  unfold gt_nm at h
  simp only [Bool.and_eq_true, decide_eq_true_eq] at h
  obtain ⟨h2, h3⟩ := h
  have h0 : ¬ t < 0 := by
    rw [Int32.lt_iff_toInt_lt]
    rw [Int32.le_iff_toInt_le] at h2
    have e1 : (2 : Int32).toInt = 2 := by decide
    have e2 : (0 : Int32).toInt = 0 := by decide
    omega
  obtain ⟨j, hj, rfl⟩ := nI_of2 (nI_toInt (n := gt_l g) (by omega)) h0 h3
  exact ⟨j, (nI_leI (a := 2) (b := j) (by decide) (by omega)).mp h2, hj, rfl⟩
section
variable {g : gt_T} {n : Nat} {post2 : Int32 → SX → Prop} {kd pr as : Int32} {t : Nat} {w : Bool}
variable {f_opLimit f_nodeLimit f_levelLimit f_textLimit f_nodeTotal f_treeTotal f_depth f_wanting f_clashing f_outLen f_treeBase f_treeNodes f_workDepth : Int32} {a_opener a_joiner a_inner a_text a_nodeList a_frameOp a_frameNext a_out a_partner a_openAt a_treeOp a_parent a_slot a_kid a_wrapped a_workNode a_workStep : Nat → Int32}
theorem xw_d118 (H : gt_ok g) (hn : gt_n g < 12) (hl : t ≤ gt_l g) (hp1 : w = true → post2 (nI (gt_n g)) (f_opLimit, f_nodeLimit, f_levelLimit, nI (gt_l g), f_textLimit, nI (gt_n g + 1), nI n, f_nodeTotal, f_treeTotal, f_depth, f_wanting, f_clashing, f_outLen, f_treeBase, f_treeNodes, f_workDepth, upd (gt_k g) (gt_n g) kd, upd (gt_p g) (gt_n g) pr, upd (gt_a g) (gt_n g) as, upd (gt_c g) (gt_n g) 1, upd (gt_t g) (4 * gt_n g) (nI t), upd a_opener t (nI (gt_n g + 1)), a_joiner, a_inner, a_text, a_nodeList, a_frameOp, a_frameNext, a_out, a_partner, a_openAt, a_treeOp, a_parent, a_slot, a_kid, a_wrapped, a_workNode, a_workStep))
    (hp0 : w = false → post2 (nI (gt_n g)) (f_opLimit, f_nodeLimit, f_levelLimit, nI (gt_l g), f_textLimit, nI (gt_n g + 1), nI n, f_nodeTotal, f_treeTotal, f_depth, f_wanting, f_clashing, f_outLen, f_treeBase, f_treeNodes, f_workDepth, upd (gt_k g) (gt_n g) kd, upd (gt_p g) (gt_n g) pr, upd (gt_a g) (gt_n g) as, upd (gt_c g) (gt_n g) 1, upd (gt_t g) (4 * gt_n g) (nI t), a_opener, upd a_joiner t (nI (gt_n g + 1)), a_inner, a_text, a_nodeList, a_frameOp, a_frameNext, a_out, a_partner, a_openAt, a_treeOp, a_parent, a_slot, a_kid, a_wrapped, a_workNode, a_workStep)) :
    wX_declare_118 post2 kd pr as (nI t) (gt_b w) f_opLimit f_nodeLimit f_levelLimit (nI (gt_l g)) f_textLimit (nI (gt_n g)) (nI n) f_nodeTotal f_treeTotal f_depth f_wanting f_clashing f_outLen f_treeBase f_treeNodes f_workDepth (gt_k g) (gt_p g) (gt_a g) (gt_c g) (gt_t g) a_opener a_joiner a_inner a_text a_nodeList a_frameOp a_frameNext a_out a_partner a_openAt a_treeOp a_parent a_slot a_kid a_wrapped a_workNode a_workStep := by
  have hl31 := H.2.1
  have vin : vp_in (nI (gt_n g)) 12 := vp_in_nI hn (by decide)
  have e4 : (4 : Int32) * nI (gt_n g) = nI (4 * gt_n g) := pk_mul 4 _
  unfold wX_declare_118
  rw [e4, nI_clamp (n := gt_n g) (by omega), nI_clamp (n := 4 * gt_n g) (by omega), nI_clamp (n := t) (by omega), nI_1]
  refine ⟨vin, nm_e ⟨vin, nm_e ⟨vin, nm_e ⟨vin, nm_e ⟨vp_in_nI (by omega) (by decide), nm_e (nm_e ?_)⟩⟩⟩⟩⟩
  cases w with
  | false => exact br_t rfl ⟨vp_in_nI (by omega) (by decide), nm_e (hp0 rfl)⟩
  | true => exact br_f (by decide) ⟨vp_in_nI (by omega) (by decide), nm_e (hp1 rfl)⟩
theorem xw_d67 (H : gt_ok g) (hx : xo_ok g a_opener a_joiner a_inner) (h2 : 2 ≤ t) (hl : t ≤ gt_l g) (hs : gt_ip g 1 3 (nI t) = false → gt_ld g w (nI t) = none → wX_declare_118 post2 kd pr as (nI t) (gt_b w) f_opLimit f_nodeLimit f_levelLimit (nI (gt_l g)) f_textLimit (nI (gt_n g)) (nI n) f_nodeTotal f_treeTotal f_depth f_wanting f_clashing f_outLen f_treeBase f_treeNodes f_workDepth (gt_k g) (gt_p g) (gt_a g) (gt_c g) (gt_t g) a_opener a_joiner a_inner a_text a_nodeList a_frameOp a_frameNext a_out a_partner a_openAt a_treeOp a_parent a_slot a_kid a_wrapped a_workNode a_workStep) (hf : ¬ (gt_ip g 1 3 (nI t) = false ∧ gt_ld g w (nI t) = none) → post2 (-5) (f_opLimit, f_nodeLimit, f_levelLimit, nI (gt_l g), f_textLimit, nI (gt_n g), nI n, f_nodeTotal, f_treeTotal, f_depth, f_wanting, f_clashing, f_outLen, f_treeBase, f_treeNodes, f_workDepth, gt_k g, gt_p g, gt_a g, gt_c g, gt_t g, a_opener, a_joiner, a_inner, a_text, a_nodeList, a_frameOp, a_frameNext, a_out, a_partner, a_openAt, a_treeOp, a_parent, a_slot, a_kid, a_wrapped, a_workNode, a_workStep)) :
    wX_declare_67 post2 kd pr as (nI t) (gt_b w) f_opLimit f_nodeLimit f_levelLimit (nI (gt_l g)) f_textLimit (nI (gt_n g)) (nI n) f_nodeTotal f_treeTotal f_depth f_wanting f_clashing f_outLen f_treeBase f_treeNodes f_workDepth (gt_k g) (gt_p g) (gt_a g) (gt_c g) (gt_t g) a_opener a_joiner a_inner a_text a_nodeList a_frameOp a_frameNext a_out a_partner a_openAt a_treeOp a_parent a_slot a_kid a_wrapped a_workNode a_workStep := by
  have hl31 := H.2.1
  have hn12 := H.1
  obtain ⟨x1, x2, x3⟩ := hx t h2 hl
  have vin : vp_in (nI t) 32 := vp_in_nI (by omega) (by decide)
  have b1 : ∀ w q, gt_ld g w (nI t) = some q → q < 12 := fun w q h => by have := (gt_ld_some h).1; omega
  unfold wX_declare_67
  rw [nI_clamp (by omega), x3, gt_b_0]
  refine ⟨vin, br_c (fun h => ?_) (fun h => hf (fun z => h z.1))⟩
  cases w with
  | false =>
    refine br_t rfl ?_
    unfold wX_declare_100
    refine br_t rfl ⟨vin, ?_⟩
    rw [nI_clamp (by omega), x2, gt_o1_0 (b1 false)]
    exact br_c (fun h3 => hs h h3) (fun h3 => hf (fun z => h3 z.2))
  | true =>
    refine br_f (by decide) ⟨vin, ?_⟩
    rw [x1, gt_o1_0 (b1 true)]
    refine br_c (fun h3 => ?_) (fun h3 => hf (fun z => h3 z.2))
    unfold wX_declare_100
    exact br_f (by decide) (hs h h3)
end
section
variable {g : gt_T} {n : Nat} {post2 : Int32 → SY → Prop} {kd pr as : Int32} {t : Nat} {w : Bool}
variable {f_maxOps f_maxNodes f_maxLevels f_maxNames f_listLen : Int32} {a_text a_list a_leadOp a_follow a_groupAt a_groupOp a_groupNext a_rootOf a_found a_fromAt a_toAt a_work a_mark a_order : Nat → Int32}
theorem yw_d70 (H : gt_ok g) (hn : gt_n g < 12) (hs : gt_ip g 1 3 (nI t) = false → gt_ld g w (nI t) = none → post2 (nI (gt_n g)) (f_maxOps, f_maxNodes, f_maxLevels, f_maxNames, nI (gt_n g + 1), nI n, f_listLen, upd (gt_k g) (gt_n g) kd, upd (gt_p g) (gt_n g) pr, upd (gt_a g) (gt_n g) as, upd (gt_c g) (gt_n g) 1, upd (gt_t g) (4 * gt_n g) (nI t), a_text, a_list, a_leadOp, a_follow, a_groupAt, a_groupOp, a_groupNext, a_rootOf, a_found, a_fromAt, a_toAt, a_work, a_mark, a_order)) (hf : ¬ (gt_ip g 1 3 (nI t) = false ∧ gt_ld g w (nI t) = none) → post2 (-5) (f_maxOps, f_maxNodes, f_maxLevels, f_maxNames, nI (gt_n g), nI n, f_listLen, gt_k g, gt_p g, gt_a g, gt_c g, gt_t g, a_text, a_list, a_leadOp, a_follow, a_groupAt, a_groupOp, a_groupNext, a_rootOf, a_found, a_fromAt, a_toAt, a_work, a_mark, a_order)) :
    wY_declare_70 post2 kd pr as (nI t) (gt_b w) (nI t) f_maxOps f_maxNodes f_maxLevels f_maxNames (nI (gt_n g)) (nI n) f_listLen (gt_k g) (gt_p g) (gt_a g) (gt_c g) (gt_t g) a_text a_list a_leadOp a_follow a_groupAt a_groupOp a_groupNext a_rootOf a_found a_fromAt a_toAt a_work a_mark a_order := by
  have hn12 := H.1
  have vin : vp_in (nI (gt_n g)) 12 := vp_in_nI hn (by decide)
  have e4 : (4 : Int32) * nI (gt_n g) = nI (4 * gt_n g) := pk_mul 4 _
  unfold wY_declare_70
  refine yw_lead H (yw_part H (a := 1) (b := 3) (by decide) (by decide) ?_)
  rw [gt_b_0]
  refine br_c (fun h => ?_) (fun h => hf (fun z => h z.1))
  cases hld : gt_ld g w (nI t) with
  | some q =>
    have := (gt_ld_some hld).1
    refine br_f (nI_pos (n := q) (by omega)) (hf (fun z => ?_))
    rw [hld] at z
    cases z.2
  | none =>
    refine br_t (by show (-1 : Int32) < 0; decide) ?_
    rw [e4, nI_clamp (n := gt_n g) (by omega), nI_clamp (n := 4 * gt_n g) (by omega)]
    refine ⟨vin, nm_e ⟨vin, nm_e ⟨vin, nm_e ⟨vin, nm_e ⟨vp_in_nI (by omega) (by decide), nm_e (nm_r (nI_1 _) ?_)⟩⟩⟩⟩⟩
    rw [nI_pred]
    exact hs h hld
end
theorem i_vc_declare {k : Nat} {u : SX} {v : SY} (I : i_Rel k u v) (hk : k + 5 ≤ 2564) (v1 : Int32) (v2 : Int32) (v3 : Int32) (v4 : Int32) : wpX_declare (fun r u' => wpY_declare (fun r' v' => r' = r ∧ i_Rel (k + 5) u' v') v v1 v2 v3 v4) u v1 v2 v3 v4 := by
  refine rl_el (P := fun u v => wpX_declare (fun r u' => wpY_declare (fun r' v' => r' = r ∧ i_Rel (k + 5) u' v') v v1 v2 v3 v4) u v1 v2 v3 v4) I ?_
  intro g opL nodeL levL ts F f_depth f_wanting f_clashing f_outLen f_treeBase f_treeNodes f_workDepth a_opener a_joiner a_inner xt xl a_frameOp a_frameNext a_out a_partner a_openAt a_treeOp a_parent a_slot a_kid a_wrapped a_workNode a_workStep yt yl a_leadOp a_follow a_groupAt a_groupOp a_groupNext a_rootOf a_found a_fromAt a_toAt a_work a_mark a_order hR
  have hR' := hR
  obtain ⟨H, hl, ho, hn, hlv, hx, hts, hxt, hyt, htk, hw, hsz, hxl, hyl⟩ := hR
  have hg1 := gl_1 hl
  have hl31 := H.2.1
  have hlp := ff_len_sz F
  unfold wpX_declare wpY_declare
  refine br_c (fun h => br_t h ⟨rfl, rl_in hR'⟩) (fun h => br_c (fun h2 => br_f h (br_t h2 ⟨rfl, rl_in hR'⟩)) (fun h2 => ?_))
  obtain ⟨kj, hkj, rfl⟩ := nI_of2 (n := 3) (M := 3) (by decide) h (Int32.not_lt.mp h2)
  refine xw_rank (levL := levL) ?_
  cases hr : rk_ok levL v2 v3 with
  | false =>
    refine br_t rfl (br_f h (br_f h2 (yw_rank (levL := levL) ?_)))
    rw [hr]
    exact br_f (by decide) ⟨rfl, rl_in hR'⟩
  | true =>
    refine br_f (by decide) (xw_name ?_)
    have toY1 : ∀ {Q : Prop}, (¬ (1 : Int32) = 0 → Q) → Q := fun h => h (by decide)
    cases hnm : gt_nm g v4 with
    | false =>
      refine br_t rfl (br_f h (br_f h2 (yw_rank (levL := levL) ?_)))
      rw [hr]
      refine br_t rfl (yw_name hg1 ?_)
      rw [hnm]
      exact br_t rfl ⟨rfl, rl_in hR'⟩
    | true =>
      obtain ⟨t, ht2, htl, rfl⟩ := gt_nm_j H hnm
      refine br_f (by decide) ?_
      by_cases hF0 : ff_len F = 0
      · have eF := ff_lf_leaf (ff_len0.mp hF0)
        have hs0 : ff_sz F = 0 := by rw [eF]; rfl
        refine br_t (by rw [hF0]; decide) ?_
        refine pk_lt (gt_n g) opL (fun hop => ?_) (fun hop => ?_)
        · -- room for one more
          have hn12 : gt_n g < 12 := by omega
          have ha := rk_as hr
          have hkd : nI kj = 0 ∨ nI kj = 1 ∨ nI kj = 2 ∨ nI kj = 3 := by
            have : kj = 0 ∨ kj = 1 ∨ kj = 2 ∨ kj = 3 := by omega
            rcases this with rfl | rfl | rfl | rfl
            · exact Or.inl rfl
            · exact Or.inr (Or.inl rfl)
            · exact Or.inr (Or.inr (Or.inl rfl))
            · exact Or.inr (Or.inr (Or.inr rfl))
          have toY : ∀ {post2 : Int32 → SY → Prop} (w : Bool), (decide (nI kj = 1) || decide (nI kj = 2)) = !w → wY_declare_70 post2 (nI kj) v2 v3 (nI t) (gt_b w) (nI t) (nI opL) (nI nodeL) (nI levL) (nI (gt_l g - 1)) (nI (gt_n g)) (nI ts.length) (nI (ff_sz F)) (gt_k g) (gt_p g) (gt_a g) (gt_c g) (gt_t g) yt yl a_leadOp a_follow a_groupAt a_groupOp a_groupNext a_rootOf a_found a_fromAt a_toAt a_work a_mark a_order → wpY_declare post2 (nI opL, nI nodeL, nI levL, nI (gt_l g - 1), nI (gt_n g), nI ts.length, nI (ff_sz F), gt_k g, gt_p g, gt_a g, gt_c g, gt_t g, yt, yl, a_leadOp, a_follow, a_groupAt, a_groupOp, a_groupNext, a_rootOf, a_found, a_fromAt, a_toAt, a_work, a_mark, a_order) (nI kj) v2 v3 (nI t) := by
            intro post2 w hw' hy
            unfold wpY_declare
            refine br_f h (br_f h2 (yw_rank (levL := levL) ?_))
            rw [hr]
            refine br_t rfl (yw_name hg1 ?_)
            rw [hnm]
            refine br_f (by decide) (br_t (by rw [hs0]; decide) ?_)
            refine pk_eq (gt_n g) opL (fun z => by omega) (fun _ => ?_)
            have hkk : kj = 0 ∨ kj = 1 ∨ kj = 2 ∨ kj = 3 := by omega
            rcases hkk with rfl | rfl | rfl | rfl
            · have : w = true := by cases w <;> first | rfl | (exfalso; revert hw'; decide)
              subst this
              exact br_t rfl hy
            · have : w = false := by cases w <;> first | rfl | (exfalso; revert hw'; decide)
              subst this
              exact br_f (by decide) (br_f (by decide) hy)
            · have : w = false := by cases w <;> first | rfl | (exfalso; revert hw'; decide)
              subst this
              exact br_f (by decide) (br_f (by decide) hy)
            · have : w = true := by cases w <;> first | rfl | (exfalso; revert hw'; decide)
              subst this
              exact br_f (by decide) (br_t rfl hy)
          have main : ∀ w : Bool, (decide (nI kj = 1) || decide (nI kj = 2)) = !w → wX_declare_67 (fun r u' => wpY_declare (fun r' v' => r' = r ∧ i_Rel (k + 5) u' v') (nI opL, nI nodeL, nI levL, nI (gt_l g - 1), nI (gt_n g), nI ts.length, nI (ff_sz F), gt_k g, gt_p g, gt_a g, gt_c g, gt_t g, yt, yl, a_leadOp, a_follow, a_groupAt, a_groupOp, a_groupNext, a_rootOf, a_found, a_fromAt, a_toAt, a_work, a_mark, a_order) (nI kj) v2 v3 (nI t)) (nI kj) v2 v3 (nI t) (gt_b w) (nI opL) (nI nodeL) (nI levL) (nI (gt_l g)) (nI (4 * nodeL)) (nI (gt_n g)) (nI ts.length) (nI (ff_sz F)) (nI (ff_len F)) f_depth f_wanting f_clashing f_outLen f_treeBase f_treeNodes f_workDepth (gt_k g) (gt_p g) (gt_a g) (gt_c g) (gt_t g) a_opener a_joiner a_inner xt xl a_frameOp a_frameNext a_out a_partner a_openAt a_treeOp a_parent a_slot a_kid a_wrapped a_workNode a_workStep := by
            intro w hw'
            refine xw_d67 H hx ht2 htl ?_ ?_
            · intro hip hld
              have H' := ad_ok H hn12 hkd ha ht2 htl hw' hip hld (pr := v2)
              obtain ⟨xo0, xo1⟩ := ad_xo H hx ht2 htl H'
              have hwF : ff_wf (gt_add g (nI kj) v2 v3 (nI t)) F := by rw [eF]; trivial
              refine xw_d118 H hn12 htl ?_ ?_
              · intro ew
                subst ew
                refine toY true hw' (yw_d70 H hn12 (fun _ _ => ⟨rfl, ?_⟩) (fun z => absurd ⟨hip, hld⟩ z))
                exact rl_in (g := gt_add g (nI kj) v2 v3 (nI t)) ⟨H', hl, ⟨hop, ho.2⟩, hn, hlv, xo0 hw', hts, hxt, hyt, htk, hwF, hsz, hxl, hyl⟩
              · intro ew
                subst ew
                refine toY false hw' (yw_d70 H hn12 (fun _ _ => ⟨rfl, ?_⟩) (fun z => absurd ⟨hip, hld⟩ z))
                exact rl_in (g := gt_add g (nI kj) v2 v3 (nI t)) ⟨H', hl, ⟨hop, ho.2⟩, hn, hlv, xo1 hw', hts, hxt, hyt, htk, hwF, hsz, hxl, hyl⟩
            · intro hno
              exact toY w hw' (yw_d70 H hn12 (fun a b => absurd ⟨a, b⟩ hno) (fun _ => ⟨rfl, rl_in hR'⟩))
          have hkk : kj = 0 ∨ kj = 1 ∨ kj = 2 ∨ kj = 3 := by omega
          rcases hkk with rfl | rfl | rfl | rfl
          · exact br_t rfl (main true rfl)
          · exact br_f (by decide) (br_f (by decide) (main false rfl))
          · exact br_f (by decide) (br_f (by decide) (main false rfl))
          · exact br_f (by decide) (br_t rfl (main true rfl))
        · refine br_f h (br_f h2 (yw_rank (levL := levL) ?_))
          rw [hr]
          refine br_t rfl (yw_name hg1 ?_)
          rw [hnm]
          refine br_f (by decide) (br_t (by rw [hs0]; decide) ?_)
          exact pk_eq (gt_n g) opL (fun _ => ⟨rfl, rl_in hR'⟩) (fun z => by omega)
      · refine br_f (nI_nle (by omega) (by omega)) (br_f h (br_f h2 (yw_rank (levL := levL) ?_)))
        rw [hr]
        refine br_t rfl (yw_name hg1 ?_)
        rw [hnm]
        exact br_f (by decide) (br_f (nI_nle (by omega) (by omega)) ⟨rfl, rl_in hR'⟩)
end
section
/-! a further part -/
section
variable {g : gt_T} {q : Nat} {tk : Int32}
theorem ex_PCq {g : gt_T} {q : Nat} {tk : Int32} (h : gt_PC g q < 100) : gt_PC (gt_ext g q tk) q = gt_PC g q + 1 := by
  show (upd (gt_c g) q (nI (gt_PC g q + 1)) q).toNatClampNeg = _
  rw [pk_us, nI_clamp (by omega)]
theorem ex_PCo {g : gt_T} {q q' : Nat} {tk : Int32} (h : q' ≠ q) : gt_PC (gt_ext g q tk) q' = gt_PC g q' := by
  show (upd (gt_c g) q (nI (gt_PC g q + 1)) q').toNatClampNeg = _
  rw [pk_un h]
  rfl
theorem ex_PT {g : gt_T} {q q' m : Nat} {tk : Int32} (h : 4 * q' + m ≠ 4 * q + gt_PC g q) : gt_PT (gt_ext g q tk) q' m = gt_PT g q' m := pk_un h
theorem ex_PTq {g : gt_T} {q : Nat} {tk : Int32} : gt_PT (gt_ext g q tk) q (gt_PC g q) = tk := pk_us
end
theorem ex_ok {g : gt_T} (H : gt_ok g) {q t : Nat} (hq : q < gt_n g) (hm : gt_PC g q < gt_mx g q) (h2 : 2 ≤ t) (hl : t ≤ gt_l g) (hno : ∀ q', q' < gt_n g → gt_PT g q' 0 ≠ nI t) : gt_ok (gt_ext g q (nI t)) := by
  have hmx : gt_mx g q ≤ 4 := by
    unfold gt_mx
    split
    · decide
    · split <;> decide
  have h4 := gt_pc4 H hq
  have hP0 : ∀ q', q' < gt_n g → gt_PT (gt_ext g q (nI t)) q' 0 = gt_PT g q' 0 := fun q' _ => ex_PT (by omega)
  refine ⟨H.1, H.2.1, H.2.2.1, H.2.2.2.1, ?_, ?_, ?_, ?_⟩
  · intro q' hq'
    have hq2 : q' < gt_n g := hq'
    by_cases e : q' = q
    · subst e
      rw [ex_PCq (by omega)]
      refine ⟨by omega, hm, ?_⟩
      show upd (gt_c g) q' _ q' = _
      rw [pk_us]
    · rw [ex_PCo e]
      obtain ⟨a, b, c⟩ := H.2.2.2.2.1 q' hq2
      refine ⟨a, b, ?_⟩
      show upd (gt_c g) q _ q' = _
      rw [pk_un e]
      exact c
  · intro q' m hq' hm'
    have hq2 : q' < gt_n g := hq'
    have h4' := gt_pc4 H hq2
    by_cases e : q' = q
    · subst e
      rw [ex_PCq (by omega)] at hm'
      by_cases em : m = gt_PC g q'
      · subst em
        rw [ex_PTq]
        exact ⟨t, h2, hl, rfl⟩
      · rw [ex_PT (by omega)]
        exact H.2.2.2.2.2.1 q' m hq2 (by omega)
    · rw [ex_PCo e] at hm'
      rw [ex_PT (by omega)]
      exact H.2.2.2.2.2.1 q' m hq2 hm'
  · intro a b ha hb e1 e2
    rw [hP0 a ha, hP0 b hb] at e1
    exact H.2.2.2.2.2.2.1 a b ha hb e1 e2
  · intro a b m ha hb h1 hm'
    have ha2 : a < gt_n g := ha
    have h4' := gt_pc4 H ha2
    rw [hP0 b hb]
    by_cases e : a = q
    · subst e
      rw [ex_PCq (by omega)] at hm'
      by_cases em : m = gt_PC g a
      · subst em
        rw [ex_PTq]
        exact fun z => hno b hb z.symm
      · rw [ex_PT (by omega)]
        exact H.2.2.2.2.2.2.2 a b m ha hb h1 (by omega)
    · rw [ex_PCo e] at hm'
      rw [ex_PT (by omega)]
      exact H.2.2.2.2.2.2.2 a b m ha hb h1 hm'
theorem ex_xo {g : gt_T} (H : gt_ok g) {op jo inn : Nat → Int32} (hx : xo_ok g op jo inn) {q t : Nat} (hq : q < gt_n g) (hm : gt_PC g q < gt_mx g q) (hl : t ≤ gt_l g) (H' : gt_ok (gt_ext g q (nI t))) : xo_ok (gt_ext g q (nI t)) op jo (upd inn t 1) := by
  have hmx : gt_mx g q ≤ 4 := by
    unfold gt_mx
    split
    · decide
    · split <;> decide
  have h4 := gt_pc4 H hq
  have hl31 := H.2.1
  have hP0 : ∀ q', q' < gt_n g → gt_PT (gt_ext g q (nI t)) q' 0 = gt_PT g q' 0 := fun q' _ => ex_PT (by omega)
  have hld : ∀ w x, gt_ld (gt_ext g q (nI t)) w x = gt_ld g w x := by
    intro w x
    cases e : gt_ld g w x with
    | some q' =>
      obtain ⟨a, b, c⟩ := gt_ld_some e
      have := gt_ld_mk H' (w := w) (q := q') a c
      rw [hP0 q' a, b] at this
      exact this
    | none =>
      apply gt_ld_no2
      intro q' hq' hp
      rw [hP0 q' hq'] at hp
      exact gt_ld_none e q' hq' hp
  intro x hx2 hxl
  have hxl' : x ≤ gt_l g := hxl
  obtain ⟨a, b, c⟩ := hx x hx2 hxl'
  rw [hld, hld]
  refine ⟨a, b, ?_⟩
  by_cases e : x = t
  · subst e
    rw [pk_us]
    have : gt_ip (gt_ext g q (nI x)) 1 3 (nI x) = true := gt_ip_iff.mpr ⟨q, gt_PC g q, hq, by rw [ex_PCq (by omega)]; omega, by omega, by omega, ex_PTq⟩
    rw [this]
    rfl
  · rw [pk_un e, c]
    have : gt_ip (gt_ext g q (nI t)) 1 3 (nI x) = gt_ip g 1 3 (nI x) := by
      rw [Bool.eq_iff_iff, gt_ip_iff, gt_ip_iff]
      constructor
      · rintro ⟨q', m, a1, a2, a3, a4, a5⟩
        have a1' : q' < gt_n g := a1
        have h4' := gt_pc4 H a1'
        by_cases eq : q' = q
        · subst eq
          rw [ex_PCq (by omega)] at a2
          by_cases em : m = gt_PC g q'
          · subst em
            rw [ex_PTq] at a5
            exact absurd ((nI_eq (by omega) (by omega)).mp a5).symm e
          · rw [ex_PT (by omega)] at a5
            exact ⟨q', m, a1', by omega, a3, a4, a5⟩
        · rw [ex_PCo eq] at a2
          rw [ex_PT (by omega)] at a5
          exact ⟨q', m, a1', a2, a3, a4, a5⟩
      · rintro ⟨q', m, a1, a2, a3, a4, a5⟩
        have h4' := gt_pc4 H a1
        by_cases eq : q' = q
        · subst eq
          exact ⟨q', m, a1, by rw [ex_PCq (by omega)]; omega, a3, a4, by rw [ex_PT (by omega)]; exact a5⟩
        · exact ⟨q', m, a1, by rw [ex_PCo eq]; exact a2, a3, a4, by rw [ex_PT (by omega)]; exact a5⟩
    rw [this]
theorem gt_ip00 {g : gt_T} (H : gt_ok g) {x : Int32} : gt_ip g 0 0 x = false ↔ (gt_ld g true x = none ∧ gt_ld g false x = none) := by
  constructor
  · intro h
    have hno : ∀ q, q < gt_n g → gt_PT g q 0 ≠ x := by
      intro q hq e
      have := gt_ip_iff.mpr ⟨q, 0, hq, (gt_pc4 H hq).1, Nat.le_refl 0, Nat.le_refl 0, e⟩
      rw [this] at h
      cases h
    exact ⟨gt_ld_no hno, gt_ld_no hno⟩
  · rintro ⟨h1, h2⟩
    cases h : gt_ip g 0 0 x with
    | false => rfl
    | true =>
      obtain ⟨q, m, a, b, c, d, e⟩ := gt_ip_iff.mp h
      have hm : m = 0 := by omega
      subst hm
      have e1 := gt_ld_none h1 q a e
      have e2 := gt_ld_none h2 q a e
      rw [e1] at e2
      cases e2
theorem i_vc_extend {k : Nat} {u : SX} {v : SY} (I : i_Rel k u v) (hk : k + 5 ≤ 2564) (v1 : Int32) (v2 : Int32) : wpX_extend (fun r u' => wpY_extend (fun r' v' => r' = r ∧ i_Rel (k + 5) u' v') v v1 v2) u v1 v2 := by
  refine rl_el (P := fun u v => wpX_extend (fun r u' => wpY_extend (fun r' v' => r' = r ∧ i_Rel (k + 5) u' v') v v1 v2) u v1 v2) I ?_
  intro g opL nodeL levL ts F f_depth f_wanting f_clashing f_outLen f_treeBase f_treeNodes f_workDepth a_opener a_joiner a_inner xt xl a_frameOp a_frameNext a_out a_partner a_openAt a_treeOp a_parent a_slot a_kid a_wrapped a_workNode a_workStep yt yl a_leadOp a_follow a_groupAt a_groupOp a_groupNext a_rootOf a_found a_fromAt a_toAt a_work a_mark a_order hR
  have hR' := hR
  obtain ⟨H, hl, ho, hn, hlv, hx, hts, hxt, hyt, htk, hw, hsz, hxl, hyl⟩ := hR
  have hg1 := gl_1 hl
  have hl31 := H.2.1
  have hlp := ff_len_sz F
  unfold wpX_extend
  have hbad : (v1 < 0 ∨ nI (gt_n g) ≤ v1) ∨ ∃ j, j < gt_n g ∧ v1 = nI j := by
    rcases pk_ix v1 (n := gt_n g) (by omega) with h | h | h
    · exact Or.inl (Or.inl h)
    · exact Or.inl (Or.inr h)
    · exact Or.inr h
  rcases hbad with hb | ⟨q, hq, rfl⟩
  · refine xw_isOp0 H hb (br_t rfl ?_)
    unfold wpY_extend
    exact yw_isOp0 H hb (br_t rfl ⟨rfl, rl_in hR'⟩)
  · obtain ⟨vin, cq⟩ := gt_in12 H hq
    obtain ⟨p1, p2, p3⟩ := H.2.2.2.2.1 q hq
    have h4 := gt_pc4 H hq
    have hn12 := H.1
    refine xw_isOp1 H hq (br_f (by decide) (xw_name ?_))
    cases hnm : gt_nm g v2 with
    | false =>
      refine br_t rfl ?_
      unfold wpY_extend
      refine yw_isOp1 H hq (br_f (by decide) (yw_name hg1 ?_))
      rw [hnm]
      exact br_t rfl ⟨rfl, rl_in hR'⟩
    | true =>
      obtain ⟨t, ht2, htl, rfl⟩ := gt_nm_j H hnm
      refine br_f (by decide) ?_
      by_cases hF0 : ff_len F = 0
      · have eF := ff_lf_leaf (ff_len0.mp hF0)
        have hs0 : ff_sz F = 0 := by rw [eF]; rfl
        -- the reference up to its count of parts
        have toY : ∀ {post2 : Int32 → SY → Prop}, wY_extend_63 post2 (nI q) (nI t) (nI (gt_mx g q)) (nI (gt_PC g q)) (nI opL) (nI nodeL) (nI levL) (nI (gt_l g - 1)) (nI (gt_n g)) (nI ts.length) (nI (ff_sz F)) (gt_k g) (gt_p g) (gt_a g) (gt_c g) (gt_t g) yt yl a_leadOp a_follow a_groupAt a_groupOp a_groupNext a_rootOf a_found a_fromAt a_toAt a_work a_mark a_order → wpY_extend post2 (nI opL, nI nodeL, nI levL, nI (gt_l g - 1), nI (gt_n g), nI ts.length, nI (ff_sz F), gt_k g, gt_p g, gt_a g, gt_c g, gt_t g, yt, yl, a_leadOp, a_follow, a_groupAt, a_groupOp, a_groupNext, a_rootOf, a_found, a_fromAt, a_toAt, a_work, a_mark, a_order) (nI q) (nI t) := by
          intro post2 hy
          unfold wpY_extend
          refine yw_isOp1 H hq (br_f (by decide) (yw_name hg1 ?_))
          rw [hnm]
          refine br_f (by decide) (br_t (by rw [hs0]; decide) ⟨vin, vin, ?_⟩)
          rw [cq, p3]
          unfold gt_mx at hy
          refine br_c (fun h => ?_) (fun h => ⟨vin, br_c (fun h2 => ?_) (fun h2 => ?_)⟩)
          · rw [if_pos h] at hy; exact hy
          · rw [if_neg h, if_pos h2] at hy; exact hy
          · rw [if_neg h, if_neg h2] at hy; exact hy
        refine br_t (by rw [hF0]; decide) ⟨vin, ?_⟩
        rw [cq]
        have mostX : ∀ {post : Int32 → Prop}, post (nI (gt_mx g q)) → wpX_mostParts post (nI opL, nI nodeL, nI levL, nI (gt_l g), nI (4 * nodeL), nI (gt_n g), nI ts.length, nI (ff_sz F), nI (ff_len F), f_depth, f_wanting, f_clashing, f_outLen, f_treeBase, f_treeNodes, f_workDepth, gt_k g, gt_p g, gt_a g, gt_c g, gt_t g, a_opener, a_joiner, a_inner, xt, xl, a_frameOp, a_frameNext, a_out, a_partner, a_openAt, a_treeOp, a_parent, a_slot, a_kid, a_wrapped, a_workNode, a_workStep) (gt_k g q) := by
          intro post hp
          unfold gt_mx at hp
          refine br_c (fun h => ?_) (fun h => br_c (fun h2 => ?_) (fun h2 => ?_))
          · rw [if_pos h] at hp; exact hp
          · rw [if_neg h, if_pos h2] at hp; exact hp
          · rw [if_neg h, if_neg h2] at hp; exact hp
        refine mostX ⟨vin, ?_⟩
        rw [p3]
        refine pk_lt (gt_PC g q) (gt_mx g q) (fun hmx => ?_) (fun hmx => ?_) (ha := by omega) (hb := by unfold gt_mx; split; decide; split <;> decide)
        · have hmx4 : gt_mx g q ≤ 4 := by
            unfold gt_mx
            split
            · decide
            · split <;> decide
          obtain ⟨x1, x2, x3⟩ := hx t ht2 htl
          have vt : vp_in (nI t) 32 := vp_in_nI (by omega) (by decide)
          have b1 : ∀ w q, gt_ld g w (nI t) = some q → q < 12 := fun w q h => by have := (gt_ld_some h).1; omega
          have e5 : (4 : Int32) * nI q + nI (gt_PC g q) = nI (4 * q + gt_PC g q) := by
            rw [show (4 : Int32) = nI 4 from rfl, pk_mul, nI_add]
          have taken : ¬ (gt_ld g true (nI t) = none ∧ gt_ld g false (nI t) = none) → wpY_extend (fun r' v' => r' = -5 ∧ i_Rel (k + 5) (nI opL, nI nodeL, nI levL, nI (gt_l g), nI (4 * nodeL), nI (gt_n g), nI ts.length, nI (ff_sz F), nI (ff_len F), f_depth, f_wanting, f_clashing, f_outLen, f_treeBase, f_treeNodes, f_workDepth, gt_k g, gt_p g, gt_a g, gt_c g, gt_t g, a_opener, a_joiner, a_inner, xt, xl, a_frameOp, a_frameNext, a_out, a_partner, a_openAt, a_treeOp, a_parent, a_slot, a_kid, a_wrapped, a_workNode, a_workStep) v') (nI opL, nI nodeL, nI levL, nI (gt_l g - 1), nI (gt_n g), nI ts.length, nI (ff_sz F), gt_k g, gt_p g, gt_a g, gt_c g, gt_t g, yt, yl, a_leadOp, a_follow, a_groupAt, a_groupOp, a_groupNext, a_rootOf, a_found, a_fromAt, a_toAt, a_work, a_mark, a_order) (nI q) (nI t) := by
            intro hno
            refine toY ?_
            unfold wY_extend_63
            refine br_f (fun z => by have := (nI_eq (by omega) (by omega)).mp z; omega) (yw_part H (a := 0) (b := 0) (by decide) (by decide) ?_)
            refine br_f (fun z => ?_) ⟨rfl, rl_in hR'⟩
            rw [gt_b_0] at z
            exact hno ((gt_ip00 H).mp z)
          refine ⟨vt, ?_⟩
          rw [nI_clamp (n := t) (by omega), x1, x2, gt_o1_0 (b1 true), gt_o1_0 (b1 false), e5, nI_clamp (n := 4 * q + gt_PC g q) (by omega), nI_1]
          refine br_c (fun h1 => ⟨vt, br_c (fun h2 => ?_) (fun h2 => taken (fun z => h2 z.2))⟩) (fun h1 => taken (fun z => h1 z.1))
          have hno : ∀ q', q' < gt_n g → gt_PT g q' 0 ≠ nI t := by
            intro q' hq' e
            have e1 := gt_ld_none h1 q' hq' e
            have e2 := gt_ld_none h2 q' hq' e
            rw [e1] at e2
            cases e2
          have H' := ex_ok H hq hmx ht2 htl hno
          have hx' := ex_xo H hx hq hmx htl H'
          have v48 : vp_in (nI (4 * q + gt_PC g q)) 48 := vp_in_nI (by omega) (by decide)
          refine ⟨vin, v48, nm_e ⟨vin, vin, nm_e ⟨vt, nm_e ⟨vin, ?_⟩⟩⟩⟩
          rw [pk_us]
          refine toY ?_
          unfold wY_extend_63
          refine br_f (fun z => by have := (nI_eq (by omega) (by omega)).mp z; omega) (yw_part H (a := 0) (b := 0) (by decide) (by decide) ?_)
          rw [(gt_ip00 H).mpr ⟨h1, h2⟩, cq, p3, e5, nI_clamp (n := 4 * q + gt_PC g q) (by omega), nI_1]
          refine br_t rfl ⟨vin, v48, nm_e ⟨vin, vin, nm_e ⟨vin, ?_, ?_⟩⟩⟩
          · rw [pk_us]
          · have hwF : ff_wf (gt_ext g q (nI t)) F := by rw [eF]; trivial
            exact rl_in (g := gt_ext g q (nI t)) ⟨H', hl, ho, hn, hlv, hx', hts, hxt, hyt, htk, hwF, hsz, hxl, hyl⟩
        · refine toY ?_
          unfold wY_extend_63
          exact br_t (by rw [show gt_PC g q = gt_mx g q by omega]) ⟨rfl, rl_in hR'⟩
      · refine br_f (nI_nle (by omega) (by omega)) ?_
        unfold wpY_extend
        refine yw_isOp1 H hq (br_f (by decide) (yw_name hg1 ?_))
        rw [hnm]
        exact br_f (by decide) (br_f (nI_nle (by omega) (by omega)) ⟨rfl, rl_in hR'⟩)
end
section
/-! the stack of trees -/
theorem ff_at_list {l : Nat → Int32} {F : ff_F} : ff_at l 0 F ↔ mt_aO l (ff_post F) := by
  constructor
  · intro h j x hj
    have := h j x hj
    rw [Nat.zero_add] at this
    exact this
  · intro h j x hj
    rw [Nat.zero_add]
    exact h j x hj
theorem ff_at_push {l : Nat → Int32} {F F' : ff_F} {x : Int32} (h : ff_at l 0 F) (e : ff_post F' = ff_post F ++ [x]) : ff_at (upd l (ff_sz F) x) 0 F' := by
  rw [ff_at_list] at h ⊢
  rw [e, ← ff_post_len]
  exact mt_aO_snoc h
def ff_dk : Nat → ff_F → ff_F
  | 0, F => F
  | _ + 1, .leaf => .leaf
  | k + 1, .inner _ _ _ p _ => ff_dk k p
def ff_tkn : Nat → ff_F → ff_F
  | 0, _ => .leaf
  | _ + 1, .leaf => .leaf
  | k + 1, .inner m e u p kk => .inner m e u (ff_tkn k p) kk
theorem ff_dtk : ∀ (k : Nat) (F : ff_F), k ≤ ff_len F → ff_post F = ff_post (ff_dk k F) ++ ff_post (ff_tkn k F) ∧ ff_len (ff_tkn k F) = k ∧ ff_len (ff_dk k F) + k = ff_len F ∧ ff_sz (ff_dk k F) + ff_sz (ff_tkn k F) = ff_sz F := by
  intro k
  induction k with
  | zero => intro F _; exact ⟨(List.append_nil _).symm, rfl, rfl, rfl⟩
  | succ k ih =>
    intro F hF
    cases F with
    | leaf => exact absurd hF (Nat.not_succ_le_zero _)
    | inner m e u p kk =>
      have hF' : k + 1 ≤ ff_len p + 1 := hF
      obtain ⟨a, b, c, d⟩ := ih p (by omega)
      refine ⟨?_, ?_, ?_, ?_⟩
      · show ff_post p ++ _ = ff_post (ff_dk k p) ++ (ff_post (ff_tkn k p) ++ _)
        rw [a, List.append_assoc]
      · show ff_len (ff_tkn k p) + 1 = k + 1
        rw [b]
      · show ff_len (ff_dk k p) + (k + 1) = ff_len p + 1
        omega
      · show ff_sz (ff_dk k p) + (ff_sz (ff_tkn k p) + ff_sz kk + 1) = ff_sz p + ff_sz kk + 1
        omega
theorem ff_dtk_wf {g : gt_T} : ∀ (k : Nat) (F : ff_F), ff_wf g F → ff_wf g (ff_dk k F) ∧ ff_wf g (ff_tkn k F) := by
  intro k
  induction k with
  | zero => intro F h; exact ⟨h, trivial⟩
  | succ k ih =>
    intro F h
    cases F with
    | leaf => exact ⟨h, h⟩
    | inner m e u p kk =>
      obtain ⟨a, b⟩ := ih p h.1
      exact ⟨a, b, h.2.1, h.2.2⟩
theorem i_vc_pushAtom {k : Nat} {u : SX} {v : SY} (I : i_Rel k u v) (hk : k + 5 ≤ 2564) (v1 : Int32) : wpX_pushAtom (fun r u' => wpY_pushAtom (fun r' v' => r' = r ∧ i_Rel (k + 5) u' v') v v1) u v1 := by
  refine rl_el (P := fun u v => wpX_pushAtom (fun r u' => wpY_pushAtom (fun r' v' => r' = r ∧ i_Rel (k + 5) u' v') v v1) u v1) I ?_
  intro g opL nodeL levL ts F f_depth f_wanting f_clashing f_outLen f_treeBase f_treeNodes f_workDepth a_opener a_joiner a_inner xt xl a_frameOp a_frameNext a_out a_partner a_openAt a_treeOp a_parent a_slot a_kid a_wrapped a_workNode a_workStep yt yl a_leadOp a_follow a_groupAt a_groupOp a_groupNext a_rootOf a_found a_fromAt a_toAt a_work a_mark a_order hR
  have hR' := hR
  obtain ⟨H, hl, ho, hn, hlv, hx, hts, hxt, hyt, htk, hw, hsz, hxl, hyl⟩ := hR
  have hg1 := gl_1 hl
  have eat : gt_at g v1 = (gt_nm g v1 && !gt_ip g 0 3 v1) := rfl
  unfold wpX_pushAtom wpY_pushAtom
  refine xw_name ?_
  cases hnm : gt_nm g v1 with
  | false =>
    refine br_t rfl (yw_atom H hg1 ?_)
    rw [eat, hnm]
    exact br_t rfl ⟨rfl, rl_in hR'⟩
  | true =>
    obtain ⟨t, ht2, htl, rfl⟩ := gt_nm_j H hnm
    refine br_f (by decide) (xw_atomn H hx ht2 htl ?_)
    cases hat : gt_at g (nI t) with
    | false =>
      refine br_t rfl (yw_atom H hg1 ?_)
      rw [hat]
      exact br_t rfl ⟨rfl, rl_in hR'⟩
    | true =>
      refine br_f (by decide) (pk_lt (ff_sz F) nodeL (fun h => ?_) (fun h => ?_))
      · have vin : vp_in (nI (ff_sz F)) 32 := vp_in_nI (by omega) (by decide)
        rw [nI_clamp (by omega)]
        refine ⟨vin, nm_e (nm_r (nI_1 _) (nm_r (nI_1 _) (yw_atom H hg1 ?_)))⟩
        rw [hat]
        refine br_f (by decide) (pk_eq (ff_sz F) nodeL (fun z => by omega) (fun _ => ⟨vin, nm_r (e' := upd yl (ff_sz F) (nI t)) (by rw [nI_clamp (by omega)]) (nm_r (nI_1 _) ⟨rfl, ?_⟩)⟩))
        have e1 : ff_post (.inner 0 (.inl (nI t)) () F .leaf) = ff_post F ++ [nI t] := rfl
        exact rl_in (F := .inner 0 (.inl (nI t)) () F .leaf) ⟨H, hl, ho, hn, hlv, hx, hts, hxt, hyt, htk, ⟨hw, trivial, hat, rfl⟩, h, ff_at_push hxl e1, ff_at_push hyl e1⟩
      · refine yw_atom H hg1 ?_
        rw [hat]
        exact br_f (by decide) (pk_eq (ff_sz F) nodeL (fun _ => ⟨rfl, rl_in hR'⟩) (fun z => by omega))
theorem i_vc_apply {k : Nat} {u : SX} {v : SY} (I : i_Rel k u v) (hk : k + 5 ≤ 2564) (v1 : Int32) : wpX_apply (fun r u' => wpY_apply (fun r' v' => r' = r ∧ i_Rel (k + 5) u' v') v v1) u v1 := by
  refine rl_el (P := fun u v => wpX_apply (fun r u' => wpY_apply (fun r' v' => r' = r ∧ i_Rel (k + 5) u' v') v v1) u v1) I ?_
  intro g opL nodeL levL ts F f_depth f_wanting f_clashing f_outLen f_treeBase f_treeNodes f_workDepth a_opener a_joiner a_inner xt xl a_frameOp a_frameNext a_out a_partner a_openAt a_treeOp a_parent a_slot a_kid a_wrapped a_workNode a_workStep yt yl a_leadOp a_follow a_groupAt a_groupOp a_groupNext a_rootOf a_found a_fromAt a_toAt a_work a_mark a_order hR
  have hR' := hR
  obtain ⟨H, hl, ho, hn, hlv, hx, hts, hxt, hyt, htk, hw, hsz, hxl, hyl⟩ := hR
  have hlp := ff_len_sz F
  unfold wpX_apply wpY_apply
  have hbad : (v1 < 0 ∨ nI (gt_n g) ≤ v1) ∨ ∃ j, j < gt_n g ∧ v1 = nI j := by
    rcases pk_ix v1 (n := gt_n g) (by omega) with h | h | h
    · exact Or.inl (Or.inl h)
    · exact Or.inl (Or.inr h)
    · exact Or.inr h
  rcases hbad with hb | ⟨q, hq, rfl⟩
  · exact xw_isOp0 H hb (br_t rfl (yw_isOp0 H hb (br_t rfl ⟨rfl, rl_in hR'⟩)))
  · have har := gt_ar3 H hq
    refine xw_isOp1 H hq (br_f (by decide) (xw_ar H hq (pk_le (gt_ar g q) (ff_len F) (fun h1 => ?_) (fun h1 => ?_))))
    · refine pk_lt (ff_sz F) nodeL (fun h => ?_) (fun h => ?_)
      · have vin : vp_in (nI (ff_sz F)) 32 := vp_in_nI (by omega) (by decide)
        rw [nI_clamp (by omega)]
        refine ⟨vin, nm_e (nm_r (nI_1 _) (nm_r (e' := nI (ff_len F - gt_ar g q + 1)) (by rw [pk_sub h1, nI_1]) ?_))⟩
        refine yw_isOp1 H hq (br_f (by decide) (yw_tc H hw hyl rfl (by omega) (yw_ar H hq ?_)))
        refine br_t (nI_le h1 (by omega)) (pk_eq (ff_sz F) nodeL (fun z => by omega) (fun _ => ⟨vin, nm_r (e' := upd yl (ff_sz F) (100 + nI q)) (by rw [nI_clamp (by omega)]) (nm_r (nI_1 _) ⟨rfl, ?_⟩)⟩))
        obtain ⟨d1, d2, d3, d4⟩ := ff_dtk (gt_ar g q) F h1
        obtain ⟨w1, w2⟩ := ff_dtk_wf (g := g) (gt_ar g q) F hw
        have e1 : ff_post (.inner 0 (.inr q) () (ff_dk (gt_ar g q) F) (ff_tkn (gt_ar g q) F)) = ff_post F ++ [100 + nI q] := by
          rw [d1]
          show _ ++ (_ ++ _) = _
          rw [List.append_assoc]
          rfl
        have e2 : ff_sz (.inner 0 (.inr q) () (ff_dk (gt_ar g q) F) (ff_tkn (gt_ar g q) F)) = ff_sz F + 1 := by
          show ff_sz (ff_dk (gt_ar g q) F) + ff_sz (ff_tkn (gt_ar g q) F) + 1 = _
          omega
        have e3 : ff_len (.inner 0 (.inr q) () (ff_dk (gt_ar g q) F) (ff_tkn (gt_ar g q) F)) = ff_len F - gt_ar g q + 1 := by
          show ff_len (ff_dk (gt_ar g q) F) + 1 = _
          omega
        have e4 : (100 : Int32) + nI q = 100 + nI q := rfl
        rw [← e2, ← e3]
        exact rl_in (F := .inner 0 (.inr q) () (ff_dk (gt_ar g q) F) (ff_tkn (gt_ar g q) F)) ⟨H, hl, ho, hn, hlv, hx, hts, hxt, hyt, htk, ⟨w1, w2, hq, d2⟩, by rw [e2]; exact h, ff_at_push hxl e1, ff_at_push hyl e1⟩
      · refine yw_isOp1 H hq (br_f (by decide) (yw_tc H hw hyl rfl (by omega) (yw_ar H hq ?_)))
        exact br_t (nI_le h1 (by omega)) (pk_eq (ff_sz F) nodeL (fun _ => ⟨rfl, rl_in hR'⟩) (fun z => by omega))
    · refine yw_isOp1 H hq (br_f (by decide) (yw_tc H hw hyl rfl (by omega) (yw_ar H hq ?_)))
      exact br_f (nI_ge h1 (by omega)) ⟨rfl, rl_in hR'⟩
/-- the newest tree in the list -/
theorem ff_top {g : gt_T} {l : Nat → Int32} {m : Nat} {e : Int32 ⊕ Nat} {u : Unit} {p k : ff_F} (hw : ff_wf g (.inner m e u p k)) (h : ff_at l 0 (.inner m e u p k)) : ff_len (.inner m e () .leaf k) = 1 ∧ ff_wf g (.inner m e () .leaf k) ∧ ff_at l (ff_sz p) (.inner m e () .leaf k) ∧ ff_sz (.inner m e u p k) = ff_sz p + ff_sz (.inner m e () .leaf k) := by
  refine ⟨rfl, ⟨trivial, hw.2.1, hw.2.2⟩, ?_, ?_⟩
  · intro j x hj
    have hj' : (ff_post k ++ [ff_ent e])[j]? = some x := hj
    have := h (ff_sz p + j) x (by
      show (ff_post p ++ (ff_post k ++ [ff_ent e]))[ff_sz p + j]? = some x
      rw [List.getElem?_append_right (by rw [ff_post_len]; omega), ff_post_len, Nat.add_sub_cancel_left]
      exact hj')
    rw [Nat.zero_add] at this
    exact this
  · show ff_sz p + ff_sz k + 1 = ff_sz p + (0 + ff_sz k + 1)
    omega
theorem i_vc_drop {k : Nat} {u : SX} {v : SY} (I : i_Rel k u v) (hk : k + 5 ≤ 2564) : wpX_drop (fun r u' => wpY_drop (fun r' v' => r' = r ∧ i_Rel (k + 5) u' v') v) u := by
  refine rl_el (P := fun u v => wpX_drop (fun r u' => wpY_drop (fun r' v' => r' = r ∧ i_Rel (k + 5) u' v') v) u) I ?_
  intro g opL nodeL levL ts F f_depth f_wanting f_clashing f_outLen f_treeBase f_treeNodes f_workDepth a_opener a_joiner a_inner xt xl a_frameOp a_frameNext a_out a_partner a_openAt a_treeOp a_parent a_slot a_kid a_wrapped a_workNode a_workStep yt yl a_leadOp a_follow a_groupAt a_groupOp a_groupNext a_rootOf a_found a_fromAt a_toAt a_work a_mark a_order hR
  have hR' := hR
  obtain ⟨H, hl, ho, hn, hlv, hx, hts, hxt, hyt, htk, hw, hsz, hxl, hyl⟩ := hR
  have hlp := ff_len_sz F
  unfold wpX_drop wpY_drop
  cases F with
  | leaf => exact br_t rfl (br_t rfl ⟨rfl, rl_in hR'⟩)
  | inner m e u' p kk =>
    obtain ⟨t1, t2, t3, t4⟩ := ff_top hw hxl
    obtain ⟨_, _, s3, _⟩ := ff_top hw hyl
    have hT : ff_sz (.inner m e () .leaf kk) = ff_sz kk + 1 := by show 0 + ff_sz kk + 1 = _; omega
    have h1 : ff_len (.inner m e u' p kk) = ff_len p + 1 := rfl
    refine br_f (nI_ne0 (by omega) (by omega)) (xw_size H t1 t2 t3 t4 (by omega) rfl ?_)
    refine nm_r (e' := nI (ff_sz p)) (by rw [pk_sub (by omega), t4, Nat.add_sub_cancel]) (nm_r (e' := nI (ff_len p)) (by rw [h1, nI_pred]) ?_)
    refine br_f (nI_ne0 (by omega) (by omega)) (yw_start H t1 t2 s3 t4 (by omega) rfl ?_)
    refine nm_r (e' := nI (ff_sz (.inner m e () .leaf kk))) (by rw [pk_sub (by omega), t4, Nat.add_sub_cancel_left]) (nm_r (e' := nI (ff_sz p)) (by rw [pk_sub (by omega), t4, Nat.add_sub_cancel]) ⟨rfl, ?_⟩)
    exact rl_in (F := p) ⟨H, hl, ho, hn, hlv, hx, hts, hxt, hyt, htk, hw.1, by omega, (ff_at_in hxl).1, (ff_at_in hyl).1⟩
section
variable {g : gt_T} {n : Nat} {post : Int32 → Prop}
variable {f_opLimit f_nodeLimit f_levelLimit f_textLimit f_nodeTotal f_treeTotal f_depth f_wanting f_clashing f_outLen f_treeBase f_treeNodes f_workDepth : Int32} {a_opener a_joiner a_inner a_text a_nodeList a_frameOp a_frameNext a_out a_partner a_openAt a_treeOp a_parent a_slot a_kid a_wrapped a_workNode a_workStep : Nat → Int32}
theorem xw_same_l {up lo s : Nat} (h1 : up < 32) (h2 : lo < 32) (hs1 : s ≤ up + 1) (hs2 : s ≤ lo + 1) (hT : (∀ i, i < s → a_nodeList (up - i) = a_nodeList (lo - i)) → post 1) (hF : (¬ ∀ i, i < s → a_nodeList (up - i) = a_nodeList (lo - i)) → post 0) : ∀ (d i N : Nat), i + d = s → d < N → (∀ j, j < i → a_nodeList (up - j) = a_nodeList (lo - j)) → wX_same_46 post (nI up) (nI s) (nI lo) f_opLimit f_nodeLimit f_levelLimit (nI (gt_l g)) f_textLimit (nI (gt_n g)) (nI n) f_nodeTotal f_treeTotal f_depth f_wanting f_clashing f_outLen f_treeBase f_treeNodes f_workDepth (gt_k g) (gt_p g) (gt_a g) (gt_c g) (gt_t g) a_opener a_joiner a_inner a_text a_nodeList a_frameOp a_frameNext a_out a_partner a_openAt a_treeOp a_parent a_slot a_kid a_wrapped a_workNode a_workStep N (nI i) := by
  intro d
  induction d with
  | zero =>
    intro i N hi hN hall
    obtain ⟨N, rfl⟩ : ∃ N', N = N' + 1 := ⟨N - 1, by omega⟩
    rw [wX_same_46]
    exact br_t (nI_le (by omega) (by omega)) (hT (fun j hj => hall j (by omega)))
  | succ d ih =>
    intro i N hi hN hall
    obtain ⟨N, rfl⟩ : ∃ N', N = N' + 1 := ⟨N - 1, by omega⟩
    rw [wX_same_46]
    refine br_f (nI_ge (by omega) (by omega)) ?_
    rw [pk_sub (a := up) (by omega), pk_sub (a := lo) (by omega), nI_clamp (by omega), nI_clamp (by omega)]
    refine ⟨vp_in_nI (by omega) (by decide), vp_in_nI (by omega) (by decide), br_c (fun h => nm_r (nI_1 i) (ih (i + 1) N (by omega) (by omega) ?_)) (fun h => hF (fun z => h (z i (by omega))))⟩
    intro j hj
    by_cases e : j = i
    · subst e; exact h
    · exact hall j (by omega)
end
section
variable {g : gt_T} {n : Nat} {post : Int32 → Prop}
variable {f_maxOps f_maxNodes f_maxLevels f_maxNames f_listLen : Int32} {a_text a_list a_leadOp a_follow a_groupAt a_groupOp a_groupNext a_rootOf a_found a_fromAt a_toAt a_work a_mark a_order : Nat → Int32}
theorem yw_same_l {a b : Nat} (hb : b ≤ 32) (hab : a ≤ b) (hb2 : b + (b - a) ≤ 32) (hT : (∀ i, i < b - a → a_list (a + i) = a_list (b + i)) → post 1) (hF : (¬ ∀ i, i < b - a → a_list (a + i) = a_list (b + i)) → post 0) : ∀ (d i N : Nat), i + d = b - a → d < N → (∀ j, j < i → a_list (a + j) = a_list (b + j)) → wY_same_46 post (nI b) (nI a) f_maxOps f_maxNodes f_maxLevels f_maxNames (nI (gt_n g)) (nI n) f_listLen (gt_k g) (gt_p g) (gt_a g) (gt_c g) (gt_t g) a_text a_list a_leadOp a_follow a_groupAt a_groupOp a_groupNext a_rootOf a_found a_fromAt a_toAt a_work a_mark a_order N (nI (a + i)) := by
  intro d
  induction d with
  | zero =>
    intro i N hi hN hall
    obtain ⟨N, rfl⟩ : ∃ N', N = N' + 1 := ⟨N - 1, by omega⟩
    rw [wY_same_46]
    exact br_t (nI_le (by omega) (by omega)) (hT (fun j hj => hall j (by omega)))
  | succ d ih =>
    intro i N hi hN hall
    obtain ⟨N, rfl⟩ : ∃ N', N = N' + 1 := ⟨N - 1, by omega⟩
    rw [wY_same_46]
    refine br_f (nI_ge (by omega) (by omega)) ?_
    have e1 : nI (a + i) + nI b - nI a = nI (b + i) := by rw [nI_add, pk_sub (by omega), show a + i + b - a = b + i by omega]
    rw [e1, nI_clamp (by omega), nI_clamp (by omega)]
    refine ⟨vp_in_nI (by omega) (by decide), vp_in_nI (by omega) (by decide), br_c (fun h => nm_r (nI_1 _) ?_) (fun h => hF (fun z => h (z i (by omega))))⟩
    refine ih (i + 1) N (by omega) (by omega) ?_
    intro j hj
    by_cases e : j = i
    · subst e; exact h
    · exact hall j (by omega)
end
theorem i_vc_same {k : Nat} {u : SX} {v : SY} (I : i_Rel k u v) (hk : k + 5 ≤ 2564) : wpX_same (fun r => wpY_same (fun r' => r' = r ∧ i_Rel (k + 5) u v) v) u := by
  refine rl_el (P := fun u v => wpX_same (fun r => wpY_same (fun r' => r' = r ∧ i_Rel (k + 5) u v) v) u) I ?_
  intro g opL nodeL levL ts F f_depth f_wanting f_clashing f_outLen f_treeBase f_treeNodes f_workDepth a_opener a_joiner a_inner xt xl a_frameOp a_frameNext a_out a_partner a_openAt a_treeOp a_parent a_slot a_kid a_wrapped a_workNode a_workStep yt yl a_leadOp a_follow a_groupAt a_groupOp a_groupNext a_rootOf a_found a_fromAt a_toAt a_work a_mark a_order hR
  have hR' := hR
  obtain ⟨H, hl, ho, hn, hlv, hx, hts, hxt, hyt, htk, hw, hsz, hxl, hyl⟩ := hR
  have hlp := ff_len_sz F
  unfold wpX_same wpY_same
  refine pk_le 2 (ff_len F) (fun h2 => ?_) (fun h2 => yw_tc H hw hyl rfl (by omega) (br_f (nI_ge (b := 2) h2 (by decide)) ⟨rfl, rl_in hR'⟩))
  cases F with
  | leaf => exact absurd h2 (by decide)
  | inner m e u' p kk =>
    cases p with
    | leaf => exact absurd (show 2 ≤ 1 from h2) (by decide)
    | inner m2 e2 u2 p2 kk2 =>
      obtain ⟨t1, t2, t3, t4⟩ := ff_top hw hxl
      obtain ⟨_, _, s3, _⟩ := ff_top hw hyl
      obtain ⟨t1', t2', t3', t4'⟩ := ff_top hw.1 (ff_at_in hxl).1
      obtain ⟨_, _, s3', _⟩ := ff_top hw.1 (ff_at_in hyl).1
      -- sizes
      have hA : ff_sz (.inner m e () .leaf kk) = ff_sz kk + 1 := by show 0 + ff_sz kk + 1 = _; omega
      have hB : ff_sz (.inner m2 e2 () .leaf kk2) = ff_sz kk2 + 1 := by show 0 + ff_sz kk2 + 1 = _; omega
      have toY : ∀ {post : Int32 → Prop}, (((nI (ff_sz (.inner m e () .leaf kk)) = nI (ff_sz (.inner m2 e2 () .leaf kk2))) → ∃ n46, wY_same_46 post (nI (ff_sz (.inner m2 e2 u2 p2 kk2))) (nI (ff_sz p2)) (nI opL) (nI nodeL) (nI levL) (nI (gt_l g - 1)) (nI (gt_n g)) (nI ts.length) (nI (ff_sz (.inner m e u' (.inner m2 e2 u2 p2 kk2) kk))) (gt_k g) (gt_p g) (gt_a g) (gt_c g) (gt_t g) yt yl a_leadOp a_follow a_groupAt a_groupOp a_groupNext a_rootOf a_found a_fromAt a_toAt a_work a_mark a_order n46 (nI (ff_sz p2))) ∧ (¬ (nI (ff_sz (.inner m e () .leaf kk)) = nI (ff_sz (.inner m2 e2 () .leaf kk2))) → post 0)) → wpY_same post (nI opL, nI nodeL, nI levL, nI (gt_l g - 1), nI (gt_n g), nI ts.length, nI (ff_sz (.inner m e u' (.inner m2 e2 u2 p2 kk2) kk)), gt_k g, gt_p g, gt_a g, gt_c g, gt_t g, yt, yl, a_leadOp, a_follow, a_groupAt, a_groupOp, a_groupNext, a_rootOf, a_found, a_fromAt, a_toAt, a_work, a_mark, a_order) := by
        intro post hy
        unfold wpY_same
        refine yw_tc H hw hyl rfl (by omega) (br_t (nI_le (a := 2) h2 (by omega)) ?_)
        refine yw_start H t1 t2 s3 t4 (by omega) rfl (yw_start H t1' t2' s3' t4' (by omega) rfl ?_)
        rw [pk_sub (by omega), pk_sub (by omega), show ff_sz (.inner m e u' (.inner m2 e2 u2 p2 kk2) kk) - ff_sz (.inner m2 e2 u2 p2 kk2) = ff_sz (.inner m e () .leaf kk) by omega, show ff_sz (.inner m2 e2 u2 p2 kk2) - ff_sz p2 = ff_sz (.inner m2 e2 () .leaf kk2) by omega]
        exact hy
      refine nm_e (xw_size H t1 t2 t3 t4 (by omega) rfl ?_)
      have e3 : nI (ff_sz (.inner m e u' (.inner m2 e2 u2 p2 kk2) kk)) - 1 - nI (ff_sz (.inner m e () .leaf kk)) = nI (ff_sz (.inner m2 e2 u2 p2 kk2)) - 1 := by
        rw [t4, ← nI_add]
        generalize nI (ff_sz (.inner m2 e2 u2 p2 kk2)) = z
        generalize nI (ff_sz (.inner m e () .leaf kk)) = y
        grind
      refine nm_r e3 (xw_size H t1' t2' t3' t4' (by omega) rfl ?_)
      refine pk_eq (ff_sz (.inner m e () .leaf kk)) (ff_sz (.inner m2 e2 () .leaf kk2)) (fun he => ?_) (fun he => ?_)
      · -- equal sizes
        have hup : nI (ff_sz (.inner m e u' (.inner m2 e2 u2 p2 kk2) kk)) - 1 = nI (ff_sz (.inner m e u' (.inner m2 e2 u2 p2 kk2) kk) - 1) := pk_sub (b := 1) (by omega)
        have hlo : nI (ff_sz (.inner m2 e2 u2 p2 kk2)) - 1 = nI (ff_sz (.inner m2 e2 u2 p2 kk2) - 1) := pk_sub (b := 1) (by omega)
        have hpl : (ff_post (.inner m e u' (.inner m2 e2 u2 p2 kk2) kk)).length = ff_sz (.inner m e u' (.inner m2 e2 u2 p2 kk2) kk) := ff_post_len _
        have hxy : ∀ j, j < ff_sz (.inner m e u' (.inner m2 e2 u2 p2 kk2) kk) → xl j = yl j := by
          intro j hj
          have hj2 : j < (ff_post (.inner m e u' (.inner m2 e2 u2 p2 kk2) kk)).length := by rw [hpl]; exact hj
          have e1 := hxl j _ (List.getElem?_eq_getElem hj2)
          have e2 := hyl j _ (List.getElem?_eq_getElem hj2)
          rw [Nat.zero_add] at e1 e2
          rw [e1, e2]
        -- the two comparisons agree
        have hiff : (∀ i, i < ff_sz (.inner m e () .leaf kk) → xl (ff_sz (.inner m e u' (.inner m2 e2 u2 p2 kk2) kk) - 1 - i) = xl (ff_sz (.inner m2 e2 u2 p2 kk2) - 1 - i)) ↔ (∀ i, i < ff_sz (.inner m2 e2 u2 p2 kk2) - ff_sz p2 → yl (ff_sz p2 + i) = yl (ff_sz (.inner m2 e2 u2 p2 kk2) + i)) := by
          constructor
          · intro h i hi
            have h5 := h (ff_sz (.inner m e () .leaf kk) - 1 - i) (by omega)
            rw [hxy _ (by omega), hxy _ (by omega)] at h5
            rw [show ff_sz (.inner m e u' (.inner m2 e2 u2 p2 kk2) kk) - 1 - (ff_sz (.inner m e () .leaf kk) - 1 - i) = ff_sz (.inner m2 e2 u2 p2 kk2) + i by omega, show ff_sz (.inner m2 e2 u2 p2 kk2) - 1 - (ff_sz (.inner m e () .leaf kk) - 1 - i) = ff_sz p2 + i by omega] at h5
            exact h5.symm
          · intro h i hi
            have h5 := h (ff_sz (.inner m e () .leaf kk) - 1 - i) (by omega)
            rw [hxy _ (by omega), hxy _ (by omega)]
            rw [show ff_sz (.inner m2 e2 u2 p2 kk2) + (ff_sz (.inner m e () .leaf kk) - 1 - i) = ff_sz (.inner m e u' (.inner m2 e2 u2 p2 kk2) kk) - 1 - i by omega, show ff_sz p2 + (ff_sz (.inner m e () .leaf kk) - 1 - i) = ff_sz (.inner m2 e2 u2 p2 kk2) - 1 - i by omega] at h5
            exact h5.symm
        have fin : ∀ r : Int32, ((∀ i, i < ff_sz (.inner m2 e2 u2 p2 kk2) - ff_sz p2 → yl (ff_sz p2 + i) = yl (ff_sz (.inner m2 e2 u2 p2 kk2) + i)) → r = 1) → ((¬ ∀ i, i < ff_sz (.inner m2 e2 u2 p2 kk2) - ff_sz p2 → yl (ff_sz p2 + i) = yl (ff_sz (.inner m2 e2 u2 p2 kk2) + i)) → r = 0) → wpY_same (fun r' => r' = r ∧ i_Rel (k + 5) (nI opL, nI nodeL, nI levL, nI (gt_l g), nI (4 * nodeL), nI (gt_n g), nI ts.length, nI (ff_sz (.inner m e u' (.inner m2 e2 u2 p2 kk2) kk)), nI (ff_len (.inner m e u' (.inner m2 e2 u2 p2 kk2) kk)), f_depth, f_wanting, f_clashing, f_outLen, f_treeBase, f_treeNodes, f_workDepth, gt_k g, gt_p g, gt_a g, gt_c g, gt_t g, a_opener, a_joiner, a_inner, xt, xl, a_frameOp, a_frameNext, a_out, a_partner, a_openAt, a_treeOp, a_parent, a_slot, a_kid, a_wrapped, a_workNode, a_workStep) (nI opL, nI nodeL, nI levL, nI (gt_l g - 1), nI (gt_n g), nI ts.length, nI (ff_sz (.inner m e u' (.inner m2 e2 u2 p2 kk2) kk)), gt_k g, gt_p g, gt_a g, gt_c g, gt_t g, yt, yl, a_leadOp, a_follow, a_groupAt, a_groupOp, a_groupNext, a_rootOf, a_found, a_fromAt, a_toAt, a_work, a_mark, a_order)) (nI opL, nI nodeL, nI levL, nI (gt_l g - 1), nI (gt_n g), nI ts.length, nI (ff_sz (.inner m e u' (.inner m2 e2 u2 p2 kk2) kk)), gt_k g, gt_p g, gt_a g, gt_c g, gt_t g, yt, yl, a_leadOp, a_follow, a_groupAt, a_groupOp, a_groupNext, a_rootOf, a_found, a_fromAt, a_toAt, a_work, a_mark, a_order) := by
          intro r hr1 hr0
          refine toY (br_t (by rw [he]) ⟨ff_sz (.inner m2 e2 u2 p2 kk2) - ff_sz p2 + 1, ?_⟩)
          refine yw_same_l (a := ff_sz p2) (b := ff_sz (.inner m2 e2 u2 p2 kk2)) (by omega) (by omega) (by omega) (fun h => ⟨(hr1 h).symm, rl_in hR'⟩) (fun h => ⟨(hr0 h).symm, rl_in hR'⟩) (ff_sz (.inner m2 e2 u2 p2 kk2) - ff_sz p2) 0 _ (by omega) (by omega) (fun j hj => absurd hj (Nat.not_lt_zero _))
        rw [hup, hlo]
        refine ⟨ff_sz (.inner m e () .leaf kk) + 1, ?_⟩
        refine xw_same_l (up := ff_sz (.inner m e u' (.inner m2 e2 u2 p2 kk2) kk) - 1) (lo := ff_sz (.inner m2 e2 u2 p2 kk2) - 1) (s := ff_sz (.inner m e () .leaf kk)) (by omega) (by omega) (by omega) (by omega) ?_ ?_ (ff_sz (.inner m e () .leaf kk)) 0 _ (by omega) (by omega) (fun j hj => absurd hj (Nat.not_lt_zero _))
        · intro h
          exact fin 1 (fun _ => rfl) (fun z => absurd (hiff.mp h) z)
        · intro h
          exact fin 0 (fun z => absurd (hiff.mpr z) h) (fun _ => rfl)
      · exact toY (br_f (fun z => he ((nI_eq (by omega) (by omega)).mp z)) ⟨rfl, rl_in hR'⟩)
end
section
/-! reading a text onto the stack, comparing it -/
theorem mt_aO_eq {f : Nat → Int32} {A B : List Int32} (hA : mt_aO f A) (hl : A.length = B.length) : (∀ i (h : i < B.length), f i = B[i]) ↔ A = B := by
  constructor
  · intro h
    apply List.ext_getElem hl
    intro i h1 h2
    rw [← mt_aO_at hA h1]
    exact h i h2
  · intro h i hi
    subst h
    exact mt_aO_at hA hi
section
variable {g : gt_T} {n : Nat} {post2 : Int32 → SX → Prop} {post1 : Int32 → Prop}
variable {f_opLimit f_nodeLimit f_levelLimit f_textLimit f_nodeTotal f_treeTotal f_depth f_wanting f_clashing f_outLen f_treeBase f_treeNodes f_workDepth : Int32} {a_opener a_joiner a_inner a_text a_nodeList a_frameOp a_frameNext a_out a_partner a_openAt a_treeOp a_parent a_slot a_kid a_wrapped a_workNode a_workStep : Nat → Int32}
theorem xw_read (H : gt_ok g) (hx : xo_ok g a_opener a_joiner a_inner) (hn : n ≤ 128) {ts : List Int32} (hts : ts.length = n) (htx : mt_aO a_text ts) (htok : ∀ t, t ∈ ts → ∃ k, k ≤ gt_l g ∧ t = nI k)
    (hp1 : (mt_sc g ts 0 mt_0).1 ≠ -1 → ∀ (d w c o : Int32) (fp fx ou : Nat → Int32), post2 (-6) (f_opLimit, f_nodeLimit, f_levelLimit, nI (gt_l g), f_textLimit, nI (gt_n g), nI n, f_nodeTotal, f_treeTotal, d, w, c, o, f_treeBase, f_treeNodes, f_workDepth, gt_k g, gt_p g, gt_a g, gt_c g, gt_t g, a_opener, a_joiner, a_inner, a_text, a_nodeList, fp, fx, ou, a_partner, a_openAt, a_treeOp, a_parent, a_slot, a_kid, a_wrapped, a_workNode, a_workStep))
    (hp2 : ∀ T, mt_sc g ts 0 mt_0 = (-1, [], T, false) → ∀ (fp fx ou : Nat → Int32), mt_aO ou (ff_post T) → post2 0 (f_opLimit, f_nodeLimit, f_levelLimit, nI (gt_l g), f_textLimit, nI (gt_n g), nI n, f_nodeTotal, f_treeTotal, 0, 0, 0, nI (ff_post T).length, f_treeBase, f_treeNodes, f_workDepth, gt_k g, gt_p g, gt_a g, gt_c g, gt_t g, a_opener, a_joiner, a_inner, a_text, a_nodeList, fp, fx, ou, a_partner, a_openAt, a_treeOp, a_parent, a_slot, a_kid, a_wrapped, a_workNode, a_workStep))
    (hp3 : ∀ T, mt_sc g ts 0 mt_0 = (-1, [], T, true) → ∀ (o : Int32) (fp fx ou : Nat → Int32), post2 (-7) (f_opLimit, f_nodeLimit, f_levelLimit, nI (gt_l g), f_textLimit, nI (gt_n g), nI n, f_nodeTotal, f_treeTotal, 0, 0, 1, o, f_treeBase, f_treeNodes, f_workDepth, gt_k g, gt_p g, gt_a g, gt_c g, gt_t g, a_opener, a_joiner, a_inner, a_text, a_nodeList, fp, fx, ou, a_partner, a_openAt, a_treeOp, a_parent, a_slot, a_kid, a_wrapped, a_workNode, a_workStep)) :
    wpX_readText post2 (f_opLimit, f_nodeLimit, f_levelLimit, nI (gt_l g), f_textLimit, nI (gt_n g), nI n, f_nodeTotal, f_treeTotal, f_depth, f_wanting, f_clashing, f_outLen, f_treeBase, f_treeNodes, f_workDepth, gt_k g, gt_p g, gt_a g, gt_c g, gt_t g, a_opener, a_joiner, a_inner, a_text, a_nodeList, a_frameOp, a_frameNext, a_out, a_partner, a_openAt, a_treeOp, a_parent, a_slot, a_kid, a_wrapped, a_workNode, a_workStep) := by
  unfold wpX_readText
  refine xw_scan (ts := ts) H hx hn hts htx htok ?_ ?_
  · intro hne d w c o fp fx ou
    rcases mt_sc_ge (g := g) ts 0 mt_0 with h | ⟨j, hj, h⟩
    · exact absurd h hne
    · rw [h]
      exact br_f (nI_pos (by omega)) (hp1 hne d w c o fp fx ou)
  · intro T cl e fp fx ou hou
    refine br_t (by decide) ?_
    cases cl with
    | false => exact br_t rfl (hp2 T e fp fx ou hou)
    | true => exact br_f (by decide) (hp3 T e _ fp fx ou)
theorem xw_parse_l {F T F' : ff_F} (hF' : ff_post F' = ff_post F ++ ff_post T) (hle : ff_sz F + (ff_post T).length ≤ 32) (ho : mt_aO a_out (ff_post T)) {tr : Nat} (hp : ∀ nl : Nat → Int32, mt_aO nl (ff_post F') → post2 (nI (ff_post T).length) (f_opLimit, f_nodeLimit, f_levelLimit, nI (gt_l g), f_textLimit, nI (gt_n g), nI n, nI (ff_sz F + (ff_post T).length), nI (tr + 1), f_depth, f_wanting, f_clashing, nI (ff_post T).length, f_treeBase, f_treeNodes, f_workDepth, gt_k g, gt_p g, gt_a g, gt_c g, gt_t g, a_opener, a_joiner, a_inner, a_text, nl, a_frameOp, a_frameNext, a_out, a_partner, a_openAt, a_treeOp, a_parent, a_slot, a_kid, a_wrapped, a_workNode, a_workStep)) :
    ∀ (d i N : Nat) (nl : Nat → Int32), i + d = (ff_post T).length → d < N → mt_aO nl (ff_post F ++ (ff_post T).take i) → wX_parse_32 post2 f_opLimit f_nodeLimit f_levelLimit (nI (gt_l g)) f_textLimit (nI (gt_n g)) (nI n) (nI (ff_sz F)) (nI tr) f_depth f_wanting f_clashing (nI (ff_post T).length) f_treeBase f_treeNodes f_workDepth N (nI i) (gt_k g) (gt_p g) (gt_a g) (gt_c g) (gt_t g) a_opener a_joiner a_inner a_text nl a_frameOp a_frameNext a_out a_partner a_openAt a_treeOp a_parent a_slot a_kid a_wrapped a_workNode a_workStep := by
  intro d
  induction d with
  | zero =>
    intro i N nl hi hN hnl
    obtain ⟨N, rfl⟩ : ∃ N', N = N' + 1 := ⟨N - 1, by omega⟩
    rw [wX_parse_32]
    have ei : i = (ff_post T).length := hi
    rw [ei, List.take_length, ← hF'] at hnl
    exact br_t (nI_le (by omega) (by omega)) (nm_r (nI_add _ _) (nm_r (nI_1 _) (hp nl hnl)))
  | succ d ih =>
    intro i N nl hi hN hnl
    obtain ⟨N, rfl⟩ : ∃ N', N = N' + 1 := ⟨N - 1, by omega⟩
    have hil : i < (ff_post T).length := by omega
    rw [wX_parse_32]
    refine br_f (nI_ge (by omega) (by omega)) ⟨vp_in_nI (by omega) (by decide), ?_⟩
    rw [nI_add, nI_clamp (by omega), nI_clamp (n := i) (by omega), mt_aO_at ho hil]
    refine ⟨vp_in_nI (by omega) (by decide), nm_e (nm_r (nI_1 i) (ih (i + 1) N _ (by omega) (by omega) ?_))⟩
    have h5 := mt_aO_snoc (x := (ff_post T)[i]) hnl
    rw [List.length_append, List.length_take, ff_post_len F, Nat.min_eq_left (Nat.le_of_lt hil), List.append_assoc, List.take_append_getElem hil] at h5
    exact h5
theorem xw_cmp_l {A B : List Int32} {b : Nat} (hb : b + B.length ≤ 32) (hnl : ∀ i (h : i < B.length), a_nodeList (b + i) = B[i]) (ho : mt_aO a_out A) (hl : A.length = B.length) (hT : A = B → post2 1 (f_opLimit, f_nodeLimit, f_levelLimit, nI (gt_l g), f_textLimit, nI (gt_n g), nI n, f_nodeTotal, f_treeTotal, f_depth, f_wanting, f_clashing, f_outLen, f_treeBase, f_treeNodes, f_workDepth, gt_k g, gt_p g, gt_a g, gt_c g, gt_t g, a_opener, a_joiner, a_inner, a_text, a_nodeList, a_frameOp, a_frameNext, a_out, a_partner, a_openAt, a_treeOp, a_parent, a_slot, a_kid, a_wrapped, a_workNode, a_workStep)) (hF : A ≠ B → post2 0 (f_opLimit, f_nodeLimit, f_levelLimit, nI (gt_l g), f_textLimit, nI (gt_n g), nI n, f_nodeTotal, f_treeTotal, f_depth, f_wanting, f_clashing, f_outLen, f_treeBase, f_treeNodes, f_workDepth, gt_k g, gt_p g, gt_a g, gt_c g, gt_t g, a_opener, a_joiner, a_inner, a_text, a_nodeList, a_frameOp, a_frameNext, a_out, a_partner, a_openAt, a_treeOp, a_parent, a_slot, a_kid, a_wrapped, a_workNode, a_workStep)) :
    ∀ (d i N : Nat), i + d = B.length → d < N → (∀ j (h : j < B.length), j < i → a_out j = B[j]) → wX_compare_52 post2 (nI B.length) (nI b) f_opLimit f_nodeLimit f_levelLimit (nI (gt_l g)) f_textLimit (nI (gt_n g)) (nI n) f_nodeTotal f_treeTotal f_depth f_wanting f_clashing f_outLen f_treeBase f_treeNodes f_workDepth (gt_k g) (gt_p g) (gt_a g) (gt_c g) (gt_t g) a_opener a_joiner a_inner a_text a_nodeList a_frameOp a_frameNext a_out a_partner a_openAt a_treeOp a_parent a_slot a_kid a_wrapped a_workNode a_workStep N (nI i) := by
  intro d
  induction d with
  | zero =>
    intro i N hi hN hall
    obtain ⟨N, rfl⟩ : ∃ N', N = N' + 1 := ⟨N - 1, by omega⟩
    rw [wX_compare_52]
    exact br_t (nI_le (by omega) (by omega)) (hT ((mt_aO_eq ho hl).mp (fun j hj => hall j hj (by omega))))
  | succ d ih =>
    intro i N hi hN hall
    obtain ⟨N, rfl⟩ : ∃ N', N = N' + 1 := ⟨N - 1, by omega⟩
    have hil : i < B.length := by omega
    rw [wX_compare_52]
    refine br_f (nI_ge hil (by omega)) ?_
    rw [nI_add, nI_clamp (by omega), nI_clamp (n := i) (by omega), hnl i hil]
    refine ⟨vp_in_nI (by omega) (by decide), vp_in_nI (by omega) (by decide), br_c (fun h => nm_r (nI_1 i) (ih (i + 1) N (by omega) (by omega) ?_)) (fun h => hF ?_)⟩
    · intro j hj hji
      by_cases e : j = i
      · subst e; exact h.symm
      · exact hall j hj (by omega)
    · intro z
      exact h ((mt_aO_eq ho hl).mpr z i hil).symm
end
section
variable {g : gt_T} {n : Nat} {post2 : Int32 → SY → Prop} {post1 : Int32 → Prop}
variable {f_maxOps f_maxNodes f_maxLevels f_maxNames f_listLen : Int32} {a_text a_list a_leadOp a_follow a_groupAt a_groupOp a_groupNext a_rootOf a_found a_fromAt a_toAt a_work a_mark a_order : Nat → Int32}
theorem yw_parse_l {F T F' : ff_F} (hF' : ff_post F' = ff_post F ++ ff_post T) (hle : ff_sz F + ff_sz T ≤ 32) (ho : mt_aO a_found (ff_post T).reverse) (hp : ∀ nl : Nat → Int32, mt_aO nl (ff_post F') → post2 (nI (ff_sz T)) (f_maxOps, f_maxNodes, f_maxLevels, f_maxNames, nI (gt_n g), nI n, nI (ff_sz F + ff_sz T), gt_k g, gt_p g, gt_a g, gt_c g, gt_t g, a_text, nl, a_leadOp, a_follow, a_groupAt, a_groupOp, a_groupNext, a_rootOf, a_found, a_fromAt, a_toAt, a_work, a_mark, a_order)) :
    ∀ (d i N : Nat) (nl : Nat → Int32), i + d = ff_sz T → d < N → mt_aO nl (ff_post F ++ (ff_post T).take i) → wY_parse_29 post2 (nI (ff_sz T)) f_maxOps f_maxNodes f_maxLevels f_maxNames (nI (gt_n g)) (nI n) (nI (ff_sz F)) N (nI i) (gt_k g) (gt_p g) (gt_a g) (gt_c g) (gt_t g) a_text nl a_leadOp a_follow a_groupAt a_groupOp a_groupNext a_rootOf a_found a_fromAt a_toAt a_work a_mark a_order := by
  have hpl := ff_post_len T
  intro d
  induction d with
  | zero =>
    intro i N nl hi hN hnl
    obtain ⟨N, rfl⟩ : ∃ N', N = N' + 1 := ⟨N - 1, by omega⟩
    rw [wY_parse_29]
    have ei : i = (ff_post T).length := by rw [hpl]; exact hi
    rw [ei, List.take_length, ← hF'] at hnl
    exact br_t (nI_le (by omega) (by omega)) (nm_r (nI_add _ _) (hp nl hnl))
  | succ d ih =>
    intro i N nl hi hN hnl
    obtain ⟨N, rfl⟩ : ∃ N', N = N' + 1 := ⟨N - 1, by omega⟩
    have hil : i < (ff_post T).length := by omega
    have e1 : nI (ff_sz T) - 1 - nI i = nI (ff_sz T - 1 - i) := by
      rw [show nI (ff_sz T) - 1 = nI (ff_sz T - 1) from pk_sub (b := 1) (by omega), pk_sub (by omega)]
    have hfd : a_found (ff_sz T - 1 - i) = (ff_post T)[i] := by
      have h1 : ff_sz T - 1 - i < (ff_post T).reverse.length := by rw [List.length_reverse]; omega
      rw [mt_aO_at ho h1, List.getElem_reverse]
      congr 1
      omega
    rw [wY_parse_29]
    refine br_f (nI_ge (by omega) (by omega)) ?_
    rw [e1, nI_add, nI_clamp (n := ff_sz F + i) (by omega), nI_clamp (n := ff_sz T - 1 - i) (by omega), hfd]
    refine ⟨vp_in_nI (by omega) (by decide), vp_in_nI (by omega) (by decide), nm_e (nm_r (nI_1 i) (ih (i + 1) N _ (by omega) (by omega) ?_))⟩
    have h5 := mt_aO_snoc (x := (ff_post T)[i]) hnl
    rw [List.length_append, List.length_take, ff_post_len F, Nat.min_eq_left (Nat.le_of_lt hil), List.append_assoc, List.take_append_getElem hil] at h5
    exact h5
theorem yw_isTop_l {A B : List Int32} {e : Nat} (he : e ≤ 32) (hBe : B.length ≤ e) (hnl : ∀ i (h : i < B.length), a_list (e - 1 - i) = B[i]) (ho : mt_aO a_found A) (hl : A.length = B.length) (hT : A = B → post1 1) (hF : A ≠ B → post1 0) :
    ∀ (d i N : Nat), i + d = B.length → d < N → (∀ j (h : j < B.length), j < i → a_found j = B[j]) → wY_isTop_23 post1 (nI B.length) f_maxOps f_maxNodes f_maxLevels f_maxNames (nI (gt_n g)) (nI n) (nI e) (gt_k g) (gt_p g) (gt_a g) (gt_c g) (gt_t g) a_text a_list a_leadOp a_follow a_groupAt a_groupOp a_groupNext a_rootOf a_found a_fromAt a_toAt a_work a_mark a_order N (nI i) := by
  intro d
  induction d with
  | zero =>
    intro i N hi hN hall
    obtain ⟨N, rfl⟩ : ∃ N', N = N' + 1 := ⟨N - 1, by omega⟩
    rw [wY_isTop_23]
    exact br_t (nI_le (by omega) (by omega)) (hT ((mt_aO_eq ho hl).mp (fun j hj => hall j hj (by omega))))
  | succ d ih =>
    intro i N hi hN hall
    obtain ⟨N, rfl⟩ : ∃ N', N = N' + 1 := ⟨N - 1, by omega⟩
    have hil : i < B.length := by omega
    rw [wY_isTop_23]
    refine br_f (nI_ge hil (by omega)) ?_
    have e1 : nI e - 1 - nI i = nI (e - 1 - i) := by
      rw [show nI e - 1 = nI (e - 1) from pk_sub (b := 1) (by omega), pk_sub (by omega)]
    rw [e1, nI_clamp (by omega), nI_clamp (n := i) (by omega), hnl i hil]
    refine ⟨vp_in_nI (by omega) (by decide), vp_in_nI (by omega) (by decide), br_c (fun h => nm_r (nI_1 i) (ih (i + 1) N (by omega) (by omega) ?_)) (fun h => hF ?_)⟩
    · intro j hj hji
      by_cases ej : j = i
      · subst ej; exact h.symm
      · exact hall j hj (by omega)
    · intro z
      exact h ((mt_aO_eq ho hl).mpr z i hil).symm
/-- the tree found against the newest one T0, which ends ahead of place b -/
theorem yw_isTop (H : gt_ok g) {T0 : ff_F} {a b : Nat} (h1 : ff_len T0 = 1) (hw : ff_wf g T0) (hat : ff_at a_list a T0) (hb : b = a + ff_sz T0) (hle : b ≤ 32) {A : List Int32} (hA : A.length ≤ 128) (ho : mt_aO a_found A) (hT : A = (ff_post T0).reverse → post1 1) (hF : A ≠ (ff_post T0).reverse → post1 0) : wpY_isTop post1 (f_maxOps, f_maxNodes, f_maxLevels, f_maxNames, nI (gt_n g), nI n, nI b, gt_k g, gt_p g, gt_a g, gt_c g, gt_t g, a_text, a_list, a_leadOp, a_follow, a_groupAt, a_groupOp, a_groupNext, a_rootOf, a_found, a_fromAt, a_toAt, a_work, a_mark, a_order) (nI A.length) := by
  have hsz := ff_C_sz H hw h1
  have hpl := ff_post_len T0
  unfold wpY_isTop
  refine yw_start H h1 hw hat hb hle rfl ?_
  by_cases hl : A.length = ff_sz T0
  · refine br_t (by rw [pk_sub (by omega), hl, hb, Nat.add_sub_cancel]) ?_
    have hl2 : A.length = (ff_post T0).reverse.length := by rw [List.length_reverse, hpl]; exact hl
    rw [hl2]
    refine ⟨(ff_post T0).reverse.length + 1, yw_isTop_l hle (by omega) ?_ ho hl2 hT hF (ff_post T0).reverse.length 0 _ (by omega) (by omega) (fun j _ hj => absurd hj (Nat.not_lt_zero _))⟩
    intro i hi
    have hi2 : i < ff_sz T0 := by rw [List.length_reverse, hpl] at hi; exact hi
    have h5 : ff_sz T0 - 1 - i < (ff_post T0).length := by omega
    have h6 := hat (ff_sz T0 - 1 - i) _ (List.getElem?_eq_getElem h5)
    rw [show a + (ff_sz T0 - 1 - i) = b - 1 - i by omega] at h6
    rw [h6, List.getElem_reverse]
    congr 1
    omega
  · refine br_f ?_ (hF (fun z => hl (by rw [z, List.length_reverse, hpl])))
    intro z
    have h5 : (nI b - nI A.length).toInt = (nI a).toInt := by rw [z]
    rw [pk_sub_toInt (by omega) (by omega), nI_toInt (by omega)] at h5
    omega
theorem yw_isTop_n (H : gt_ok g) {T0 : ff_F} {a b : Nat} (h1 : ff_len T0 = 1) (hw : ff_wf g T0) (hat : ff_at a_list a T0) (hb : b = a + ff_sz T0) (hle : b ≤ 32) {x : Int32} (hx : x = -6 ∨ x = -7) (hF : post1 0) : wpY_isTop post1 (f_maxOps, f_maxNodes, f_maxLevels, f_maxNames, nI (gt_n g), nI n, nI b, gt_k g, gt_p g, gt_a g, gt_c g, gt_t g, a_text, a_list, a_leadOp, a_follow, a_groupAt, a_groupOp, a_groupNext, a_rootOf, a_found, a_fromAt, a_toAt, a_work, a_mark, a_order) x := by
  unfold wpY_isTop
  refine yw_start H h1 hw hat hb hle rfl (br_f ?_ hF)
  rcases hx with e | e
  · subst e
    rw [show nI b - (-6) = nI (b + 6) by rw [← nI_add]; generalize nI b = z; rw [show nI 6 = 6 from rfl]; grind]
    intro z
    have := (nI_eq (by omega) (by omega)).mp z
    omega
  · subst e
    rw [show nI b - (-7) = nI (b + 7) by rw [← nI_add]; generalize nI b = z; rw [show nI 7 = 7 from rfl]; grind]
    intro z
    have := (nI_eq (by omega) (by omega)).mp z
    omega
end
theorem i_vc_parse {k : Nat} {u : SX} {v : SY} (I : i_Rel k u v) (hk : k + 5 ≤ 2564) : wpX_parse (fun r u' => wpY_parse (fun r' v' => r' = r ∧ i_Rel (k + 5) u' v') v) u := by
  refine rl_el (P := fun u v => wpX_parse (fun r u' => wpY_parse (fun r' v' => r' = r ∧ i_Rel (k + 5) u' v') v) u) I ?_
  intro g opL nodeL levL ts F f_depth f_wanting f_clashing f_outLen f_treeBase f_treeNodes f_workDepth a_opener a_joiner a_inner xt xl a_frameOp a_frameNext a_out a_partner a_openAt a_treeOp a_parent a_slot a_kid a_wrapped a_workNode a_workStep yt yl a_leadOp a_follow a_groupAt a_groupOp a_groupNext a_rootOf a_found a_fromAt a_toAt a_work a_mark a_order hR
  have hR' := hR
  obtain ⟨H, hl, ho, hn, hlv, hx, hts, hxt, hyt, htk, hw, hsz, hxl, hyl⟩ := hR
  have hg1 := gl_1 hl
  unfold wpX_parse
  refine xw_read (ts := ts) H hx (by omega) rfl hxt htk ?_ ?_ ?_
  · intro hne d w c o fp fx ou
    refine br_f (by decide) ?_
    unfold wpY_parse
    refine yw_read (ts := ts) H hg1 (by omega) rfl hyt ?_ ?_ ?_
    · intro _ ld fo ga go gn
      exact br_f (by decide) ⟨rfl, rl_in hR'⟩
    · intro T e
      rw [e] at hne
      exact absurd rfl hne
    · intro T e
      rw [e] at hne
      exact absurd rfl hne
  · intro T eT fp fx ou hou
    have hpl := ff_post_len T
    have toY : ∀ {post2 : Int32 → SY → Prop}, (ff_wf g T → ff_len T = 1 → ff_sz T ≤ 128 → ∀ ld fo ga go gn R fd fa ta : Nat → Int32, mt_aO fd (ff_post T).reverse → ((nI (ff_sz F) + nI (ff_sz T) ≤ nI nodeL → ∃ n29, wY_parse_29 post2 (nI (ff_sz T)) (nI opL) (nI nodeL) (nI levL) (nI (gt_l g - 1)) (nI (gt_n g)) (nI ts.length) (nI (ff_sz F)) n29 0 (gt_k g) (gt_p g) (gt_a g) (gt_c g) (gt_t g) yt yl ld fo ga go gn R fd fa ta a_work a_mark a_order) ∧ (¬ nI (ff_sz F) + nI (ff_sz T) ≤ nI nodeL → post2 (-2) (nI opL, nI nodeL, nI levL, nI (gt_l g - 1), nI (gt_n g), nI ts.length, nI (ff_sz F), gt_k g, gt_p g, gt_a g, gt_c g, gt_t g, yt, yl, ld, fo, ga, go, gn, R, fd, fa, ta, a_work, a_mark, a_order)))) → wpY_parse post2 (nI opL, nI nodeL, nI levL, nI (gt_l g - 1), nI (gt_n g), nI ts.length, nI (ff_sz F), gt_k g, gt_p g, gt_a g, gt_c g, gt_t g, yt, yl, a_leadOp, a_follow, a_groupAt, a_groupOp, a_groupNext, a_rootOf, a_found, a_fromAt, a_toAt, a_work, a_mark, a_order) := by
      intro post2 hy
      unfold wpY_parse
      refine yw_read (ts := ts) H hg1 (by omega) rfl hyt ?_ ?_ ?_
      · intro hne
        rw [eT] at hne
        exact absurd rfl hne
      · intro T' e' w1 w2 w3 w4 ld fo ga go gn R fd fa ta hfd
        rw [eT] at e'
        injection e' with _ e'
        injection e' with _ e'
        injection e' with e' _
        subst e'
        have hC := (ff_C_sz H w1 w2).1
        have h5 := congrArg List.length w4
        rw [List.length_map] at h5
        exact br_t (nI_pos' (by omega)) (hy w1 w2 (by omega) ld fo ga go gn R fd fa ta hfd)
      · intro T' e'
        rw [eT] at e'
        injection e' with _ e'
        injection e' with _ e'
        injection e' with _ e'
        cases e'
    have hT128 : (ff_post T).length ≤ 128 := by
      have h1 : (mt_sc g ts 0 mt_0).1 = -1 := by rw [eT]
      obtain ⟨c, cl, e1, e2, e3, e4, e5⟩ := mt_sc_ok H ts 0 mt_0 (by omega) (mt_0w g) (mt_0v g) h1
      rw [eT] at e1
      injection e1 with _ e1
      injection e1 with e1 _
      subst e1
      have hC := (ff_C_sz H e2 e3).1
      have h5 := congrArg List.length e5
      rw [List.length_map] at h5
      have h6 : (ff_C g T).length = ts.length := h5
      omega
    refine br_t (by decide) ?_
    rw [nI_add]
    refine pk_le (ff_sz F + (ff_post T).length) nodeL (fun h => ?_) (fun h => ?_)
    · refine ⟨(ff_post T).length + 1, ?_⟩
      have hF' : ∀ c : ff_F, ff_len c = 1 → ff_post (ff_sn F c) = ff_post F ++ ff_post c := fun c hc => ff_sn_post hc
      -- the tree is one tree
      have h1 : (mt_sc g ts 0 mt_0).1 = -1 := by rw [eT]
      obtain ⟨c, cl, e1, e2, e3, e4, e5⟩ := mt_sc_ok H ts 0 mt_0 (by omega) (mt_0w g) (mt_0v g) h1
      rw [eT] at e1
      injection e1 with _ e1
      injection e1 with e1 _
      subst e1
      refine xw_parse_l (F := F) (T := T) (F' := ff_sn F T) (hF' T e3) (by omega) hou ?_ (ff_post T).length 0 _ xl (by omega) (by omega) (by rw [List.take_zero, List.append_nil]; exact ff_at_list.mp hxl)
      intro nl hnl
      refine toY ?_
      intro w1 w2 w3 ld fo ga go gn R fd fa ta hfd
      rw [nI_add]
      refine br_t (nI_le (by omega) (by omega)) ⟨ff_sz T + 1, ?_⟩
      refine yw_parse_l (F := F) (T := T) (F' := ff_sn F T) (hF' T e3) (by omega) hfd ?_ (ff_sz T) 0 _ yl (by omega) (by omega) (by rw [List.take_zero, List.append_nil]; exact ff_at_list.mp hyl)
      intro nl2 hnl2
      refine ⟨by rw [hpl], ?_⟩
      have hs : ff_sz (ff_sn F T) = ff_sz F + ff_sz T := by
        rw [← ff_post_len, hF' T e3, List.length_append, ff_post_len, ff_post_len]
      have hln : ff_len (ff_sn F T) = ff_len F + 1 := ff_sn_len (ff_1nlf e3)
      rw [hpl, ← hs, ← hln]
      exact rl_in (F := ff_sn F T) ⟨H, hl, ho, hn, hlv, hx, hts, hxt, hyt, htk, ff_sn_wf hw e2, by omega, ff_at_list.mpr hnl, ff_at_list.mpr hnl2⟩
    · refine toY ?_
      intro w1 w2 w3 ld fo ga go gn R fd fa ta hfd
      rw [nI_add]
      exact br_f (nI_ge (by omega) (by omega)) ⟨rfl, rl_in hR'⟩
  · intro T eT o fp fx ou
    refine br_f (by decide) ?_
    unfold wpY_parse
    refine yw_read (ts := ts) H hg1 (by omega) rfl hyt ?_ ?_ ?_
    · intro hne
      rw [eT] at hne
      exact absurd rfl hne
    · intro T' e'
      rw [eT] at e'
      injection e' with _ e'
      injection e' with _ e'
      injection e' with _ e'
      cases e'
    · intro T' e' ld fo ga go gn R
      exact br_f (by decide) ⟨rfl, rl_in hR'⟩
theorem i_vc_compare {k : Nat} {u : SX} {v : SY} (I : i_Rel k u v) (hk : k + 5 ≤ 2564) : wpX_compare (fun r u' => wpY_compare (fun r' v' => r' = r ∧ i_Rel (k + 5) u' v') v) u := by
  refine rl_el (P := fun u v => wpX_compare (fun r u' => wpY_compare (fun r' v' => r' = r ∧ i_Rel (k + 5) u' v') v) u) I ?_
  intro g opL nodeL levL ts F f_depth f_wanting f_clashing f_outLen f_treeBase f_treeNodes f_workDepth a_opener a_joiner a_inner xt xl a_frameOp a_frameNext a_out a_partner a_openAt a_treeOp a_parent a_slot a_kid a_wrapped a_workNode a_workStep yt yl a_leadOp a_follow a_groupAt a_groupOp a_groupNext a_rootOf a_found a_fromAt a_toAt a_work a_mark a_order hR
  have hR' := hR
  obtain ⟨H, hl, ho, hn, hlv, hx, hts, hxt, hyt, htk, hw, hsz, hxl, hyl⟩ := hR
  have hg1 := gl_1 hl
  have hlp := ff_len_sz F
  unfold wpX_compare
  cases F with
  | leaf => exact br_t rfl (br_t rfl ⟨rfl, rl_in hR'⟩)
  | inner m e u' p kk =>
    obtain ⟨t1, t2, t3, t4⟩ := ff_top hw hxl
    obtain ⟨_, _, s3, _⟩ := ff_top hw hyl
    have h1 : ff_len (.inner m e u' p kk) = ff_len p + 1 := rfl
    have hsT := ff_post_len (.inner m e () .leaf kk)
    refine br_f (nI_ne0 (by omega) (by omega)) (xw_read (ts := ts) H hx (by omega) rfl hxt htk ?_ ?_ ?_)
    · intro hne d w c o fp fx ou
      refine br_f (by decide) ?_
      unfold wpY_compare
      refine br_f (nI_ne0 (by omega) (by omega)) (yw_read (ts := ts) H hg1 (by omega) rfl hyt ?_ ?_ ?_)
      · intro _ ld fo ga go gn
        exact br_f (by decide) ⟨rfl, rl_in hR'⟩
      · intro T e
        rw [e] at hne
        exact absurd rfl hne
      · intro T e
        rw [e] at hne
        exact absurd rfl hne
    · intro T eT fp fx ou hou
      have hpl := ff_post_len T
      refine br_t (by decide) (xw_size H t1 t2 t3 t4 (by omega) rfl ?_)
      have toY : ∀ {post2 : Int32 → SY → Prop}, (∀ ld fo ga go gn R fd fa ta : Nat → Int32, (ff_post T = ff_post (.inner m e () .leaf kk) → post2 1 (nI opL, nI nodeL, nI levL, nI (gt_l g - 1), nI (gt_n g), nI ts.length, nI (ff_sz (.inner m e u' p kk)), gt_k g, gt_p g, gt_a g, gt_c g, gt_t g, yt, yl, ld, fo, ga, go, gn, R, fd, fa, ta, a_work, a_mark, a_order)) ∧ (ff_post T ≠ ff_post (.inner m e () .leaf kk) → post2 0 (nI opL, nI nodeL, nI levL, nI (gt_l g - 1), nI (gt_n g), nI ts.length, nI (ff_sz (.inner m e u' p kk)), gt_k g, gt_p g, gt_a g, gt_c g, gt_t g, yt, yl, ld, fo, ga, go, gn, R, fd, fa, ta, a_work, a_mark, a_order))) → wpY_compare post2 (nI opL, nI nodeL, nI levL, nI (gt_l g - 1), nI (gt_n g), nI ts.length, nI (ff_sz (.inner m e u' p kk)), gt_k g, gt_p g, gt_a g, gt_c g, gt_t g, yt, yl, a_leadOp, a_follow, a_groupAt, a_groupOp, a_groupNext, a_rootOf, a_found, a_fromAt, a_toAt, a_work, a_mark, a_order) := by
        intro post2 hy
        unfold wpY_compare
        refine br_f (nI_ne0 (by omega) (by omega)) (yw_read (ts := ts) H hg1 (by omega) rfl hyt ?_ ?_ ?_)
        · intro hne
          rw [eT] at hne
          exact absurd rfl hne
        · intro T' e' w1 w2 w3 w4 ld fo ga go gn R fd fa ta hfd
          rw [eT] at e'
          injection e' with _ e'
          injection e' with _ e'
          injection e' with e' _
          subst e'
          have hC := (ff_C_sz H w1 w2).1
          have h5 := congrArg List.length w4
          rw [List.length_map] at h5
          have hlr : ff_sz T = (ff_post T).reverse.length := by rw [List.length_reverse, hpl]
          refine br_t (nI_pos' (by omega)) ?_
          rw [hlr]
          refine yw_isTop H t1 t2 s3 t4 (by omega) (by omega) hfd ?_ ?_
          · intro he
            exact br_f (by decide) ((hy ld fo ga go gn R fd fa ta).1 (List.reverse_inj.mp he))
          · intro he
            exact br_t rfl ((hy ld fo ga go gn R fd fa ta).2 (fun z => he (by rw [z])))
        · intro T' e'
          rw [eT] at e'
          injection e' with _ e'
          injection e' with _ e'
          injection e' with _ e'
          cases e'
      refine br_c (fun hsz2 => ?_) (fun hsz2 => ?_)
      · have hT128 : (ff_post T).length ≤ 128 := by
          have h1 : (mt_sc g ts 0 mt_0).1 = -1 := by rw [eT]
          obtain ⟨c, cl, e1, e2, e3, e4, e5⟩ := mt_sc_ok H ts 0 mt_0 (by omega) (mt_0w g) (mt_0v g) h1
          rw [eT] at e1
          injection e1 with _ e1
          injection e1 with e1 _
          subst e1
          have hC := (ff_C_sz H e2 e3).1
          have h5 := congrArg List.length e5
          rw [List.length_map] at h5
          have h6 : (ff_C g T).length = ts.length := h5
          omega
        have hse : ff_sz (.inner m e () .leaf kk) = (ff_post T).length := (nI_eq (by omega) (by omega)).mp hsz2
        have hse2 : (ff_post T).length = (ff_post (.inner m e () .leaf kk)).length := by rw [hsT]; exact hse.symm
        refine nm_r (e' := nI (ff_sz p)) (by rw [pk_sub (by omega), t4, Nat.add_sub_cancel]) ⟨(ff_post (.inner m e () .leaf kk)).length + 1, ?_⟩
        rw [← hsT]
        refine xw_cmp_l (A := ff_post T) (B := ff_post (.inner m e () .leaf kk)) (b := ff_sz p) (by omega) ?_ hou hse2 ?_ ?_ (ff_post (.inner m e () .leaf kk)).length 0 _ (by omega) (by omega) (fun j _ hj => absurd hj (Nat.not_lt_zero _))
        · intro i hi
          exact t3 i _ (List.getElem?_eq_getElem hi)
        · intro he
          refine toY (fun ld fo ga go gn R fd fa ta => ⟨fun _ => ⟨rfl, rl_in hR'⟩, fun z => absurd he z⟩)
        · intro he
          refine toY (fun ld fo ga go gn R fd fa ta => ⟨fun z => absurd z he, fun _ => ⟨rfl, rl_in hR'⟩⟩)
      · refine toY (fun ld fo ga go gn R fd fa ta => ⟨fun z => ?_, fun _ => ⟨rfl, rl_in hR'⟩⟩)
        exfalso
        apply hsz2
        rw [z, hsT]
    · intro T eT o fp fx ou
      refine br_f (by decide) ?_
      unfold wpY_compare
      refine br_f (nI_ne0 (by omega) (by omega)) (yw_read (ts := ts) H hg1 (by omega) rfl hyt ?_ ?_ ?_)
      · intro hne
        rw [eT] at hne
        exact absurd rfl hne
      · intro T' e'
        rw [eT] at e'
        injection e' with _ e'
        injection e' with _ e'
        injection e' with _ e'
        cases e'
      · intro T' e' ld fo ga go gn R
        exact br_f (by decide) ⟨rfl, rl_in hR'⟩
end
section
/-! pairs of parentheses -/
def mp_c : List Int32 → Nat → Nat → Option Nat
  | [], _, _ => none
  | t :: l, d, k => if t = 0 then mp_c l (d + 1) (k + 1) else if t = 1 then (if d ≤ 1 then some k else mp_c l (d - 1) (k + 1)) else mp_c l d (k + 1)
/-- the closing parenthesis of place j -/
def mp_cl (ts : List Int32) (j : Nat) : Option Nat := match ts.drop j with
  | [] => none
  | t :: l => if t = 0 then mp_c l 1 (j + 1) else none
def mp_sm : List Int32 → Nat
  | [] => 0
  | t :: l => (if t = 0 ∧ (mp_c l 1 0).isSome = true then 1 else 0) + mp_sm l
def mp_f : List Int32 → Nat → Nat
  | [], _ => 0
  | t :: l, s => if t = 0 then mp_f l (s + 1) else if t = 1 then (if s = 0 then mp_f l 0 else 1 + mp_f l (s - 1)) else mp_f l s
def mp_cn (P : Nat → Bool) : Nat → Nat
  | 0 => 0
  | s + 1 => (if P 0 = true then 1 else 0) + mp_cn (fun p => P (p + 1)) s
theorem mp_c_some : ∀ (l : List Int32) (d k k' : Nat), (mp_c l d k).isSome = (mp_c l d k').isSome := by
  intro l
  induction l with
  | nil => intro d k k'; rfl
  | cons t l ih =>
    intro d k k'
    show (if t = 0 then mp_c l (d + 1) (k + 1) else if t = 1 then (if d ≤ 1 then some k else mp_c l (d - 1) (k + 1)) else mp_c l d (k + 1)).isSome = (if t = 0 then mp_c l (d + 1) (k' + 1) else if t = 1 then (if d ≤ 1 then some k' else mp_c l (d - 1) (k' + 1)) else mp_c l d (k' + 1)).isSome
    by_cases h0 : t = 0
    · rw [if_pos h0, if_pos h0]; exact ih _ _ _
    · rw [if_neg h0, if_neg h0]
      by_cases h1 : t = 1
      · rw [if_pos h1, if_pos h1]
        by_cases hd : d ≤ 1
        · rw [if_pos hd, if_pos hd]; rfl
        · rw [if_neg hd, if_neg hd]; exact ih _ _ _
      · rw [if_neg h1, if_neg h1]; exact ih _ _ _
theorem mp_f_eq : ∀ (l : List Int32) (s : Nat), mp_f l s = mp_cn (fun p => (mp_c l (p + 1) 0).isSome) s + mp_sm l := by
  intro l
  induction l with
  | nil =>
    intro s
    show 0 = mp_cn (fun _ => false) s + 0
    induction s with
    | zero => rfl
    | succ s ih =>
      show 0 = (if false = true then 1 else 0) + mp_cn (fun _ => false) s + 0
      rw [if_neg (by decide)]
      omega
  | cons t l ih =>
    intro s
    have h0c : t = 0 → ∀ d, (mp_c (t :: l) d 0).isSome = (mp_c l (d + 1) 0).isSome := by
      intro h d
      show (if t = 0 then mp_c l (d + 1) (0 + 1) else _).isSome = _
      rw [if_pos h]
      exact mp_c_some _ _ _ _
    have h2c : t ≠ 0 → t ≠ 1 → ∀ d, (mp_c (t :: l) d 0).isSome = (mp_c l d 0).isSome := by
      intro h h' d
      show (if t = 0 then _ else if t = 1 then _ else mp_c l d (0 + 1)).isSome = _
      rw [if_neg h, if_neg h']
      exact mp_c_some _ _ _ _
    have h1c : t = 1 → ∀ d, (mp_c (t :: l) (d + 1) 0).isSome = if d = 0 then true else (mp_c l d 0).isSome := by
      intro h d
      show (if t = 0 then _ else if t = 1 then (if d + 1 ≤ 1 then some 0 else mp_c l (d + 1 - 1) (0 + 1)) else _).isSome = _
      rw [if_neg (by rw [h]; decide), if_pos h]
      by_cases hd : d = 0
      · rw [if_pos (by omega), if_pos hd]; rfl
      · rw [if_neg (by omega), if_neg hd]
        exact mp_c_some _ _ _ _
    show (if t = 0 then mp_f l (s + 1) else if t = 1 then (if s = 0 then mp_f l 0 else 1 + mp_f l (s - 1)) else mp_f l s) = _ + ((if t = 0 ∧ (mp_c l 1 0).isSome = true then 1 else 0) + mp_sm l)
    by_cases h0 : t = 0
    · rw [if_pos h0, ih]
      have e1 : (fun p => (mp_c (t :: l) (p + 1) 0).isSome) = (fun p => (mp_c l (p + 1 + 1) 0).isSome) := funext (fun p => h0c h0 (p + 1))
      rw [e1]
      show ((if (mp_c l (0 + 1) 0).isSome = true then 1 else 0) + mp_cn (fun p => (mp_c l (p + 1 + 1) 0).isSome) s) + mp_sm l = _
      by_cases hs : (mp_c l 1 0).isSome = true
      · rw [if_pos hs, if_pos ⟨h0, hs⟩]; omega
      · rw [if_neg hs, if_neg (fun z => hs z.2)]; omega
    · rw [if_neg h0, if_neg (show ¬ (t = 0 ∧ (mp_c l 1 0).isSome = true) from fun z => h0 z.1)]
      by_cases h1 : t = 1
      · rw [if_pos h1]
        cases s with
        | zero => rw [if_pos rfl, ih]; show 0 + mp_sm l = 0 + _; omega
        | succ s =>
          rw [if_neg (by omega), Nat.add_sub_cancel, ih]
          show _ = ((if (mp_c (t :: l) (0 + 1) 0).isSome = true then 1 else 0) + mp_cn (fun p => (mp_c (t :: l) (p + 1 + 1) 0).isSome) s) + _
          have e1 : (fun p => (mp_c (t :: l) (p + 1 + 1) 0).isSome) = (fun p => (mp_c l (p + 1) 0).isSome) := funext (fun p => by rw [h1c h1 (p + 1), if_neg (by omega)])
          rw [e1, h1c h1 0, if_pos rfl, if_pos rfl]
          omega
      · rw [if_neg h1, ih]
        have e1 : (fun p => (mp_c (t :: l) (p + 1) 0).isSome) = (fun p => (mp_c l (p + 1) 0).isSome) := funext (fun p => h2c h0 h1 (p + 1))
        rw [e1]
        omega
def mp_aS (oa : Nat → Int32) : List Nat → Prop
  | [] => True
  | o :: O => oa O.length = nI o ∧ mp_aS oa O
theorem mp_aS_upd {oa : Nat → Int32} {d : Nat} {x : Int32} : ∀ (O : List Nat), O.length ≤ d → mp_aS oa O → mp_aS (upd oa d x) O := by
  intro O
  induction O with
  | nil => intro _ _; trivial
  | cons o O ih =>
    intro hd h
    rw [List.length_cons] at hd
    exact ⟨by rw [pk_un (by omega)]; exact h.1, ih (by omega) h.2⟩
theorem mp_drop {ts : List Int32} {i : Nat} {t : Int32} {l : List Int32} (h : ts.drop i = t :: l) : ts.drop (i + 1) = l ∧ ts[i]? = some t ∧ i < ts.length := by
  have h1 : ts[i]? = some t := by
    have := List.getElem?_drop (xs := ts) (i := i) (j := 0)
    rw [h, Nat.add_zero] at this
    exact this.symm
  refine ⟨?_, h1, (List.getElem?_eq_some_iff.mp h1).1⟩
  rw [← List.drop_drop, h]
  rfl
/-- what the component's pass keeps -/
def mp_I (ts : List Int32) (i : Nat) (O : List Nat) (pt : Nat → Int32) : Prop := (∀ j, j ∈ O → j < i) ∧ O.Nodup ∧ (∀ j, j < i → (j ∈ O ∧ pt j = -1) ∨ (j ∉ O ∧ pt j = gt_oc (mp_cl ts j))) ∧ (∀ p j, O[p]? = some j → mp_cl ts j = mp_c (ts.drop i) (p + 1) i)
section
variable {g : gt_T} {n : Nat} {post2 : Int32 → SX → Prop}
variable {f_opLimit f_nodeLimit f_levelLimit f_textLimit f_nodeTotal f_treeTotal f_depth f_wanting f_clashing f_outLen f_treeBase f_treeNodes f_workDepth : Int32} {a_opener a_joiner a_inner a_text a_nodeList a_frameOp a_frameNext a_out a_partner a_openAt a_treeOp a_parent a_slot a_kid a_wrapped a_workNode a_workStep : Nat → Int32}
theorem xw_pairs_l {ts : List Int32} (hts : ts.length = n) (hn : n ≤ 128) (htx : mt_aO a_text ts)
    (hp : ∀ pt oa : Nat → Int32, (∀ j, j < n → pt j = gt_oc (mp_cl ts j)) → post2 (nI (mp_sm ts)) (f_opLimit, f_nodeLimit, f_levelLimit, nI (gt_l g), f_textLimit, nI (gt_n g), nI n, f_nodeTotal, f_treeTotal, f_depth, f_wanting, f_clashing, f_outLen, f_treeBase, f_treeNodes, f_workDepth, gt_k g, gt_p g, gt_a g, gt_c g, gt_t g, a_opener, a_joiner, a_inner, a_text, a_nodeList, a_frameOp, a_frameNext, a_out, pt, oa, a_treeOp, a_parent, a_slot, a_kid, a_wrapped, a_workNode, a_workStep)) :
    ∀ (l : List Int32) (i c N : Nat) (O : List Nat) (pt oa : Nat → Int32), ts.drop i = l → i + l.length = n → l.length < N → O.length ≤ i → c ≤ i → c + mp_f l O.length = mp_sm ts → mp_I ts i O pt → mp_aS oa O → wX_matchPairs_6 post2 f_opLimit f_nodeLimit f_levelLimit (nI (gt_l g)) f_textLimit (nI (gt_n g)) (nI n) f_nodeTotal f_treeTotal f_depth f_wanting f_clashing f_outLen f_treeBase f_treeNodes f_workDepth N (nI O.length) (nI c) (nI i) (gt_k g) (gt_p g) (gt_a g) (gt_c g) (gt_t g) a_opener a_joiner a_inner a_text a_nodeList a_frameOp a_frameNext a_out pt oa a_treeOp a_parent a_slot a_kid a_wrapped a_workNode a_workStep := by
  intro l
  induction l with
  | nil =>
    intro i c N O pt oa hl hi hN hO hc hcn hI haS
    obtain ⟨N, rfl⟩ : ∃ N', N = N' + 1 := ⟨N - 1, by omega⟩
    have hin : i = n := hi
    rw [wX_matchPairs_6]
    have h := hp pt oa (by
      intro j hj
      rcases hI.2.2.1 j (by omega) with ⟨h1, h2⟩ | ⟨_, h2⟩
      · obtain ⟨p, hp, hp2⟩ := List.getElem_of_mem h1
        have h3 := hI.2.2.2 p j (by rw [List.getElem?_eq_getElem hp, hp2])
        rw [hl] at h3
        rw [h2, h3]
        rfl
      · exact h2)
    have hcc : c = mp_sm ts := hcn
    rw [← hcc] at h
    exact br_t (nI_le (by omega) (by omega)) h
  | cons t l ih =>
    intro i c N O pt oa hl hi hN hO hc hcn hI haS
    obtain ⟨N, rfl⟩ : ∃ N', N = N' + 1 := ⟨N - 1, by omega⟩
    obtain ⟨hl2, hti, hil⟩ := mp_drop hl
    have ht : a_text i = t := htx i t hti
    rw [List.length_cons] at hi hN
    have vin : vp_in (nI i) 128 := vp_in_nI (by omega) (by decide)
    have ci : (nI i).toNatClampNeg = i := nI_clamp (by omega)
    have hcl : mp_cl ts i = if t = 0 then mp_c l 1 (i + 1) else none := by
      unfold mp_cl
      rw [hl]
    have hni : i ∉ O := fun z => absurd (hI.1 i z) (Nat.lt_irrefl _)
    have hcn' : c + (if t = 0 then mp_f l (O.length + 1) else if t = 1 then (if O.length = 0 then mp_f l 0 else 1 + mp_f l (O.length - 1)) else mp_f l O.length) = mp_sm ts := hcn
    have hstep : ∀ d, mp_c (ts.drop i) d i = if t = 0 then mp_c l (d + 1) (i + 1) else if t = 1 then (if d ≤ 1 then some i else mp_c l (d - 1) (i + 1)) else mp_c l d (i + 1) := by
      intro d
      rw [hl]
      rfl
    rw [wX_matchPairs_6]
    refine br_f (nI_ge (by omega) (by omega)) ⟨vin, nm_e ⟨vin, ?_⟩⟩
    rw [ci, ht]
    refine br_c (fun h0 => ?_) (fun h0 => ⟨vin, br_c (fun h1 => ?_) (fun h1 => nm_r (nI_1 i) ?_)⟩)
    · -- an opening parenthesis
      rw [if_pos h0] at hcn' hcl
      rw [nI_clamp (n := O.length) (by omega)]
      refine ⟨vp_in_nI (by omega) (by decide), nm_e (nm_r (nI_1 _) (nm_r (nI_1 i) ?_))⟩
      refine ih (i + 1) c N (i :: O) _ _ hl2 (by omega) (by omega) (by show O.length + 1 ≤ _; omega) (by omega) hcn' ⟨?_, ?_, ?_, ?_⟩ ⟨pk_us, mp_aS_upd O (Nat.le_refl _) haS⟩
      · intro j hj
        rcases List.mem_cons.mp hj with e | e
        · omega
        · have := hI.1 j e; omega
      · exact List.nodup_cons.mpr ⟨hni, hI.2.1⟩
      · intro j hj
        by_cases e : j = i
        · subst e
          exact Or.inl ⟨List.mem_cons_self .., pk_us⟩
        · rw [pk_un e]
          rcases hI.2.2.1 j (by omega) with ⟨a, b⟩ | ⟨a, b⟩
          · exact Or.inl ⟨List.mem_cons_of_mem _ a, b⟩
          · refine Or.inr ⟨fun z => ?_, b⟩
            rcases List.mem_cons.mp z with z | z
            · exact e z
            · exact a z
      · intro p j hj
        rw [hl2]
        cases p with
        | zero =>
          have ej : i = j := Option.some.inj hj
          subst ej
          exact hcl
        | succ p =>
          have hj' : O[p]? = some j := hj
          rw [hI.2.2.2 p j hj', hstep, if_pos h0]
    · rw [if_neg h0] at hcn' hcl
      rw [if_pos h1] at hcn'
      cases O with
      | nil =>
        refine br_t (by decide) (nm_r (nI_1 i) ?_)
        refine ih (i + 1) c N [] _ _ hl2 (by omega) (by omega) (Nat.zero_le _) (by omega) hcn' ⟨(fun j hj => nomatch hj), List.nodup_nil, ?_, fun p j hj => by simp at hj⟩ trivial
        intro j hj
        refine Or.inr ⟨fun z => (nomatch z), ?_⟩
        by_cases e : j = i
        · subst e
          rw [pk_us, hcl]
          rfl
        · rw [pk_un e]
          rcases hI.2.2.1 j (by omega) with ⟨a, b⟩ | ⟨a, b⟩
          · cases a
          · exact b
      | cons o O =>
        rw [List.length_cons] at hO
        have hcn2 : c + (1 + mp_f l O.length) = mp_sm ts := by
          rw [if_neg (by rw [List.length_cons]; omega)] at hcn'
          exact hcn'
        have ho : o < i := hI.1 o (List.mem_cons_self ..)
        have hnd := List.nodup_cons.mp hI.2.1
        refine br_f (nI_nle (Nat.succ_pos _) (by show O.length + 1 < _; omega)) (nm_r (pk_m1 O.length) ⟨vp_in_nI (by omega) (by decide), ?_⟩)
        rw [nI_clamp (n := O.length) (by omega), haS.1, nI_clamp (n := o) (by omega)]
        refine ⟨vp_in_nI (by omega) (by decide), nm_e (nm_r (nI_1 c) (nm_r (nI_1 i) ?_))⟩
        refine ih (i + 1) (c + 1) N O _ _ hl2 (by omega) (by omega) (by omega) (by omega) (by omega) ⟨?_, hnd.2, ?_, ?_⟩ haS.2
        · intro j hj
          have := hI.1 j (List.mem_cons_of_mem _ hj)
          omega
        · intro j hj
          by_cases e : j = o
          · subst e
            refine Or.inr ⟨hnd.1, ?_⟩
            rw [pk_us, hI.2.2.2 0 j rfl, hstep, if_neg h0, if_pos h1, if_pos (Nat.le_refl _)]
            rfl
          · rw [pk_un e]
            by_cases e2 : j = i
            · subst e2
              refine Or.inr ⟨fun z => hni (List.mem_cons_of_mem _ z), ?_⟩
              rw [pk_us, hcl]
              rfl
            · rw [pk_un e2]
              rcases hI.2.2.1 j (by omega) with ⟨a, b⟩ | ⟨a, b⟩
              · rcases List.mem_cons.mp a with a | a
                · exact absurd a e
                · exact Or.inl ⟨a, b⟩
              · exact Or.inr ⟨fun z => a (List.mem_cons_of_mem _ z), b⟩
        · intro p j hj
          rw [hl2, hI.2.2.2 (p + 1) j hj, hstep, if_neg h0, if_pos h1, if_neg (by omega)]
          rfl
    · rw [if_neg h0] at hcn' hcl
      rw [if_neg h1] at hcn'
      refine ih (i + 1) c N O _ _ hl2 (by omega) (by omega) (by omega) (by omega) hcn' ⟨fun j hj => by have := hI.1 j hj; omega, hI.2.1, ?_, ?_⟩ haS
      · intro j hj
        by_cases e : j = i
        · subst e
          refine Or.inr ⟨hni, ?_⟩
          rw [pk_us, hcl]
          rfl
        · rw [pk_un e]
          exact hI.2.2.1 j (by omega)
      · intro p j hj
        rw [hl2, hI.2.2.2 p j hj, hstep, if_neg h0, if_neg h1]
theorem xw_pairs {ts : List Int32} (hts : ts.length = n) (hn : n ≤ 128) (htx : mt_aO a_text ts)
    (hp : ∀ pt oa : Nat → Int32, (∀ j, j < n → pt j = gt_oc (mp_cl ts j)) → post2 (nI (mp_sm ts)) (f_opLimit, f_nodeLimit, f_levelLimit, nI (gt_l g), f_textLimit, nI (gt_n g), nI n, f_nodeTotal, f_treeTotal, f_depth, f_wanting, f_clashing, f_outLen, f_treeBase, f_treeNodes, f_workDepth, gt_k g, gt_p g, gt_a g, gt_c g, gt_t g, a_opener, a_joiner, a_inner, a_text, a_nodeList, a_frameOp, a_frameNext, a_out, pt, oa, a_treeOp, a_parent, a_slot, a_kid, a_wrapped, a_workNode, a_workStep)) : wpX_matchPairs post2 (f_opLimit, f_nodeLimit, f_levelLimit, nI (gt_l g), f_textLimit, nI (gt_n g), nI n, f_nodeTotal, f_treeTotal, f_depth, f_wanting, f_clashing, f_outLen, f_treeBase, f_treeNodes, f_workDepth, gt_k g, gt_p g, gt_a g, gt_c g, gt_t g, a_opener, a_joiner, a_inner, a_text, a_nodeList, a_frameOp, a_frameNext, a_out, a_partner, a_openAt, a_treeOp, a_parent, a_slot, a_kid, a_wrapped, a_workNode, a_workStep) := by
  refine ⟨n + 1, xw_pairs_l hts hn htx hp ts 0 0 (n + 1) [] a_partner a_openAt rfl (by omega) (by omega) (Nat.le_refl _) (Nat.le_refl _) ?_ ⟨(fun j hj => nomatch hj), List.nodup_nil, fun j hj => absurd hj (Nat.not_lt_zero _), fun p j hj => by simp at hj⟩ trivial⟩
  rw [Nat.zero_add]
  have := mp_f_eq ts 0
  rw [show mp_cn (fun p => (mp_c ts (p + 1) 0).isSome) 0 = 0 from rfl, Nat.zero_add] at this
  exact this
end
section
variable {g : gt_T} {n : Nat} {post1 : Int32 → Prop}
variable {f_maxOps f_maxNodes f_maxLevels f_maxNames f_listLen : Int32} {a_text a_list a_leadOp a_follow a_groupAt a_groupOp a_groupNext a_rootOf a_found a_fromAt a_toAt a_work a_mark a_order : Nat → Int32}
theorem yw_closer_l {ts : List Int32} (hts : ts.length = n) (hn : n ≤ 128) (htx : mt_aO a_text ts) {j : Nat} (hj : j < n) (h0 : a_text j = 0) : ∀ (l : List Int32) (d k N : Nat), ts.drop k = l → k + l.length = n → l.length < N → 1 ≤ d → d ≤ k → post1 (gt_oc (mp_c l d k)) → wY_closerOf_4 post1 (nI j) f_maxOps f_maxNodes f_maxLevels f_maxNames (nI (gt_n g)) (nI n) f_listLen (gt_k g) (gt_p g) (gt_a g) (gt_c g) (gt_t g) a_text a_list a_leadOp a_follow a_groupAt a_groupOp a_groupNext a_rootOf a_found a_fromAt a_toAt a_work a_mark a_order N (nI d) (nI k) := by
  intro l
  induction l with
  | nil =>
    intro d k N hl hk hN hd hdk hp
    obtain ⟨N, rfl⟩ : ∃ N', N = N' + 1 := ⟨N - 1, by omega⟩
    have hkn : k = n := hk
    rw [wY_closerOf_4]
    exact br_t (nI_le (by omega) (by omega)) hp
  | cons t l ih =>
    intro d k N hl hk hN hd hdk hp
    obtain ⟨N, rfl⟩ : ∃ N', N = N' + 1 := ⟨N - 1, by omega⟩
    obtain ⟨hl2, hti, hil⟩ := mp_drop hl
    have ht : a_text k = t := htx k t hti
    rw [List.length_cons] at hk hN
    have vin : vp_in (nI k) 128 := vp_in_nI (by omega) (by decide)
    have hp' : post1 (gt_oc (if t = 0 then mp_c l (d + 1) (k + 1) else if t = 1 then (if d ≤ 1 then some k else mp_c l (d - 1) (k + 1)) else mp_c l d (k + 1))) := hp
    rw [wY_closerOf_4]
    refine br_f (nI_ge (by omega) (by omega)) ⟨vin, ?_⟩
    rw [nI_clamp (n := k) (by omega), ht]
    refine br_c (fun h => ?_) (fun h => ⟨vin, br_c (fun h1 => ?_) (fun h1 => ?_)⟩)
    · rw [if_pos h] at hp'
      unfold wY_closerOf_41
      refine nm_r (nI_1 d) (br_t (nI_lt (a := 0) (by omega) (by omega)) (nm_r (nI_1 k) ?_))
      exact ih (d + 1) (k + 1) N hl2 (by omega) (by omega) (by omega) (by omega) hp'
    · rw [if_neg h, if_pos h1] at hp'
      unfold wY_closerOf_41
      obtain ⟨d, rfl⟩ : ∃ d', d = d' + 1 := ⟨d - 1, by omega⟩
      refine nm_r (pk_m1 d) ?_
      by_cases hd1 : d = 0
      · subst hd1
        rw [if_pos (Nat.le_refl _)] at hp'
        rw [nI_clamp (n := j) (by omega)]
        exact br_f (by decide) ⟨vp_in_nI (by omega) (by decide), br_t h0 hp'⟩
      · rw [if_neg (by omega), Nat.add_sub_cancel] at hp'
        refine br_t (nI_lt (a := 0) (by omega) (by omega)) (nm_r (nI_1 k) ?_)
        exact ih d (k + 1) N hl2 (by omega) (by omega) (by omega) (by omega) hp'
    · rw [if_neg h, if_neg h1] at hp'
      unfold wY_closerOf_41
      refine nm_r (e' := nI d) (Int32.add_zero _) (br_t (nI_lt (a := 0) (by omega) (by omega)) (nm_r (nI_1 k) ?_))
      exact ih d (k + 1) N hl2 (by omega) (by omega) (by omega) (by omega) hp'
theorem yw_closer {ts : List Int32} (hts : ts.length = n) (hn : n ≤ 128) (htx : mt_aO a_text ts) {j : Nat} (hj : j < n) (hp : post1 (gt_oc (mp_cl ts j))) : wpY_closerOf post1 (f_maxOps, f_maxNodes, f_maxLevels, f_maxNames, nI (gt_n g), nI n, f_listLen, gt_k g, gt_p g, gt_a g, gt_c g, gt_t g, a_text, a_list, a_leadOp, a_follow, a_groupAt, a_groupOp, a_groupNext, a_rootOf, a_found, a_fromAt, a_toAt, a_work, a_mark, a_order) (nI j) := by
  have hjt : j < ts.length := by omega
  obtain ⟨t, l, hl⟩ : ∃ t l, ts.drop j = t :: l := ⟨ts[j], ts.drop (j + 1), List.drop_eq_getElem_cons hjt⟩
  obtain ⟨hl2, hti, hil⟩ := mp_drop hl
  have ht : a_text j = t := htx j t hti
  have hcl : mp_cl ts j = if t = 0 then mp_c l 1 (j + 1) else none := by
    unfold mp_cl
    rw [hl]
  rw [hcl] at hp
  have hlen := congrArg List.length hl
  rw [List.length_drop, List.length_cons] at hlen
  refine ⟨n + 1, ?_⟩
  have vin : vp_in (nI j) 128 := vp_in_nI (by omega) (by decide)
  rw [wY_closerOf_4]
  refine br_f (nI_ge (by omega) (by omega)) ⟨vin, ?_⟩
  rw [nI_clamp (n := j) (by omega), ht]
  refine br_c (fun h => ?_) (fun h => ⟨vin, br_c (fun h1 => ?_) (fun h1 => ?_)⟩)
  · rw [if_pos h] at hp
    unfold wY_closerOf_41
    refine nm_r (e' := nI 1) (by decide) (br_t (by decide) (nm_r (nI_1 j) ?_))
    exact yw_closer_l hts hn htx hj (by rw [ht]; exact h) l 1 (j + 1) n hl2 (by omega) (by omega) (Nat.le_refl _) (by omega) hp
  · rw [if_neg h] at hp
    unfold wY_closerOf_41
    rw [nI_clamp (n := j) (by omega), ht]
    exact nm_r (e' := -1) (by decide) (br_f (by decide) ⟨vin, br_f h hp⟩)
  · rw [if_neg h] at hp
    unfold wY_closerOf_41
    rw [nI_clamp (n := j) (by omega), ht]
    exact nm_r (e' := 0) (by decide) (br_f (by decide) ⟨vin, br_f h hp⟩)
theorem mp_sm_cons {ts : List Int32} {i : Nat} {t : Int32} {l : List Int32} (h : ts.drop i = t :: l) : mp_sm (t :: l) = (if (mp_cl ts i).isSome = true then 1 else 0) + mp_sm l := by
  have hcl : mp_cl ts i = if t = 0 then mp_c l 1 (i + 1) else none := by
    unfold mp_cl
    rw [h]
  rw [hcl]
  show (if t = 0 ∧ (mp_c l 1 0).isSome = true then 1 else 0) + mp_sm l = _
  by_cases h0 : t = 0
  · rw [if_pos h0]
    have := mp_c_some l 1 0 (i + 1)
    rw [this]
    by_cases hs : (mp_c l 1 (i + 1)).isSome = true
    · rw [if_pos ⟨h0, hs⟩, if_pos hs]
    · rw [if_neg (fun z => hs z.2), if_neg hs]
  · rw [if_neg h0, if_neg (fun z => h0 z.1)]
    rfl
theorem mp_cl_lt {ts : List Int32} {j c : Nat} (h : mp_cl ts j = some c) : j < c ∧ c < ts.length := by
  have key : ∀ (l : List Int32) (d k : Nat), mp_c l d k = some c → k ≤ c ∧ c < k + l.length := by
    intro l
    induction l with
    | nil => intro d k h; cases h
    | cons t l ih =>
      intro d k h
      have h' : (if t = 0 then mp_c l (d + 1) (k + 1) else if t = 1 then (if d ≤ 1 then some k else mp_c l (d - 1) (k + 1)) else mp_c l d (k + 1)) = some c := h
      rw [List.length_cons]
      by_cases h0 : t = 0
      · rw [if_pos h0] at h'
        have := ih _ _ h'
        omega
      · rw [if_neg h0] at h'
        by_cases h1 : t = 1
        · rw [if_pos h1] at h'
          by_cases hd : d ≤ 1
          · rw [if_pos hd] at h'
            have : k = c := Option.some.inj h'
            omega
          · rw [if_neg hd] at h'
            have := ih _ _ h'
            omega
        · rw [if_neg h1] at h'
          have := ih _ _ h'
          omega
  unfold mp_cl at h
  match e : ts.drop j, h with
  | [], h => cases h
  | t :: l, h =>
    have h' : (if t = 0 then mp_c l 1 (j + 1) else none) = some c := h
    by_cases h0 : t = 0
    · rw [if_pos h0] at h'
      have := key _ _ _ h'
      have hlen := congrArg List.length e
      rw [List.length_drop, List.length_cons] at hlen
      omega
    · rw [if_neg h0] at h'
      cases h'
theorem yw_pairs_l {ts : List Int32} (hts : ts.length = n) (hn : n ≤ 128) (htx : mt_aO a_text ts) : ∀ (l : List Int32) (i c N : Nat), ts.drop i = l → i + l.length = n → l.length < N → c ≤ i → post1 (nI (c + mp_sm l)) → wY_pairCount_4 post1 f_maxOps f_maxNodes f_maxLevels f_maxNames (nI (gt_n g)) (nI n) f_listLen (gt_k g) (gt_p g) (gt_a g) (gt_c g) (gt_t g) a_text a_list a_leadOp a_follow a_groupAt a_groupOp a_groupNext a_rootOf a_found a_fromAt a_toAt a_work a_mark a_order N (nI c) (nI i) := by
  intro l
  induction l with
  | nil =>
    intro i c N hl hi hN hc hp
    obtain ⟨N, rfl⟩ : ∃ N', N = N' + 1 := ⟨N - 1, by omega⟩
    have hin : i = n := hi
    rw [wY_pairCount_4]
    exact br_t (nI_le (by omega) (by omega)) hp
  | cons t l ih =>
    intro i c N hl hi hN hc hp
    obtain ⟨N, rfl⟩ : ∃ N', N = N' + 1 := ⟨N - 1, by omega⟩
    obtain ⟨hl2, hti, hil⟩ := mp_drop hl
    rw [List.length_cons] at hi hN
    rw [mp_sm_cons hl] at hp
    rw [wY_pairCount_4]
    refine br_f (nI_ge (by omega) (by omega)) (yw_closer hts hn htx (by omega) ?_)
    cases hcl : mp_cl ts i with
    | none =>
      rw [hcl, show (none : Option Nat).isSome = false from rfl, if_neg (by decide), Nat.zero_add] at hp
      exact br_t (by show (-1 : Int32) < 0; decide) (nm_r (nI_1 i) (ih (i + 1) c N hl2 (by omega) (by omega) (by omega) hp))
    | some k =>
      rw [hcl, show (some k).isSome = true from rfl, if_pos rfl, ← Nat.add_assoc] at hp
      have hk := mp_cl_lt hcl
      exact br_f (nI_pos (n := k) (by omega)) (nm_r (nI_1 c) (nm_r (nI_1 i) (ih (i + 1) (c + 1) N hl2 (by omega) (by omega) (by omega) hp)))
theorem yw_pairs {ts : List Int32} (hts : ts.length = n) (hn : n ≤ 128) (htx : mt_aO a_text ts) (hp : post1 (nI (mp_sm ts))) : wpY_pairCount post1 (f_maxOps, f_maxNodes, f_maxLevels, f_maxNames, nI (gt_n g), nI n, f_listLen, gt_k g, gt_p g, gt_a g, gt_c g, gt_t g, a_text, a_list, a_leadOp, a_follow, a_groupAt, a_groupOp, a_groupNext, a_rootOf, a_found, a_fromAt, a_toAt, a_work, a_mark, a_order) :=
  ⟨n + 1, yw_pairs_l hts hn htx ts 0 0 (n + 1) rfl (by omega) (by omega) (Nat.le_refl _) (by rw [Nat.zero_add]; exact hp)⟩
end
theorem i_vc_pairCount {k : Nat} {u : SX} {v : SY} (I : i_Rel k u v) (hk : k + 5 ≤ 2564) : wpX_pairCount (fun r u' => wpY_pairCount (fun r' => r' = r ∧ i_Rel (k + 5) u' v) v) u := by
  refine rl_el (P := fun u v => wpX_pairCount (fun r u' => wpY_pairCount (fun r' => r' = r ∧ i_Rel (k + 5) u' v) v) u) I ?_
  intro g opL nodeL levL ts F f_depth f_wanting f_clashing f_outLen f_treeBase f_treeNodes f_workDepth a_opener a_joiner a_inner xt xl a_frameOp a_frameNext a_out a_partner a_openAt a_treeOp a_parent a_slot a_kid a_wrapped a_workNode a_workStep yt yl a_leadOp a_follow a_groupAt a_groupOp a_groupNext a_rootOf a_found a_fromAt a_toAt a_work a_mark a_order hR
  have hR' := hR
  obtain ⟨H, hl, ho, hn, hlv, hx, hts, hxt, hyt, htk, hw, hsz, hxl, hyl⟩ := hR
  unfold wpX_pairCount
  refine xw_pairs (ts := ts) rfl (by omega) hxt ?_
  intro pt oa _
  exact yw_pairs (ts := ts) rfl (by omega) hyt ⟨rfl, rl_in hR'⟩
end
section
/-! erasing a pair -/
def mp_n (ts : List Int32) : List Int32 → Nat → Nat → Option Nat
  | [], _, _ => none
  | _ :: l, i, r => match mp_cl ts i with
    | none => mp_n ts l (i + 1) r
    | some _ => if r = 0 then some i else mp_n ts l (i + 1) (r - 1)
theorem mp_n_some {ts : List Int32} : ∀ (l : List Int32) (i r : Nat), ts.drop i = l → r < mp_sm l → ∃ f c, mp_n ts l i r = some f ∧ mp_cl ts f = some c ∧ i ≤ f := by
  intro l
  induction l with
  | nil => intro i r _ h; exact absurd h (Nat.not_lt_zero _)
  | cons t l ih =>
    intro i r hl hr
    obtain ⟨hl2, _, _⟩ := mp_drop hl
    rw [mp_sm_cons hl] at hr
    cases hc : mp_cl ts i with
    | none =>
      rw [hc, show (none : Option Nat).isSome = false from rfl, if_neg (by decide), Nat.zero_add] at hr
      obtain ⟨f, c, h1, h2, h3⟩ := ih (i + 1) r hl2 hr
      refine ⟨f, c, ?_, h2, by omega⟩
      show (match mp_cl ts i with | none => mp_n ts l (i + 1) r | some _ => if r = 0 then some i else mp_n ts l (i + 1) (r - 1)) = _
      rw [hc]
      exact h1
    | some c =>
      rw [hc, show (some c).isSome = true from rfl, if_pos rfl] at hr
      have e : mp_n ts (t :: l) i r = if r = 0 then some i else mp_n ts l (i + 1) (r - 1) := by
        show (match mp_cl ts i with | none => mp_n ts l (i + 1) r | some _ => if r = 0 then some i else mp_n ts l (i + 1) (r - 1)) = _
        rw [hc]
      by_cases h0 : r = 0
      · refine ⟨i, c, ?_, hc, Nat.le_refl _⟩
        rw [e, if_pos h0]
      · obtain ⟨f, c', h1, h2, h3⟩ := ih (i + 1) (r - 1) hl2 (by omega)
        refine ⟨f, c', ?_, h2, by omega⟩
        rw [e, if_neg h0]
        exact h1
def mp_er (f c : Nat) : List Int32 → Nat → List Int32
  | [], _ => []
  | t :: l, i => if i = f ∨ i = c then mp_er f c l (i + 1) else t :: mp_er f c l (i + 1)
theorem mp_er_len (f c : Nat) : ∀ (l : List Int32) (i : Nat), (mp_er f c l i).length ≤ l.length ∧ ∀ t, t ∈ mp_er f c l i → t ∈ l := by
  intro l
  induction l with
  | nil => intro i; exact ⟨Nat.le_refl _, fun t h => h⟩
  | cons t l ih =>
    intro i
    obtain ⟨a, b⟩ := ih (i + 1)
    show (if i = f ∨ i = c then mp_er f c l (i + 1) else t :: mp_er f c l (i + 1)).length ≤ l.length + 1 ∧ ∀ t', t' ∈ (if i = f ∨ i = c then mp_er f c l (i + 1) else t :: mp_er f c l (i + 1)) → t' ∈ t :: l
    by_cases h : i = f ∨ i = c
    · rw [if_pos h]
      exact ⟨by omega, fun t' h' => List.mem_cons_of_mem _ (b t' h')⟩
    · rw [if_neg h]
      refine ⟨by rw [List.length_cons]; omega, fun t' h' => ?_⟩
      rcases List.mem_cons.mp h' with e | e
      · rw [e]; exact List.mem_cons_self ..
      · exact List.mem_cons_of_mem _ (b t' e)
section
variable {g : gt_T} {n : Nat} {post2 : Int32 → SX → Prop}
variable {f_opLimit f_nodeLimit f_levelLimit f_textLimit f_nodeTotal f_treeTotal f_depth f_wanting f_clashing f_outLen f_treeBase f_treeNodes f_workDepth : Int32} {a_opener a_joiner a_inner a_text a_nodeList a_frameOp a_frameNext a_out a_partner a_openAt a_treeOp a_parent a_slot a_kid a_wrapped a_workNode a_workStep : Nat → Int32}
theorem xw_er_cp {ts : List Int32} (hts : ts.length = n) (hn : n ≤ 128) {f c : Nat} (hf : f < n) (hc : c < n)
    (hp : ∀ txt : Nat → Int32, mt_aO txt (mp_er f c ts 0) → post2 (nI (mp_er f c ts 0).length) (f_opLimit, f_nodeLimit, f_levelLimit, nI (gt_l g), f_textLimit, nI (gt_n g), nI (mp_er f c ts 0).length, f_nodeTotal, f_treeTotal, f_depth, f_wanting, f_clashing, f_outLen, f_treeBase, f_treeNodes, f_workDepth, gt_k g, gt_p g, gt_a g, gt_c g, gt_t g, a_opener, a_joiner, a_inner, txt, a_nodeList, a_frameOp, a_frameNext, a_out, a_partner, a_openAt, a_treeOp, a_parent, a_slot, a_kid, a_wrapped, a_workNode, a_workStep)) :
    ∀ (l : List Int32) (i N : Nat) (K : List Int32) (txt : Nat → Int32), ts.drop i = l → i + l.length = n → l.length < N → K.length ≤ i → K ++ mp_er f c l i = mp_er f c ts 0 → mt_aO txt K → (∀ j t, i ≤ j → ts[j]? = some t → txt j = t) →
    wX_erasePair_85 post2 (nI f) (nI c) f_opLimit f_nodeLimit f_levelLimit (nI (gt_l g)) f_textLimit (nI (gt_n g)) (nI n) f_nodeTotal f_treeTotal f_depth f_wanting f_clashing f_outLen f_treeBase f_treeNodes f_workDepth N (nI K.length) (nI i) (gt_k g) (gt_p g) (gt_a g) (gt_c g) (gt_t g) a_opener a_joiner a_inner txt a_nodeList a_frameOp a_frameNext a_out a_partner a_openAt a_treeOp a_parent a_slot a_kid a_wrapped a_workNode a_workStep := by
  intro l
  induction l with
  | nil =>
    intro i N K txt hl hi hN hK he hk htx
    obtain ⟨N, rfl⟩ : ∃ N', N = N' + 1 := ⟨N - 1, by omega⟩
    have hin : i = n := hi
    have he' : K ++ [] = mp_er f c ts 0 := he
    rw [List.append_nil] at he'
    rw [wX_erasePair_85]
    have h := hp txt (by rw [← he']; exact hk)
    rw [← he'] at h
    exact br_t (nI_le (by omega) (by omega)) h
  | cons t l ih =>
    intro i N K txt hl hi hN hK he hk htx
    obtain ⟨N, rfl⟩ : ∃ N', N = N' + 1 := ⟨N - 1, by omega⟩
    obtain ⟨hl2, hti, hil⟩ := mp_drop hl
    rw [List.length_cons] at hi hN
    have he' : K ++ (if i = f ∨ i = c then mp_er f c l (i + 1) else t :: mp_er f c l (i + 1)) = mp_er f c ts 0 := he
    rw [wX_erasePair_85]
    refine br_f (nI_ge (by omega) (by omega)) (pk_eq i f (fun h1 => nm_r (nI_1 i) ?_) (fun h1 => pk_eq i c (fun h2 => nm_r (nI_1 i) ?_) (fun h2 => ⟨vp_in_nI (by omega) (by decide), ?_⟩)))
    · rw [if_pos (Or.inl h1)] at he'
      exact ih (i + 1) N K txt hl2 (by omega) (by omega) (by omega) he' hk (fun j t' hj => htx j t' (by omega))
    · rw [if_pos (Or.inr h2)] at he'
      exact ih (i + 1) N K txt hl2 (by omega) (by omega) (by omega) he' hk (fun j t' hj => htx j t' (by omega))
    · rw [if_neg (fun z => z.elim h1 h2)] at he'
      rw [nI_clamp (n := K.length) (by omega), nI_clamp (n := i) (by omega), htx i t (Nat.le_refl _) hti]
      refine ⟨vp_in_nI (by omega) (by decide), nm_e (nm_r (nI_1 _) (nm_r (nI_1 i) ?_))⟩
      have hKl : (K ++ [t]).length = K.length + 1 := by rw [List.length_append]; rfl
      rw [← hKl]
      refine ih (i + 1) N (K ++ [t]) _ hl2 (by omega) (by omega) (by omega) (by rw [List.append_assoc]; exact he') (mt_aO_snoc hk) ?_
      intro j t' hj hj2
      rw [pk_un (by omega)]
      exact htx j t' (by omega) hj2
theorem xw_er_find {ts : List Int32} (hts : ts.length = n) (hn : n ≤ 128) (hpt : ∀ j, j < n → a_partner j = gt_oc (mp_cl ts j)) {j f : Nat} (hj : j < 200) (hf : wX_erasePair_65 post2 (nI f) f_opLimit f_nodeLimit f_levelLimit (nI (gt_l g)) f_textLimit (nI (gt_n g)) (nI n) f_nodeTotal f_treeTotal f_depth f_wanting f_clashing f_outLen f_treeBase f_treeNodes f_workDepth (gt_k g) (gt_p g) (gt_a g) (gt_c g) (gt_t g) a_opener a_joiner a_inner a_text a_nodeList a_frameOp a_frameNext a_out a_partner a_openAt a_treeOp a_parent a_slot a_kid a_wrapped a_workNode a_workStep) (hfn : f < n) :
    ∀ (l : List Int32) (i r s N : Nat), ts.drop i = l → i + l.length = n → l.length + 1 < N → s + r = j → mp_n ts l i r = some f → wX_erasePair_24 post2 (nI j) f_opLimit f_nodeLimit f_levelLimit (nI (gt_l g)) f_textLimit (nI (gt_n g)) (nI n) f_nodeTotal f_treeTotal f_depth f_wanting f_clashing f_outLen f_treeBase f_treeNodes f_workDepth (gt_k g) (gt_p g) (gt_a g) (gt_c g) (gt_t g) a_opener a_joiner a_inner a_text a_nodeList a_frameOp a_frameNext a_out a_partner a_openAt a_treeOp a_parent a_slot a_kid a_wrapped a_workNode a_workStep N (-1) (nI s) (nI i) := by
  intro l
  induction l with
  | nil => intro i r s N _ _ _ _ h; cases h
  | cons t l ih =>
    intro i r s N hl hi hN hs hm
    obtain ⟨N, rfl⟩ : ∃ N', N = N' + 1 := ⟨N - 1, by omega⟩
    obtain ⟨hl2, hti, hil⟩ := mp_drop hl
    rw [List.length_cons] at hi hN
    rw [wX_erasePair_24]
    refine br_f (nI_ge (by omega) (by omega)) (br_f (by decide) ⟨vp_in_nI (by omega) (by decide), ?_⟩)
    rw [nI_clamp (n := i) (by omega), hpt i (by omega)]
    have hm' : (match mp_cl ts i with | none => mp_n ts l (i + 1) r | some _ => if r = 0 then some i else mp_n ts l (i + 1) (r - 1)) = some f := hm
    cases hc : mp_cl ts i with
    | none =>
      rw [hc] at hm'
      exact br_t (by show (-1 : Int32) < 0; decide) (nm_r (nI_1 i) (ih (i + 1) r s N hl2 (by omega) (by omega) hs hm'))
    | some c =>
      rw [hc] at hm'
      have hm2 : (if r = 0 then some i else mp_n ts l (i + 1) (r - 1)) = some f := hm'
      have hcl := mp_cl_lt hc
      refine br_f (nI_pos (n := c) (by omega)) (pk_eq s j (fun h1 => nm_r (nI_1 s) (nm_r (nI_1 i) ?_)) (fun h1 => nm_r (nI_1 s) (nm_r (nI_1 i) ?_)))
      · rw [if_pos (by omega)] at hm2
        have ef : i = f := Option.some.inj hm2
        subst ef
        obtain ⟨N, rfl⟩ : ∃ N', N = N' + 1 := ⟨N - 1, by omega⟩
        rw [wX_erasePair_24]
        exact br_c (fun _ => hf) (fun _ => br_t (nI_pos' (by omega)) hf)
      · rw [if_neg (by omega)] at hm2
        exact ih (i + 1) (r - 1) (s + 1) N hl2 (by omega) (by omega) (by omega) hm2
end
section
variable {g : gt_T} {n : Nat} {post2 : Int32 → SY → Prop}
variable {f_maxOps f_maxNodes f_maxLevels f_maxNames f_listLen : Int32} {a_text a_list a_leadOp a_follow a_groupAt a_groupOp a_groupNext a_rootOf a_found a_fromAt a_toAt a_work a_mark a_order : Nat → Int32}
theorem yw_er_cp {ts : List Int32} (hts : ts.length = n) (hn : n ≤ 128) {f c : Nat} (hf : f < n) (hc : c < n)
    (hp : ∀ txt : Nat → Int32, mt_aO txt (mp_er f c ts 0) → post2 (nI (mp_er f c ts 0).length) (f_maxOps, f_maxNodes, f_maxLevels, f_maxNames, nI (gt_n g), nI (mp_er f c ts 0).length, f_listLen, gt_k g, gt_p g, gt_a g, gt_c g, gt_t g, txt, a_list, a_leadOp, a_follow, a_groupAt, a_groupOp, a_groupNext, a_rootOf, a_found, a_fromAt, a_toAt, a_work, a_mark, a_order)) :
    ∀ (l : List Int32) (i N : Nat) (K : List Int32) (txt : Nat → Int32), ts.drop i = l → i + l.length = n → l.length < N → K.length ≤ i → K ++ mp_er f c l i = mp_er f c ts 0 → mt_aO txt K → (∀ j t, i ≤ j → ts[j]? = some t → txt j = t) →
    wY_erasePair_43 post2 (nI f) (nI c) f_maxOps f_maxNodes f_maxLevels f_maxNames (nI (gt_n g)) (nI n) f_listLen N (nI K.length) (nI i) (gt_k g) (gt_p g) (gt_a g) (gt_c g) (gt_t g) txt a_list a_leadOp a_follow a_groupAt a_groupOp a_groupNext a_rootOf a_found a_fromAt a_toAt a_work a_mark a_order := by
  intro l
  induction l with
  | nil =>
    intro i N K txt hl hi hN hK he hk htx
    obtain ⟨N, rfl⟩ : ∃ N', N = N' + 1 := ⟨N - 1, by omega⟩
    have hin : i = n := hi
    have he' : K ++ [] = mp_er f c ts 0 := he
    rw [List.append_nil] at he'
    rw [wY_erasePair_43]
    have h := hp txt (by rw [← he']; exact hk)
    rw [← he'] at h
    exact br_t (nI_le (by omega) (by omega)) h
  | cons t l ih =>
    intro i N K txt hl hi hN hK he hk htx
    obtain ⟨N, rfl⟩ : ∃ N', N = N' + 1 := ⟨N - 1, by omega⟩
    obtain ⟨hl2, hti, hil⟩ := mp_drop hl
    rw [List.length_cons] at hi hN
    have he' : K ++ (if i = f ∨ i = c then mp_er f c l (i + 1) else t :: mp_er f c l (i + 1)) = mp_er f c ts 0 := he
    rw [wY_erasePair_43]
    refine br_f (nI_ge (by omega) (by omega)) (pk_eq i f (fun h1 => nm_r (nI_1 i) ?_) (fun h1 => pk_eq i c (fun h2 => nm_r (nI_1 i) ?_) (fun h2 => ⟨vp_in_nI (by omega) (by decide), ?_⟩)))
    · rw [if_pos (Or.inl h1)] at he'
      exact ih (i + 1) N K txt hl2 (by omega) (by omega) (by omega) he' hk (fun j t' hj => htx j t' (by omega))
    · rw [if_pos (Or.inr h2)] at he'
      exact ih (i + 1) N K txt hl2 (by omega) (by omega) (by omega) he' hk (fun j t' hj => htx j t' (by omega))
    · rw [if_neg (fun z => z.elim h1 h2)] at he'
      rw [nI_clamp (n := K.length) (by omega), nI_clamp (n := i) (by omega), htx i t (Nat.le_refl _) hti]
      refine ⟨vp_in_nI (by omega) (by decide), nm_e (nm_r (nI_1 _) (nm_r (nI_1 i) ?_))⟩
      have hKl : (K ++ [t]).length = K.length + 1 := by rw [List.length_append]; rfl
      rw [← hKl]
      refine ih (i + 1) N (K ++ [t]) _ hl2 (by omega) (by omega) (by omega) (by rw [List.append_assoc]; exact he') (mt_aO_snoc hk) ?_
      intro j t' hj hj2
      rw [pk_un (by omega)]
      exact htx j t' (by omega) hj2
theorem yw_er_find {ts : List Int32} (hts : ts.length = n) (hn : n ≤ 128) (htx : mt_aO a_text ts) {j f c : Nat} (hj : j < 200) (hfc : mp_cl ts f = some c) (hf : ∃ n43, wY_erasePair_43 post2 (nI f) (nI c) f_maxOps f_maxNodes f_maxLevels f_maxNames (nI (gt_n g)) (nI n) f_listLen n43 0 0 (gt_k g) (gt_p g) (gt_a g) (gt_c g) (gt_t g) a_text a_list a_leadOp a_follow a_groupAt a_groupOp a_groupNext a_rootOf a_found a_fromAt a_toAt a_work a_mark a_order) :
    ∀ (l : List Int32) (i r s N : Nat), ts.drop i = l → i + l.length = n → l.length < N → s + r = j → mp_n ts l i r = some f → wY_erasePair_4 post2 (nI j) f_maxOps f_maxNodes f_maxLevels f_maxNames (nI (gt_n g)) (nI n) f_listLen (gt_k g) (gt_p g) (gt_a g) (gt_c g) (gt_t g) a_text a_list a_leadOp a_follow a_groupAt a_groupOp a_groupNext a_rootOf a_found a_fromAt a_toAt a_work a_mark a_order N (nI s - 1) (nI i) := by
  intro l
  induction l with
  | nil => intro i r s N _ _ _ _ h; cases h
  | cons t l ih =>
    intro i r s N hl hi hN hs hm
    obtain ⟨N, rfl⟩ : ∃ N', N = N' + 1 := ⟨N - 1, by omega⟩
    obtain ⟨hl2, hti, hil⟩ := mp_drop hl
    rw [List.length_cons] at hi hN
    have hm' : (match mp_cl ts i with | none => mp_n ts l (i + 1) r | some _ => if r = 0 then some i else mp_n ts l (i + 1) (r - 1)) = some f := hm
    rw [wY_erasePair_4]
    refine br_f (nI_ge (by omega) (by omega)) (yw_closer hts hn htx (by omega) ?_)
    cases hc : mp_cl ts i with
    | none =>
      rw [hc] at hm'
      refine br_t (by show (-1 : Int32) < 0; decide) ?_
      unfold wY_erasePair_27
      exact br_t (by show (-1 : Int32) < 0; decide) (nm_r (nI_1 i) (ih (i + 1) r s N hl2 (by omega) (by omega) hs hm'))
    | some c' =>
      rw [hc] at hm'
      have hm2 : (if r = 0 then some i else mp_n ts l (i + 1) (r - 1)) = some f := hm'
      have hcl := mp_cl_lt hc
      refine br_f (nI_pos (n := c') (by omega)) (nm_r (e' := nI s) (by generalize nI s = z; grind) ?_)
      unfold wY_erasePair_27
      refine br_f (nI_pos (n := c') (by omega)) (pk_eq s j (fun h1 => ?_) (fun h1 => nm_r (nI_1 i) ?_))
      · rw [if_pos (by omega)] at hm2
        have ef : i = f := Option.some.inj hm2
        subst ef
        rw [hc] at hfc
        have ec : c' = c := Option.some.inj hfc
        subst ec
        exact hf
      · rw [if_neg (by omega)] at hm2
        have h9 := ih (i + 1) (r - 1) (s + 1) N hl2 (by omega) (by omega) (by omega) hm2
        rw [nI_pred] at h9
        exact h9
theorem yw_er_no {ts : List Int32} (hts : ts.length = n) (hn : n ≤ 128) (htx : mt_aO a_text ts) {x : Int32} (hp : post2 (-1) (f_maxOps, f_maxNodes, f_maxLevels, f_maxNames, nI (gt_n g), nI n, f_listLen, gt_k g, gt_p g, gt_a g, gt_c g, gt_t g, a_text, a_list, a_leadOp, a_follow, a_groupAt, a_groupOp, a_groupNext, a_rootOf, a_found, a_fromAt, a_toAt, a_work, a_mark, a_order)) :
    ∀ (l : List Int32) (i s N : Nat), ts.drop i = l → i + l.length = n → l.length < N → s ≤ i → (∀ q, s ≤ q → q < s + mp_sm l → nI q ≠ x) → wY_erasePair_4 post2 x f_maxOps f_maxNodes f_maxLevels f_maxNames (nI (gt_n g)) (nI n) f_listLen (gt_k g) (gt_p g) (gt_a g) (gt_c g) (gt_t g) a_text a_list a_leadOp a_follow a_groupAt a_groupOp a_groupNext a_rootOf a_found a_fromAt a_toAt a_work a_mark a_order N (nI s - 1) (nI i) := by
  intro l
  induction l with
  | nil =>
    intro i s N hl hi hN hs hx
    obtain ⟨N, rfl⟩ : ∃ N', N = N' + 1 := ⟨N - 1, by omega⟩
    have hin : i = n := hi
    rw [wY_erasePair_4]
    exact br_t (nI_le (by omega) (by omega)) hp
  | cons t l ih =>
    intro i s N hl hi hN hs hx
    obtain ⟨N, rfl⟩ : ∃ N', N = N' + 1 := ⟨N - 1, by omega⟩
    obtain ⟨hl2, hti, hil⟩ := mp_drop hl
    rw [List.length_cons] at hi hN
    rw [mp_sm_cons hl] at hx
    rw [wY_erasePair_4]
    refine br_f (nI_ge (by omega) (by omega)) (yw_closer hts hn htx (by omega) ?_)
    cases hc : mp_cl ts i with
    | none =>
      rw [hc, show (none : Option Nat).isSome = false from rfl, if_neg (by decide), Nat.zero_add] at hx
      refine br_t (by show (-1 : Int32) < 0; decide) ?_
      unfold wY_erasePair_27
      exact br_t (by show (-1 : Int32) < 0; decide) (nm_r (nI_1 i) (ih (i + 1) s N hl2 (by omega) (by omega) (by omega) hx))
    | some c' =>
      rw [hc, show (some c').isSome = true from rfl, if_pos rfl] at hx
      have hcl := mp_cl_lt hc
      refine br_f (nI_pos (n := c') (by omega)) (nm_r (e' := nI s) (by generalize nI s = z; grind) ?_)
      unfold wY_erasePair_27
      refine br_f (nI_pos (n := c') (by omega)) (br_f (hx s (Nat.le_refl _) (by omega)) (nm_r (nI_1 i) ?_))
      have h9 := ih (i + 1) (s + 1) N hl2 (by omega) (by omega) (by omega) (fun q h1 h2 => hx q (by omega) (by omega))
      rw [nI_pred] at h9
      exact h9
end
theorem mp_sm_le : ∀ (l : List Int32), mp_sm l ≤ l.length := by
  intro l
  induction l with
  | nil => exact Nat.le_refl _
  | cons t l ih =>
    show (if t = 0 ∧ (mp_c l 1 0).isSome = true then 1 else 0) + mp_sm l ≤ l.length + 1
    split <;> omega
theorem i_vc_erasePair {k : Nat} {u : SX} {v : SY} (I : i_Rel k u v) (hk : k + 5 ≤ 2564) (v1 : Int32) : wpX_erasePair (fun r u' => wpY_erasePair (fun r' v' => r' = r ∧ i_Rel (k + 5) u' v') v v1) u v1 := by
  refine rl_el (P := fun u v => wpX_erasePair (fun r u' => wpY_erasePair (fun r' v' => r' = r ∧ i_Rel (k + 5) u' v') v v1) u v1) I ?_
  intro g opL nodeL levL ts F f_depth f_wanting f_clashing f_outLen f_treeBase f_treeNodes f_workDepth a_opener a_joiner a_inner xt xl a_frameOp a_frameNext a_out a_partner a_openAt a_treeOp a_parent a_slot a_kid a_wrapped a_workNode a_workStep yt yl a_leadOp a_follow a_groupAt a_groupOp a_groupNext a_rootOf a_found a_fromAt a_toAt a_work a_mark a_order hR
  have hR' := hR
  obtain ⟨H, hl, ho, hn, hlv, hx, hts, hxt, hyt, htk, hw, hsz, hxl, hyl⟩ := hR
  have hsm := mp_sm_le ts
  have hts128 : ts.length ≤ 128 := by omega
  unfold wpX_erasePair
  refine xw_pairs (ts := ts) rfl hts128 hxt ?_
  intro pt oa hpt
  rcases pk_ix v1 (n := mp_sm ts) (by omega) with h | h | ⟨j, hj, rfl⟩
  · refine br_t h ⟨ts.length + 1, ?_⟩
    refine yw_er_no (ts := ts) rfl hts128 hyt ⟨rfl, rl_in hR'⟩ ts 0 0 _ rfl (by omega) (by omega) (Nat.le_refl _) ?_
    intro q h1 h2 e
    rw [← e] at h
    exact nI_pos (by omega) h
  · have h0 : ¬ v1 < 0 := by
      intro z
      rw [Int32.lt_iff_toInt_lt] at z
      rw [Int32.le_iff_toInt_le, nI_toInt (by omega)] at h
      have e2 : (0 : Int32).toInt = 0 := by decide
      omega
    refine br_f h0 (br_f (Int32.not_lt.mpr h) ⟨ts.length + 1, ?_⟩)
    refine yw_er_no (ts := ts) rfl hts128 hyt ⟨rfl, rl_in hR'⟩ ts 0 0 _ rfl (by omega) (by omega) (Nat.le_refl _) ?_
    intro q h1 h2 e
    rw [← e] at h
    have := (nI_leI (by omega) (by omega)).mp h
    omega
  · obtain ⟨f, c, hm, hfc, _⟩ := mp_n_some ts 0 j rfl hj
    have hcl := mp_cl_lt hfc
    obtain ⟨hel, hem⟩ := mp_er_len f c ts 0
    refine br_f (nI_pos (by omega)) (br_t (nI_lt hj (by omega)) ⟨ts.length + 2, ?_⟩)
    refine xw_er_find (ts := ts) rfl hts128 hpt (f := f) (by omega) ?_ (by omega) ts 0 j 0 _ rfl (by omega) (by omega) (by omega) hm
    unfold wX_erasePair_65
    refine br_t (nI_pos' (by omega)) ⟨vp_in_nI (by omega) (by decide), nm_r (e' := nI c) (by rw [nI_clamp (by omega), hpt f (by omega), hfc]; rfl) ⟨ts.length + 1, ?_⟩⟩
    refine xw_er_cp (ts := ts) rfl hts128 (f := f) (c := c) (by omega) hcl.2 ?_ ts 0 _ [] xt rfl (by omega) (by omega) (Nat.le_refl _) rfl (fun j x h => by simp at h) (fun j t _ h => hxt j t h)
    intro txt htxt
    refine ⟨ts.length + 1, ?_⟩
    refine yw_er_find (ts := ts) rfl hts128 hyt (f := f) (c := c) (by omega) hfc ⟨ts.length + 1, ?_⟩ ts 0 j 0 _ rfl (by omega) (by omega) (by omega) hm
    refine yw_er_cp (ts := ts) rfl hts128 (f := f) (c := c) (by omega) hcl.2 ?_ ts 0 _ [] yt rfl (by omega) (by omega) (Nat.le_refl _) rfl (fun j x h => by simp at h) (fun j t _ h => hyt j t h)
    intro txt2 htxt2
    exact ⟨rfl, rl_in (ts := mp_er f c ts 0) ⟨H, hl, ho, hn, hlv, hx, by omega, htxt, htxt2, fun t ht => htk t (hem t ht), hw, hsz, hxl, hyl⟩⟩
end
section
/-! marks by node number; the marking lemma -/
def pr_mk (w : Nat → Bool) : ff_F → Nat → ff_F
  | .leaf => fun _ => .leaf
  | .inner _ e _ p k => fun a => .inner (cond (w (a + ff_sz p + ff_sz k)) 1 0) e () (pr_mk w p a) (pr_mk w k (a + ff_sz p))
def ff_ss : ff_F → ff_F → Prop
  | .leaf, .leaf => True
  | .inner _ e _ p k, .inner _ e' _ p' k' => e = e' ∧ ff_ss p p' ∧ ff_ss k k'
  | _, _ => False
theorem pr_mk_ss (w : Nat → Bool) : ∀ (F : ff_F) (a : Nat), ff_ss F (pr_mk w F a) := by
  intro F
  induction F with
  | leaf => intro a; trivial
  | inner m e u p k ihp ihk => intro a; exact ⟨rfl, ihp a, ihk _⟩
theorem ff_ss_len : ∀ (F F' : ff_F), ff_ss F F' → ff_len F = ff_len F' ∧ ff_sz F = ff_sz F' ∧ ff_post F = ff_post F' ∧ ff_lf F = ff_lf F' := by
  intro F
  induction F with
  | leaf =>
    intro F' h
    cases F' with
    | leaf => exact ⟨rfl, rfl, rfl, rfl⟩
    | inner m e u p k => cases h
  | inner m e u p k ihp ihk =>
    intro F' h
    cases F' with
    | leaf => cases h
    | inner m' e' u' p' k' =>
      obtain ⟨h1, h2, h3⟩ := h
      obtain ⟨a1, a2, a3, a4⟩ := ihp p' h2
      obtain ⟨b1, b2, b3, b4⟩ := ihk k' h3
      subst h1
      refine ⟨?_, ?_, ?_, rfl⟩
      · show ff_len p + 1 = ff_len p' + 1; rw [a1]
      · show ff_sz p + ff_sz k + 1 = ff_sz p' + ff_sz k' + 1; rw [a2, b2]
      · show ff_post p ++ (ff_post k ++ _) = ff_post p' ++ (ff_post k' ++ _); rw [a3, b3]
theorem ff_ss_wf {g : gt_T} : ∀ (F F' : ff_F), ff_ss F F' → ff_wf g F → ff_wf g F' := by
  intro F
  induction F with
  | leaf =>
    intro F' h _
    cases F' with
    | leaf => trivial
    | inner m e u p k => cases h
  | inner m e u p k ihp ihk =>
    intro F' h hw
    cases F' with
    | leaf => cases h
    | inner m' e' u' p' k' =>
      obtain ⟨h1, h2, h3⟩ := h
      subst h1
      obtain ⟨b1, b2, b3, b4⟩ := ff_ss_len k k' h3
      refine ⟨ihp p' h2 hw.1, ihk k' h3 hw.2.1, ?_⟩
      match e, hw with
      | .inl t, hw => exact ⟨hw.2.2.1, by rw [← b4]; exact hw.2.2.2⟩
      | .inr q, hw => exact ⟨hw.2.2.1, by rw [← b1]; exact hw.2.2.2⟩
def ff_ap (p : ff_F) : ff_F → ff_F
  | .leaf => p
  | .inner m e u p2 k => .inner m e u (ff_ap p p2) k
theorem ff_ap_post (p : ff_F) : ∀ (k : ff_F), ff_post (ff_ap p k) = ff_post p ++ ff_post k := by
  intro k
  induction k with
  | leaf => exact (List.append_nil _).symm
  | inner m e u p2 k ihp ihk =>
    show ff_post (ff_ap p p2) ++ (ff_post k ++ [ff_ent e]) = ff_post p ++ (ff_post p2 ++ (ff_post k ++ [ff_ent e]))
    rw [ihp, List.append_assoc]
theorem ff_ap_wf {g : gt_T} {p : ff_F} (hp : ff_wf g p) : ∀ (k : ff_F), ff_wf g k → ff_wf g (ff_ap p k) := by
  intro k
  induction k with
  | leaf => intro _; exact hp
  | inner m e u p2 k ihp ihk => intro h; exact ⟨ihp h.1, h.2.1, h.2.2⟩
theorem ff_ap_ss {p p' : ff_F} : ∀ (k k' : ff_F), ff_len k = ff_len k' → ff_ss (ff_ap p k) (ff_ap p' k') → ff_ss p p' ∧ ff_ss k k' := by
  intro k
  induction k with
  | leaf =>
    intro k' hl h
    have := ff_lf_leaf (ff_len0.mp hl.symm)
    subst this
    exact ⟨h, trivial⟩
  | inner m e u p2 k ihp ihk =>
    intro k' hl h
    cases k' with
    | leaf => cases hl
    | inner m' e' u' p2' k' =>
      obtain ⟨h1, h2, h3⟩ := h
      obtain ⟨a, b⟩ := ihp p2' (Nat.succ.inj hl) h2
      exact ⟨a, h1, b, h3⟩
theorem ff_ent_inj {g : gt_T} (H : gt_ok g) {e e' : Int32 ⊕ Nat} {k k' : ff_F} (h1 : ff_we g e k) (h2 : ff_we g e' k') (h : ff_ent e = ff_ent e') : e = e' := by
  have hl := H.2.1
  have hn := H.1
  match e, e', h1, h2, h with
  | .inl t, .inl t', _, _, h => rw [show t = t' from h]
  | .inr q, .inr q', h1, h2, h =>
    have h' : nI (100 + q) = nI (100 + q') := by rw [← nI_add, ← nI_add]; exact h
    have hq : q < gt_n g := h1.1
    have hq' : q' < gt_n g := h2.1
    have := (nI_eq (by omega) (by omega)).mp h'
    rw [show q = q' by omega]
  | .inl t, .inr q, h1, h2, h =>
    obtain ⟨j, _, hj, rfl⟩ := gt_at_j H h1.1
    have h' : nI j = nI (100 + q) := by rw [← nI_add]; exact h
    have hq : q < gt_n g := h2.1
    have := (nI_eq (by omega) (by omega)).mp h'
    omega
  | .inr q, .inl t, h1, h2, h =>
    obtain ⟨j, _, hj, rfl⟩ := gt_at_j H h2.1
    have h' : nI j = nI (100 + q) := by rw [← nI_add]; exact h.symm
    have hq : q < gt_n g := h1.1
    have := (nI_eq (by omega) (by omega)).mp h'
    omega
theorem ff_post_ss {g : gt_T} (H : gt_ok g) : ∀ (n : Nat) (F F' : ff_F), (ff_post F).length = n → ff_wf g F → ff_wf g F' → ff_post F = ff_post F' → ff_ss F F' := by
  intro n
  induction n with
  | zero =>
    intro F F' hn hw hw' h
    rw [ff_post_len] at hn
    have h2 : (ff_post F').length = 0 := by rw [← h, ff_post_len]; exact hn
    rw [ff_post_len] at h2
    cases F with
    | leaf =>
      cases F' with
      | leaf => trivial
      | inner m e u p k => exact absurd h2 (by show ¬ (ff_sz p + ff_sz k + 1 = 0); omega)
    | inner m e u p k => exact absurd hn (by show ¬ (ff_sz p + ff_sz k + 1 = 0); omega)
  | succ n ih =>
    intro F F' hn hw hw' h
    have hl2 := congrArg List.length h
    rw [hn] at hl2
    cases F with
    | leaf => cases hn
    | inner m e u p k =>
      cases F' with
      | leaf => cases hl2
      | inner m' e' u' p' k' =>
        have h' : (ff_post p ++ ff_post k) ++ [ff_ent e] = (ff_post p' ++ ff_post k') ++ [ff_ent e'] := by
          rw [List.append_assoc, List.append_assoc]
          exact h
        obtain ⟨e1, e2⟩ := List.append_inj' h' rfl
        have ee := ff_ent_inj H hw.2.2 hw'.2.2 (List.singleton_inj.mp e2)
        subst ee
        have hlen : ff_len k = ff_len k' := (ff_we_ar hw.2.2).trans (ff_we_ar hw'.2.2).symm
        have hss := ih (ff_ap p k) (ff_ap p' k') (by
          rw [ff_ap_post, List.length_append]
          have hn2 : (ff_post p ++ (ff_post k ++ [ff_ent e])).length = n + 1 := hn
          rw [List.length_append, List.length_append, List.length_singleton] at hn2
          omega) (ff_ap_wf hw.1 k hw.2.1) (ff_ap_wf hw'.1 k' hw'.2.1) (by rw [ff_ap_post, ff_ap_post]; exact e1)
        obtain ⟨a, b⟩ := ff_ap_ss k k' hlen hss
        exact ⟨rfl, a, b⟩
/-! depths of the tokens that are no parentheses -/
def pd_l : Nat → List Int32 → List Nat
  | _, [] => []
  | d, t :: l => if t = 0 then pd_l (d + 1) l else if t = 1 then pd_l (d - 1) l else d :: pd_l d l
def pd_s (g : gt_T) (q i d : Nat) : List Nat := if gt_LO g q = true ∧ i = 0 then [] else [d]
def pd_e (g : gt_T) (e : Int32 ⊕ Nat) (fk : Nat → Nat → List Nat) (i d : Nat) : List Nat := match e with
  | .inl _ => [d]
  | .inr q => fk q d ++ (if gt_RO g q = true then [] else pd_s g q i d)
def pd_F (g : gt_T) : ff_F → Nat → Nat → List Nat
  | .leaf => fun _ _ => []
  | .inner m e _ p k => fun q d => pd_F g p q d ++ (pd_s g q (ff_len p) d ++ pd_e g e (pd_F g k) (ff_len k) (d + m))
theorem pd_wrap {g : gt_T} {l : List ff_A} {L : Nat → List Nat} (h : ∀ d rest, pd_l d (l.map Prod.fst ++ rest) = L d ++ pd_l d rest) : ∀ (m d : Nat) (rest : List Int32), pd_l d ((ff_wr m l).map Prod.fst ++ rest) = L (d + m) ++ pd_l d rest := by
  intro m
  induction m with
  | zero => intro d rest; exact h d rest
  | succ m ih =>
    intro d rest
    show pd_l d (0 :: ((ff_wr m l ++ [(1, none, 0)]).map Prod.fst ++ rest)) = _
    rw [List.map_append, List.append_assoc]
    show pd_l (d + 1) ((ff_wr m l).map Prod.fst ++ (1 :: rest)) = _
    rw [ih (d + 1) (1 :: rest)]
    show L (d + 1 + m) ++ pd_l (d + 1 - 1) rest = _
    rw [Nat.add_sub_cancel, show d + 1 + m = d + (m + 1) by omega]
theorem pd_sp {g : gt_T} (H : gt_ok g) {q i r : Nat} (hq : q < gt_n g) (hi : gt_s g q i ≤ gt_PC g q) (d : Nat) (rest : List Int32) : pd_l d ((ff_sp g q i r).map Prod.fst ++ rest) = pd_s g q i d ++ pd_l d rest := by
  rw [ff_sp_fst]
  unfold pd_s
  by_cases h : gt_LO g q = true ∧ i = 0
  · rw [if_pos h, if_pos h]
    rfl
  · rw [if_neg h, if_neg h]
    have hs : 0 < gt_s g q i := by
      unfold gt_s
      split
      · rename_i hlo
        have : ¬ i = 0 := fun z => h ⟨hlo, z⟩
        omega
      · omega
    have hp := gt_pt H hq (m := gt_s g q i - 1) (by omega)
    show (if gt_PT g q (gt_s g q i - 1) = 0 then _ else if gt_PT g q (gt_s g q i - 1) = 1 then _ else d :: pd_l d rest) = _
    rw [if_neg hp.1, if_neg hp.2]
    rfl
theorem pd_fl {g : gt_T} (H : gt_ok g) : ∀ (F : ff_F), ff_wf g F → (∀ q, q < gt_n g → ff_len F ≤ gt_ar g q → ∀ d rest, pd_l d ((ff_fl g F q).map Prod.fst ++ rest) = pd_F g F q d ++ pd_l d rest) ∧ (∀ m e, ff_we g e F → ∀ d rest, pd_l d ((ff_N g m e F).map Prod.fst ++ rest) = pd_e g e (pd_F g F) (ff_len F) (d + m) ++ pd_l d rest) := by
  intro F
  have node : ∀ (F : ff_F), (∀ q, q < gt_n g → ff_len F ≤ gt_ar g q → ∀ d rest, pd_l d ((ff_fl g F q).map Prod.fst ++ rest) = pd_F g F q d ++ pd_l d rest) → ∀ m e, ff_we g e F → ∀ d rest, pd_l d ((ff_N g m e F).map Prod.fst ++ rest) = pd_e g e (pd_F g F) (ff_len F) (d + m) ++ pd_l d rest := by
    intro F hF m e he d rest
    refine pd_wrap (g := g) (l := ff_bd g e (ff_fl g F) (ff_len F)) (L := pd_e g e (pd_F g F) (ff_len F)) ?_ m d rest
    intro d rest
    match e, he with
    | .inl t, he =>
      have h2 := gt_at_ne he.1
      show (if t = 0 then _ else if t = 1 then _ else d :: pd_l d rest) = _
      rw [if_neg h2.1, if_neg h2.2]
      rfl
    | .inr q, ⟨hq, hl⟩ =>
      show pd_l d ((ff_fl g F q ++ ff_tl g q (ff_len F)).map Prod.fst ++ rest) = (pd_F g F q d ++ (if gt_RO g q = true then [] else pd_s g q (ff_len F) d)) ++ pd_l d rest
      rw [List.map_append, List.append_assoc, hF q hq (Nat.le_of_eq hl), List.append_assoc]
      unfold ff_tl
      by_cases hr : gt_RO g q = true
      · rw [if_pos hr, if_pos hr]
        rfl
      · rw [if_neg hr, if_neg hr]
        have hr' : gt_RO g q = false := by
          cases h : gt_RO g q with
          | false => rfl
          | true => exact absurd h hr
        rw [pd_sp H hq (Nat.le_of_eq (gt_npush H hq hr' hl))]
  induction F with
  | leaf => intro _; exact ⟨fun q _ _ d rest => rfl, node .leaf (fun q _ _ d rest => rfl)⟩
  | inner m e u p k ihp ihk =>
    intro hw
    have h1 : ∀ q, q < gt_n g → ff_len (.inner m e u p k) ≤ gt_ar g q → ∀ d rest, pd_l d ((ff_fl g (.inner m e u p k) q).map Prod.fst ++ rest) = pd_F g (.inner m e u p k) q d ++ pd_l d rest := by
      intro q hq hl d rest
      have hl' : ff_len p + 1 ≤ gt_ar g q := hl
      rw [ff_fl_in, List.map_append, List.append_assoc, (ihp hw.1).1 q hq (by omega), List.map_append, List.append_assoc, pd_sp H hq (gt_s_le H hq (by omega)), (ihk hw.2.1).2 m e hw.2.2]
      show _ = (pd_F g p q d ++ (pd_s g q (ff_len p) d ++ pd_e g e (pd_F g k) (ff_len k) (d + m))) ++ _
      simp only [List.append_assoc]
    exact ⟨h1, node _ h1⟩
theorem pd_e_ge {g : gt_T} : ∀ (F : ff_F), (∀ q d x, x ∈ pd_F g F q d → d ≤ x) ∧ (∀ e d x, x ∈ pd_e g e (pd_F g F) (ff_len F) d → d ≤ x) := by
  intro F
  have node : ∀ (F : ff_F), (∀ q d x, x ∈ pd_F g F q d → d ≤ x) → ∀ e d x, x ∈ pd_e g e (pd_F g F) (ff_len F) d → d ≤ x := by
    intro F hF e d x hx
    match e, hx with
    | .inl t, hx => exact Nat.le_of_eq (List.mem_singleton.mp hx).symm
    | .inr q, hx =>
      have hx' : x ∈ pd_F g F q d ++ (if gt_RO g q = true then [] else pd_s g q (ff_len F) d) := hx
      rcases List.mem_append.mp hx' with h | h
      · exact hF q d x h
      · split at h
        · cases h
        · unfold pd_s at h
          split at h
          · cases h
          · exact Nat.le_of_eq (List.mem_singleton.mp h).symm
  induction F with
  | leaf => exact ⟨fun q d x h => (nomatch h), node .leaf (fun q d x h => (nomatch h))⟩
  | inner m e u p k ihp ihk =>
    have h1 : ∀ q d x, x ∈ pd_F g (.inner m e u p k) q d → d ≤ x := by
      intro q d x hx
      have hx' : x ∈ pd_F g p q d ++ (pd_s g q (ff_len p) d ++ pd_e g e (pd_F g k) (ff_len k) (d + m)) := hx
      rcases List.mem_append.mp hx' with h | h
      · exact ihp.1 q d x h
      · rcases List.mem_append.mp h with h | h
        · unfold pd_s at h
          split at h
          · cases h
          · exact Nat.le_of_eq (List.mem_singleton.mp h).symm
        · have := ihk.2 e (d + m) x h
          omega
    exact ⟨h1, node _ h1⟩
theorem pd_e_mem {g : gt_T} (H : gt_ok g) {e : Int32 ⊕ Nat} {k : ff_F} (he : ff_we g e k) (d : Nat) : d ∈ pd_e g e (pd_F g k) (ff_len k) d := by
  match e, he with
  | .inl t, _ => exact List.mem_singleton.mpr rfl
  | .inr q, ⟨hq, hl⟩ =>
    show d ∈ pd_F g k q d ++ (if gt_RO g q = true then [] else pd_s g q (ff_len k) d)
    by_cases hr : gt_RO g q = true
    · apply List.mem_append_left
      cases k with
      | leaf =>
        exfalso
        have h0 : gt_ar g q = 0 := hl.symm
        rcases gt_cs H hq with h | h | h | h
        · omega
        · omega
        · omega
        · rw [h.2.1] at hr; cases hr
      | inner m e u p k' =>
        have hl' : ff_len p + 1 = gt_ar g q := hl
        show d ∈ pd_F g p q d ++ (pd_s g q (ff_len p) d ++ _)
        apply List.mem_append_right
        apply List.mem_append_left
        unfold pd_s
        rw [if_neg]
        · exact List.mem_singleton.mpr rfl
        · rintro ⟨a, b⟩
          rcases gt_cs H hq with h | h | h | h
          · rw [h.1] at a; cases a
          · rw [h.2.1] at hr; cases hr
          · omega
          · rw [h.1] at a; cases a
    · apply List.mem_append_right
      rw [if_neg hr]
      have hr' : gt_RO g q = false := by
        cases h : gt_RO g q with
        | false => rfl
        | true => exact absurd h hr
      have hs := gt_npush H hq hr' hl
      have hpc := (gt_pc4 H hq).1
      unfold pd_s
      rw [if_neg]
      · exact List.mem_singleton.mpr rfl
      · rintro ⟨a, b⟩
        unfold gt_s at hs
        rw [if_pos a] at hs
        omega
theorem pd_F_len {g : gt_T} : ∀ (F F' : ff_F), ff_ss F F' → ∀ q d d', (pd_F g F q d).length = (pd_F g F' q d').length := by
  intro F
  induction F with
  | leaf =>
    intro F' h q d d'
    cases F' with
    | leaf => rfl
    | inner m e u p k => cases h
  | inner m e u p k ihp ihk =>
    intro F' h q d d'
    cases F' with
    | leaf => cases h
    | inner m' e' u' p' k' =>
      obtain ⟨h1, h2, h3⟩ := h
      subst h1
      obtain ⟨a1, _, _, _⟩ := ff_ss_len p p' h2
      obtain ⟨b1, _, _, _⟩ := ff_ss_len k k' h3
      show (pd_F g p q d ++ (pd_s g q (ff_len p) d ++ pd_e g e (pd_F g k) (ff_len k) (d + m))).length = (pd_F g p' q d' ++ (pd_s g q (ff_len p') d' ++ pd_e g e (pd_F g k') (ff_len k') (d' + m'))).length
      rw [List.length_append, List.length_append, List.length_append, List.length_append, ihp p' h2 q d d', a1, b1]
      have e1 : (pd_s g q (ff_len p') d).length = (pd_s g q (ff_len p') d').length := by
        unfold pd_s
        split <;> rfl
      have e2 : (pd_e g e (pd_F g k) (ff_len k') (d + m)).length = (pd_e g e (pd_F g k') (ff_len k') (d' + m')).length := by
        match e with
        | .inl t => rfl
        | .inr q' =>
          show (pd_F g k q' (d + m) ++ (if gt_RO g q' = true then [] else pd_s g q' (ff_len k') (d + m))).length = (pd_F g k' q' (d' + m') ++ (if gt_RO g q' = true then [] else pd_s g q' (ff_len k') (d' + m'))).length
          rw [List.length_append, List.length_append, ihk k' h3 q' (d + m) (d' + m')]
          have e3 : (if gt_RO g q' = true then [] else pd_s g q' (ff_len k') (d + m)).length = (if gt_RO g q' = true then [] else pd_s g q' (ff_len k') (d' + m')).length := by
            split
            · rfl
            · unfold pd_s
              split <;> rfl
          rw [e3]
      rw [e1, e2]
theorem pd_inj {g : gt_T} (H : gt_ok g) : ∀ (F F' : ff_F), ff_ss F F' → ff_wf g F → ∀ q d, pd_F g F q d = pd_F g F' q d → F = F' := by
  intro F
  induction F with
  | leaf =>
    intro F' h _ q d _
    cases F' with
    | leaf => rfl
    | inner m e u p k => cases h
  | inner m e u p k ihp ihk =>
    intro F' h hw q d hd
    cases F' with
    | leaf => cases h
    | inner m' e' u' p' k' =>
      have hss := h
      obtain ⟨h1, h2, h3⟩ := h
      subst h1
      obtain ⟨a1, _, _, _⟩ := ff_ss_len p p' h2
      obtain ⟨b1, _, _, _⟩ := ff_ss_len k k' h3
      have hw' := ff_ss_wf _ _ hss hw
      have hd' : pd_F g p q d ++ (pd_s g q (ff_len p) d ++ pd_e g e (pd_F g k) (ff_len k) (d + m)) = pd_F g p' q d ++ (pd_s g q (ff_len p') d ++ pd_e g e (pd_F g k') (ff_len k') (d + m')) := hd
      obtain ⟨c1, c2⟩ := List.append_inj hd' (pd_F_len p p' h2 q d d)
      rw [a1] at c2
      have c3 := List.append_cancel_left c2
      have ep := ihp p' h2 hw.1 q d c1
      have em : m = m' := by
        have m1 : d + m ∈ pd_e g e (pd_F g k') (ff_len k') (d + m') := by rw [← c3]; exact pd_e_mem H hw.2.2 (d + m)
        have m2 : d + m' ∈ pd_e g e (pd_F g k) (ff_len k) (d + m) := by rw [c3]; exact pd_e_mem H hw'.2.2 (d + m')
        have := (pd_e_ge k').2 e (d + m') (d + m) m1
        have := (pd_e_ge k).2 e (d + m) (d + m') m2
        omega
      subst em
      have ek : k = k' := by
        match e, hw, c3 with
        | .inl t, hw, _ =>
          have e1 := ff_lf_leaf hw.2.2.2
          have e2 := ff_lf_leaf hw'.2.2.2
          rw [e1, e2]
        | .inr q', hw, c3 =>
          have c4 : pd_F g k q' (d + m) ++ (if gt_RO g q' = true then [] else pd_s g q' (ff_len k) (d + m)) = pd_F g k' q' (d + m) ++ (if gt_RO g q' = true then [] else pd_s g q' (ff_len k') (d + m)) := c3
          rw [b1] at c4
          exact ihk k' h3 hw.2.1 q' (d + m) (List.append_cancel_right c4)
      subst ep ek
      rfl
/-- a tree is determined by its nodes and its text -/
theorem pr_mark {g : gt_T} (H : gt_ok g) {T T' : ff_F} (h1 : ff_len T = 1) (h1' : ff_len T' = 1) (hw : ff_wf g T) (hw' : ff_wf g T') (hp : ff_post T = ff_post T') (ht : (ff_C g T).map Prod.fst = (ff_C g T').map Prod.fst) : T = T' := by
  have hss := ff_post_ss H _ T T' rfl hw hw' hp
  match T, T', h1, h1', hw, hw', hss, ht with
  | .inner m e u p k, .inner m' e' u' p' k', h1, h1', hw, hw', hss, ht =>
    have ep := ff_lf_leaf (ff_len0.mp (Nat.succ.inj h1))
    have ep' := ff_lf_leaf (ff_len0.mp (Nat.succ.inj h1'))
    subst ep ep'
    have h2 := (pd_fl H k hw.2.1).2 m e hw.2.2 0 []
    have h3 := (pd_fl H k' hw'.2.1).2 m' e' hw'.2.2 0 []
    have ht' : (ff_N g m e k).map Prod.fst = (ff_N g m' e' k').map Prod.fst := ht
    rw [ht', h3, Nat.zero_add, Nat.zero_add, List.append_cancel_right_eq] at h2
    -- compare the depth lists under an operator that is not left open at place 0
    have hdl : ∀ (mm : Nat) (ee : Int32 ⊕ Nat) (kk : ff_F) (q : Nat), pd_F g (.inner mm ee () .leaf kk) q 0 = pd_s g q 0 0 ++ pd_e g ee (pd_F g kk) (ff_len kk) mm := by
      intro mm ee kk q
      show [] ++ (pd_s g q 0 0 ++ pd_e g ee (pd_F g kk) (ff_len kk) (0 + mm)) = _
      rw [List.nil_append, Nat.zero_add]
    refine pd_inj H _ _ hss hw 0 0 ?_
    show pd_F g (.inner m e () .leaf k) 0 0 = pd_F g (.inner m' e' () .leaf k') 0 0
    rw [hdl, hdl, h2]
end
section
/-! lengths and counts of marked trees -/
theorem ff_sN_eq (g : gt_T) (q : Nat) : ∀ (F : ff_F), ff_sN g F + ff_len F = (ff_fl g F q).length + (if gt_LO g q = true ∧ ff_lf F = false then 1 else 0) := by
  intro F
  induction F with
  | leaf => show 0 = 0 + _; rw [if_neg (fun z => by cases z.2)]
  | inner m e u p k ihp ihk =>
    rw [ff_fl_in, List.length_append, List.length_append]
    show ff_sN g p + (ff_N g m e k).length + (ff_len p + 1) = _ + (if gt_LO g q = true ∧ false = false then 1 else 0)
    unfold ff_sp
    by_cases hl : gt_LO g q = true
    · by_cases h0 : ff_len p = 0
      · have ep := ff_lf_leaf (ff_len0.mp h0)
        subst ep
        rw [if_pos ⟨hl, rfl⟩, if_pos ⟨hl, rfl⟩]
        show 0 + _ + (0 + 1) = 0 + (0 + _) + 1
        omega
      · have : ff_lf p = false := ff_lf_len (by omega)
        rw [if_pos ⟨hl, this⟩] at ihp
        rw [if_neg (fun z => h0 z.2), if_pos ⟨hl, rfl⟩, List.length_singleton]
        omega
    · rw [if_neg (fun z => hl z.1)] at ihp
      rw [if_neg (fun z => hl z.1), if_neg (fun z => hl z.1), List.length_singleton]
      omega
theorem ff_sN_ndeq {g : gt_T} (H : gt_ok g) {q : Nat} {F : ff_F} (hq : q < gt_n g) (hl : ff_len F = gt_ar g q) : ff_sN g F + gt_PC g q = (ff_N g 0 (.inr q) F).length := by
  have h1 := ff_sN_eq g q F
  have hlf : ff_lf F = false ∨ ff_len F = 0 := by
    cases h : ff_lf F with
    | false => exact Or.inl rfl
    | true => exact Or.inr (ff_len0.mpr h)
  rw [ff_N0o, List.length_append]
  unfold ff_tl ff_sp
  rcases gt_cs H hq with ⟨a, b, c, _⟩ | ⟨a, b, c, _⟩ | ⟨a, b, c, _⟩ | ⟨a, b, c, _⟩
  · rw [a] at h1 ⊢; rw [b]; simp at h1 ⊢; omega
  · have h2 : ¬ ff_len F = 0 := by omega
    have h3 : ff_lf F = false := by
      rcases hlf with h | h
      · exact h
      · exact absurd h h2
    rw [a, h3] at h1
    rw [a, b]
    simp [h2] at h1 ⊢
    omega
  · have h2 : ¬ ff_len F = 0 := by omega
    have h3 : ff_lf F = false := by
      rcases hlf with h | h
      · exact h
      · exact absurd h h2
    rw [a, h3] at h1
    rw [b]
    simp at h1 ⊢
    omega
  · rw [a] at h1 ⊢; rw [b]; simp at h1 ⊢; omega
theorem ff_wr_len (l : List ff_A) : ∀ m, (ff_wr m l).length = l.length + 2 * m := by
  intro m
  induction m with
  | zero => rfl
  | succ m ih =>
    show (ff_wr m l ++ [(1, none, 0)]).length + 1 = _
    rw [List.length_append, List.length_singleton, ih]
    omega
def ff_m1 : ff_F → Prop
  | .leaf => True
  | .inner m _ _ p k => m ≤ 1 ∧ ff_m1 p ∧ ff_m1 k
theorem pr_mk_m1 (w : Nat → Bool) : ∀ (F : ff_F) (a : Nat), ff_m1 (pr_mk w F a) := by
  intro F
  induction F with
  | leaf => intro a; trivial
  | inner m e u p k ihp ihk =>
    intro a
    refine ⟨?_, ihp a, ihk _⟩
    cases w (a + ff_sz p + ff_sz k) <;> decide
theorem pr_bound {g : gt_T} (H : gt_ok g) : ∀ (F : ff_F), ff_wf g F → ff_m1 F → ff_sN g F + ff_len F ≤ 4 * ff_sz F ∧ (∀ m e, ff_we g e F → (ff_N g m e F).length ≤ 4 * ff_sz F + 1 + 2 * m) := by
  intro F
  have node : ∀ (F : ff_F), ff_sN g F + ff_len F ≤ 4 * ff_sz F → ∀ m e, ff_we g e F → (ff_N g m e F).length ≤ 4 * ff_sz F + 1 + 2 * m := by
    intro F hF m e he
    show (ff_wr m (ff_bd g e (ff_fl g F) (ff_len F))).length ≤ _
    rw [ff_wr_len]
    match e, he with
    | .inl t, he =>
      show 1 + 2 * m ≤ _
      omega
    | .inr q, ⟨hq, hl⟩ =>
      have h1 := ff_sN_ndeq H hq hl
      have h2 : (ff_bd g (.inr q) (ff_fl g F) (ff_len F)).length = (ff_N g 0 (.inr q) F).length := rfl
      rw [h2, ← h1]
      rcases gt_cs H hq with h | h | h | h <;> omega
  induction F with
  | leaf => intro _ _; exact ⟨Nat.le_refl _, node .leaf (Nat.le_refl _)⟩
  | inner m e u p k ihp ihk =>
    intro hw hm
    have h1 := (ihp hw.1 hm.2.1).1
    have h2 := (ihk hw.2.1 hm.2.2).2 m e hw.2.2
    have hm1 := hm.1
    have h3 : ff_sN g (.inner m e u p k) + ff_len (.inner m e u p k) ≤ 4 * ff_sz (.inner m e u p k) := by
      show ff_sN g p + (ff_N g m e k).length + (ff_len p + 1) ≤ 4 * (ff_sz p + ff_sz k + 1)
      omega
    exact ⟨h3, node _ h3⟩
/-- the tokens of a text -/
theorem pr_tok {g : gt_T} (H : gt_ok g) : ∀ (F : ff_F), ff_wf g F → (∀ q, q < gt_n g → ff_len F ≤ gt_ar g q → ∀ x, x ∈ ff_fl g F q → ∃ k, k ≤ gt_l g ∧ x.1 = nI k) ∧ (∀ m e, ff_we g e F → ∀ x, x ∈ ff_N g m e F → ∃ k, k ≤ gt_l g ∧ x.1 = nI k) := by
  intro F
  have sp1 : ∀ q i r, q < gt_n g → gt_s g q i ≤ gt_PC g q → ∀ x, x ∈ ff_sp g q i r → ∃ k, k ≤ gt_l g ∧ x.1 = nI k := by
    intro q i r hq hi x hx
    unfold ff_sp at hx
    split at hx
    · cases hx
    · rename_i hne
      rw [List.mem_singleton] at hx
      subst hx
      have hs : 0 < gt_s g q i := by
        unfold gt_s
        split
        · rename_i h
          have : ¬ i = 0 := fun z => hne ⟨h, z⟩
          omega
        · omega
      obtain ⟨t, _, h2, h3⟩ := H.2.2.2.2.2.1 q (gt_s g q i - 1) hq (by omega)
      exact ⟨t, h2, h3⟩
  have wr1 : ∀ m (l : List ff_A), (∀ x, x ∈ l → ∃ k, k ≤ gt_l g ∧ x.1 = nI k) → 1 ≤ gt_l g → ∀ x, x ∈ ff_wr m l → ∃ k, k ≤ gt_l g ∧ x.1 = nI k := by
    intro m l hl h1
    induction m with
    | zero => exact hl
    | succ m ih =>
      intro x hx
      rcases List.mem_cons.mp hx with e | e
      · subst e; exact ⟨0, Nat.zero_le _, rfl⟩
      · rcases List.mem_append.mp e with e | e
        · exact ih x e
        · rw [List.mem_singleton] at e
          subst e
          exact ⟨1, h1, rfl⟩
  have node : ∀ (F : ff_F), (∀ q, q < gt_n g → ff_len F ≤ gt_ar g q → ∀ x, x ∈ ff_fl g F q → ∃ k, k ≤ gt_l g ∧ x.1 = nI k) → ∀ m e, ff_we g e F → ∀ x, x ∈ ff_N g m e F → ∃ k, k ≤ gt_l g ∧ x.1 = nI k := by
    intro F hF m e he
    have h1 : 1 ≤ gt_l g := by
      match e, he with
      | .inl t, he =>
        obtain ⟨j, h2, hj, _⟩ := gt_at_j H he.1
        omega
      | .inr q, he =>
        obtain ⟨t, h2, h3, _⟩ := H.2.2.2.2.2.1 q 0 he.1 (gt_pc4 H he.1).1
        omega
    refine wr1 m _ ?_ h1
    match e, he with
    | .inl t, he =>
      intro x hx
      have hx' : x ∈ [(t, none, 0)] := hx
      rw [List.mem_singleton] at hx'
      subst hx'
      obtain ⟨j, h2, hj, e⟩ := gt_at_j H he.1
      exact ⟨j, hj, e⟩
    | .inr q, ⟨hq, hl⟩ =>
      intro x hx
      have hx' : x ∈ ff_fl g F q ++ ff_tl g q (ff_len F) := hx
      rcases List.mem_append.mp hx' with e | e
      · exact hF q hq (Nat.le_of_eq hl) x e
      · unfold ff_tl at e
        split at e
        · cases e
        · rename_i hr
          have hr' : gt_RO g q = false := by
            cases h : gt_RO g q with
            | false => rfl
            | true => exact absurd h hr
          exact sp1 q _ _ hq (Nat.le_of_eq (gt_npush H hq hr' hl)) x e
  induction F with
  | leaf =>
    intro _
    exact ⟨fun q _ _ x hx => (nomatch hx), node .leaf (fun q _ _ x hx => (nomatch hx))⟩
  | inner m e u p k ihp ihk =>
    intro hw
    have h1 : ∀ q, q < gt_n g → ff_len (.inner m e u p k) ≤ gt_ar g q → ∀ x, x ∈ ff_fl g (.inner m e u p k) q → ∃ k, k ≤ gt_l g ∧ x.1 = nI k := by
      intro q hq hl x hx
      have hl' : ff_len p + 1 ≤ gt_ar g q := hl
      rw [ff_fl_in] at hx
      rcases List.mem_append.mp hx with e1 | e1
      · exact (ihp hw.1).1 q hq (by omega) x e1
      · rcases List.mem_append.mp e1 with e1 | e1
        · exact sp1 q _ _ hq (gt_s_le H hq (by omega)) x e1
        · exact (ihk hw.2.1).2 m e hw.2.2 x e1
    exact ⟨h1, node _ h1⟩
/-! pairs in a written text -/
def ff_wc : ff_F → Nat
  | .leaf => 0
  | .inner m _ _ p k => ff_wc p + ff_wc k + m
theorem mp_f_o {t : Int32} {l : List Int32} {s : Nat} (h0 : t ≠ 0) (h1 : t ≠ 1) : mp_f (t :: l) s = mp_f l s := by
  show (if t = 0 then _ else if t = 1 then _ else mp_f l s) = _
  rw [if_neg h0, if_neg h1]
theorem mp_f_wr {l : List ff_A} {c : Nat} (h : ∀ s rest, mp_f (l.map Prod.fst ++ rest) s = c + mp_f rest s) : ∀ (m s : Nat) (rest : List Int32), mp_f ((ff_wr m l).map Prod.fst ++ rest) s = c + m + mp_f rest s := by
  intro m
  induction m with
  | zero => intro s rest; exact h s rest
  | succ m ih =>
    intro s rest
    show mp_f (0 :: ((ff_wr m l ++ [(1, none, 0)]).map Prod.fst ++ rest)) s = _
    rw [List.map_append, List.append_assoc]
    show mp_f ((ff_wr m l).map Prod.fst ++ (1 :: rest)) (s + 1) = _
    rw [ih (s + 1) (1 :: rest)]
    show c + m + (if (1 : Int32) = 0 then _ else if (1 : Int32) = 1 then (if s + 1 = 0 then mp_f rest 0 else 1 + mp_f rest (s + 1 - 1)) else _) = _
    rw [if_neg (by decide), if_pos rfl, if_neg (by omega), Nat.add_sub_cancel]
    omega
theorem mp_f_fl {g : gt_T} (H : gt_ok g) : ∀ (F : ff_F), ff_wf g F → (∀ q, q < gt_n g → ff_len F ≤ gt_ar g q → ∀ s rest, mp_f ((ff_fl g F q).map Prod.fst ++ rest) s = ff_wc F + mp_f rest s) ∧ (∀ m e, ff_we g e F → ∀ s rest, mp_f ((ff_N g m e F).map Prod.fst ++ rest) s = ff_wc F + m + mp_f rest s) := by
  intro F
  have sp1 : ∀ q i r, q < gt_n g → gt_s g q i ≤ gt_PC g q → ∀ s rest, mp_f ((ff_sp g q i r).map Prod.fst ++ rest) s = mp_f rest s := by
    intro q i r hq hi s rest
    rw [ff_sp_fst]
    by_cases h : gt_LO g q = true ∧ i = 0
    · rw [if_pos h]; rfl
    · rw [if_neg h]
      have hs : 0 < gt_s g q i := by
        unfold gt_s
        split
        · rename_i hlo
          have : ¬ i = 0 := fun z => h ⟨hlo, z⟩
          omega
        · omega
      have hp := gt_pt H hq (m := gt_s g q i - 1) (by omega)
      exact mp_f_o hp.1 hp.2
  have node : ∀ (F : ff_F), (∀ q, q < gt_n g → ff_len F ≤ gt_ar g q → ∀ s rest, mp_f ((ff_fl g F q).map Prod.fst ++ rest) s = ff_wc F + mp_f rest s) → ∀ m e, ff_we g e F → ∀ s rest, mp_f ((ff_N g m e F).map Prod.fst ++ rest) s = ff_wc F + m + mp_f rest s := by
    intro F hF m e he
    refine mp_f_wr (l := ff_bd g e (ff_fl g F) (ff_len F)) (c := ff_wc F) ?_ m
    intro s rest
    match e, he with
    | .inl t, he =>
      have h2 := gt_at_ne he.1
      have ek := ff_lf_leaf he.2
      subst ek
      show mp_f (t :: rest) s = 0 + mp_f rest s
      rw [mp_f_o h2.1 h2.2, Nat.zero_add]
    | .inr q, ⟨hq, hl⟩ =>
      show mp_f ((ff_fl g F q ++ ff_tl g q (ff_len F)).map Prod.fst ++ rest) s = _
      rw [List.map_append, List.append_assoc, hF q hq (Nat.le_of_eq hl)]
      unfold ff_tl
      by_cases hr : gt_RO g q = true
      · rw [if_pos hr]; rfl
      · rw [if_neg hr]
        have hr' : gt_RO g q = false := by
          cases h : gt_RO g q with
          | false => rfl
          | true => exact absurd h hr
        rw [sp1 q _ _ hq (Nat.le_of_eq (gt_npush H hq hr' hl))]
  induction F with
  | leaf =>
    intro _
    refine ⟨fun q _ _ s rest => ?_, node .leaf (fun q _ _ s rest => ?_)⟩
    · show mp_f rest s = 0 + mp_f rest s; omega
    · show mp_f rest s = 0 + mp_f rest s; omega
  | inner m e u p k ihp ihk =>
    intro hw
    have h1 : ∀ q, q < gt_n g → ff_len (.inner m e u p k) ≤ gt_ar g q → ∀ s rest, mp_f ((ff_fl g (.inner m e u p k) q).map Prod.fst ++ rest) s = ff_wc (.inner m e u p k) + mp_f rest s := by
      intro q hq hl s rest
      have hl' : ff_len p + 1 ≤ gt_ar g q := hl
      rw [ff_fl_in, List.map_append, List.append_assoc, (ihp hw.1).1 q hq (by omega), List.map_append, List.append_assoc, sp1 q _ _ hq (gt_s_le H hq (by omega)), (ihk hw.2.1).2 m e hw.2.2]
      show _ = ff_wc p + ff_wc k + m + mp_f rest s
      omega
    exact ⟨h1, node _ h1⟩
def pr_bs (w : Nat → Bool) (a : Nat) : Nat → Nat
  | 0 => 0
  | n + 1 => pr_bs w a n + cond (w (a + n)) 1 0
theorem pr_bs_add (w : Nat → Bool) (a n : Nat) : ∀ m, pr_bs w a (n + m) = pr_bs w a n + pr_bs w (a + n) m := by
  intro m
  induction m with
  | zero => rfl
  | succ m ih =>
    show pr_bs w a (n + m) + cond (w (a + (n + m))) 1 0 = pr_bs w a n + (pr_bs w (a + n) m + cond (w (a + n + m)) 1 0)
    rw [ih, Nat.add_assoc a n m]
    omega
theorem pr_wc (w : Nat → Bool) : ∀ (F : ff_F) (a : Nat), ff_wc (pr_mk w F a) = pr_bs w a (ff_sz F) := by
  intro F
  induction F with
  | leaf => intro a; rfl
  | inner m e u p k ihp ihk =>
    intro a
    show ff_wc (pr_mk w p a) + ff_wc (pr_mk w k (a + ff_sz p)) + cond (w (a + ff_sz p + ff_sz k)) 1 0 = pr_bs w a (ff_sz p + ff_sz k + 1)
    rw [ihp, ihk]
    show _ = pr_bs w a (ff_sz p + ff_sz k) + cond (w (a + (ff_sz p + ff_sz k))) 1 0
    rw [pr_bs_add, Nat.add_assoc a]
/-- the text of a marked tree -/
def pr_tx (g : gt_T) (w : Nat → Bool) (T : ff_F) : List Int32 := (ff_C g (pr_mk w T 0)).map Prod.fst
theorem pr_tx_all {g : gt_T} (H : gt_ok g) {w : Nat → Bool} {T : ff_F} (h1 : ff_len T = 1) (hw : ff_wf g T) (hr : w (ff_sz T - 1) = false) :
    ff_len (pr_mk w T 0) = 1 ∧ ff_wf g (pr_mk w T 0) ∧ ff_post (pr_mk w T 0) = ff_post T ∧ (pr_tx g w T).length + 3 ≤ 4 * ff_sz T ∧ mp_sm (pr_tx g w T) = pr_bs w 0 (ff_sz T) ∧ (∀ t, t ∈ pr_tx g w T → ∃ k, k ≤ gt_l g ∧ t = nI k) := by
  have hss := pr_mk_ss w T 0
  obtain ⟨a1, a2, a3, a4⟩ := ff_ss_len _ _ hss
  have hw' := ff_ss_wf _ _ hss hw
  have hm1 := pr_mk_m1 w T 0
  have hwc := pr_wc w T 0
  refine ⟨by rw [← a1]; exact h1, hw', a3.symm, ?_⟩
  cases T with
  | leaf => simp [ff_len] at h1
  | inner m e u p k =>
    have ep := ff_lf_leaf (ff_len0.mp (Nat.succ.inj h1))
    subst ep
    have hsz : ff_sz (.inner m e u .leaf k) = ff_sz k + 1 := by show 0 + ff_sz k + 1 = _; omega
    have hr' : w (0 + ff_sz (.leaf : ff_F) + ff_sz k) = false := by
      rw [hsz, Nat.add_sub_cancel] at hr
      rw [show 0 + ff_sz (.leaf : ff_F) + ff_sz k = ff_sz k by show 0 + 0 + _ = _; omega]
      exact hr
    have hC : ff_C g (pr_mk w (.inner m e u .leaf k) 0) = ff_N g 0 e (pr_mk w k 0) := by
      show ff_N g (cond (w (0 + ff_sz (.leaf : ff_F) + ff_sz k)) 1 0) e (pr_mk w k (0 + ff_sz (.leaf : ff_F))) = _
      rw [hr']
      rfl
    have hk2 : ff_sz (pr_mk w k 0) = ff_sz k := (ff_ss_len _ _ (pr_mk_ss w k 0)).2.1.symm
    have hwk : ff_wf g (pr_mk w k 0) := hw'.2.1
    have hwe : ff_we g e (pr_mk w k 0) := hw'.2.2
    refine ⟨?_, ?_, ?_⟩
    · unfold pr_tx
      rw [hC, List.length_map, hsz]
      have := (pr_bound H _ hwk hm1.2.2).2 0 e hwe
      rw [hk2] at this
      omega
    · have h2 := mp_f_eq (pr_tx g w (.inner m e u .leaf k)) 0
      rw [show ∀ P, mp_cn P 0 = 0 from fun _ => rfl, Nat.zero_add] at h2
      rw [← h2, ← hwc]
      unfold pr_tx
      rw [hC]
      have h3 := (mp_f_fl H _ hwk).2 0 e hwe 0 []
      rw [List.append_nil] at h3
      rw [h3]
      show ff_wc (pr_mk w k 0) + 0 + 0 = 0 + ff_wc (pr_mk w k (0 + ff_sz (.leaf : ff_F))) + cond (w (0 + ff_sz (.leaf : ff_F) + ff_sz k)) 1 0
      rw [hr']
      show _ = 0 + ff_wc (pr_mk w k 0) + 0
      omega
    · intro t ht
      unfold pr_tx at ht
      rw [hC] at ht
      obtain ⟨x, hx1, hx2⟩ := List.mem_map.mp ht
      obtain ⟨k', h1, h2⟩ := (pr_tok H _ hwk).2 0 e hwe x hx1
      exact ⟨k', h1, hx2.symm.trans h2⟩
section
variable {g : gt_T} {n : Nat} {post2 : Int32 → SY → Prop} {Q : Int32 → SY → Prop}
variable {f_maxOps f_maxNodes f_maxLevels f_maxNames f_listLen : Int32} {a_text a_list a_leadOp a_follow a_groupAt a_groupOp a_groupNext a_rootOf a_found a_fromAt a_toAt a_work a_mark a_order : Nat → Int32}
/-- reading the text of a marked tree back -/
theorem yw_back (H : gt_ok g) (hm : f_maxNames + 1 = nI (gt_l g)) {w : Nat → Bool} {T : ff_F} {a b : Nat} (h1 : ff_len T = 1) (hw : ff_wf g T) (hr : w (ff_sz T - 1) = false) (hat : ff_at a_list a T) (hb : b = a + ff_sz T) (hle : b ≤ 32) (hn : n = (pr_tx g w T).length) (htx : mt_aO a_text (pr_tx g w T))
    (hpost : ∀ (r : Int32) (ld fo ga go gn R fd fa ta : Nat → Int32), wpY_isTop (fun r' => Q r' (f_maxOps, f_maxNodes, f_maxLevels, f_maxNames, nI (gt_n g), nI n, nI b, gt_k g, gt_p g, gt_a g, gt_c g, gt_t g, a_text, a_list, ld, fo, ga, go, gn, R, fd, fa, ta, a_work, a_mark, a_order)) (f_maxOps, f_maxNodes, f_maxLevels, f_maxNames, nI (gt_n g), nI n, nI b, gt_k g, gt_p g, gt_a g, gt_c g, gt_t g, a_text, a_list, ld, fo, ga, go, gn, R, fd, fa, ta, a_work, a_mark, a_order) r → post2 r (f_maxOps, f_maxNodes, f_maxLevels, f_maxNames, nI (gt_n g), nI n, nI b, gt_k g, gt_p g, gt_a g, gt_c g, gt_t g, a_text, a_list, ld, fo, ga, go, gn, R, fd, fa, ta, a_work, a_mark, a_order))
    (hT : ff_ok g (pr_mk w T 0) → ∀ ld fo ga go gn R fd fa ta : Nat → Int32, Q 1 (f_maxOps, f_maxNodes, f_maxLevels, f_maxNames, nI (gt_n g), nI n, nI b, gt_k g, gt_p g, gt_a g, gt_c g, gt_t g, a_text, a_list, ld, fo, ga, go, gn, R, fd, fa, ta, a_work, a_mark, a_order)) (hF : ¬ ff_ok g (pr_mk w T 0) → ∀ ld fo ga go gn R fd fa ta : Nat → Int32, Q 0 (f_maxOps, f_maxNodes, f_maxLevels, f_maxNames, nI (gt_n g), nI n, nI b, gt_k g, gt_p g, gt_a g, gt_c g, gt_t g, a_text, a_list, ld, fo, ga, go, gn, R, fd, fa, ta, a_work, a_mark, a_order)) :
    wpY_read post2 (f_maxOps, f_maxNodes, f_maxLevels, f_maxNames, nI (gt_n g), nI n, nI b, gt_k g, gt_p g, gt_a g, gt_c g, gt_t g, a_text, a_list, a_leadOp, a_follow, a_groupAt, a_groupOp, a_groupNext, a_rootOf, a_found, a_fromAt, a_toAt, a_work, a_mark, a_order) := by
  obtain ⟨m1, m2, m3, m4, m5, m6⟩ := pr_tx_all H h1 hw hr
  have hsz := ff_C_sz H hw h1
  have htree : ff_ok g (pr_mk w T 0) → mt_sc g (pr_tx g w T) 0 mt_0 = (-1, [], pr_mk w T 0, false) := fun ho => mt_sc_tree H m1 m2 ho
  refine yw_read (ts := pr_tx g w T) H hm (by omega) hn.symm htx ?_ ?_ ?_
  · intro hne ld fo ga go gn
    refine hpost _ _ _ _ _ _ _ _ _ _ (yw_isTop_n H h1 hw hat hb hle (Or.inl rfl) (hF (fun ho => ?_) _ _ _ _ _ _ _ _ _))
    rw [htree ho] at hne
    exact hne rfl
  · intro T' e' w1 w2 w3 w4 ld fo ga go gn R fd fa ta hfd
    have hpl := ff_post_len T'
    have hC := (ff_C_sz H w1 w2).1
    have h5 := congrArg List.length w4
    rw [List.length_map] at h5
    have hlr : ff_sz T' = (ff_post T').reverse.length := by rw [List.length_reverse, hpl]
    rw [hlr]
    refine hpost _ _ _ _ _ _ _ _ _ _ (yw_isTop H h1 hw hat hb hle (by omega) hfd ?_ ?_)
    · intro he
      refine hT ?_ _ _ _ _ _ _ _ _ _
      have hp : ff_post T' = ff_post (pr_mk w T 0) := by rw [m3]; exact List.reverse_inj.mp he
      have := pr_mark H w2 m1 w1 m2 hp w4
      rw [← this]
      exact w3
    · intro he
      refine hF (fun ho => he ?_) _ _ _ _ _ _ _ _ _
      have h6 := htree ho
      rw [h6] at e'
      injection e' with _ e'
      injection e' with _ e'
      injection e' with e' _
      rw [← e', m3]
  · intro T' e' ld fo ga go gn R
    refine hpost _ _ _ _ _ _ _ _ _ _ (yw_isTop_n H h1 hw hat hb hle (Or.inr rfl) (hF (fun ho => ?_) _ _ _ _ _ _ _ _ _))
    rw [htree ho] at e'
    injection e' with _ e'
    injection e' with _ e'
    injection e' with _ e'
    cases e'
end
end
section
/-! the links of a tree by node numbers -/
def pr_rt : ff_F → Nat → List Nat
  | .leaf => fun _ => []
  | .inner _ _ _ p k => fun a => pr_rt p a ++ [a + ff_sz p + ff_sz k]
def pr_oc : Int32 ⊕ Nat → Int32
  | .inl _ => -1
  | .inr q => nI q
def pr_lk (tr pa sl kd : Nat → Int32) : ff_F → Nat → Prop
  | .leaf => fun _ => True
  | .inner _ e _ p k => fun a => pr_lk tr pa sl kd p a ∧ pr_lk tr pa sl kd k (a + ff_sz p) ∧ tr (a + ff_sz p + ff_sz k) = pr_oc e ∧ (∀ c y, (pr_rt k (a + ff_sz p))[c]? = some y → kd (3 * (a + ff_sz p + ff_sz k) + c) = nI y ∧ pa y = nI (a + ff_sz p + ff_sz k) ∧ sl y = nI c)
theorem pr_rt_len : ∀ (F : ff_F) (a : Nat), (pr_rt F a).length = ff_len F := by
  intro F
  induction F with
  | leaf => intro a; rfl
  | inner m e u p k ihp ihk =>
    intro a
    show (pr_rt p a ++ [_]).length = ff_len p + 1
    rw [List.length_append, ihp]
    rfl
theorem pr_rt_lt : ∀ (F : ff_F) (a : Nat) (y : Nat), y ∈ pr_rt F a → a ≤ y ∧ y < a + ff_sz F := by
  intro F
  induction F with
  | leaf => intro a y h; cases h
  | inner m e u p k ihp ihk =>
    intro a y h
    show a ≤ y ∧ y < a + (ff_sz p + ff_sz k + 1)
    rcases List.mem_append.mp h with h | h
    · have := ihp a y h
      omega
    · have := List.mem_singleton.mp h
      omega
section
variable {g : gt_T} {tr pa sl kd : Nat → Int32}
theorem pr_lk_x : ∀ (F : ff_F) (a : Nat), ff_wf g F → pr_lk tr pa sl kd F a → ∀ x, a ≤ x → x < a + ff_sz F → ∃ e k b, ff_we g e k ∧ tr x = pr_oc e ∧ b + ff_sz k = x ∧ a ≤ b ∧ (∀ c y, (pr_rt k b)[c]? = some y → kd (3 * x + c) = nI y ∧ pa y = nI x ∧ sl y = nI c) := by
  intro F
  induction F with
  | leaf => intro a _ _ x h1 h2; have h3 : x < a + 0 := h2; omega
  | inner m e u p k ihp ihk =>
    intro a hw h x h1 h2
    have h2' : x < a + (ff_sz p + ff_sz k + 1) := h2
    obtain ⟨l1, l2, l3, l4⟩ := h
    by_cases c1 : x < a + ff_sz p
    · exact ihp a hw.1 l1 x h1 c1
    · by_cases c2 : x < a + ff_sz p + ff_sz k
      · obtain ⟨e', k', b, q1, q2, q3, q4, q5⟩ := ihk (a + ff_sz p) hw.2.1 l2 x (by omega) c2
        exact ⟨e', k', b, q1, q2, q3, by omega, q5⟩
      · have ex : x = a + ff_sz p + ff_sz k := by omega
        subst ex
        exact ⟨e, k, a + ff_sz p, hw.2.2, l3, rfl, by omega, l4⟩
theorem pr_lk_y : ∀ (F : ff_F) (a : Nat), ff_wf g F → pr_lk tr pa sl kd F a → ∀ y, a ≤ y → y < a + ff_sz F → y ∈ pr_rt F a ∨ ∃ x e k c, y < x ∧ x < a + ff_sz F ∧ ff_we g e k ∧ tr x = pr_oc e ∧ c < ff_ar g e ∧ pa y = nI x ∧ sl y = nI c ∧ kd (3 * x + c) = nI y := by
  intro F
  induction F with
  | leaf => intro a _ _ x h1 h2; have h3 : x < a + 0 := h2; omega
  | inner m e u p k ihp ihk =>
    intro a hw h y h1 h2
    have h2' : y < a + (ff_sz p + ff_sz k + 1) := h2
    obtain ⟨l1, l2, l3, l4⟩ := h
    by_cases c1 : y < a + ff_sz p
    · rcases ihp a hw.1 l1 y h1 c1 with h | ⟨x, e', k', c, q1, q2, q3⟩
      · exact Or.inl (List.mem_append_left _ h)
      · exact Or.inr ⟨x, e', k', c, q1, by show x < a + (ff_sz p + ff_sz k + 1); omega, q3⟩
    · by_cases c2 : y < a + ff_sz p + ff_sz k
      · rcases ihk (a + ff_sz p) hw.2.1 l2 y (by omega) c2 with h | ⟨x, e', k', c, q1, q2, q3⟩
        · obtain ⟨c, hc, hc2⟩ := List.getElem_of_mem h
          have hc3 : (pr_rt k (a + ff_sz p))[c]? = some y := by rw [List.getElem?_eq_getElem hc, hc2]
          obtain ⟨z1, z2, z3⟩ := l4 c y hc3
          rw [pr_rt_len, ff_we_ar hw.2.2] at hc
          exact Or.inr ⟨a + ff_sz p + ff_sz k, e, k, c, c2, by show _ < a + (ff_sz p + ff_sz k + 1); omega, hw.2.2, l3, hc, z2, z3, z1⟩
        · exact Or.inr ⟨x, e', k', c, q1, by show x < a + (ff_sz p + ff_sz k + 1); omega, q3⟩
      · have ex : y = a + ff_sz p + ff_sz k := by omega
        exact Or.inl (List.mem_append_right _ (List.mem_singleton.mpr ex))
end
/-- what the chains use of the links -/
def pv_ok (g : gt_T) (N : Nat) (tr pa sl kd : Nat → Int32) : Prop :=
  (∀ x, x < N → tr x = -1 ∨ ∃ q, q < gt_n g ∧ tr x = nI q ∧ ∀ c, c < gt_ar g q → ∃ y, y < x ∧ kd (3 * x + c) = nI y ∧ pa y = nI x ∧ sl y = nI c) ∧
  (∀ y, y + 1 < N → ∃ x q c, y < x ∧ x < N ∧ q < gt_n g ∧ tr x = nI q ∧ c < gt_ar g q ∧ pa y = nI x ∧ sl y = nI c ∧ kd (3 * x + c) = nI y) ∧ pa (N - 1) = -1
theorem pv_of {g : gt_T} {T : ff_F} {tr pa sl kd : Nat → Int32} (h1 : ff_len T = 1) (hw : ff_wf g T) (h : pr_lk tr pa sl kd T 0) (hr : pa (ff_sz T - 1) = -1) : pv_ok g (ff_sz T) tr pa sl kd := by
  refine ⟨?_, ?_, hr⟩
  · intro x hx
    obtain ⟨e, k, b, q1, q2, q3, q4, q5⟩ := pr_lk_x T 0 hw h x (Nat.zero_le _) (by omega)
    match e, q1, q2 with
    | .inl t, _, q2 => exact Or.inl q2
    | .inr q, q1, q2 =>
      refine Or.inr ⟨q, q1.1, q2, ?_⟩
      intro c hc
      have hc2 : c < (pr_rt k b).length := by rw [pr_rt_len, q1.2]; exact hc
      have hc3 := List.getElem?_eq_getElem hc2
      have hlt := pr_rt_lt k b _ (List.getElem_mem hc2)
      exact ⟨_, by omega, q5 c _ hc3⟩
  · intro y hy
    rcases pr_lk_y T 0 hw h y (Nat.zero_le _) (by omega) with hm | ⟨x, e, k, c, q1, q2, q3, q4, q5, q6⟩
    · exfalso
      cases T with
      | leaf => simp [ff_len] at h1
      | inner m e u p k =>
        have ep := ff_lf_leaf (ff_len0.mp (Nat.succ.inj h1))
        subst ep
        have hm2 : y ∈ [] ++ [0 + ff_sz (.leaf : ff_F) + ff_sz k] := hm
        rw [List.nil_append, List.mem_singleton] at hm2
        have hm3 : y = 0 + 0 + ff_sz k := hm2
        have hy2 : y + 1 < 0 + ff_sz k + 1 := hy
        omega
    · match e, q3, q4, q5 with
      | .inl t, _, _, q5 => exact absurd q5 (Nat.not_lt_zero _)
      | .inr q, q3, q4, q5 => exact ⟨x, q, c, q1, by omega, q3.1, q4, q5, q6⟩
/-! chains on the side s: right (true) or left (false) -/
def pv_E (g : gt_T) (s : Bool) (q : Nat) : Bool := cond s (gt_RO g q) (gt_LO g q)
def pv_i (g : gt_T) (s : Bool) (q : Nat) : Nat := cond s (gt_ar g q - 1) 0
def pv_k (kd : Nat → Int32) (x c : Nat) : Nat := (kd (3 * x + c)).toNatClampNeg
def pv_ch (g : gt_T) (tr kd : Nat → Int32) (w : Nat → Bool) (s : Bool) : Nat → Nat → List Nat
  | 0 => fun _ => []
  | f + 1 => fun x => if w x = true ∨ tr x < 0 ∨ pv_E g s (tr x).toNatClampNeg = false then [] else (tr x).toNatClampNeg :: pv_ch g tr kd w s f (pv_k kd x (pv_i g s (tr x).toNatClampNeg))
def pv_ct (g : gt_T) (s : Bool) (r q : Nat) : Prop := cond s (gt_CT g r q = 1) (gt_CT g q r = -1)
def pv_V (g : gt_T) (N : Nat) (tr kd : Nat → Int32) (w : Nat → Bool) (s : Bool) (x : Nat) : Prop := ∀ q, tr x = nI q → q < gt_n g → pv_E g (!s) q = true → ∀ r, r ∈ pv_ch g tr kd w s N (pv_k kd x (pv_i g (!s) q)) → pv_ct g s r q
theorem pv_E_ar {g : gt_T} (H : gt_ok g) {s : Bool} {q : Nat} (hq : q < gt_n g) (h : pv_E g s q = true) : pv_i g s q < gt_ar g q := by
  cases s with
  | true =>
    have h' : gt_RO g q = true := h
    show gt_ar g q - 1 < gt_ar g q
    rcases gt_cs H hq with c | c | c | c
    · omega
    · rw [c.2.1] at h'; cases h'
    · omega
    · rw [c.2.1] at h'; cases h'
  | false =>
    have h' : gt_LO g q = true := h
    show 0 < gt_ar g q
    rcases gt_cs H hq with c | c | c | c
    · rw [c.1] at h'; cases h'
    · omega
    · omega
    · rw [c.1] at h'; cases h'
theorem pv_E_ne {g : gt_T} (H : gt_ok g) {s : Bool} {q : Nat} (hq : q < gt_n g) (h : pv_E g s q = true) (h' : pv_E g (!s) q = true) : pv_i g s q ≠ pv_i g (!s) q := by
  have key : gt_RO g q = true → gt_LO g q = true → gt_ar g q - 1 ≠ 0 := by
    intro a b
    rcases gt_cs H hq with c | c | c | c
    · rw [c.1] at b; cases b
    · rw [c.2.1] at a; cases a
    · omega
    · rw [c.1] at b; cases b
  cases s with
  | true => exact key h h'
  | false => exact fun z => key h' h z.symm
section
variable {g : gt_T} {N : Nat} {tr pa sl kd : Nat → Int32} {w w' : Nat → Bool} {s : Bool}
/-- the chain kid -/
theorem pv_kid (H : gt_ok g) (hv : pv_ok g N tr pa sl kd) (hN : N ≤ 32) {x q c : Nat} (hx : x < N) (ht : tr x = nI q) (hq : q < gt_n g) (hc : c < gt_ar g q) : pv_k kd x c < x ∧ pa (pv_k kd x c) = nI x ∧ sl (pv_k kd x c) = nI c ∧ kd (3 * x + c) = nI (pv_k kd x c) := by
  have hn := H.1
  rcases hv.1 x hx with h | ⟨q', h1, h2, h3⟩
  · rw [ht] at h
    exact absurd h (nI_nm1 (by omega))
  · rw [ht] at h2
    have e : q = q' := (nI_eq (by omega) (by omega)).mp h2
    subst e
    obtain ⟨y, y1, y2, y3, y4⟩ := h3 c hc
    have ey : pv_k kd x c = y := by
      unfold pv_k
      rw [y2, nI_clamp (by omega)]
    rw [ey]
    exact ⟨y1, y3, y4, y2⟩
theorem pv_ch_f (H : gt_ok g) (hv : pv_ok g N tr pa sl kd) (hN : N ≤ 32) : ∀ (f f' x : Nat), x < N → x < f → x < f' → pv_ch g tr kd w s f x = pv_ch g tr kd w s f' x := by
  have hn := H.1
  intro f
  induction f with
  | zero => intro f' x _ h; exact absurd h (Nat.not_lt_zero _)
  | succ f ih =>
    intro f' x hx h1 h2
    obtain ⟨f', rfl⟩ : ∃ k, f' = k + 1 := ⟨f' - 1, by omega⟩
    show (if w x = true ∨ tr x < 0 ∨ pv_E g s (tr x).toNatClampNeg = false then [] else _ :: pv_ch g tr kd w s f _) = (if w x = true ∨ tr x < 0 ∨ pv_E g s (tr x).toNatClampNeg = false then [] else _ :: pv_ch g tr kd w s f' _)
    by_cases hc : w x = true ∨ tr x < 0 ∨ pv_E g s (tr x).toNatClampNeg = false
    · rw [if_pos hc, if_pos hc]
    · rw [if_neg hc, if_neg hc]
      rcases hv.1 x hx with h | ⟨q, q1, q2, _⟩
      · exact absurd (Or.inr (Or.inl (by rw [h]; decide))) hc
      · have hE : pv_E g s q = true := by
          cases hE : pv_E g s q with
          | true => rfl
          | false => exact absurd (Or.inr (Or.inr (by rw [q2, nI_clamp (by omega)]; exact hE))) hc
        rw [q2, nI_clamp (by omega)]
        obtain ⟨k1, _⟩ := pv_kid H hv hN hx q2 q1 (pv_E_ar H q1 hE)
        rw [ih f' _ (by omega) (by omega) (by omega)]
theorem pv_ch_u (H : gt_ok g) (hv : pv_ok g N tr pa sl kd) (hN : N ≤ 32) {x : Nat} (hx : x < N) :
    (∀ q, tr x = nI q → q < gt_n g → w x = false → pv_E g s q = true → pv_ch g tr kd w s N x = q :: pv_ch g tr kd w s N (pv_k kd x (pv_i g s q))) ∧ ((w x = true ∨ tr x = -1 ∨ ∃ q, q < gt_n g ∧ tr x = nI q ∧ pv_E g s q = false) → pv_ch g tr kd w s N x = []) := by
  have hn := H.1
  obtain ⟨f, hf⟩ : ∃ f, N = f + 1 := ⟨N - 1, by omega⟩
  constructor
  · intro q h1 h2 h3 h4
    have e1 : pv_ch g tr kd w s N x = pv_ch g tr kd w s (f + 1) x := by rw [hf]
    obtain ⟨k1, _⟩ := pv_kid H hv hN hx h1 h2 (pv_E_ar H h2 h4)
    rw [e1]
    show (if w x = true ∨ tr x < 0 ∨ pv_E g s (tr x).toNatClampNeg = false then [] else _ :: pv_ch g tr kd w s f _) = _
    rw [if_neg, h1, nI_clamp (by omega), pv_ch_f H hv hN f N _ (by omega) (by omega) (by omega)]
    rw [h1, nI_clamp (by omega), h3, h4]
    rintro (z | z | z)
    · cases z
    · exact nI_pos (by omega) z
    · cases z
  · intro h
    have e1 : pv_ch g tr kd w s N x = pv_ch g tr kd w s (f + 1) x := by rw [hf]
    rw [e1]
    show (if w x = true ∨ tr x < 0 ∨ pv_E g s (tr x).toNatClampNeg = false then [] else _ :: pv_ch g tr kd w s f _) = _
    rw [if_pos]
    rcases h with h | h | ⟨q, a, b, c⟩
    · exact Or.inl h
    · exact Or.inr (Or.inl (by rw [h]; decide))
    · exact Or.inr (Or.inr (by rw [b, nI_clamp (by omega)]; exact c))
end
/-- x is reached from n going up along the side s over bare nodes -/
def pv_On (g : gt_T) (N : Nat) (tr pa sl : Nat → Int32) (w : Nat → Bool) (s : Bool) (n x : Nat) : Prop := ∀ S : Nat → Prop, S n → (∀ c p q, S c → c + 1 < N → pa c = nI p → p < N → tr p = nI q → q < gt_n g → sl c = nI (pv_i g s q) → pv_E g s q = true → w p = false → S p) → S x
section
variable {g : gt_T} {N : Nat} {tr pa sl kd : Nat → Int32} {w w' : Nat → Bool} {s : Bool} {n : Nat}
theorem pv_On_n : pv_On g N tr pa sl w s n n := fun S h _ => h
theorem pv_On_s {c p q : Nat} (h : pv_On g N tr pa sl w s n c) (h1 : c + 1 < N) (h2 : pa c = nI p) (h3 : p < N) (h4 : tr p = nI q) (h5 : q < gt_n g) (h6 : sl c = nI (pv_i g s q)) (h7 : pv_E g s q = true) (h8 : w p = false) : pv_On g N tr pa sl w s n p :=
  fun S a b => b c p q (h S a b) h1 h2 h3 h4 h5 h6 h7 h8
/-- the parent's facts at a node below the root -/
theorem pv_up (H : gt_ok g) (hv : pv_ok g N tr pa sl kd) (hN : N ≤ 32) {y p q : Nat} (hy : y + 1 < N) (hp : pa y = nI p) (hpN : p < N) (hq : tr p = nI q) (hqn : q < gt_n g) : y < p ∧ ∃ c, c < gt_ar g q ∧ sl y = nI c ∧ pv_k kd p c = y := by
  have hn := H.1
  obtain ⟨x, q', c, a1, a2, a3, a4, a5, a6, a7, a8⟩ := hv.2.1 y hy
  rw [hp] at a6
  have e : p = x := (nI_eq (by omega) (by omega)).mp a6
  subst e
  rw [hq] at a4
  have e : q = q' := (nI_eq (by omega) (by omega)).mp a4
  subst e
  refine ⟨a1, c, a5, a7, ?_⟩
  unfold pv_k
  rw [a8, nI_clamp (by omega)]
theorem pv_in (H : gt_ok g) (hv : pv_ok g N tr pa sl kd) (hN : N ≤ 32) (hn : n < N) (hw : w n = true) (hww : ∀ x, x ≠ n → w' x = w x) {x : Nat} (h : pv_On g N tr pa sl w s n x) : x < N ∧ n ≤ x ∧ pv_ch g tr kd w' s N x = pv_ch g tr kd w s N x ++ pv_ch g tr kd w' s N n := by
  have hn12 := H.1
  refine h (fun x => x < N ∧ n ≤ x ∧ pv_ch g tr kd w' s N x = pv_ch g tr kd w s N x ++ pv_ch g tr kd w' s N n) ⟨hn, Nat.le_refl _, ?_⟩ ?_
  · rw [(pv_ch_u (w := w) (s := s) H hv hN hn).2 (Or.inl hw), List.nil_append]
  · rintro c p q ⟨c1, c2, c3⟩ h1 h2 h3 h4 h5 h6 h7 h8
    obtain ⟨u1, i, u2, u3, u4⟩ := pv_up H hv hN h1 h2 h3 h4 h5
    have hi := pv_E_ar H h5 h7
    have har := gt_ar3 H h5
    rw [h6] at u3
    have ei : pv_i g s q = i := (nI_eq (by omega) (by omega)).mp u3
    rw [← ei] at u4
    have hpn : p ≠ n := by omega
    refine ⟨h3, by omega, ?_⟩
    rw [(pv_ch_u (w := w') (s := s) H hv hN h3).1 q h4 h5 (by rw [hww p hpn]; exact h8) h7, (pv_ch_u (w := w) (s := s) H hv hN h3).1 q h4 h5 h8 h7, u4, c3]
    rfl
theorem pv_out (H : gt_ok g) (hv : pv_ok g N tr pa sl kd) (hN : N ≤ 32) (hww : ∀ x, x ≠ n → w' x = w x) : ∀ (d x : Nat), x ≤ d → x < N → ¬ pv_On g N tr pa sl w s n x → pv_ch g tr kd w' s N x = pv_ch g tr kd w s N x := by
  have hn12 := H.1
  intro d
  induction d with
  | zero =>
    intro x hx hxN hno
    have hxn : x ≠ n := fun z => hno (by rw [z]; exact pv_On_n)
    have hwx := hww x hxn
    rcases hv.1 x hxN with h | ⟨q, q1, q2, q3⟩
    · rw [(pv_ch_u (w := w') (s := s) H hv hN hxN).2 (Or.inr (Or.inl h)), (pv_ch_u (w := w) (s := s) H hv hN hxN).2 (Or.inr (Or.inl h))]
    · cases hE : pv_E g s q with
      | false => rw [(pv_ch_u (w := w') (s := s) H hv hN hxN).2 (Or.inr (Or.inr ⟨q, q1, q2, hE⟩)), (pv_ch_u (w := w) (s := s) H hv hN hxN).2 (Or.inr (Or.inr ⟨q, q1, q2, hE⟩))]
      | true =>
        obtain ⟨k1, _⟩ := pv_kid H hv hN hxN q2 q1 (pv_E_ar H q1 hE)
        omega
  | succ d ih =>
    intro x hx hxN hno
    have hxn : x ≠ n := fun z => hno (by rw [z]; exact pv_On_n)
    have hwx := hww x hxn
    rcases hv.1 x hxN with h | ⟨q, q1, q2, q3⟩
    · rw [(pv_ch_u (w := w') (s := s) H hv hN hxN).2 (Or.inr (Or.inl h)), (pv_ch_u (w := w) (s := s) H hv hN hxN).2 (Or.inr (Or.inl h))]
    · cases hE : pv_E g s q with
      | false => rw [(pv_ch_u (w := w') (s := s) H hv hN hxN).2 (Or.inr (Or.inr ⟨q, q1, q2, hE⟩)), (pv_ch_u (w := w) (s := s) H hv hN hxN).2 (Or.inr (Or.inr ⟨q, q1, q2, hE⟩))]
      | true =>
        cases hwv : w x with
        | true => rw [(pv_ch_u (w := w') (s := s) H hv hN hxN).2 (Or.inl (hwx.trans hwv)), (pv_ch_u (w := w) (s := s) H hv hN hxN).2 (Or.inl hwv)]
        | false =>
          obtain ⟨k1, k2, k3, k4⟩ := pv_kid H hv hN hxN q2 q1 (pv_E_ar H q1 hE)
          rw [(pv_ch_u (w := w') (s := s) H hv hN hxN).1 q q2 q1 (hwx.trans hwv) hE, (pv_ch_u (w := w) (s := s) H hv hN hxN).1 q q2 q1 hwv hE]
          rw [ih _ (by omega) (by omega) (fun z => hno (pv_On_s z (by omega) k2 hxN q2 q1 k3 hE hwv))]
end
/-- the rival: going up from c along the side s over bare nodes to the first node whose other edge is met -/
def pv_fo (g : gt_T) (N : Nat) (tr pa sl : Nat → Int32) (w : Nat → Bool) (s : Bool) : Nat → Nat → Option Nat
  | 0 => fun _ => none
  | f + 1 => fun c => if pa c < 0 then none else
    if sl c = nI (pv_i g (!s) (tr (pa c).toNatClampNeg).toNatClampNeg) ∧ pv_E g (!s) (tr (pa c).toNatClampNeg).toNatClampNeg = true then some (pa c).toNatClampNeg
    else if w (pa c).toNatClampNeg = true ∨ ¬ (sl c = nI (pv_i g s (tr (pa c).toNatClampNeg).toNatClampNeg) ∧ pv_E g s (tr (pa c).toNatClampNeg).toNatClampNeg = true) then none
    else pv_fo g N tr pa sl w s f (pa c).toNatClampNeg
section
variable {g : gt_T} {N : Nat} {tr pa sl kd : Nat → Int32} {w w' : Nat → Bool} {s : Bool} {n : Nat}
theorem pv_fo_u (H : gt_ok g) (hN : N ≤ 32) {f c p q : Nat} (hp : pa c = nI p) (hpN : p < N) (hq : tr p = nI q) (hqn : q < gt_n g) : pv_fo g N tr pa sl w s (f + 1) c = if sl c = nI (pv_i g (!s) q) ∧ pv_E g (!s) q = true then some p else if w p = true ∨ ¬ (sl c = nI (pv_i g s q) ∧ pv_E g s q = true) then none else pv_fo g N tr pa sl w s f p := by
  have hn := H.1
  have e1 : (pa c).toNatClampNeg = p := by rw [hp, nI_clamp (by omega)]
  have e2 : (tr p).toNatClampNeg = q := by rw [hq, nI_clamp (by omega)]
  show (if pa c < 0 then none else if sl c = nI (pv_i g (!s) (tr (pa c).toNatClampNeg).toNatClampNeg) ∧ pv_E g (!s) (tr (pa c).toNatClampNeg).toNatClampNeg = true then some (pa c).toNatClampNeg else if w (pa c).toNatClampNeg = true ∨ ¬ (sl c = nI (pv_i g s (tr (pa c).toNatClampNeg).toNatClampNeg) ∧ pv_E g s (tr (pa c).toNatClampNeg).toNatClampNeg = true) then none else pv_fo g N tr pa sl w s f (pa c).toNatClampNeg) = _
  rw [if_neg (by rw [hp]; exact nI_pos (by omega)), e1, e2]
theorem pv_fo_r {f : Nat} (hr : pa (N - 1) = -1) {c : Nat} (hc : c = N - 1) : pv_fo g N tr pa sl w s (f + 1) c = none := by
  show (if pa c < 0 then none else _) = _
  rw [if_pos (by rw [hc, hr]; decide)]
theorem pv_fo_s (H : gt_ok g) (hv : pv_ok g N tr pa sl kd) (hN : N ≤ 32) : ∀ (f c p : Nat), c < N → pv_On g N tr pa sl w s n c → pv_fo g N tr pa sl w s f c = some p → p < N ∧ ∃ q, q < gt_n g ∧ tr p = nI q ∧ pv_E g (!s) q = true ∧ pv_On g N tr pa sl w s n (pv_k kd p (pv_i g (!s) q)) := by
  have hn12 := H.1
  intro f
  induction f with
  | zero => intro c p _ _ h; cases h
  | succ f ih =>
    intro c p hc hon h
    by_cases hr : c + 1 < N
    · obtain ⟨x, q, i, a1, a2, a3, a4, a5, a6, a7, a8⟩ := hv.2.1 c hr
      rw [pv_fo_u H hN a6 a2 a4 a3] at h
      have ek : pv_k kd x i = c := by unfold pv_k; rw [a8, nI_clamp (by omega)]
      have har := gt_ar3 H a3
      by_cases h1 : sl c = nI (pv_i g (!s) q) ∧ pv_E g (!s) q = true
      · rw [if_pos h1] at h
        have ep : x = p := Option.some.inj h
        subst ep
        refine ⟨a2, q, a3, a4, h1.2, ?_⟩
        have hi := pv_E_ar H a3 h1.2
        rw [a7] at h1
        have ei : i = pv_i g (!s) q := (nI_eq (by omega) (by omega)).mp h1.1
        rw [← ei, ek]
        exact hon
      · rw [if_neg h1] at h
        by_cases h2 : w x = true ∨ ¬ (sl c = nI (pv_i g s q) ∧ pv_E g s q = true)
        · rw [if_pos h2] at h; cases h
        · rw [if_neg h2] at h
          have hwx : w x = false := by
            cases hw : w x with
            | false => rfl
            | true => exact absurd (Or.inl hw) h2
          have hcond : sl c = nI (pv_i g s q) ∧ pv_E g s q = true := Decidable.byContradiction (fun z => h2 (Or.inr z))
          exact ih x p a2 (pv_On_s hon hr a6 a2 a4 a3 hcond.1 hcond.2 hwx) h
    · rw [pv_fo_r hv.2.2 (by omega)] at h
      cases h
theorem pv_fo_c (H : gt_ok g) (hv : pv_ok g N tr pa sl kd) (hN : N ≤ 32) (hn : n < N) {x q : Nat} (hx : x < N) (hq : tr x = nI q) (hqn : q < gt_n g) (hE : pv_E g (!s) q = true) (hon : pv_On g N tr pa sl w s n (pv_k kd x (pv_i g (!s) q))) : pv_fo g N tr pa sl w s N n = some x := by
  have hn12 := H.1
  -- the walk from n reaches every node of the path
  have reach : ∀ c, pv_On g N tr pa sl w s n c → c < N ∧ ∃ f, N ≤ f + c ∧ pv_fo g N tr pa sl w s N n = pv_fo g N tr pa sl w s f c := by
    intro c hc
    refine hc (fun c => c < N ∧ ∃ f, N ≤ f + c ∧ pv_fo g N tr pa sl w s N n = pv_fo g N tr pa sl w s f c) ⟨hn, N, by omega, rfl⟩ ?_
    rintro c p q' ⟨c1, f, c2, c3⟩ h1 h2 h3 h4 h5 h6 h7 h8
    obtain ⟨u1, i, u2, u3, u4⟩ := pv_up H hv hN h1 h2 h3 h4 h5
    obtain ⟨f', rfl⟩ : ∃ k, f = k + 1 := ⟨f - 1, by omega⟩
    refine ⟨h3, f', by omega, ?_⟩
    rw [c3, pv_fo_u H hN h2 h3 h4 h5, if_neg, if_neg]
    · rintro (z | z)
      · rw [h8] at z; cases z
      · exact z ⟨h6, h7⟩
    · rintro ⟨z1, z2⟩
      rw [h6] at z1
      have har := gt_ar3 H h5
      have b1 := pv_E_ar H h5 h7
      have b2 := pv_E_ar H h5 z2
      exact pv_E_ne H h5 h7 z2 ((nI_eq (by omega) (by omega)).mp z1)
  obtain ⟨c1, f, c2, c3⟩ := reach _ hon
  obtain ⟨k1, k2, k3, k4⟩ := pv_kid H hv hN hx hq hqn (pv_E_ar H hqn hE)
  obtain ⟨f', rfl⟩ : ∃ k, f = k + 1 := ⟨f - 1, by omega⟩
  rw [c3, pv_fo_u H hN k2 hx hq hqn, if_pos ⟨k3, hE⟩]
/-- unwrapping n keeps the chains of the side s valid just if the chain from n fits its rival -/
theorem pv_try (H : gt_ok g) (hv : pv_ok g N tr pa sl kd) (hN : N ≤ 32) (hn : n < N) (hw : w n = true) (hww : ∀ x, x ≠ n → w' x = w x) (hok : ∀ x, x < N → pv_V g N tr kd w s x) :
    (∀ x, x < N → pv_V g N tr kd w' s x) ↔ (∀ p q, pv_fo g N tr pa sl w s N n = some p → tr p = nI q → q < gt_n g → ∀ r, r ∈ pv_ch g tr kd w' s N n → pv_ct g s r q) := by
  have hn12 := H.1
  constructor
  · intro h p q hp hq hqn r hr
    obtain ⟨p1, q', p2, p3, p4, p5⟩ := pv_fo_s H hv hN N n p hn pv_On_n hp
    rw [hq] at p3
    have e : q = q' := (nI_eq (by omega) (by omega)).mp p3
    subst e
    obtain ⟨_, _, i3⟩ := pv_in (w' := w') H hv hN hn hw hww p5
    refine h p p1 q hq hqn p4 r ?_
    rw [i3]
    exact List.mem_append_right _ hr
  · intro h x hx q hq hqn hE r hr
    by_cases hon : pv_On g N tr pa sl w s n (pv_k kd x (pv_i g (!s) q))
    · obtain ⟨_, _, i3⟩ := pv_in (w' := w') H hv hN hn hw hww hon
      rw [i3] at hr
      rcases List.mem_append.mp hr with hr | hr
      · exact hok x hx q hq hqn hE r hr
      · exact h x q (pv_fo_c H hv hN hn hx hq hqn hE hon) hq hqn r hr
    · obtain ⟨k1, _⟩ := pv_kid H hv hN hx hq hqn (pv_E_ar H hqn hE)
      rw [pv_out H hv hN hww _ _ (Nat.le_refl _) (by omega) hon] at hr
      exact hok x hx q hq hqn hE r hr
end
end
section
/-! validity of the marked tree by node numbers -/
section
variable {g : gt_T} {N : Nat} {tr pa sl kd : Nat → Int32} {w : Nat → Bool}
theorem pk_kid0 {x c y : Nat} (h : kd (3 * x + c) = nI y) (hy : y < 100) : pv_k kd x c = y := by
  unfold pv_k
  rw [h, nI_clamp (by omega)]
theorem pv_node (H : gt_ok g) (hv : pv_ok g N tr pa sl kd) (hN : N ≤ 32) {e : Int32 ⊕ Nat} {k : ff_F} {b x : Nat} (hx : x < N) (hb : b + ff_sz k = x) (he : ff_we g e k) (ht : tr x = pr_oc e) (hk : ∀ c y, (pr_rt k b)[c]? = some y → kd (3 * x + c) = nI y ∧ pa y = nI x ∧ sl y = nI c)
    (ihL : ∀ y, (pr_rt k b)[ff_len k - 1]? = some y → ff_rL g (pr_mk w k b) = pv_ch g tr kd w true N y ∧ ff_lL g (pr_mk w k b) = pv_ch g tr kd w false N y) (ihF : ∀ y, (pr_rt k b)[0]? = some y → ff_rF g (pr_mk w k b) = pv_ch g tr kd w true N y ∧ ff_lF g (pr_mk w k b) = pv_ch g tr kd w false N y) :
    ff_rN g (cond (w x) 1 0) e (ff_rL g (pr_mk w k b)) = pv_ch g tr kd w true N x ∧ ff_lN g (cond (w x) 1 0) e (ff_lF g (pr_mk w k b)) = pv_ch g tr kd w false N x := by
  have hn := H.1
  cases hw : w x with
  | true =>
    rw [(pv_ch_u (w := w) (s := true) H hv hN hx).2 (Or.inl hw), (pv_ch_u (w := w) (s := false) H hv hN hx).2 (Or.inl hw)]
    cases e <;> exact ⟨rfl, rfl⟩
  | false =>
    match e, he, ht with
    | .inl t, he, ht =>
      rw [(pv_ch_u (w := w) (s := true) H hv hN hx).2 (Or.inr (Or.inl ht)), (pv_ch_u (w := w) (s := false) H hv hN hx).2 (Or.inr (Or.inl ht))]
      exact ⟨rfl, rfl⟩
    | .inr q, ⟨hq, hl⟩, ht =>
      have ht' : tr x = nI q := ht
      have hlen := pr_rt_len k b
      constructor
      · show (if gt_RO g q = true then q :: ff_rL g (pr_mk w k b) else []) = _
        cases hr : gt_RO g q with
        | false =>
          rw [if_neg (by decide), (pv_ch_u (w := w) (s := true) H hv hN hx).2 (Or.inr (Or.inr ⟨q, hq, ht', hr⟩))]
        | true =>
          have hi := pv_E_ar (s := true) H hq hr
          have hi' : gt_ar g q - 1 < gt_ar g q := hi
          have hc : ff_len k - 1 < (pr_rt k b).length := by rw [hlen, hl]; exact hi'
          have hc2 := List.getElem?_eq_getElem hc
          have hlt := pr_rt_lt k b _ (List.getElem_mem hc)
          rw [if_pos rfl, (pv_ch_u (w := w) (s := true) H hv hN hx).1 q ht' hq hw hr, (ihL _ hc2).1]
          have hkk := pk_kid0 (hk _ _ hc2).1 (by omega)
          rw [show pv_i g true q = ff_len k - 1 by rw [hl]; rfl, hkk]
      · show (if gt_LO g q = true then q :: ff_lF g (pr_mk w k b) else []) = _
        cases hr : gt_LO g q with
        | false =>
          rw [if_neg (by decide), (pv_ch_u (w := w) (s := false) H hv hN hx).2 (Or.inr (Or.inr ⟨q, hq, ht', hr⟩))]
        | true =>
          have hi := pv_E_ar (s := false) H hq hr
          have hi' : 0 < gt_ar g q := hi
          have hc : 0 < (pr_rt k b).length := by rw [hlen, hl]; exact hi'
          have hc2 := List.getElem?_eq_getElem hc
          have hlt := pr_rt_lt k b _ (List.getElem_mem hc)
          rw [if_pos rfl, (pv_ch_u (w := w) (s := false) H hv hN hx).1 q ht' hq hw hr, (ihF _ hc2).2]
          have hkk := pk_kid0 (hk _ _ hc2).1 (by omega)
          rw [show pv_i g false q = 0 from rfl, hkk]
theorem pr_lf_mk (F : ff_F) (a : Nat) : ff_lf (pr_mk w F a) = ff_lf F := by cases F <;> rfl
theorem pv_chF (H : gt_ok g) (hv : pv_ok g N tr pa sl kd) (hN : N ≤ 32) : ∀ (F : ff_F) (a : Nat), ff_wf g F → pr_lk tr pa sl kd F a → a + ff_sz F ≤ N →
    (∀ y, (pr_rt F a)[ff_len F - 1]? = some y → ff_rL g (pr_mk w F a) = pv_ch g tr kd w true N y ∧ ff_lL g (pr_mk w F a) = pv_ch g tr kd w false N y) ∧ (∀ y, (pr_rt F a)[0]? = some y → ff_rF g (pr_mk w F a) = pv_ch g tr kd w true N y ∧ ff_lF g (pr_mk w F a) = pv_ch g tr kd w false N y) := by
  intro F
  induction F with
  | leaf =>
    intro a _ _ _
    refine ⟨fun y h => ?_, fun y h => ?_⟩
    · simp [pr_rt] at h
    · simp [pr_rt] at h
  | inner m e u p k ihp ihk =>
    intro a hw hl hle
    have hle' : a + (ff_sz p + ff_sz k + 1) ≤ N := hle
    obtain ⟨l1, l2, l3, l4⟩ := hl
    obtain ⟨k1, k2⟩ := ihk (a + ff_sz p) hw.2.1 l2 (by omega)
    have hnode := pv_node (w := w) H hv hN (b := a + ff_sz p) (x := a + ff_sz p + ff_sz k) (by omega) rfl hw.2.2 l3 l4 k1 k2
    have hlenp := pr_rt_len p a
    refine ⟨fun y h => ?_, fun y h => ?_⟩
    · have h' : (pr_rt p a ++ [a + ff_sz p + ff_sz k])[ff_len p + 1 - 1]? = some y := h
      rw [Nat.add_sub_cancel, List.getElem?_append_right (by omega), hlenp, Nat.sub_self] at h'
      have ey : a + ff_sz p + ff_sz k = y := Option.some.inj h'
      subst ey
      exact hnode
    · have h' : (pr_rt p a ++ [a + ff_sz p + ff_sz k])[0]? = some y := h
      show (if ff_lf (pr_mk w p a) = true then ff_rN g (cond (w (a + ff_sz p + ff_sz k)) 1 0) e (ff_rL g (pr_mk w k (a + ff_sz p))) else ff_rF g (pr_mk w p a)) = _ ∧ (if ff_lf (pr_mk w p a) = true then ff_lN g (cond (w (a + ff_sz p + ff_sz k)) 1 0) e (ff_lF g (pr_mk w k (a + ff_sz p))) else ff_lF g (pr_mk w p a)) = _
      rw [pr_lf_mk]
      cases hp : ff_lf p with
      | true =>
        have h0 : ff_len p = 0 := ff_len0.mpr hp
        rw [List.getElem?_append_right (by omega), hlenp, h0] at h'
        have ey : a + ff_sz p + ff_sz k = y := Option.some.inj h'
        subst ey
        exact hnode
      | false =>
        have h0 : ¬ ff_len p = 0 := fun z => by rw [ff_len0.mp z] at hp; cases hp
        rw [List.getElem?_append_left (by omega)] at h'
        exact (ihp a hw.1 l1 (by omega)).2 y h'
theorem pv_okF (H : gt_ok g) (hv : pv_ok g N tr pa sl kd) (hN : N ≤ 32) : ∀ (F : ff_F) (a : Nat), ff_wf g F → pr_lk tr pa sl kd F a → a + ff_sz F ≤ N → (ff_ok g (pr_mk w F a) ↔ ∀ x, a ≤ x → x < a + ff_sz F → pv_V g N tr kd w true x ∧ pv_V g N tr kd w false x) := by
  have hn := H.1
  intro F
  induction F with
  | leaf =>
    intro a _ _ _
    refine ⟨fun _ x h1 h2 => ?_, fun _ => trivial⟩
    have h3 : x < a + 0 := h2
    omega
  | inner m e u p k ihp ihk =>
    intro a hw hl hle
    have hle' : a + (ff_sz p + ff_sz k + 1) ≤ N := hle
    obtain ⟨l1, l2, l3, l4⟩ := hl
    obtain ⟨k1, k2⟩ := pv_chF (w := w) H hv hN k (a + ff_sz p) hw.2.1 l2 (by omega)
    have ip := ihp a hw.1 l1 (by omega)
    have ik := ihk (a + ff_sz p) hw.2.1 l2 (by omega)
    have hlen := pr_rt_len k (a + ff_sz p)
    have hnode : ff_oe g e (pr_mk w k (a + ff_sz p)) ↔ (pv_V g N tr kd w true (a + ff_sz p + ff_sz k) ∧ pv_V g N tr kd w false (a + ff_sz p + ff_sz k)) := by
      match e, hw, l3 with
      | .inl t, hw, l3 =>
        refine ⟨fun _ => ⟨fun q hq hqn => ?_, fun q hq hqn => ?_⟩, fun _ => trivial⟩
        · rw [l3] at hq
          exact absurd hq.symm (nI_nm1 (by omega))
        · rw [l3] at hq
          exact absurd hq.symm (nI_nm1 (by omega))
      | .inr q, hw, l3 =>
        obtain ⟨hq, hlk⟩ := hw.2.2
        have l3' : tr (a + ff_sz p + ff_sz k) = nI q := l3
        have eqq : ∀ q', tr (a + ff_sz p + ff_sz k) = nI q' → q' < gt_n g → q' = q := by
          intro q' h1 h2
          rw [l3'] at h1
          exact ((nI_eq (by omega) (by omega)).mp h1).symm
        -- the first kid and the last kid
        have first : gt_LO g q = true → ff_rF g (pr_mk w k (a + ff_sz p)) = pv_ch g tr kd w true N (pv_k kd (a + ff_sz p + ff_sz k) 0) := by
          intro hlo
          have hi := pv_E_ar (s := false) H hq hlo
          have hi' : 0 < gt_ar g q := hi
          have hc : 0 < (pr_rt k (a + ff_sz p)).length := by rw [hlen, hlk]; exact hi'
          have hc2 := List.getElem?_eq_getElem hc
          have hlt := pr_rt_lt k _ _ (List.getElem_mem hc)
          rw [(k2 _ hc2).1, pk_kid0 (l4 _ _ hc2).1 (by omega)]
        have last : gt_RO g q = true → ff_lL g (pr_mk w k (a + ff_sz p)) = pv_ch g tr kd w false N (pv_k kd (a + ff_sz p + ff_sz k) (gt_ar g q - 1)) := by
          intro hro
          have hi := pv_E_ar (s := true) H hq hro
          have hi' : gt_ar g q - 1 < gt_ar g q := hi
          have hc : ff_len k - 1 < (pr_rt k (a + ff_sz p)).length := by rw [hlen, hlk]; exact hi'
          have hc2 := List.getElem?_eq_getElem hc
          have hlt := pr_rt_lt k _ _ (List.getElem_mem hc)
          have hkk := pk_kid0 (l4 _ _ hc2).1 (by omega)
          rw [(k1 _ hc2).2, ← hlk, hkk]
        constructor
        · rintro ⟨o1, o2⟩
          refine ⟨?_, ?_⟩
          · intro q' h1 h2 h3 r hr
            have e1 := eqq q' h1 h2
            subst e1
            have h3' : gt_LO g q' = true := h3
            have hr' : r ∈ pv_ch g tr kd w true N (pv_k kd (a + ff_sz p + ff_sz k) 0) := hr
            rw [← first h3'] at hr'
            exact o1 h3' r hr'
          · intro q' h1 h2 h3 r hr
            have e1 := eqq q' h1 h2
            subst e1
            have h3' : gt_RO g q' = true := h3
            have hr' : r ∈ pv_ch g tr kd w false N (pv_k kd (a + ff_sz p + ff_sz k) (gt_ar g q' - 1)) := hr
            rw [← last h3'] at hr'
            exact o2 h3' r hr'
        · rintro ⟨v1, v2⟩
          refine ⟨?_, ?_⟩
          · intro hlo r hr
            rw [first hlo] at hr
            exact v1 q l3' hq hlo r hr
          · intro hro r hr
            rw [last hro] at hr
            exact v2 q l3' hq hro r hr
    constructor
    · rintro ⟨o1, o2, o3⟩ x h1 h2
      have h2' : x < a + (ff_sz p + ff_sz k + 1) := h2
      by_cases c1 : x < a + ff_sz p
      · exact ip.mp o1 x h1 c1
      · by_cases c2 : x < a + ff_sz p + ff_sz k
        · exact ik.mp o2 x (by omega) c2
        · have ex : x = a + ff_sz p + ff_sz k := by omega
          subst ex
          exact hnode.mp o3
    · intro h
      refine ⟨ip.mpr (fun x h1 h2 => h x h1 ?_), ik.mpr (fun x h1 h2 => h x (by omega) ?_), hnode.mpr (h _ (by omega) ?_)⟩
      · show x < a + (ff_sz p + ff_sz k + 1); omega
      · show x < a + (ff_sz p + ff_sz k + 1); omega
      · show _ < a + (ff_sz p + ff_sz k + 1); omega
end
end
section
/-! the component's chain walks -/
def pr_aw (aw : Nat → Int32) (w : Nat → Bool) (N : Nat) : Prop := ∀ x, x < N → aw x = gt_b (w x)
def pr_up (w : Nat → Bool) (n : Nat) : Nat → Bool := fun x => if x = n then false else w x
section
variable {g : gt_T} {n N : Nat} {post : SX → Prop} {post1 : Int32 → Prop} {w : Nat → Bool}
variable {f_opLimit f_nodeLimit f_levelLimit f_textLimit f_nodeTotal f_treeTotal f_depth f_wanting f_clashing f_outLen f_treeBase f_treeNodes f_workDepth : Int32} {a_opener a_joiner a_inner a_text a_nodeList a_frameOp a_frameNext a_out a_partner a_openAt a_treeOp a_parent a_slot a_kid a_wrapped a_workNode a_workStep : Nat → Int32}
theorem xw_ro_m (hp : post1 0) : wpX_rightOpen post1 (f_opLimit, f_nodeLimit, f_levelLimit, nI (gt_l g), f_textLimit, nI (gt_n g), nI n, f_nodeTotal, f_treeTotal, f_depth, f_wanting, f_clashing, f_outLen, f_treeBase, f_treeNodes, f_workDepth, gt_k g, gt_p g, gt_a g, gt_c g, gt_t g, a_opener, a_joiner, a_inner, a_text, a_nodeList, a_frameOp, a_frameNext, a_out, a_partner, a_openAt, a_treeOp, a_parent, a_slot, a_kid, a_wrapped, a_workNode, a_workStep) (-1) := br_t (by decide) hp
theorem xw_lo_m (hp : post1 0) : wpX_leftOpen post1 (f_opLimit, f_nodeLimit, f_levelLimit, nI (gt_l g), f_textLimit, nI (gt_n g), nI n, f_nodeTotal, f_treeTotal, f_depth, f_wanting, f_clashing, f_outLen, f_treeBase, f_treeNodes, f_workDepth, gt_k g, gt_p g, gt_a g, gt_c g, gt_t g, a_opener, a_joiner, a_inner, a_text, a_nodeList, a_frameOp, a_frameNext, a_out, a_partner, a_openAt, a_treeOp, a_parent, a_slot, a_kid, a_wrapped, a_workNode, a_workStep) (-1) := br_t (by decide) hp
theorem xw_nar (H : gt_ok g) {x q : Nat} (hx : x < 32) (ht : a_treeOp x = nI q) (hq : q < gt_n g) (hp : post1 (nI (gt_ar g q))) : wpX_nodeArity post1 (f_opLimit, f_nodeLimit, f_levelLimit, nI (gt_l g), f_textLimit, nI (gt_n g), nI n, f_nodeTotal, f_treeTotal, f_depth, f_wanting, f_clashing, f_outLen, f_treeBase, f_treeNodes, f_workDepth, gt_k g, gt_p g, gt_a g, gt_c g, gt_t g, a_opener, a_joiner, a_inner, a_text, a_nodeList, a_frameOp, a_frameNext, a_out, a_partner, a_openAt, a_treeOp, a_parent, a_slot, a_kid, a_wrapped, a_workNode, a_workStep) (nI x) := by
  have hn := H.1
  unfold wpX_nodeArity
  dsimp only
  rw [nI_clamp (by omega), ht]
  exact ⟨vp_in_nI hx (by decide), br_t (nI_pos' (by omega)) ⟨vp_in_nI hx (by decide), xw_ar H hq hp⟩⟩
theorem xw_le (H : gt_ok g) {c p q i : Nat} (hc : c < 32) (hp : p < 32) (ht : a_treeOp p = nI q) (hq : q < gt_n g) (hs : a_slot c = nI i) (hi : i < 100) (hT : nI i = nI (pv_i g false q) ∧ pv_E g false q = true → post1 1) (hF : ¬ (nI i = nI (pv_i g false q) ∧ pv_E g false q = true) → post1 0) : wpX_isLeftEdge post1 (f_opLimit, f_nodeLimit, f_levelLimit, nI (gt_l g), f_textLimit, nI (gt_n g), nI n, f_nodeTotal, f_treeTotal, f_depth, f_wanting, f_clashing, f_outLen, f_treeBase, f_treeNodes, f_workDepth, gt_k g, gt_p g, gt_a g, gt_c g, gt_t g, a_opener, a_joiner, a_inner, a_text, a_nodeList, a_frameOp, a_frameNext, a_out, a_partner, a_openAt, a_treeOp, a_parent, a_slot, a_kid, a_wrapped, a_workNode, a_workStep) (nI c) (nI p) := by
  unfold wpX_isLeftEdge
  dsimp only
  rw [nI_clamp (n := c) (by omega), nI_clamp (n := p) (by omega), ht, hs]
  refine ⟨vp_in_nI hc (by decide), br_c (fun h => ⟨vp_in_nI hp (by decide), xw_lo H hq ?_⟩) (fun h => hF (fun z => h z.1))⟩
  cases hlo : gt_LO g q with
  | false => exact br_t rfl (hF (fun z => by have z2 : gt_LO g q = true := z.2; rw [hlo] at z2; cases z2))
  | true => exact br_f (by decide) (hT ⟨h, hlo⟩)
theorem xw_re (H : gt_ok g) {c p q i : Nat} (hc : c < 32) (hp : p < 32) (ht : a_treeOp p = nI q) (hq : q < gt_n g) (har : 0 < gt_ar g q) (hs : a_slot c = nI i) (hi : i < 100) (hT : nI i = nI (pv_i g true q) ∧ pv_E g true q = true → post1 1) (hF : ¬ (nI i = nI (pv_i g true q) ∧ pv_E g true q = true) → post1 0) : wpX_isRightEdge post1 (f_opLimit, f_nodeLimit, f_levelLimit, nI (gt_l g), f_textLimit, nI (gt_n g), nI n, f_nodeTotal, f_treeTotal, f_depth, f_wanting, f_clashing, f_outLen, f_treeBase, f_treeNodes, f_workDepth, gt_k g, gt_p g, gt_a g, gt_c g, gt_t g, a_opener, a_joiner, a_inner, a_text, a_nodeList, a_frameOp, a_frameNext, a_out, a_partner, a_openAt, a_treeOp, a_parent, a_slot, a_kid, a_wrapped, a_workNode, a_workStep) (nI c) (nI p) := by
  unfold wpX_isRightEdge
  dsimp only
  refine xw_nar H hp ht hq ?_
  rw [nI_clamp (n := c) (by omega), nI_clamp (n := p) (by omega), ht, hs, show nI (gt_ar g q) - 1 = nI (pv_i g true q) from pk_sub (b := 1) har]
  refine ⟨vp_in_nI hc (by decide), br_c (fun h => ⟨vp_in_nI hp (by decide), xw_ro H hq ?_⟩) (fun h => hF (fun z => h z.1))⟩
  cases hro : gt_RO g q with
  | false => exact br_t rfl (hF (fun z => by have z2 : gt_RO g q = true := z.2; rw [hro] at z2; cases z2))
  | true => exact br_f (by decide) (hT ⟨h, hro⟩)
theorem xw_fo_l (H : gt_ok g) (hv : pv_ok g N a_treeOp a_parent a_slot a_kid) (hN : N ≤ 32) (haw : pr_aw a_wrapped w N) : ∀ (d c t Nf : Nat), c < N → N ≤ d + c → t ≤ c → d < Nf → post1 (gt_oc (pv_fo g N a_treeOp a_parent a_slot w true d c)) → wX_followerOf_4 post1 f_opLimit f_nodeLimit f_levelLimit (nI (gt_l g)) f_textLimit (nI (gt_n g)) (nI n) f_nodeTotal f_treeTotal f_depth f_wanting f_clashing f_outLen f_treeBase (nI N) f_workDepth (gt_k g) (gt_p g) (gt_a g) (gt_c g) (gt_t g) a_opener a_joiner a_inner a_text a_nodeList a_frameOp a_frameNext a_out a_partner a_openAt a_treeOp a_parent a_slot a_kid a_wrapped a_workNode a_workStep Nf (nI c) (nI t) := by
  have hn12 := H.1
  intro d
  induction d with
  | zero => intro c t Nf hc hd; omega
  | succ d ih =>
    intro c t Nf hc hd ht hNf hp
    obtain ⟨Nf, rfl⟩ : ∃ k, Nf = k + 1 := ⟨Nf - 1, by omega⟩
    rw [wX_followerOf_4]
    refine br_f (nI_ge (by omega) (by omega)) ⟨vp_in_nI (by omega) (by decide), ?_⟩
    rw [nI_clamp (n := c) (by omega)]
    by_cases hr : c + 1 < N
    · obtain ⟨x, q, i, a1, a2, a3, a4, a5, a6, a7, a8⟩ := hv.2.1 c hr
      have har := gt_ar3 H a3
      rw [pv_fo_u H hN a6 a2 a4 a3, a7] at hp
      rw [Bool.not_true] at hp
      refine nm_r a6 (br_t (nI_pos' (by omega)) (xw_le H (i := i) (by omega) (by omega) a4 a3 a7 (by omega) ?_ ?_))
      · intro h
        rw [if_pos h] at hp
        exact br_f (by decide) hp
      · intro h
        rw [if_neg h] at hp
        refine br_t rfl ⟨vp_in_nI (by omega) (by decide), ?_⟩
        rw [nI_clamp (n := x) (by omega), haw x a2]
        cases hw : w x with
        | true =>
          rw [if_pos (Or.inl hw)] at hp
          exact br_f (by decide) hp
        | false =>
          refine br_t rfl (xw_re H (i := i) (by omega) (by omega) a4 a3 (by omega) a7 (by omega) ?_ ?_)
          · intro h2
            rw [if_neg (by rw [hw]; rintro (z | z); cases z; exact z h2)] at hp
            exact br_f (by decide) (nm_r (nI_1 t) (ih x (t + 1) Nf a2 (by omega) (by omega) (by omega) hp))
          · intro h2
            rw [if_pos (Or.inr h2)] at hp
            exact br_t rfl hp
    · rw [pv_fo_r hv.2.2 (by omega)] at hp
      have ec : c = N - 1 := by omega
      exact nm_r (e' := -1) (by rw [ec]; exact hv.2.2) (br_f (by decide) hp)
theorem xw_ld_l (H : gt_ok g) (hv : pv_ok g N a_treeOp a_parent a_slot a_kid) (hN : N ≤ 32) (haw : pr_aw a_wrapped w N) : ∀ (d c t Nf : Nat), c < N → N ≤ d + c → t ≤ c → d < Nf → post1 (gt_oc (pv_fo g N a_treeOp a_parent a_slot w false d c)) → wX_leaderOf_4 post1 f_opLimit f_nodeLimit f_levelLimit (nI (gt_l g)) f_textLimit (nI (gt_n g)) (nI n) f_nodeTotal f_treeTotal f_depth f_wanting f_clashing f_outLen f_treeBase (nI N) f_workDepth (gt_k g) (gt_p g) (gt_a g) (gt_c g) (gt_t g) a_opener a_joiner a_inner a_text a_nodeList a_frameOp a_frameNext a_out a_partner a_openAt a_treeOp a_parent a_slot a_kid a_wrapped a_workNode a_workStep Nf (nI c) (nI t) := by
  have hn12 := H.1
  intro d
  induction d with
  | zero => intro c t Nf hc hd; omega
  | succ d ih =>
    intro c t Nf hc hd ht hNf hp
    obtain ⟨Nf, rfl⟩ : ∃ k, Nf = k + 1 := ⟨Nf - 1, by omega⟩
    rw [wX_leaderOf_4]
    refine br_f (nI_ge (by omega) (by omega)) ⟨vp_in_nI (by omega) (by decide), ?_⟩
    rw [nI_clamp (n := c) (by omega)]
    by_cases hr : c + 1 < N
    · obtain ⟨x, q, i, a1, a2, a3, a4, a5, a6, a7, a8⟩ := hv.2.1 c hr
      have har := gt_ar3 H a3
      rw [pv_fo_u H hN a6 a2 a4 a3, a7] at hp
      rw [Bool.not_false] at hp
      refine nm_r a6 (br_t (nI_pos' (by omega)) (xw_re H (i := i) (by omega) (by omega) a4 a3 (by omega) a7 (by omega) ?_ ?_))
      · intro h
        rw [if_pos h] at hp
        exact br_f (by decide) hp
      · intro h
        rw [if_neg h] at hp
        refine br_t rfl ⟨vp_in_nI (by omega) (by decide), ?_⟩
        rw [nI_clamp (n := x) (by omega), haw x a2]
        cases hw : w x with
        | true =>
          rw [if_pos (Or.inl hw)] at hp
          exact br_f (by decide) hp
        | false =>
          refine br_t rfl (xw_le H (i := i) (by omega) (by omega) a4 a3 a7 (by omega) ?_ ?_)
          · intro h2
            rw [if_neg (by rw [hw]; rintro (z | z); cases z; exact z h2)] at hp
            exact br_f (by decide) (nm_r (nI_1 t) (ih x (t + 1) Nf a2 (by omega) (by omega) (by omega) hp))
          · intro h2
            rw [if_pos (Or.inr h2)] at hp
            exact br_t rfl hp
    · rw [pv_fo_r hv.2.2 (by omega)] at hp
      have ec : c = N - 1 := by omega
      exact nm_r (e' := -1) (by rw [ec]; exact hv.2.2) (br_f (by decide) hp)
theorem xw_rc_l (H : gt_ok g) (hv : pv_ok g N a_treeOp a_parent a_slot a_kid) (hN : N ≤ 32) (haw : pr_aw a_wrapped w N) {p qp : Nat} (hp : p < N) (hqp : a_treeOp p = nI qp) (hqn : qp < gt_n g) : ∀ (d c t Nf : Nat), c ≤ d → c < N → t + c < N → d < Nf → ((∀ r, r ∈ pv_ch g a_treeOp a_kid w true N c → pv_ct g true r qp) → post1 1) → ((¬ ∀ r, r ∈ pv_ch g a_treeOp a_kid w true N c → pv_ct g true r qp) → post1 0) → wX_rightChainFits_17 post1 (nI p) f_opLimit f_nodeLimit f_levelLimit (nI (gt_l g)) f_textLimit (nI (gt_n g)) (nI n) f_nodeTotal f_treeTotal f_depth f_wanting f_clashing f_outLen f_treeBase (nI N) f_workDepth (gt_k g) (gt_p g) (gt_a g) (gt_c g) (gt_t g) a_opener a_joiner a_inner a_text a_nodeList a_frameOp a_frameNext a_out a_partner a_openAt a_treeOp a_parent a_slot a_kid a_wrapped a_workNode a_workStep Nf (nI c) (nI t) := by
  have hn12 := H.1
  intro d
  induction d with
  | zero =>
    intro c t Nf hcd hc ht hNf hT hF
    have ec : c = 0 := by omega
    obtain ⟨Nf, rfl⟩ : ∃ k, Nf = k + 1 := ⟨Nf - 1, by omega⟩
    rw [wX_rightChainFits_17]
    refine br_f (nI_ge (by omega) (by omega)) ⟨vp_in_nI (by omega) (by decide), ?_⟩
    rw [nI_clamp (n := c) (by omega), haw c hc]
    rcases hv.1 c hc with h | ⟨q, q1, q2, q3⟩
    · rw [(pv_ch_u (w := w) (s := true) H hv hN hc).2 (Or.inr (Or.inl h))] at hT
      have hT' := hT (fun r hr => (nomatch hr))
      rw [h]
      refine nm_e ⟨vp_in_nI (by omega) (by decide), br_c (fun _ => xw_ro_m (br_t rfl hT')) (fun _ => hT')⟩
    · have hE : pv_E g true q = false := by
        cases hE : pv_E g true q with
        | false => rfl
        | true =>
          obtain ⟨k1, _⟩ := pv_kid H hv hN hc q2 q1 (pv_E_ar H q1 hE)
          omega
      have hE' : gt_RO g q = false := hE
      rw [(pv_ch_u (w := w) (s := true) H hv hN hc).2 (Or.inr (Or.inr ⟨q, q1, q2, hE⟩))] at hT
      have hT' := hT (fun r hr => (nomatch hr))
      rw [q2]
      refine nm_e ⟨vp_in_nI (by omega) (by decide), br_c (fun _ => xw_ro H q1 ?_) (fun _ => hT')⟩
      rw [hE']
      exact br_t rfl hT'
  | succ d ih =>
    intro c t Nf hcd hc ht hNf hT hF
    obtain ⟨Nf, rfl⟩ : ∃ k, Nf = k + 1 := ⟨Nf - 1, by omega⟩
    rw [wX_rightChainFits_17]
    refine br_f (nI_ge (by omega) (by omega)) ⟨vp_in_nI (by omega) (by decide), ?_⟩
    rw [nI_clamp (n := c) (by omega), haw c hc]
    cases hw : w c with
    | true =>
      rw [(pv_ch_u (w := w) (s := true) H hv hN hc).2 (Or.inl hw)] at hT
      have hT' := hT (fun r hr => (nomatch hr))
      exact nm_e ⟨vp_in_nI (by omega) (by decide), br_f (by decide) hT'⟩
    | false =>
      rcases hv.1 c hc with h | ⟨q, q1, q2, q3⟩
      · rw [(pv_ch_u (w := w) (s := true) H hv hN hc).2 (Or.inr (Or.inl h))] at hT
        have hT' := hT (fun r hr => (nomatch hr))
        rw [h]
        exact nm_e ⟨vp_in_nI (by omega) (by decide), br_t rfl (xw_ro_m (br_t rfl hT'))⟩
      · rw [q2]
        refine nm_e ⟨vp_in_nI (by omega) (by decide), br_t rfl (xw_ro H q1 ?_)⟩
        cases hE : gt_RO g q with
        | false =>
          rw [(pv_ch_u (w := w) (s := true) H hv hN hc).2 (Or.inr (Or.inr ⟨q, q1, q2, hE⟩))] at hT
          exact br_t rfl (hT (fun r hr => (nomatch hr)))
        | true =>
          obtain ⟨k1, k2, k3, k4⟩ := pv_kid H hv hN hc q2 q1 (pv_E_ar (s := true) H q1 hE)
          have hi := pv_E_ar (s := true) H q1 hE
          have hi' : gt_ar g q - 1 < gt_ar g q := hi
          have har := gt_ar3 H q1
          rw [(pv_ch_u (w := w) (s := true) H hv hN hc).1 q q2 q1 hw hE] at hT hF
          refine br_f (by decide) ⟨vp_in_nI (by omega) (by decide), ?_⟩
          rw [nI_clamp (n := p) (by omega), hqp]
          refine xw_ct H q1 hqn ?_
          rcases gt_CT3 g q qp with h | h | h
          · rw [h]
            refine br_t (by decide) (xw_ar H q1 ?_)
            have e1 : (3 : Int32) * nI c + nI (gt_ar g q) - 1 = nI (3 * c + pv_i g true q) := by
              rw [show (3 : Int32) * nI c = nI (3 * c) from pk_mul 3 c, nI_add, show (1 : Int32) = nI 1 from rfl, pk_sub (by omega)]
              exact congrArg nI (by show 3 * c + gt_ar g q - 1 = 3 * c + (gt_ar g q - 1); omega)
            have hpi : pv_i g true q = gt_ar g q - 1 := rfl
            rw [e1, nI_clamp (n := 3 * c + pv_i g true q) (by omega)]
            refine ⟨vp_in_nI (by omega) (by decide), nm_r k4 (nm_r (nI_1 t) ?_)⟩
            refine ih _ (t + 1) Nf (by omega) (by omega) (by omega) (by omega) ?_ ?_
            · intro hall
              apply hT
              intro r hr
              rcases List.mem_cons.mp hr with e | e
              · rw [e]; exact h
              · exact hall r e
            · intro hall
              apply hF
              intro hall2
              exact hall (fun r hr => hall2 r (List.mem_cons_of_mem _ hr))
          · rw [h]
            refine br_f (by decide) (hF (fun z => ?_))
            have z1 : gt_CT g q qp = 1 := z q (List.mem_cons_self ..)
            rw [h] at z1
            exact absurd z1 (by decide)
          · rw [h]
            refine br_f (by decide) (hF (fun z => ?_))
            have z1 : gt_CT g q qp = 1 := z q (List.mem_cons_self ..)
            rw [h] at z1
            exact absurd z1 (by decide)
theorem xw_lc_l (H : gt_ok g) (hv : pv_ok g N a_treeOp a_parent a_slot a_kid) (hN : N ≤ 32) (haw : pr_aw a_wrapped w N) {p qp : Nat} (hp : p < N) (hqp : a_treeOp p = nI qp) (hqn : qp < gt_n g) : ∀ (d c t Nf : Nat), c ≤ d → c < N → t + c < N → d < Nf → ((∀ r, r ∈ pv_ch g a_treeOp a_kid w false N c → pv_ct g false r qp) → post1 1) → ((¬ ∀ r, r ∈ pv_ch g a_treeOp a_kid w false N c → pv_ct g false r qp) → post1 0) → wX_leftChainFits_17 post1 (nI p) f_opLimit f_nodeLimit f_levelLimit (nI (gt_l g)) f_textLimit (nI (gt_n g)) (nI n) f_nodeTotal f_treeTotal f_depth f_wanting f_clashing f_outLen f_treeBase (nI N) f_workDepth (gt_k g) (gt_p g) (gt_a g) (gt_c g) (gt_t g) a_opener a_joiner a_inner a_text a_nodeList a_frameOp a_frameNext a_out a_partner a_openAt a_treeOp a_parent a_slot a_kid a_wrapped a_workNode a_workStep Nf (nI c) (nI t) := by
  have hn12 := H.1
  intro d
  induction d with
  | zero =>
    intro c t Nf hcd hc ht hNf hT hF
    have ec : c = 0 := by omega
    obtain ⟨Nf, rfl⟩ : ∃ k, Nf = k + 1 := ⟨Nf - 1, by omega⟩
    rw [wX_leftChainFits_17]
    refine br_f (nI_ge (by omega) (by omega)) ⟨vp_in_nI (by omega) (by decide), ?_⟩
    rw [nI_clamp (n := c) (by omega), haw c hc]
    rcases hv.1 c hc with h | ⟨q, q1, q2, q3⟩
    · rw [(pv_ch_u (w := w) (s := false) H hv hN hc).2 (Or.inr (Or.inl h))] at hT
      have hT' := hT (fun r hr => (nomatch hr))
      rw [h]
      refine nm_e ⟨vp_in_nI (by omega) (by decide), br_c (fun _ => xw_lo_m (br_t rfl hT')) (fun _ => hT')⟩
    · have hE : pv_E g false q = false := by
        cases hE : pv_E g false q with
        | false => rfl
        | true =>
          obtain ⟨k1, _⟩ := pv_kid H hv hN hc q2 q1 (pv_E_ar H q1 hE)
          omega
      have hE' : gt_LO g q = false := hE
      rw [(pv_ch_u (w := w) (s := false) H hv hN hc).2 (Or.inr (Or.inr ⟨q, q1, q2, hE⟩))] at hT
      have hT' := hT (fun r hr => (nomatch hr))
      rw [q2]
      refine nm_e ⟨vp_in_nI (by omega) (by decide), br_c (fun _ => xw_lo H q1 ?_) (fun _ => hT')⟩
      rw [hE']
      exact br_t rfl hT'
  | succ d ih =>
    intro c t Nf hcd hc ht hNf hT hF
    obtain ⟨Nf, rfl⟩ : ∃ k, Nf = k + 1 := ⟨Nf - 1, by omega⟩
    rw [wX_leftChainFits_17]
    refine br_f (nI_ge (by omega) (by omega)) ⟨vp_in_nI (by omega) (by decide), ?_⟩
    rw [nI_clamp (n := c) (by omega), haw c hc]
    cases hw : w c with
    | true =>
      rw [(pv_ch_u (w := w) (s := false) H hv hN hc).2 (Or.inl hw)] at hT
      have hT' := hT (fun r hr => (nomatch hr))
      exact nm_e ⟨vp_in_nI (by omega) (by decide), br_f (by decide) hT'⟩
    | false =>
      rcases hv.1 c hc with h | ⟨q, q1, q2, q3⟩
      · rw [(pv_ch_u (w := w) (s := false) H hv hN hc).2 (Or.inr (Or.inl h))] at hT
        have hT' := hT (fun r hr => (nomatch hr))
        rw [h]
        exact nm_e ⟨vp_in_nI (by omega) (by decide), br_t rfl (xw_lo_m (br_t rfl hT'))⟩
      · rw [q2]
        refine nm_e ⟨vp_in_nI (by omega) (by decide), br_t rfl (xw_lo H q1 ?_)⟩
        cases hE : gt_LO g q with
        | false =>
          rw [(pv_ch_u (w := w) (s := false) H hv hN hc).2 (Or.inr (Or.inr ⟨q, q1, q2, hE⟩))] at hT
          exact br_t rfl (hT (fun r hr => (nomatch hr)))
        | true =>
          obtain ⟨k1, k2, k3, k4⟩ := pv_kid H hv hN hc q2 q1 (pv_E_ar (s := false) H q1 hE)
          have hi := pv_E_ar (s := false) H q1 hE
          have har := gt_ar3 H q1
          have hpi : pv_i g false q = 0 := rfl
          rw [(pv_ch_u (w := w) (s := false) H hv hN hc).1 q q2 q1 hw hE] at hT hF
          refine br_f (by decide) ⟨vp_in_nI (by omega) (by decide), ?_⟩
          rw [nI_clamp (n := p) (by omega), hqp]
          refine xw_ct H hqn q1 ?_
          rcases gt_CT3 g qp q with h | h | h
          · rw [h]
            refine br_f (by decide) (hF (fun z => ?_))
            have z1 : gt_CT g qp q = -1 := z q (List.mem_cons_self ..)
            rw [h] at z1
            exact absurd z1 (by decide)
          · rw [h]
            refine br_f (by decide) (hF (fun z => ?_))
            have z1 : gt_CT g qp q = -1 := z q (List.mem_cons_self ..)
            rw [h] at z1
            exact absurd z1 (by decide)
          · rw [h]
            refine br_t (by decide) ?_
            rw [hpi] at k1 k4 hT hF
            rw [show (3 : Int32) * nI c = nI (3 * c + 0) from pk_mul 3 c, nI_clamp (n := 3 * c + 0) (by omega)]
            refine ⟨vp_in_nI (by omega) (by decide), nm_r k4 (nm_r (nI_1 t) ?_)⟩
            refine ih _ (t + 1) Nf (by omega) (by omega) (by omega) (by omega) ?_ ?_
            · intro hall
              apply hT
              intro r hr
              rcases List.mem_cons.mp hr with e | e
              · rw [e]; exact h
              · exact hall r e
            · intro hall
              apply hF
              intro hall2
              exact hall (fun r hr => hall2 r (List.mem_cons_of_mem _ hr))
end
end
section
/-- one trial of node n -/
noncomputable def pr_tr (g : gt_T) (T : ff_F) (w : Nat → Bool) (n : Nat) : Nat → Bool := @ite _ (ff_ok g (pr_mk (pr_up w n) T 0)) (Classical.propDecidable _) (pr_up w n) w
noncomputable def pr_trs (g : gt_T) (T : ff_F) : (Nat → Bool) → List Nat → (Nat → Bool)
  | w, [] => w
  | w, n :: l => pr_trs g T (pr_tr g T w n) l
theorem pr_tr_t {g : gt_T} {T : ff_F} {w : Nat → Bool} {n : Nat} (h : ff_ok g (pr_mk (pr_up w n) T 0)) : pr_tr g T w n = pr_up w n := if_pos h
theorem pr_tr_f {g : gt_T} {T : ff_F} {w : Nat → Bool} {n : Nat} (h : ¬ ff_ok g (pr_mk (pr_up w n) T 0)) : pr_tr g T w n = w := if_neg h
theorem pr_tr_ok {g : gt_T} {T : ff_F} {w : Nat → Bool} {n : Nat} (h : ff_ok g (pr_mk w T 0)) : ff_ok g (pr_mk (pr_tr g T w n) T 0) := by
  by_cases hc : ff_ok g (pr_mk (pr_up w n) T 0)
  · rw [pr_tr_t hc]; exact hc
  · rw [pr_tr_f hc]; exact h
theorem pr_tr_o {g : gt_T} {T : ff_F} {w : Nat → Bool} {n x : Nat} (h : x ≠ n) : pr_tr g T w n x = w x := by
  by_cases hc : ff_ok g (pr_mk (pr_up w n) T 0)
  · rw [pr_tr_t hc]
    show (if x = n then false else w x) = w x
    rw [if_neg h]
  · rw [pr_tr_f hc]
theorem pr_tr_0 {g : gt_T} {T : ff_F} {w : Nat → Bool} {n x : Nat} (h : w x = false) : pr_tr g T w n x = false := by
  by_cases hc : ff_ok g (pr_mk (pr_up w n) T 0)
  · rw [pr_tr_t hc]
    show (if x = n then false else w x) = false
    split
    · rfl
    · exact h
  · rw [pr_tr_f hc]; exact h
theorem pr_trs_0 {g : gt_T} {T : ff_F} {x : Nat} : ∀ (l : List Nat) (w : Nat → Bool), w x = false → pr_trs g T w l x = false := by
  intro l
  induction l with
  | nil => intro w h; exact h
  | cons n l ih => intro w h; exact ih _ (pr_tr_0 h)
theorem pr_trs_app {g : gt_T} {T : ff_F} : ∀ (l l' : List Nat) (w : Nat → Bool), pr_trs g T w (l ++ l') = pr_trs g T (pr_trs g T w l) l' := by
  intro l
  induction l with
  | nil => intro l' w; rfl
  | cons n l ih => intro l' w; exact ih l' _
theorem pv_fo_w {g : gt_T} {N : Nat} {tr pa sl kd : Nat → Int32} {w w' : Nat → Bool} {s : Bool} {n : Nat} (H : gt_ok g) (hv : pv_ok g N tr pa sl kd) (hN : N ≤ 32) (hww : ∀ x, x ≠ n → w' x = w x) : ∀ (f c : Nat), n ≤ c → c < N → pv_fo g N tr pa sl w' s f c = pv_fo g N tr pa sl w s f c := by
  intro f
  induction f with
  | zero => intro c _ _; rfl
  | succ f ih =>
    intro c hc hcN
    by_cases hr : c + 1 < N
    · obtain ⟨x, q, i, a1, a2, a3, a4, a5, a6, a7, a8⟩ := hv.2.1 c hr
      rw [pv_fo_u H hN a6 a2 a4 a3, pv_fo_u H hN a6 a2 a4 a3, hww x (by omega), ih x (by omega) a2]
    · rw [pv_fo_r hv.2.2 (by omega), pv_fo_r hv.2.2 (by omega)]
/-- the chain from n fits its rival -/
def pv_chk (g : gt_T) (N : Nat) (tr pa sl kd : Nat → Int32) (w : Nat → Bool) (s : Bool) (n : Nat) : Prop := ∀ p q, pv_fo g N tr pa sl w s N n = some p → tr p = nI q → q < gt_n g → ∀ r, r ∈ pv_ch g tr kd w s N n → pv_ct g s r q
section
variable {g : gt_T} {n N : Nat} {post : SX → Prop} {post1 : Int32 → Prop} {w : Nat → Bool}
variable {f_opLimit f_nodeLimit f_levelLimit f_textLimit f_nodeTotal f_treeTotal f_depth f_wanting f_clashing f_outLen f_treeBase f_treeNodes f_workDepth : Int32} {a_opener a_joiner a_inner a_text a_nodeList a_frameOp a_frameNext a_out a_partner a_openAt a_treeOp a_parent a_slot a_kid a_wrapped a_workNode a_workStep : Nat → Int32}
theorem xw_rcf (H : gt_ok g) (hv : pv_ok g N a_treeOp a_parent a_slot a_kid) (hN : N ≤ 32) (haw : pr_aw a_wrapped w N) {x : Nat} (hx : x < N) (hT : pv_chk g N a_treeOp a_parent a_slot a_kid w true x → post1 1) (hF : ¬ pv_chk g N a_treeOp a_parent a_slot a_kid w true x → post1 0) : wpX_rightChainFits post1 (f_opLimit, f_nodeLimit, f_levelLimit, nI (gt_l g), f_textLimit, nI (gt_n g), nI n, f_nodeTotal, f_treeTotal, f_depth, f_wanting, f_clashing, f_outLen, f_treeBase, nI N, f_workDepth, gt_k g, gt_p g, gt_a g, gt_c g, gt_t g, a_opener, a_joiner, a_inner, a_text, a_nodeList, a_frameOp, a_frameNext, a_out, a_partner, a_openAt, a_treeOp, a_parent, a_slot, a_kid, a_wrapped, a_workNode, a_workStep) (nI x) := by
  have hn12 := H.1
  unfold wpX_rightChainFits
  refine ⟨N + 1, xw_fo_l (w := w) H hv hN haw N x 0 (N + 1) hx (by omega) (Nat.zero_le _) (Nat.lt_succ_self _) ?_⟩
  cases hfo : pv_fo g N a_treeOp a_parent a_slot w true N x with
  | none =>
    refine br_f (by show ¬ (0 : Int32) ≤ -1; decide) (hT ?_)
    intro p q h
    rw [hfo] at h
    cases h
  | some p =>
    obtain ⟨p1, q, q1, q2, q3, q4⟩ := pv_fo_s (n := x) H hv hN N x p hx pv_On_n hfo
    refine br_t (nI_pos' (n := p) (by omega)) ⟨N + 1, xw_rc_l (w := w) H hv hN haw p1 q2 q1 x x 0 (N + 1) (Nat.le_refl _) hx (by omega) (by omega) ?_ ?_⟩
    · intro hall
      apply hT
      intro p' q' h1 h2 h3 r hr
      rw [hfo] at h1
      have ep : p = p' := Option.some.inj h1
      subst ep
      rw [q2] at h2
      have eq : q = q' := (nI_eq (by omega) (by omega)).mp h2
      subst eq
      exact hall r hr
    · intro hall
      apply hF
      intro h
      exact hall (fun r hr => h p q hfo q2 q1 r hr)
theorem xw_lcf (H : gt_ok g) (hv : pv_ok g N a_treeOp a_parent a_slot a_kid) (hN : N ≤ 32) (haw : pr_aw a_wrapped w N) {x : Nat} (hx : x < N) (hT : pv_chk g N a_treeOp a_parent a_slot a_kid w false x → post1 1) (hF : ¬ pv_chk g N a_treeOp a_parent a_slot a_kid w false x → post1 0) : wpX_leftChainFits post1 (f_opLimit, f_nodeLimit, f_levelLimit, nI (gt_l g), f_textLimit, nI (gt_n g), nI n, f_nodeTotal, f_treeTotal, f_depth, f_wanting, f_clashing, f_outLen, f_treeBase, nI N, f_workDepth, gt_k g, gt_p g, gt_a g, gt_c g, gt_t g, a_opener, a_joiner, a_inner, a_text, a_nodeList, a_frameOp, a_frameNext, a_out, a_partner, a_openAt, a_treeOp, a_parent, a_slot, a_kid, a_wrapped, a_workNode, a_workStep) (nI x) := by
  have hn12 := H.1
  unfold wpX_leftChainFits
  refine ⟨N + 1, xw_ld_l (w := w) H hv hN haw N x 0 (N + 1) hx (by omega) (Nat.zero_le _) (Nat.lt_succ_self _) ?_⟩
  cases hfo : pv_fo g N a_treeOp a_parent a_slot w false N x with
  | none =>
    refine br_f (by show ¬ (0 : Int32) ≤ -1; decide) (hT ?_)
    intro p q h
    rw [hfo] at h
    cases h
  | some p =>
    obtain ⟨p1, q, q1, q2, q3, q4⟩ := pv_fo_s (n := x) H hv hN N x p hx pv_On_n hfo
    refine br_t (nI_pos' (n := p) (by omega)) ⟨N + 1, xw_lc_l (w := w) H hv hN haw p1 q2 q1 x x 0 (N + 1) (Nat.le_refl _) hx (by omega) (by omega) ?_ ?_⟩
    · intro hall
      apply hT
      intro p' q' h1 h2 h3 r hr
      rw [hfo] at h1
      have ep : p = p' := Option.some.inj h1
      subst ep
      rw [q2] at h2
      have eq : q = q' := (nI_eq (by omega) (by omega)).mp h2
      subst eq
      exact hall r hr
    · intro hall
      apply hF
      intro h
      exact hall (fun r hr => h p q hfo q2 q1 r hr)
theorem xw_try (H : gt_ok g) {T : ff_F} (h1 : ff_len T = 1) (hw : ff_wf g T) (hlk : pr_lk a_treeOp a_parent a_slot a_kid T 0) (hroot : a_parent (ff_sz T - 1) = -1) (hNT : N = ff_sz T) (hN : N ≤ 32) (haw : pr_aw a_wrapped w N) (hok : ff_ok g (pr_mk w T 0)) {x : Nat} (hx : x + 1 < N) (hwx : w x = true)
    (hp : ∀ aw : Nat → Int32, pr_aw aw (pr_tr g T w x) N → post (f_opLimit, f_nodeLimit, f_levelLimit, nI (gt_l g), f_textLimit, nI (gt_n g), nI n, f_nodeTotal, f_treeTotal, f_depth, f_wanting, f_clashing, f_outLen, f_treeBase, nI N, f_workDepth, gt_k g, gt_p g, gt_a g, gt_c g, gt_t g, a_opener, a_joiner, a_inner, a_text, a_nodeList, a_frameOp, a_frameNext, a_out, a_partner, a_openAt, a_treeOp, a_parent, a_slot, a_kid, aw, a_workNode, a_workStep)) : wpX_tryBare post (f_opLimit, f_nodeLimit, f_levelLimit, nI (gt_l g), f_textLimit, nI (gt_n g), nI n, f_nodeTotal, f_treeTotal, f_depth, f_wanting, f_clashing, f_outLen, f_treeBase, nI N, f_workDepth, gt_k g, gt_p g, gt_a g, gt_c g, gt_t g, a_opener, a_joiner, a_inner, a_text, a_nodeList, a_frameOp, a_frameNext, a_out, a_partner, a_openAt, a_treeOp, a_parent, a_slot, a_kid, a_wrapped, a_workNode, a_workStep) (nI x) := by
  subst hNT
  have hv := pv_of h1 hw hlk hroot
  have vin : vp_in (nI x) 32 := vp_in_nI (by omega) (by decide)
  have hup : ∀ y, y ≠ x → pr_up w x y = w y := fun y hy => if_neg hy
  have haw1 : pr_aw (upd a_wrapped x 0) (pr_up w x) (ff_sz T) := by
    intro y hy
    by_cases e : y = x
    · subst e
      rw [pk_us]
      show 0 = gt_b (if y = y then false else w y)
      rw [if_pos rfl]
      rfl
    · rw [pk_un e, hup y e]
      exact haw y hy
  have haw2 : pr_aw (upd (upd a_wrapped x 0) x 1) w (ff_sz T) := by
    intro y hy
    by_cases e : y = x
    · subst e
      rw [pk_us, hwx]
      rfl
    · rw [pk_un e, pk_un e]
      exact haw y hy
  -- validity by chains
  have iffw := pv_okF (w := w) H hv hN T 0 hw hlk (by omega)
  have iffu := pv_okF (w := pr_up w x) H hv hN T 0 hw hlk (by omega)
  have hall := iffw.mp hok
  have hR := pv_try (w := w) (w' := pr_up w x) (s := true) (n := x) H hv hN (by omega) hwx hup (fun y hy => (hall y (Nat.zero_le _) (by omega)).1)
  have hL := pv_try (w := w) (w' := pr_up w x) (s := false) (n := x) H hv hN (by omega) hwx hup (fun y hy => (hall y (Nat.zero_le _) (by omega)).2)
  have eR := pv_fo_w (w := w) (w' := pr_up w x) (s := true) (n := x) H hv hN hup (ff_sz T) x (Nat.le_refl _) (by omega)
  have eL := pv_fo_w (w := w) (w' := pr_up w x) (s := false) (n := x) H hv hN hup (ff_sz T) x (Nat.le_refl _) (by omega)
  rw [← eR] at hR
  rw [← eL] at hL
  have good : pv_chk g (ff_sz T) a_treeOp a_parent a_slot a_kid (pr_up w x) true x → pv_chk g (ff_sz T) a_treeOp a_parent a_slot a_kid (pr_up w x) false x → ff_ok g (pr_mk (pr_up w x) T 0) := by
    intro c1 c2
    refine iffu.mpr (fun y _ hy => ⟨hR.mpr c1 y (by omega), hL.mpr c2 y (by omega)⟩)
  have bad1 : ¬ pv_chk g (ff_sz T) a_treeOp a_parent a_slot a_kid (pr_up w x) true x → ¬ ff_ok g (pr_mk (pr_up w x) T 0) := fun c z => c (hR.mp (fun y hy => (iffu.mp z y (Nat.zero_le _) (by omega)).1))
  have bad2 : ¬ pv_chk g (ff_sz T) a_treeOp a_parent a_slot a_kid (pr_up w x) false x → ¬ ff_ok g (pr_mk (pr_up w x) T 0) := fun c z => c (hL.mp (fun y hy => (iffu.mp z y (Nat.zero_le _) (by omega)).2))
  have fail : ¬ ff_ok g (pr_mk (pr_up w x) T 0) → wX_tryBare_23 post (nI x) 0 f_opLimit f_nodeLimit f_levelLimit (nI (gt_l g)) f_textLimit (nI (gt_n g)) (nI n) f_nodeTotal f_treeTotal f_depth f_wanting f_clashing f_outLen f_treeBase (nI (ff_sz T)) f_workDepth (gt_k g) (gt_p g) (gt_a g) (gt_c g) (gt_t g) a_opener a_joiner a_inner a_text a_nodeList a_frameOp a_frameNext a_out a_partner a_openAt a_treeOp a_parent a_slot a_kid (upd a_wrapped x 0) a_workNode a_workStep := by
    intro hc
    unfold wX_tryBare_23
    rw [nI_clamp (n := x) (by omega)]
    refine br_t rfl ⟨vin, nm_e (hp _ ?_)⟩
    rw [pr_tr_f hc]
    exact haw2
  unfold wpX_tryBare
  dsimp only
  rw [nI_clamp (n := x) (by omega)]
  refine ⟨vin, nm_r (e' := upd a_wrapped x 0) rfl ?_⟩
  refine xw_rcf (w := pr_up w x) H hv hN haw1 (by omega) ?_ ?_
  · intro c1
    refine br_f (by decide) (xw_lcf (w := pr_up w x) H hv hN haw1 (by omega) ?_ ?_)
    · intro c2
      unfold wX_tryBare_23
      refine br_f (by decide) (hp _ ?_)
      rw [pr_tr_t (good c1 c2)]
      exact haw1
    · intro c2
      exact fail (bad2 c2)
  · intro c1
    exact br_t rfl (fail (bad1 c1))
theorem xw_tin_l (H : gt_ok g) {T : ff_F} (h1 : ff_len T = 1) (hw : ff_wf g T) (hlk : pr_lk a_treeOp a_parent a_slot a_kid T 0) (hroot : a_parent (ff_sz T - 1) = -1) (hNT : N = ff_sz T) (hN : N ≤ 32) : ∀ (d i Nf : Nat) (w : Nat → Bool) (aw : Nat → Int32), i + d + 1 = N → d < Nf → pr_aw aw w N → ff_ok g (pr_mk w T 0) → (∀ y, i ≤ y → y + 1 < N → w y = true) →
    (∀ aw' : Nat → Int32, pr_aw aw' (pr_trs g T w (List.range' i d)) N → ff_ok g (pr_mk (pr_trs g T w (List.range' i d)) T 0) → post (f_opLimit, f_nodeLimit, f_levelLimit, nI (gt_l g), f_textLimit, nI (gt_n g), nI n, f_nodeTotal, f_treeTotal, f_depth, f_wanting, f_clashing, f_outLen, f_treeBase, nI N, f_workDepth, gt_k g, gt_p g, gt_a g, gt_c g, gt_t g, a_opener, a_joiner, a_inner, a_text, a_nodeList, a_frameOp, a_frameNext, a_out, a_partner, a_openAt, a_treeOp, a_parent, a_slot, a_kid, aw', a_workNode, a_workStep)) → wX_thinInnerFirst_2 post Nf (nI i) f_opLimit f_nodeLimit f_levelLimit (nI (gt_l g)) f_textLimit (nI (gt_n g)) (nI n) f_nodeTotal f_treeTotal f_depth f_wanting f_clashing f_outLen f_treeBase (nI N) f_workDepth (gt_k g) (gt_p g) (gt_a g) (gt_c g) (gt_t g) a_opener a_joiner a_inner a_text a_nodeList a_frameOp a_frameNext a_out a_partner a_openAt a_treeOp a_parent a_slot a_kid aw a_workNode a_workStep := by
  intro d
  induction d with
  | zero =>
    intro i Nf w aw hi hNf haw hok hall hp
    obtain ⟨Nf, rfl⟩ : ∃ k, Nf = k + 1 := ⟨Nf - 1, by omega⟩
    rw [wX_thinInnerFirst_2]
    refine br_t ?_ (hp aw haw hok)
    rw [show nI N - 1 = nI (N - 1) from pk_sub (b := 1) (by omega)]
    exact nI_le (by omega) (by omega)
  | succ d ih =>
    intro i Nf w aw hi hNf haw hok hall hp
    obtain ⟨Nf, rfl⟩ : ∃ k, Nf = k + 1 := ⟨Nf - 1, by omega⟩
    rw [wX_thinInnerFirst_2]
    refine br_f ?_ (xw_try (w := w) H h1 hw hlk hroot hNT hN haw hok (by omega) (hall i (Nat.le_refl _) (by omega)) ?_)
    · rw [show nI N - 1 = nI (N - 1) from pk_sub (b := 1) (by omega)]
      exact nI_ge (by omega) (by omega)
    · intro aw' haw'
      refine nm_r (nI_1 i) (ih (i + 1) Nf (pr_tr g T w i) aw' (by omega) (by omega) haw' (pr_tr_ok hok) ?_ hp)
      intro y hy1 hy2
      rw [pr_tr_o (by omega)]
      exact hall y (by omega) hy2
end
end
section
/-! loading the newest tree -/
theorem pr_rt_inj : ∀ (F : ff_F) (a i j y : Nat), (pr_rt F a)[i]? = some y → (pr_rt F a)[j]? = some y → i = j := by
  intro F
  induction F with
  | leaf => intro a i j y h; simp [pr_rt] at h
  | inner m e u p k ihp ihk =>
    intro a i j y h1 h2
    have h1' : (pr_rt p a ++ [a + ff_sz p + ff_sz k])[i]? = some y := h1
    have h2' : (pr_rt p a ++ [a + ff_sz p + ff_sz k])[j]? = some y := h2
    have key : ∀ i, (pr_rt p a ++ [a + ff_sz p + ff_sz k])[i]? = some y → (i < (pr_rt p a).length ∧ (pr_rt p a)[i]? = some y ∧ y < a + ff_sz p) ∨ (i = (pr_rt p a).length ∧ y = a + ff_sz p + ff_sz k) := by
      intro i h
      by_cases hi : i < (pr_rt p a).length
      · rw [List.getElem?_append_left hi] at h
        exact Or.inl ⟨hi, h, (pr_rt_lt p a y (List.mem_of_getElem? h)).2⟩
      · rw [List.getElem?_append_right (by omega)] at h
        obtain ⟨h3, h4⟩ := List.getElem?_eq_some_iff.mp h
        rw [List.length_singleton] at h3
        have e0 : i - (pr_rt p a).length = 0 := by omega
        rw [e0] at h
        exact Or.inr ⟨by omega, (Option.some.inj h).symm⟩
    rcases key i h1' with ⟨a1, a2, a3⟩ | ⟨a1, a2⟩ <;> rcases key j h2' with ⟨b1, b2, b3⟩ | ⟨b1, b2⟩
    · exact ihp a i j y a2 b2
    · omega
    · omega
    · omega
theorem pr_lk_cg {g : gt_T} (H : gt_ok g) {tr pa sl kd tr' pa' sl' kd' : Nat → Int32} : ∀ (F : ff_F) (a : Nat), ff_wf g F → (∀ x, a ≤ x → x < a + ff_sz F → tr' x = tr x) → (∀ j, 3 * a ≤ j → j < 3 * (a + ff_sz F) → kd' j = kd j) → (∀ y, a ≤ y → y < a + ff_sz F → y ∉ pr_rt F a → pa' y = pa y ∧ sl' y = sl y) → pr_lk tr pa sl kd F a → pr_lk tr' pa' sl' kd' F a := by
  intro F
  induction F with
  | leaf => intro a _ _ _ _ _; trivial
  | inner m e u p k ihp ihk =>
    intro a hw h1 h2 h3 hl
    obtain ⟨l1, l2, l3, l4⟩ := hl
    have hs : ff_sz (.inner m e u p k) = ff_sz p + ff_sz k + 1 := rfl
    rw [hs] at h1 h2 h3
    have hno : ∀ y, a + ff_sz p ≤ y → y < a + ff_sz p + ff_sz k → y ∉ pr_rt (.inner m e u p k) a := by
      intro y hy1 hy2 hm
      rcases List.mem_append.mp hm with h | h
      · have := (pr_rt_lt p a y h).2
        omega
      · have := List.mem_singleton.mp h
        omega
    refine ⟨?_, ?_, ?_, ?_⟩
    · refine ihp a hw.1 (fun x q1 q2 => h1 x q1 (by omega)) (fun j q1 q2 => h2 j q1 (by omega)) (fun y q1 q2 q3 => h3 y q1 (by omega) ?_) l1
      intro hm
      rcases List.mem_append.mp hm with h | h
      · exact q3 h
      · have := List.mem_singleton.mp h
        omega
    · exact ihk (a + ff_sz p) hw.2.1 (fun x q1 q2 => h1 x (by omega) (by omega)) (fun j q1 q2 => h2 j (by omega) (by omega)) (fun y q1 q2 _ => h3 y (by omega) (by omega) (hno y q1 q2)) l2
    · rw [h1 _ (by omega) (by omega)]
      exact l3
    · intro c y hc
      obtain ⟨z1, z2, z3⟩ := l4 c y hc
      have hcl := (List.getElem?_eq_some_iff.mp hc).1
      rw [pr_rt_len, ff_we_ar hw.2.2] at hcl
      have har := ff_ar3 H hw.2.2
      have hlt := pr_rt_lt k _ y (List.mem_of_getElem? hc)
      obtain ⟨w1, w2⟩ := h3 y (by omega) (by omega) (hno y hlt.1 hlt.2)
      rw [h2 _ (by omega) (by omega), w1, w2]
      exact ⟨z1, z2, z3⟩
def pr_aR (wn : Nat → Int32) (R : List Nat) : Prop := ∀ j y, R[j]? = some y → wn j = nI y
section
variable {g : gt_T} {n N base : Nat} {post : SX → Prop} {J : Int32 → Int32 → (Nat → Int32) → (Nat → Int32) → (Nat → Int32) → (Nat → Int32) → (Nat → Int32) → (Nat → Int32) → (Nat → Int32) → (Nat → Int32) → (Nat → Int32) → (Nat → Int32) → (Nat → Int32) → (Nat → Int32) → (Nat → Int32) → (Nat → Int32) → (Nat → Int32) → (Nat → Int32) → (Nat → Int32) → (Nat → Int32) → (Nat → Int32) → (Nat → Int32) → (Nat → Int32) → (Nat → Int32) → Prop}
variable {f_opLimit f_nodeLimit f_levelLimit f_textLimit f_nodeTotal f_treeTotal f_depth f_wanting f_clashing f_outLen f_treeBase f_treeNodes f_workDepth : Int32} {a_opener a_joiner a_inner a_text a_nodeList a_frameOp a_frameNext a_out a_partner a_openAt a_treeOp a_parent a_slot a_kid a_wrapped a_workNode a_workStep : Nat → Int32}
/-- the kids of node x are linked -/
theorem xw_ld126 {x fs ar : Nat} {rk : List Nat} (hx : x < 32) (har : rk.length = ar) (ha3 : ar ≤ 3) (hfs : fs + ar ≤ 32) (hrk : ∀ y, y ∈ rk → y < x) (hinj : ∀ i j y : Nat, rk[i]? = some y → rk[j]? = some y → i = j) (hwn : ∀ c y : Nat, rk[c]? = some y → a_workNode (fs + c) = nI y) (hfs2 : fs < 32) {pa0 sl0 kd0 : Nat → Int32}
    (hJ : ∀ pa sl kd : Nat → Int32, (∀ c y : Nat, rk[c]? = some y → kd (3 * x + c) = nI y ∧ pa y = nI x ∧ sl y = nI c) → (∀ j, j < 3 * x → kd j = kd0 j) → (∀ y, y ∉ rk → pa y = pa0 y ∧ sl y = sl0 y) → J (nI (x + 1)) (nI (fs + 1)) (gt_k g) (gt_p g) (gt_a g) (gt_c g) (gt_t g) a_opener a_joiner a_inner a_text a_nodeList a_frameOp a_frameNext a_out a_partner a_openAt a_treeOp pa sl kd a_wrapped (upd a_workNode fs (nI x)) a_workStep) :
    ∀ (d c Nf : Nat) (pa sl kd : Nat → Int32), c + d = ar → d < Nf → (∀ c' y : Nat, c' < c → rk[c']? = some y → kd (3 * x + c') = nI y ∧ pa y = nI x ∧ sl y = nI c') → (∀ j, j < 3 * x → kd j = kd0 j) → (∀ y, y ∉ rk → pa y = pa0 y ∧ sl y = sl0 y) →
    wX_loadTopTree_126 post J (nI x) (nI ar) (nI fs) f_opLimit f_nodeLimit f_levelLimit (nI (gt_l g)) f_textLimit (nI (gt_n g)) (nI n) f_nodeTotal f_treeTotal f_depth f_wanting f_clashing f_outLen f_treeBase f_treeNodes f_workDepth Nf (nI c) (gt_k g) (gt_p g) (gt_a g) (gt_c g) (gt_t g) a_opener a_joiner a_inner a_text a_nodeList a_frameOp a_frameNext a_out a_partner a_openAt a_treeOp pa sl kd a_wrapped a_workNode a_workStep := by
  intro d
  induction d with
  | zero =>
    intro c Nf pa sl kd hc hNf h1 h2 h3
    obtain ⟨Nf, rfl⟩ : ∃ k, Nf = k + 1 := ⟨Nf - 1, by omega⟩
    rw [wX_loadTopTree_126]
    rw [nI_clamp (n := fs) (by omega)]
    refine br_t (nI_le (by omega) (by omega)) ⟨vp_in_nI hfs2 (by decide), nm_e (nm_r (nI_1 _) (nm_r (nI_1 _) (hJ pa sl kd ?_ h2 h3)))⟩
    intro c' y hc'
    have := (List.getElem?_eq_some_iff.mp hc').1
    exact h1 c' y (by omega) hc'
  | succ d ih =>
    intro c Nf pa sl kd hc hNf h1 h2 h3
    obtain ⟨Nf, rfl⟩ : ∃ k, Nf = k + 1 := ⟨Nf - 1, by omega⟩
    have hcl : c < rk.length := by omega
    have hcy := List.getElem?_eq_getElem hcl
    have hym := List.getElem_mem hcl
    generalize rk[c] = y at hcy hym
    have hyx := hrk y hym
    rw [wX_loadTopTree_126]
    refine br_f (nI_ge (by omega) (by omega)) ?_
    have e1 : (3 : Int32) * nI x + nI c = nI (3 * x + c) := by rw [show (3 : Int32) * nI x = nI (3 * x) from pk_mul 3 x, nI_add]
    rw [nI_add fs c, nI_clamp (n := fs + c) (by omega), e1, nI_clamp (n := 3 * x + c) (by omega)]
    refine ⟨vp_in_nI (by omega) (by decide), nm_r (hwn c y hcy) ⟨vp_in_nI (by omega) (by decide), nm_e ?_⟩⟩
    rw [nI_clamp (n := y) (by omega)]
    refine ⟨vp_in_nI (by omega) (by decide), nm_e ⟨vp_in_nI (by omega) (by decide), nm_e (nm_r (nI_1 c) ?_)⟩⟩
    refine ih (c + 1) Nf _ _ _ (by omega) (by omega) ?_ ?_ ?_
    · intro c' y' hc' hy'
      by_cases e : c' = c
      · subst e
        rw [hcy] at hy'
        have ey : y = y' := Option.some.inj hy'
        subst ey
        exact ⟨pk_us, pk_us, pk_us⟩
      · have hne : y' ≠ y := fun z => e (hinj c' c y' hy' (by rw [z]; exact hcy))
        obtain ⟨z1, z2, z3⟩ := h1 c' y' (by omega) hy'
        rw [pk_un (by omega), pk_un hne, pk_un hne]
        exact ⟨z1, z2, z3⟩
    · intro j hj
      rw [pk_un (by omega)]
      exact h2 j hj
    · intro y' hy'
      have hne : y' ≠ y := fun z => hy' (by rw [z]; exact hym)
      rw [pk_un hne, pk_un hne]
      exact h3 y' hy'
theorem xw_load_l (H : gt_ok g) (hN : base + N ≤ 32) : ∀ (F : ff_F) (a Nf : Nat) (R : List Nat) (tr pa sl kd wr wn : Nat → Int32), ff_wf g F → ff_at a_nodeList (base + a) F → a + ff_sz F ≤ N → R.length ≤ a → pr_aR wn R →
    (∀ tr' pa' sl' kd' wr' wn' : Nat → Int32, pr_lk tr' pa' sl' kd' F a → (∀ y, y ∈ pr_rt F a → pa' y = -1) → (∀ x, x < a → tr' x = tr x ∧ pa' x = pa x ∧ sl' x = sl x ∧ wr' x = wr x) → (∀ j, j < 3 * a → kd' j = kd j) → (∀ x, a ≤ x → x < a + ff_sz F → wr' x = gt_b (decide (x + 1 < N))) → pr_aR wn' (R ++ pr_rt F a) →
      wX_loadTopTree_34 post f_opLimit f_nodeLimit f_levelLimit (nI (gt_l g)) f_textLimit (nI (gt_n g)) (nI n) f_nodeTotal f_treeTotal f_depth f_wanting f_clashing f_outLen (nI base) (nI N) Nf (nI (a + ff_sz F)) (nI (R.length + ff_len F)) (gt_k g) (gt_p g) (gt_a g) (gt_c g) (gt_t g) a_opener a_joiner a_inner a_text a_nodeList a_frameOp a_frameNext a_out a_partner a_openAt tr' pa' sl' kd' wr' wn' a_workStep) →
    wX_loadTopTree_34 post f_opLimit f_nodeLimit f_levelLimit (nI (gt_l g)) f_textLimit (nI (gt_n g)) (nI n) f_nodeTotal f_treeTotal f_depth f_wanting f_clashing f_outLen (nI base) (nI N) (Nf + ff_sz F) (nI a) (nI R.length) (gt_k g) (gt_p g) (gt_a g) (gt_c g) (gt_t g) a_opener a_joiner a_inner a_text a_nodeList a_frameOp a_frameNext a_out a_partner a_openAt tr pa sl kd wr wn a_workStep := by
  intro F
  induction F with
  | leaf =>
    intro a Nf R tr pa sl kd wr wn _ _ _ _ hwn hp
    exact hp tr pa sl kd wr wn trivial (fun y h => (nomatch h)) (fun x _ => ⟨rfl, rfl, rfl, rfl⟩) (fun j _ => rfl) (fun x h1 h2 => by have h3 : x < a + 0 := h2; omega) (by show pr_aR wn (R ++ []); rw [List.append_nil]; exact hwn)
  | inner m e u p k ihp ihk =>
    intro a Nf R tr pa sl kd wr wn hw hat hle hR hwn hp
    obtain ⟨t1, t2, t3⟩ := ff_at_in hat
    have hs : ff_sz (.inner m e u p k) = ff_sz p + ff_sz k + 1 := rfl
    rw [hs] at hle
    have hlp := ff_len_sz p
    have hlk := ff_len_sz k
    have har := ff_we_ar hw.2.2
    have ha3 := ff_ar3 H hw.2.2
    rw [show Nf + ff_sz (.inner m e u p k) = ((Nf + 1) + ff_sz k) + ff_sz p by rw [hs]; omega]
    refine ihp a _ R tr pa sl kd wr wn hw.1 t1 (by omega) hR hwn ?_
    intro tr1 pa1 sl1 kd1 wr1 wn1 lk1 rp1 keep1 kkd1 wrd1 wnR1
    have hlenp := pr_rt_len p a
    have hlenk := pr_rt_len k (a + ff_sz p)
    have hR1 : (R ++ pr_rt p a).length = R.length + ff_len p := by rw [List.length_append, hlenp]
    rw [← hR1]
    refine ihk (a + ff_sz p) _ (R ++ pr_rt p a) tr1 pa1 sl1 kd1 wr1 wn1 hw.2.1 (by rw [← Nat.add_assoc]; exact t2) (by omega) (by omega) wnR1 ?_
    intro tr2 pa2 sl2 kd2 wr2 wn2 lk2 rp2 keep2 kkd2 wrd2 wnR2
    -- the root
    have hx : base + (a + ff_sz p + ff_sz k) < 32 := by omega
    rw [wX_loadTopTree_34]
    refine br_f (nI_ge (by omega) (by omega)) ?_
    rw [nI_add base, nI_clamp (n := base + (a + ff_sz p + ff_sz k)) (by omega)]
    have hent : a_nodeList (base + (a + ff_sz p + ff_sz k)) = ff_ent e := by
      rw [show base + (a + ff_sz p + ff_sz k) = base + a + ff_sz p + ff_sz k by omega]
      exact t3
    refine ⟨vp_in_nI hx (by decide), nm_r hent (xw_aoe H hw.2.2 ?_)⟩
    have s79 : wX_loadTopTree_79 post (wX_loadTopTree_34 post f_opLimit f_nodeLimit f_levelLimit (nI (gt_l g)) f_textLimit (nI (gt_n g)) (nI n) f_nodeTotal f_treeTotal f_depth f_wanting f_clashing f_outLen (nI base) (nI N) Nf) (nI (a + ff_sz p + ff_sz k)) (nI (ff_ar g e)) (pr_oc e) (nI (a + ff_sz p + ff_sz k)) f_opLimit f_nodeLimit f_levelLimit (nI (gt_l g)) f_textLimit (nI (gt_n g)) (nI n) f_nodeTotal f_treeTotal f_depth f_wanting f_clashing f_outLen (nI base) (nI N) (nI ((R ++ pr_rt p a).length + ff_len k)) (gt_k g) (gt_p g) (gt_a g) (gt_c g) (gt_t g) a_opener a_joiner a_inner a_text a_nodeList a_frameOp a_frameNext a_out a_partner a_openAt tr2 pa2 sl2 kd2 wr2 wn2 a_workStep := by
      have vin : vp_in (nI (a + ff_sz p + ff_sz k)) 32 := vp_in_nI (by omega) (by decide)
      unfold wX_loadTopTree_79
      rw [nI_clamp (n := a + ff_sz p + ff_sz k) (by omega)]
      refine ⟨vin, nm_e ⟨vin, nm_e ⟨vin, nm_e ?_⟩⟩⟩
      have s114 : ∀ z0 : Int32, z0 = gt_b (decide (a + ff_sz p + ff_sz k + 1 < N)) → wX_loadTopTree_114 post (wX_loadTopTree_34 post f_opLimit f_nodeLimit f_levelLimit (nI (gt_l g)) f_textLimit (nI (gt_n g)) (nI n) f_nodeTotal f_treeTotal f_depth f_wanting f_clashing f_outLen (nI base) (nI N) Nf) (nI (a + ff_sz p + ff_sz k)) (nI (ff_ar g e)) z0 (nI (a + ff_sz p + ff_sz k)) f_opLimit f_nodeLimit f_levelLimit (nI (gt_l g)) f_textLimit (nI (gt_n g)) (nI n) f_nodeTotal f_treeTotal f_depth f_wanting f_clashing f_outLen (nI base) (nI N) (nI ((R ++ pr_rt p a).length + ff_len k)) (gt_k g) (gt_p g) (gt_a g) (gt_c g) (gt_t g) a_opener a_joiner a_inner a_text a_nodeList a_frameOp a_frameNext a_out a_partner a_openAt (upd tr2 (a + ff_sz p + ff_sz k) (pr_oc e)) (upd pa2 (a + ff_sz p + ff_sz k) (-1)) (upd sl2 (a + ff_sz p + ff_sz k) 0) kd2 wr2 wn2 a_workStep := by
        intro z0 hz0
        have hnar : vp_nar .boolean z0 = z0 := by
          rw [hz0]
          cases decide (a + ff_sz p + ff_sz k + 1 < N) <;> rfl
        unfold wX_loadTopTree_114
        rw [nI_clamp (n := a + ff_sz p + ff_sz k) (by omega), hnar]
        refine ⟨vin, nm_e (nm_r (e' := nI (R.length + ff_len p)) (by rw [pk_sub (by omega), hR1, har, Nat.add_sub_cancel]) ⟨ff_ar g e + 1, ?_⟩)⟩
        have hrk : ∀ y, y ∈ pr_rt k (a + ff_sz p) → y < a + ff_sz p + ff_sz k := fun y hy => (pr_rt_lt k _ y hy).2
        refine xw_ld126 (x := a + ff_sz p + ff_sz k) (fs := R.length + ff_len p) (ar := ff_ar g e) (rk := pr_rt k (a + ff_sz p)) (by omega) (by rw [hlenk, har]) ha3 (by omega) hrk (fun i j y => pr_rt_inj k _ i j y) ?_ (by omega) (pa0 := upd pa2 (a + ff_sz p + ff_sz k) (-1)) (sl0 := upd sl2 (a + ff_sz p + ff_sz k) 0) (kd0 := kd2) ?_ (ff_ar g e) 0 _ _ _ _ (by omega) (Nat.lt_succ_self _) (fun c' y h => absurd h (Nat.not_lt_zero _)) (fun j _ => rfl) (fun y _ => ⟨rfl, rfl⟩)
        · intro c y hc
          refine wnR2 (R.length + ff_len p + c) y ?_
          rw [List.getElem?_append_right (by omega), hR1, Nat.add_sub_cancel_left]
          exact hc
        · intro pa3 sl3 kd3 q1 q2 q3
          -- all facts of the new arrays
          have hxk : a + ff_sz p + ff_sz k ∉ pr_rt k (a + ff_sz p) := fun z => absurd (hrk _ z) (Nat.lt_irrefl _)
          have hpx : ∀ y, y < a + ff_sz p → pa3 y = pa2 y ∧ sl3 y = sl2 y := by
            intro y hy
            have hyk : y ∉ pr_rt k (a + ff_sz p) := fun z => by have := (pr_rt_lt k _ y z).1; omega
            obtain ⟨z1, z2⟩ := q3 y hyk
            rw [z1, z2, pk_un (by omega), pk_un (by omega)]
            exact ⟨rfl, rfl⟩
          have lkp : pr_lk (upd tr2 (a + ff_sz p + ff_sz k) (pr_oc e)) pa3 sl3 kd3 p a := by
            refine pr_lk_cg H p a hw.1 ?_ ?_ ?_ lk1
            · intro x h1 h2
              rw [pk_un (by omega)]
              exact (keep2 x h2).1
            · intro j h1 h2
              rw [q2 j (by omega)]
              exact kkd2 j (by omega)
            · intro y h1 h2 _
              obtain ⟨z1, z2⟩ := hpx y h2
              rw [z1, z2]
              exact ⟨(keep2 y h2).2.1, (keep2 y h2).2.2.1⟩
          have lkk : pr_lk (upd tr2 (a + ff_sz p + ff_sz k) (pr_oc e)) pa3 sl3 kd3 k (a + ff_sz p) := by
            refine pr_lk_cg H k (a + ff_sz p) hw.2.1 ?_ ?_ ?_ lk2
            · intro x h1 h2
              exact pk_un (by omega)
            · intro j h1 h2
              exact q2 j (by omega)
            · intro y h1 h2 h3
              obtain ⟨z1, z2⟩ := q3 y h3
              rw [z1, z2, pk_un (by omega), pk_un (by omega)]
              exact ⟨rfl, rfl⟩
          have hfin := hp (upd tr2 (a + ff_sz p + ff_sz k) (pr_oc e)) pa3 sl3 kd3 (upd wr2 (a + ff_sz p + ff_sz k) z0) (upd wn2 (R.length + ff_len p) (nI (a + ff_sz p + ff_sz k))) ⟨lkp, lkk, pk_us, q1⟩ ?_ ?_ ?_ ?_ ?_
          · rw [show a + ff_sz (.inner m e u p k) = a + ff_sz p + ff_sz k + 1 by rw [hs]; omega, show R.length + ff_len (.inner m e u p k) = R.length + ff_len p + 1 from rfl] at hfin
            exact hfin
          · intro y hy
            rcases List.mem_append.mp hy with h | h
            · have hlt := pr_rt_lt p a y h
              rw [(hpx y hlt.2).1, (keep2 y hlt.2).2.1]
              exact rp1 y h
            · have ey := List.mem_singleton.mp h
              subst ey
              rw [(q3 _ hxk).1, pk_us]
          · intro y hy
            obtain ⟨z1, z2⟩ := hpx y (by omega)
            obtain ⟨k1, k2, k3, k4⟩ := keep2 y (by omega)
            obtain ⟨j1, j2, j3, j4⟩ := keep1 y hy
            rw [pk_un (by omega), z1, z2, pk_un (by omega), k1, k2, k3, k4]
            exact ⟨j1, j2, j3, j4⟩
          · intro j hj
            rw [q2 j (by omega), kkd2 j (by omega)]
            exact kkd1 j hj
          · intro y h1 h2
            rw [hs] at h2
            by_cases c1 : y < a + ff_sz p
            · rw [pk_un (by omega), (keep2 y c1).2.2.2]
              exact wrd1 y h1 c1
            · by_cases c2 : y < a + ff_sz p + ff_sz k
              · rw [pk_un (by omega)]
                exact wrd2 y (by omega) c2
              · have ey : y = a + ff_sz p + ff_sz k := by omega
                subst ey
                rw [pk_us]
                exact hz0
          · intro j y hj
            have hj' : (R ++ (pr_rt p a ++ [a + ff_sz p + ff_sz k]))[j]? = some y := hj
            rw [← List.append_assoc] at hj'
            by_cases hjl : j < (R ++ pr_rt p a).length
            · rw [List.getElem?_append_left hjl] at hj'
              rw [pk_un (by omega)]
              exact wnR2 j y (by rw [List.getElem?_append_left hjl]; exact hj')
            · rw [List.getElem?_append_right (by omega)] at hj'
              obtain ⟨h3, h4⟩ := List.getElem?_eq_some_iff.mp hj'
              rw [List.length_singleton] at h3
              have e0 : j - (R ++ pr_rt p a).length = 0 := by omega
              rw [e0] at hj'
              have ey : a + ff_sz p + ff_sz k = y := Option.some.inj hj'
              rw [show j = R.length + ff_len p by omega, pk_us, ey]
      rw [show nI N - 1 = nI (N - 1) from pk_sub (b := 1) (by omega)]
      refine pk_le (N - 1) (a + ff_sz p + ff_sz k) (fun h => s114 0 ?_) (fun h => s114 1 ?_)
      · rw [decide_eq_false (by omega)]; rfl
      · rw [decide_eq_true (by omega)]; rfl
    match e, s79, hw with
    | .inl t, s79, hw =>
      have hl31 := H.2.1
      obtain ⟨j, _, hj, ht⟩ := gt_at_j H hw.2.2.1
      refine br_f ?_ s79
      show ¬ (100 : Int32) ≤ t
      rw [ht]
      exact nI_ge (b := 100) (by omega) (by decide)
    | .inr q, s79, hw =>
      have hn12 := H.1
      have hq : q < gt_n g := hw.2.2.1
      have e1 : ff_ent (.inr q) = nI (100 + q) := (nI_add 100 q)
      have e2 : nI (100 + q) - 100 = nI q := by
        have := pk_sub (a := 100 + q) (b := 100) (by omega)
        rw [show 100 + q - 100 = q by omega] at this
        exact this
      rw [e1, e2]
      exact br_t (nI_le (a := 100) (by omega) (by omega)) s79
end
end
section
/-! the component's trials in preorder -/
def pr_pre : ff_F → Nat → List Nat
  | .leaf => fun _ => []
  | .inner _ _ _ p k => fun a => pr_pre p a ++ ((a + ff_sz p + ff_sz k) :: pr_pre k (a + ff_sz p))
def pr_it : ff_F → Nat → List (Nat × ff_F)
  | .leaf => fun _ => []
  | .inner m e _ p k => fun a => pr_it p a ++ [(a + ff_sz p, .inner m e () .leaf k)]
def pr_ro (i : Nat × ff_F) : Nat := i.1 + ff_sz i.2 - 1
def pr_ps : List (Nat × ff_F) → List Nat
  | [] => []
  | i :: S => pr_pre i.2 i.1 ++ pr_ps S
def pr_ss : List (Nat × ff_F) → Nat
  | [] => 0
  | i :: S => ff_sz i.2 + pr_ss S
def pr_wS (g : gt_T) (N : Nat) (tr pa sl kd : Nat → Int32) : List (Nat × ff_F) → Prop
  | [] => True
  | i :: S => (ff_len i.2 = 1 ∧ ff_wf g i.2 ∧ pr_lk tr pa sl kd i.2 i.1 ∧ i.1 + ff_sz i.2 < N) ∧ pr_wS g N tr pa sl kd S
theorem pr_ps_app : ∀ (A B : List (Nat × ff_F)), pr_ps (A ++ B) = pr_ps A ++ pr_ps B := by
  intro A B
  induction A with
  | nil => rfl
  | cons i A ih =>
    show pr_pre i.2 i.1 ++ pr_ps (A ++ B) = (pr_pre i.2 i.1 ++ pr_ps A) ++ pr_ps B
    rw [ih, List.append_assoc]
theorem pr_ss_app : ∀ (A B : List (Nat × ff_F)), pr_ss (A ++ B) = pr_ss A + pr_ss B := by
  intro A B
  induction A with
  | nil => exact (Nat.zero_add _).symm
  | cons i A ih =>
    show ff_sz i.2 + pr_ss (A ++ B) = (ff_sz i.2 + pr_ss A) + pr_ss B
    rw [ih, Nat.add_assoc]
theorem pr_wS_app {g : gt_T} {N : Nat} {tr pa sl kd : Nat → Int32} : ∀ (A B : List (Nat × ff_F)), pr_wS g N tr pa sl kd A → pr_wS g N tr pa sl kd B → pr_wS g N tr pa sl kd (A ++ B) := by
  intro A B
  induction A with
  | nil => intro _ h; exact h
  | cons i A ih => intro h1 h2; exact ⟨h1.1, ih h1.2 h2⟩
theorem pr_it_all {g : gt_T} {N : Nat} {tr pa sl kd : Nat → Int32} : ∀ (F : ff_F) (a : Nat), ff_wf g F → pr_lk tr pa sl kd F a → a + ff_sz F < N → pr_wS g N tr pa sl kd (pr_it F a) ∧ (pr_it F a).map pr_ro = pr_rt F a ∧ pr_ps (pr_it F a) = pr_pre F a ∧ pr_ss (pr_it F a) = ff_sz F := by
  intro F
  induction F with
  | leaf => intro a _ _ _; exact ⟨trivial, rfl, rfl, rfl⟩
  | inner m e u p k ihp ihk =>
    intro a hw hl hle
    have hle' : a + (ff_sz p + ff_sz k + 1) < N := hle
    obtain ⟨l1, l2, l3, l4⟩ := hl
    obtain ⟨p1, p2, p3, p4⟩ := ihp a hw.1 l1 (by omega)
    have hsz : ff_sz (.inner m e () .leaf k) = ff_sz k + 1 := by show 0 + ff_sz k + 1 = _; omega
    refine ⟨?_, ?_, ?_, ?_⟩
    · refine pr_wS_app _ _ p1 ⟨⟨rfl, ⟨trivial, hw.2.1, hw.2.2⟩, ⟨trivial, ?_, ?_, ?_⟩, ?_⟩, trivial⟩
      · exact l2
      · exact l3
      · exact l4
      · show a + ff_sz p + ff_sz (.inner m e () .leaf k) < N
        rw [hsz]
        omega
    · show (pr_it p a ++ [((a + ff_sz p, .inner m e () .leaf k) : Nat × ff_F)]).map pr_ro = pr_rt p a ++ [a + ff_sz p + ff_sz k]
      rw [List.map_append, p2]
      show _ ++ [a + ff_sz p + ff_sz (.inner m e () .leaf k) - 1] = _
      rw [hsz, show a + ff_sz p + (ff_sz k + 1) - 1 = a + ff_sz p + ff_sz k by omega]
    · show pr_ps (pr_it p a ++ [(a + ff_sz p, .inner m e () .leaf k)]) = pr_pre p a ++ ((a + ff_sz p + ff_sz k) :: pr_pre k (a + ff_sz p))
      rw [pr_ps_app, p3]
      show _ ++ (([] ++ ((a + ff_sz p + ff_sz (.leaf : ff_F) + ff_sz k) :: pr_pre k (a + ff_sz p + ff_sz (.leaf : ff_F)))) ++ []) = _
      rw [List.append_nil, List.nil_append]
      rfl
    · show pr_ss (pr_it p a ++ [(a + ff_sz p, .inner m e () .leaf k)]) = ff_sz p + ff_sz k + 1
      rw [pr_ss_app, p4]
      show ff_sz p + (ff_sz (.inner m e () .leaf k) + 0) = _
      rw [hsz]
      omega
theorem pr_pre_lt : ∀ (F : ff_F) (a y : Nat), y ∈ pr_pre F a → a ≤ y ∧ y < a + ff_sz F := by
  intro F
  induction F with
  | leaf => intro a y h; cases h
  | inner m e u p k ihp ihk =>
    intro a y h
    show a ≤ y ∧ y < a + (ff_sz p + ff_sz k + 1)
    rcases List.mem_append.mp h with h | h
    · have := ihp a y h
      omega
    · rcases List.mem_cons.mp h with h | h
      · omega
      · have := ihk _ y h
        omega
theorem pr_pre_nd : ∀ (F : ff_F) (a : Nat), (pr_pre F a).Nodup := by
  intro F
  induction F with
  | leaf => intro a; exact List.nodup_nil
  | inner m e u p k ihp ihk =>
    intro a
    refine List.nodup_append.mpr ⟨ihp a, List.nodup_cons.mpr ⟨?_, ihk _⟩, ?_⟩
    · intro h
      have := (pr_pre_lt k _ _ h).2
      omega
    · intro x hx y hy e
      subst e
      have h1 := (pr_pre_lt p a x hx).2
      rcases List.mem_cons.mp hy with h | h
      · omega
      · have := (pr_pre_lt k _ x h).1
        omega
section
variable {g : gt_T} {n N : Nat} {post : SX → Prop} {J : Int32 → Int32 → Int32 → Int32 → Int32 → Int32 → Int32 → Int32 → Int32 → Int32 → Int32 → Int32 → Int32 → Int32 → Int32 → Int32 → Int32 → (Nat → Int32) → (Nat → Int32) → (Nat → Int32) → (Nat → Int32) → (Nat → Int32) → (Nat → Int32) → (Nat → Int32) → (Nat → Int32) → (Nat → Int32) → (Nat → Int32) → (Nat → Int32) → (Nat → Int32) → (Nat → Int32) → (Nat → Int32) → (Nat → Int32) → (Nat → Int32) → (Nat → Int32) → (Nat → Int32) → (Nat → Int32) → (Nat → Int32) → (Nat → Int32) → (Nat → Int32) → Prop}
variable {f_opLimit f_nodeLimit f_levelLimit f_textLimit f_nodeTotal f_treeTotal f_depth f_wanting f_clashing f_outLen f_treeBase f_treeNodes f_workDepth : Int32} {a_opener a_joiner a_inner a_text a_nodeList a_frameOp a_frameNext a_out a_partner a_openAt a_treeOp a_parent a_slot a_kid a_wrapped a_workNode a_workStep : Nat → Int32}
theorem xw_t79 {x seen : Nat} {rk Rr : List Nat} (hx : x < 32) (h3 : rk.length ≤ 3) (hb : rk.length + Rr.length ≤ 32) (hkd : ∀ c y : Nat, rk[c]? = some y → a_kid (3 * x + c) = nI y)
    (hJ : ∀ wn : Nat → Int32, mp_aS wn (rk ++ Rr) → J (nI (seen + 1)) f_opLimit f_nodeLimit f_levelLimit (nI (gt_l g)) f_textLimit (nI (gt_n g)) (nI n) f_nodeTotal f_treeTotal f_depth f_wanting f_clashing f_outLen f_treeBase f_treeNodes (nI (rk ++ Rr).length) (gt_k g) (gt_p g) (gt_a g) (gt_c g) (gt_t g) a_opener a_joiner a_inner a_text a_nodeList a_frameOp a_frameNext a_out a_partner a_openAt a_treeOp a_parent a_slot a_kid a_wrapped wn a_workStep) : ∀ (j Nf : Nat) (wn : Nat → Int32), j ≤ rk.length → j < Nf → mp_aS wn (rk.drop j ++ Rr) → wX_thinOuterFirst_79 post J (nI seen) (nI x) f_opLimit f_nodeLimit f_levelLimit (nI (gt_l g)) f_textLimit (nI (gt_n g)) (nI n) f_nodeTotal f_treeTotal f_depth f_wanting f_clashing f_outLen f_treeBase f_treeNodes Nf (nI j - 1) (nI (rk.drop j ++ Rr).length) (gt_k g) (gt_p g) (gt_a g) (gt_c g) (gt_t g) a_opener a_joiner a_inner a_text a_nodeList a_frameOp a_frameNext a_out a_partner a_openAt a_treeOp a_parent a_slot a_kid a_wrapped wn a_workStep := by
  intro j
  induction j with
  | zero =>
    intro Nf wn hj hNf hwn
    obtain ⟨Nf, rfl⟩ : ∃ k, Nf = k + 1 := ⟨Nf - 1, by omega⟩
    rw [wX_thinOuterFirst_79]
    exact br_t (by decide) (nm_r (nI_1 seen) (hJ wn hwn))
  | succ j ih =>
    intro Nf wn hj hNf hwn
    obtain ⟨Nf, rfl⟩ : ∃ k, Nf = k + 1 := ⟨Nf - 1, by omega⟩
    have hjl : j < rk.length := by omega
    have hget := List.getElem?_eq_getElem hjl
    have hdrop : rk.drop j = rk[j] :: rk.drop (j + 1) := List.drop_eq_getElem_cons hjl
    have e1 : (3 : Int32) * nI x + nI j = nI (3 * x + j) := by rw [show (3 : Int32) * nI x = nI (3 * x) from pk_mul 3 x, nI_add]
    have hl : (rk.drop (j + 1) ++ Rr).length ≤ 31 := by
      rw [List.length_append, List.length_drop]
      omega
    have hl2 : (rk.drop j ++ Rr).length = (rk.drop (j + 1) ++ Rr).length + 1 := by
      rw [hdrop]
      rfl
    rw [wX_thinOuterFirst_79]
    dsimp only
    rw [nI_pred, e1, nI_clamp (n := 3 * x + j) (by omega), hkd j _ hget, nI_clamp (n := (rk.drop (j + 1) ++ Rr).length) (by omega)]
    refine br_f (nI_pos (by omega)) ⟨vp_in_nI (by omega) (by decide), vp_in_nI (by omega) (by decide), nm_e (nm_r (e' := nI (rk.drop j ++ Rr).length) (by rw [nI_1, hl2]) (nm_r (e' := nI j - 1) (by generalize nI j = z; grind) ?_))⟩
    refine ih Nf _ (by omega) (by omega) ?_
    rw [hdrop]
    exact ⟨pk_us, mp_aS_upd _ (Nat.le_refl _) hwn⟩
theorem xw_t68 (H : gt_ok g) {e : Int32 ⊕ Nat} {k : ff_F} {b x seen : Nat} {Rr : List Nat} (hx : x < 32) (he : ff_we g e k) (ht : a_treeOp x = pr_oc e) (hk : ∀ c y, (pr_rt k b)[c]? = some y → a_kid (3 * x + c) = nI y) (hb : ff_len k + Rr.length ≤ 32) (hwn : mp_aS a_workNode Rr)
    (hJ : ∀ wn : Nat → Int32, mp_aS wn (pr_rt k b ++ Rr) → J (nI (seen + 1)) f_opLimit f_nodeLimit f_levelLimit (nI (gt_l g)) f_textLimit (nI (gt_n g)) (nI n) f_nodeTotal f_treeTotal f_depth f_wanting f_clashing f_outLen f_treeBase f_treeNodes (nI (pr_rt k b ++ Rr).length) (gt_k g) (gt_p g) (gt_a g) (gt_c g) (gt_t g) a_opener a_joiner a_inner a_text a_nodeList a_frameOp a_frameNext a_out a_partner a_openAt a_treeOp a_parent a_slot a_kid a_wrapped wn a_workStep) : wX_thinOuterFirst_68 post J (nI seen) (nI x) f_opLimit f_nodeLimit f_levelLimit (nI (gt_l g)) f_textLimit (nI (gt_n g)) (nI n) f_nodeTotal f_treeTotal f_depth f_wanting f_clashing f_outLen f_treeBase f_treeNodes (nI Rr.length) (gt_k g) (gt_p g) (gt_a g) (gt_c g) (gt_t g) a_opener a_joiner a_inner a_text a_nodeList a_frameOp a_frameNext a_out a_partner a_openAt a_treeOp a_parent a_slot a_kid a_wrapped a_workNode a_workStep := by
  have hn12 := H.1
  have hlen := pr_rt_len k b
  have ha3 := ff_ar3 H he
  have har := ff_we_ar he
  unfold wX_thinOuterFirst_68 wpX_nodeArity
  dsimp only
  rw [nI_clamp (n := x) (by omega), ht]
  have fin : ∃ n79, wX_thinOuterFirst_79 post J (nI seen) (nI x) f_opLimit f_nodeLimit f_levelLimit (nI (gt_l g)) f_textLimit (nI (gt_n g)) (nI n) f_nodeTotal f_treeTotal f_depth f_wanting f_clashing f_outLen f_treeBase f_treeNodes n79 (nI (ff_ar g e) - 1) (nI Rr.length) (gt_k g) (gt_p g) (gt_a g) (gt_c g) (gt_t g) a_opener a_joiner a_inner a_text a_nodeList a_frameOp a_frameNext a_out a_partner a_openAt a_treeOp a_parent a_slot a_kid a_wrapped a_workNode a_workStep := by
    refine ⟨ff_ar g e + 1, ?_⟩
    have hd : (pr_rt k b).drop (ff_ar g e) = [] := List.drop_eq_nil_of_le (by omega)
    have h := xw_t79 (post := post) (J := J) (x := x) (seen := seen) (rk := pr_rt k b) (Rr := Rr) hx (by omega) (by omega) hk hJ (ff_ar g e) (ff_ar g e + 1) a_workNode (by omega) (Nat.lt_succ_self _) (by rw [hd]; exact hwn)
    rw [hd, List.nil_append] at h
    exact h
  refine ⟨vp_in_nI hx (by decide), ?_⟩
  match e, he, fin with
  | .inl t, he, fin => exact br_f (by show ¬ (0 : Int32) ≤ -1; decide) (nm_e fin)
  | .inr q, he, fin => exact br_t (nI_pos' (n := q) (by have h9 : q < gt_n g := he.1; omega)) ⟨vp_in_nI hx (by decide), xw_ar H he.1 (nm_e fin)⟩
theorem xw_tout_l (H : gt_ok g) {T : ff_F} (h1 : ff_len T = 1) (hw : ff_wf g T) (hlk : pr_lk a_treeOp a_parent a_slot a_kid T 0) (hroot : a_parent (ff_sz T - 1) = -1) (hNT : N = ff_sz T) (hN : N ≤ 32) : ∀ (d seen Nf : Nat) (S : List (Nat × ff_F)) (w : Nat → Bool) (aw wn : Nat → Int32), pr_ss S = d → seen + d = N → d < Nf → pr_wS g N a_treeOp a_parent a_slot a_kid S → mp_aS wn (S.map pr_ro) → pr_aw aw w N → ff_ok g (pr_mk w T 0) → (∀ y, y ∈ pr_ps S → w y = true) → (pr_ps S).Nodup →
    (∀ (wd : Int32) (aw' wn' : Nat → Int32), pr_aw aw' (pr_trs g T w (pr_ps S)) N → ff_ok g (pr_mk (pr_trs g T w (pr_ps S)) T 0) → post (f_opLimit, f_nodeLimit, f_levelLimit, nI (gt_l g), f_textLimit, nI (gt_n g), nI n, f_nodeTotal, f_treeTotal, f_depth, f_wanting, f_clashing, f_outLen, f_treeBase, nI N, wd, gt_k g, gt_p g, gt_a g, gt_c g, gt_t g, a_opener, a_joiner, a_inner, a_text, a_nodeList, a_frameOp, a_frameNext, a_out, a_partner, a_openAt, a_treeOp, a_parent, a_slot, a_kid, aw', wn', a_workStep)) →
    wX_thinOuterFirst_19 post Nf (nI seen) f_opLimit f_nodeLimit f_levelLimit (nI (gt_l g)) f_textLimit (nI (gt_n g)) (nI n) f_nodeTotal f_treeTotal f_depth f_wanting f_clashing f_outLen f_treeBase (nI N) (nI (S.map pr_ro).length) (gt_k g) (gt_p g) (gt_a g) (gt_c g) (gt_t g) a_opener a_joiner a_inner a_text a_nodeList a_frameOp a_frameNext a_out a_partner a_openAt a_treeOp a_parent a_slot a_kid aw wn a_workStep := by
  have hn12 := H.1
  have hv : pv_ok g N a_treeOp a_parent a_slot a_kid := by
    subst hNT
    exact pv_of h1 hw hlk hroot
  have hlen : ∀ S : List (Nat × ff_F), pr_wS g N a_treeOp a_parent a_slot a_kid S → S.length ≤ pr_ss S := by
    intro S
    induction S with
    | nil => intro _; exact Nat.le_refl _
    | cons i S ih =>
      intro h
      have h2 := ih h.2
      have h3 := (ff_C_sz H h.1.2.1 h.1.1).2
      show S.length + 1 ≤ ff_sz i.2 + pr_ss S
      omega
  intro d
  induction d using Nat.strongRecOn with
  | ind d ih =>
    intro seen Nf S w aw wn hd hseen hNf hS hwn haw hok hall hnd hp
    obtain ⟨Nf, rfl⟩ : ∃ k, Nf = k + 1 := ⟨Nf - 1, by omega⟩
    rw [wX_thinOuterFirst_19]
    cases S with
    | nil =>
      have hfin := hp (nI (([] : List (Nat × ff_F)).map pr_ro).length) aw wn haw hok
      exact br_c (fun _ => hfin) (fun _ => br_t (by show nI 0 ≤ 0; decide) hfin)
    | cons i S =>
      obtain ⟨a, T1⟩ := i
      obtain ⟨⟨i1, i2, i3, i4⟩, hS2⟩ := hS
      have hls := hlen S hS2
      have hd' : ff_sz T1 + pr_ss S = d := hd
      cases T1 with
      | leaf => simp [ff_len] at i1
      | inner m e u p k =>
        have ep := ff_lf_leaf (ff_len0.mp (Nat.succ.inj i1))
        subst ep
        have hsz : ff_sz (.inner m e u .leaf k) = ff_sz k + 1 := by show 0 + ff_sz k + 1 = _; omega
        have i4' : a + ff_sz (.inner m e u .leaf k) < N := i4
        rw [hsz] at i4' hd'
        obtain ⟨_, l2, l3, l4⟩ := i3
        have l2' : pr_lk a_treeOp a_parent a_slot a_kid k a := l2
        have l3' : a_treeOp (a + ff_sz k) = pr_oc e := l3
        have l4' : ∀ c y, (pr_rt k a)[c]? = some y → a_kid (3 * (a + ff_sz k) + c) = nI y ∧ a_parent y = nI (a + ff_sz k) ∧ a_slot y = nI c := l4
        have hro : pr_ro (a, .inner m e u .leaf k) = a + ff_sz k := by
          show a + ff_sz (.inner m e u .leaf k) - 1 = _
          rw [hsz]
          omega
        have hml : ((a, .inner m e u .leaf k) :: S : List (Nat × ff_F)).map pr_ro = (a + ff_sz k) :: S.map pr_ro := by
          show pr_ro (a, .inner m e u .leaf k) :: S.map pr_ro = _
          rw [hro]
        rw [hml] at hwn
        have hpsl : pr_ps ((a, .inner m e u .leaf k) :: S) = (a + ff_sz k) :: (pr_pre k a ++ pr_ps S) := by
          show ([] ++ ((a + ff_sz (.leaf : ff_F) + ff_sz k) :: pr_pre k (a + ff_sz (.leaf : ff_F)))) ++ pr_ps S = _
          rfl
        rw [hpsl] at hall hnd hp
        have hSm : (S.map pr_ro).length = S.length := List.length_map _
        rw [hml, List.length_cons]
        refine br_f (nI_ge (by omega) (by omega)) (br_f (nI_nle (Nat.succ_pos _) (by omega)) (nm_r (nI_pred _) ⟨vp_in_nI (by omega) (by decide), ?_⟩))
        rw [nI_clamp (n := (S.map pr_ro).length) (by omega)]
        refine nm_r hwn.1 ⟨vp_in_nI (by omega) (by decide), ?_⟩
        rw [nI_clamp (n := a + ff_sz k) (by omega)]
        obtain ⟨x, q, c, a1, a2, a3, a4, a5, a6, a7, a8⟩ := hv.2.1 (a + ff_sz k) (by omega)
        rw [a6]
        refine br_f (nI_pos (by omega)) (xw_try (w := w) H h1 hw hlk hroot hNT hN haw hok (by omega) (hall _ (List.mem_cons_self ..)) ?_)
        intro aw' haw'
        have hlk3 := ff_len_sz k
        refine xw_t68 (e := e) (k := k) (b := a) (x := a + ff_sz k) (seen := seen) (Rr := S.map pr_ro) H (by omega) i2.2.2 l3' (fun c y h => (l4' c y h).1) (by omega) hwn.2 ?_
        intro wn' hwn'
        obtain ⟨t1, t2, t3, t4⟩ := pr_it_all (N := N) k a i2.2.1 l2' (by omega)
        have hmap : (pr_it k a ++ S).map pr_ro = pr_rt k a ++ S.map pr_ro := by rw [List.map_append, t2]
        have hps : pr_ps (pr_it k a ++ S) = pr_pre k a ++ pr_ps S := by rw [pr_ps_app, t3]
        rw [← hmap] at hwn' ⊢
        have hnd2 := List.nodup_cons.mp hnd
        refine ih (pr_ss (pr_it k a ++ S)) (by rw [pr_ss_app, t4]; omega) (seen + 1) Nf (pr_it k a ++ S) (pr_tr g T w (a + ff_sz k)) aw' wn' rfl (by rw [pr_ss_app, t4]; omega) (by rw [pr_ss_app, t4]; omega) (pr_wS_app _ _ t1 hS2) hwn' haw' (pr_tr_ok hok) ?_ (by rw [hps]; exact hnd2.2) ?_
        · intro y hy
          rw [hps] at hy
          have hne : y ≠ a + ff_sz k := fun z => hnd2.1 (by rw [← z]; exact hy)
          rw [pr_tr_o hne]
          exact hall y (List.mem_cons_of_mem _ hy)
        · rw [hps]
          exact hp
/-- all trials of the outer order -/
theorem xw_tout (H : gt_ok g) {m : Nat} {e : Int32 ⊕ Nat} {u : Unit} {k : ff_F} {w : Nat → Bool} (hw : ff_wf g (.inner m e u .leaf k)) (hlk : pr_lk a_treeOp a_parent a_slot a_kid (.inner m e u .leaf k) 0) (hroot : a_parent (ff_sz k) = -1) (hNT : N = ff_sz k + 1) (hN : N ≤ 32) (haw : pr_aw a_wrapped w N) (hok : ff_ok g (pr_mk w (.inner m e u .leaf k) 0)) (hall : ∀ y, y < ff_sz k → w y = true)
    (hp : ∀ (wd : Int32) (aw wn : Nat → Int32), pr_aw aw (pr_trs g (.inner m e u .leaf k) w (pr_pre k 0)) N → ff_ok g (pr_mk (pr_trs g (.inner m e u .leaf k) w (pr_pre k 0)) (.inner m e u .leaf k) 0) → post (f_opLimit, f_nodeLimit, f_levelLimit, nI (gt_l g), f_textLimit, nI (gt_n g), nI n, f_nodeTotal, f_treeTotal, f_depth, f_wanting, f_clashing, f_outLen, f_treeBase, nI N, wd, gt_k g, gt_p g, gt_a g, gt_c g, gt_t g, a_opener, a_joiner, a_inner, a_text, a_nodeList, a_frameOp, a_frameNext, a_out, a_partner, a_openAt, a_treeOp, a_parent, a_slot, a_kid, aw, wn, a_workStep)) : wpX_thinOuterFirst post (f_opLimit, f_nodeLimit, f_levelLimit, nI (gt_l g), f_textLimit, nI (gt_n g), nI n, f_nodeTotal, f_treeTotal, f_depth, f_wanting, f_clashing, f_outLen, f_treeBase, nI N, f_workDepth, gt_k g, gt_p g, gt_a g, gt_c g, gt_t g, a_opener, a_joiner, a_inner, a_text, a_nodeList, a_frameOp, a_frameNext, a_out, a_partner, a_openAt, a_treeOp, a_parent, a_slot, a_kid, a_wrapped, a_workNode, a_workStep) := by
  have hsz : ff_sz (.inner m e u .leaf k) = ff_sz k + 1 := by show 0 + ff_sz k + 1 = _; omega
  obtain ⟨_, l2, l3, l4⟩ := hlk
  have hlk0 := (⟨trivial, l2, l3, l4⟩ : pr_lk a_treeOp a_parent a_slot a_kid (.inner m e u .leaf k) 0)
  have z0 : 0 + ff_sz (.leaf : ff_F) = 0 := rfl
  have z1 : 0 + ff_sz (.leaf : ff_F) + ff_sz k = ff_sz k := by rw [z0, Nat.zero_add]
  rw [z0] at l2
  rw [z1] at l3
  rw [z1, z0] at l4
  have hlk3 := ff_len_sz k
  refine nm_r (e' := upd a_workNode 0 (nI (ff_sz k))) (by rw [hNT, nI_pred]) ⟨N + 1, ?_⟩
  rw [wX_thinOuterFirst_19]
  refine br_f (by show ¬ nI N ≤ nI 0; exact nI_ge (by omega) (by omega)) (br_f (by decide) (nm_r (e' := 0) (by decide) ⟨vp_in_nI (n := 0) (by decide) (by decide), nm_r (e' := nI (ff_sz k)) pk_us ⟨vp_in_nI (by omega) (by decide), ?_⟩⟩))
  rw [nI_clamp (n := ff_sz k) (by omega), hroot]
  refine br_t (by decide) ?_
  refine xw_t68 (e := e) (k := k) (b := 0) (x := ff_sz k) (seen := 0) (Rr := []) H (by omega) hw.2.2 l3 (fun c y h => (l4 c y h).1) (by show ff_len k + 0 ≤ 32; omega) trivial ?_
  intro wn hwn
  rw [List.append_nil] at hwn ⊢
  obtain ⟨t1, t2, t3, t4⟩ := pr_it_all (N := N) k 0 hw.2.1 l2 (by omega)
  rw [← t2] at hwn ⊢
  refine xw_tout_l (T := .inner m e u .leaf k) H rfl hw hlk0 (by rw [hsz, Nat.add_sub_cancel]; exact hroot) (by rw [hsz]; exact hNT) hN (ff_sz k) 1 N (pr_it k 0) w a_wrapped wn t4 (by omega) (by omega) t1 hwn haw hok ?_ (by rw [t3]; exact pr_pre_nd k 0) ?_
  · intro y hy
    rw [t3] at hy
    have := (pr_pre_lt k 0 y hy).2
    exact hall y (by omega)
  · rw [t3]
    exact hp
end
end
section
/-! the component writes a marked tree -/
def pr_ic (g : gt_T) (e : Int32 ⊕ Nat) : Nat := match e with
  | .inl _ => 1
  | .inr q => gt_PC g q + gt_ar g q
def pr_cs (g : gt_T) : ff_F → Nat
  | .leaf => 0
  | .inner _ e _ p k => pr_cs g p + pr_cs g k + (pr_ic g e + 1)
def pr_ni (g : gt_T) (q c : Nat) : Nat := if gt_LO g q = true then 2 * c - 1 else 2 * c
theorem pr_cs_le {g : gt_T} (H : gt_ok g) : ∀ (F : ff_F), ff_wf g F → pr_cs g F ≤ 8 * ff_sz F := by
  intro F
  induction F with
  | leaf => intro _; exact Nat.le_refl _
  | inner m e u p k ihp ihk =>
    intro hw
    have h1 := ihp hw.1
    have h2 := ihk hw.2.1
    show pr_cs g p + pr_cs g k + (pr_ic g e + 1) ≤ 8 * (ff_sz p + ff_sz k + 1)
    match e, hw with
    | .inl t, _ =>
      show pr_cs g p + pr_cs g k + (1 + 1) ≤ _
      omega
    | .inr q, hw =>
      have hq : q < gt_n g := hw.2.2.1
      show pr_cs g p + pr_cs g k + (gt_PC g q + gt_ar g q + 1) ≤ _
      rcases gt_cs H hq with h | h | h | h <;> omega
def pr_op (w : Nat → Bool) (x : Nat) : List Int32 := cond (w x) [0] []
def pr_cl (w : Nat → Bool) (x : Nat) : List Int32 := cond (w x) [1] []
/-- the body of a node -/
def pr_bd (g : gt_T) (w : Nat → Bool) (e : Int32 ⊕ Nat) (k : ff_F) (b : Nat) : List Int32 := (ff_bd g e (ff_fl g (pr_mk w k b)) (ff_len k)).map Prod.fst
theorem pr_N_tx {g : gt_T} {w : Nat → Bool} {e : Int32 ⊕ Nat} {k : ff_F} {b x : Nat} : (ff_N g (cond (w x) 1 0) e (pr_mk w k b)).map Prod.fst = pr_op w x ++ (pr_bd g w e k b ++ pr_cl w x) := by
  have hl : ff_len (pr_mk w k b) = ff_len k := ((ff_ss_len _ _ (pr_mk_ss w k b)).1).symm
  unfold pr_op pr_cl pr_bd ff_N
  rw [hl]
  cases w x with
  | false => show _ = [] ++ (_ ++ []); rw [List.append_nil]; rfl
  | true =>
    show ((0, none, _) :: (_ ++ [(1, none, 0)]) : List ff_A).map Prod.fst = _
    rw [List.map_cons, List.map_append]
    rfl
section
variable {g : gt_T} {n N base lim : Nat} {post : SX → Prop} {w : Nat → Bool}
variable {f_opLimit f_nodeLimit f_levelLimit f_textLimit f_nodeTotal f_treeTotal f_depth f_wanting f_clashing f_outLen f_treeBase f_treeNodes f_workDepth : Int32} {a_opener a_joiner a_inner a_text a_nodeList a_frameOp a_frameNext a_out a_partner a_openAt a_treeOp a_parent a_slot a_kid a_wrapped a_workNode a_workStep : Nat → Int32}
theorem xw_app {L : List Int32} {t : Int32} (hL : L.length < lim) (hl : lim ≤ 128) (ht : mt_aO a_text L) (hp : ∀ xt : Nat → Int32, mt_aO xt (L ++ [t]) → post (f_opLimit, f_nodeLimit, f_levelLimit, nI (gt_l g), nI lim, nI (gt_n g), nI (L ++ [t]).length, f_nodeTotal, f_treeTotal, f_depth, f_wanting, f_clashing, f_outLen, f_treeBase, f_treeNodes, f_workDepth, gt_k g, gt_p g, gt_a g, gt_c g, gt_t g, a_opener, a_joiner, a_inner, xt, a_nodeList, a_frameOp, a_frameNext, a_out, a_partner, a_openAt, a_treeOp, a_parent, a_slot, a_kid, a_wrapped, a_workNode, a_workStep)) : wpX_append post (f_opLimit, f_nodeLimit, f_levelLimit, nI (gt_l g), nI lim, nI (gt_n g), nI L.length, f_nodeTotal, f_treeTotal, f_depth, f_wanting, f_clashing, f_outLen, f_treeBase, f_treeNodes, f_workDepth, gt_k g, gt_p g, gt_a g, gt_c g, gt_t g, a_opener, a_joiner, a_inner, a_text, a_nodeList, a_frameOp, a_frameNext, a_out, a_partner, a_openAt, a_treeOp, a_parent, a_slot, a_kid, a_wrapped, a_workNode, a_workStep) t := by
  unfold wpX_append
  dsimp only
  rw [nI_clamp (n := L.length) (by omega)]
  have h := hp _ (mt_aO_snoc ht)
  rw [List.length_append, List.length_singleton] at h
  exact br_f (nI_ge hL (by omega)) ⟨vp_in_nI (by omega) (by decide), nm_e (nm_r (nI_1 _) h)⟩
theorem xw_enter {L : List Int32} {d y : Nat} (hd : d < 32) (hy : y < 32) (haw : a_wrapped y = gt_b (w y)) (hL : (L ++ pr_op w y).length ≤ lim) (hl : lim ≤ 128) (ht : mt_aO a_text L) (hp : ∀ xt : Nat → Int32, mt_aO xt (L ++ pr_op w y) → post (f_opLimit, f_nodeLimit, f_levelLimit, nI (gt_l g), nI lim, nI (gt_n g), nI (L ++ pr_op w y).length, f_nodeTotal, f_treeTotal, f_depth, f_wanting, f_clashing, f_outLen, f_treeBase, f_treeNodes, nI (d + 1), gt_k g, gt_p g, gt_a g, gt_c g, gt_t g, a_opener, a_joiner, a_inner, xt, a_nodeList, a_frameOp, a_frameNext, a_out, a_partner, a_openAt, a_treeOp, a_parent, a_slot, a_kid, a_wrapped, upd a_workNode d (nI y), upd a_workStep d 0)) : wpX_enterNode post (f_opLimit, f_nodeLimit, f_levelLimit, nI (gt_l g), nI lim, nI (gt_n g), nI L.length, f_nodeTotal, f_treeTotal, f_depth, f_wanting, f_clashing, f_outLen, f_treeBase, f_treeNodes, nI d, gt_k g, gt_p g, gt_a g, gt_c g, gt_t g, a_opener, a_joiner, a_inner, a_text, a_nodeList, a_frameOp, a_frameNext, a_out, a_partner, a_openAt, a_treeOp, a_parent, a_slot, a_kid, a_wrapped, a_workNode, a_workStep) (nI y) := by
  unfold wpX_enterNode
  dsimp only
  rw [nI_clamp (n := y) (by omega), haw]
  refine br_f (nI_ge (b := 32) hd (by decide)) ⟨vp_in_nI hy (by decide), ?_⟩
  cases hw : w y with
  | false =>
    have eo : L ++ pr_op w y = L := by
      unfold pr_op
      rw [hw]
      exact List.append_nil L
    rw [eo] at hp
    refine br_t rfl ?_
    unfold wX_enterNode_23
    rw [nI_clamp (n := d) (by omega)]
    exact ⟨vp_in_nI hd (by decide), nm_e ⟨vp_in_nI hd (by decide), nm_e (nm_r (nI_1 _) (hp a_text ht))⟩⟩
  | true =>
    have eo : L ++ pr_op w y = L ++ [0] := by
      unfold pr_op
      rw [hw]
      rfl
    rw [eo] at hp hL
    rw [List.length_append, List.length_singleton] at hL
    refine br_f (by decide) (xw_app (by omega) hl ht ?_)
    intro xt hxt
    unfold wX_enterNode_23
    rw [nI_clamp (n := d) (by omega)]
    exact ⟨vp_in_nI hd (by decide), nm_e ⟨vp_in_nI hd (by decide), nm_e (nm_r (nI_1 _) (hp xt hxt))⟩⟩
/-- item s of node x with operator q: a part or an operand -/
theorem xw_item (H : gt_ok g) {x q s : Nat} (hx : x < 32) (ht : a_treeOp x = nI q) (hq : q < gt_n g) (hs : s < 100) (h48 : 4 * q + s / 2 < 48 ∨ (decide (s % 2 = 0) = gt_LO g q)) (h96 : 3 * x + s / 2 < 96 ∨ ¬ (decide (s % 2 = 0) = gt_LO g q))
    (hpt : ¬ (decide (s % 2 = 0) = gt_LO g q) → wpX_append post (f_opLimit, f_nodeLimit, f_levelLimit, nI (gt_l g), f_textLimit, nI (gt_n g), nI n, f_nodeTotal, f_treeTotal, f_depth, f_wanting, f_clashing, f_outLen, f_treeBase, f_treeNodes, f_workDepth, gt_k g, gt_p g, gt_a g, gt_c g, gt_t g, a_opener, a_joiner, a_inner, a_text, a_nodeList, a_frameOp, a_frameNext, a_out, a_partner, a_openAt, a_treeOp, a_parent, a_slot, a_kid, a_wrapped, a_workNode, a_workStep) (gt_PT g q (s / 2))) (hkd : decide (s % 2 = 0) = gt_LO g q → wpX_enterNode post (f_opLimit, f_nodeLimit, f_levelLimit, nI (gt_l g), f_textLimit, nI (gt_n g), nI n, f_nodeTotal, f_treeTotal, f_depth, f_wanting, f_clashing, f_outLen, f_treeBase, f_treeNodes, f_workDepth, gt_k g, gt_p g, gt_a g, gt_c g, gt_t g, a_opener, a_joiner, a_inner, a_text, a_nodeList, a_frameOp, a_frameNext, a_out, a_partner, a_openAt, a_treeOp, a_parent, a_slot, a_kid, a_wrapped, a_workNode, a_workStep) (a_kid (3 * x + s / 2))) : wpX_writeItem post (f_opLimit, f_nodeLimit, f_levelLimit, nI (gt_l g), f_textLimit, nI (gt_n g), nI n, f_nodeTotal, f_treeTotal, f_depth, f_wanting, f_clashing, f_outLen, f_treeBase, f_treeNodes, f_workDepth, gt_k g, gt_p g, gt_a g, gt_c g, gt_t g, a_opener, a_joiner, a_inner, a_text, a_nodeList, a_frameOp, a_frameNext, a_out, a_partner, a_openAt, a_treeOp, a_parent, a_slot, a_kid, a_wrapped, a_workNode, a_workStep) (nI x) (nI s) := by
  have hn12 := H.1
  obtain ⟨vq, cq⟩ := gt_in12 H hq
  have e1 : nI s &&& 1 = nI (s % 2) := pk_andN (n := s) (m := 1) (by omega) 1 (by decide)
  have e2 : nI s >>> ((1 : Int32) &&& 31) = nI (s / 2) := pk_shrN (n := s) (by omega) _ 1 (by decide)
  have e3 : (4 : Int32) * nI q + nI (s / 2) = nI (4 * q + s / 2) := by rw [show (4 : Int32) * nI q = nI (4 * q) from pk_mul 4 q, nI_add]
  have e4 : (3 : Int32) * nI x + nI (s / 2) = nI (3 * x + s / 2) := by rw [show (3 : Int32) * nI x = nI (3 * x) from pk_mul 3 x, nI_add]
  have s51 : wX_writeItem_51 post (nI x) (nI s) (nI q) (gt_b (!gt_LO g q)) f_opLimit f_nodeLimit f_levelLimit (nI (gt_l g)) f_textLimit (nI (gt_n g)) (nI n) f_nodeTotal f_treeTotal f_depth f_wanting f_clashing f_outLen f_treeBase f_treeNodes f_workDepth (gt_k g) (gt_p g) (gt_a g) (gt_c g) (gt_t g) a_opener a_joiner a_inner a_text a_nodeList a_frameOp a_frameNext a_out a_partner a_openAt a_treeOp a_parent a_slot a_kid a_wrapped a_workNode a_workStep := by
    have s64 : ∀ ev : Bool, ev = decide (s % 2 = 0) → wX_writeItem_64 post (nI x) (nI s) (nI q) (gt_b (!gt_LO g q)) (gt_b ev) f_opLimit f_nodeLimit f_levelLimit (nI (gt_l g)) f_textLimit (nI (gt_n g)) (nI n) f_nodeTotal f_treeTotal f_depth f_wanting f_clashing f_outLen f_treeBase f_treeNodes f_workDepth (gt_k g) (gt_p g) (gt_a g) (gt_c g) (gt_t g) a_opener a_joiner a_inner a_text a_nodeList a_frameOp a_frameNext a_out a_partner a_openAt a_treeOp a_parent a_slot a_kid a_wrapped a_workNode a_workStep := by
      intro ev hev
      unfold wX_writeItem_64
      rw [e2]
      refine nm_e ?_
      rw [e3, e4, gt_b_inj]
      refine br_c (fun h => ?_) (fun h => ?_)
      · have hne : ¬ (decide (s % 2 = 0) = gt_LO g q) := by
          rw [← hev, h]
          cases gt_LO g q <;> decide
        have h48' : 4 * q + s / 2 < 48 := h48.resolve_right hne
        rw [nI_clamp (n := 4 * q + s / 2) (by omega)]
        exact ⟨vp_in_nI h48' (by decide), hpt hne⟩
      · have heq : decide (s % 2 = 0) = gt_LO g q := by
          rw [← hev]
          revert h
          cases ev <;> cases gt_LO g q <;> simp
        have h96' : 3 * x + s / 2 < 96 := h96.resolve_right (fun z => z heq)
        rw [nI_clamp (n := 3 * x + s / 2) (by omega)]
        exact ⟨vp_in_nI h96' (by decide), hkd heq⟩
    unfold wX_writeItem_51
    rw [e1]
    refine br_c (fun h => s64 true ?_) (fun h => s64 false ?_)
    · have := (nI_eq (a := s % 2) (b := 0) (by omega) (by omega)).mp h
      rw [this]
      rfl
    · have : ¬ s % 2 = 0 := fun z => h (by rw [z]; rfl)
      rw [decide_eq_false this]
  unfold wpX_writeItem
  dsimp only
  rw [nI_clamp (n := x) (by omega), ht]
  refine ⟨vp_in_nI hx (by decide), nm_e (br_t (nI_pos' (by omega)) ⟨vq, ?_⟩)⟩
  rw [cq]
  rcases gt_cs H hq with h | h | h | h
  · rw [h.1] at s51
    rw [h.2.2.2.1]
    exact br_t rfl s51
  · rw [h.1] at s51
    rw [h.2.2.2.1]
    exact br_f (by decide) ⟨vq, br_f (by decide) s51⟩
  · rw [h.1] at s51
    rw [h.2.2.2.1]
    exact br_f (by decide) ⟨vq, br_f (by decide) s51⟩
  · rw [h.1] at s51
    rw [h.2.2.2.1]
    exact br_f (by decide) ⟨vq, br_t rfl s51⟩
theorem xw_items (H : gt_ok g) {post1 : Int32 → Prop} {x : Nat} (hx : x < 32) {e : Int32 ⊕ Nat} {k : ff_F} (he : ff_we g e k) (ht : a_treeOp x = pr_oc e) (hp : post1 (nI (pr_ic g e))) : wpX_itemCount post1 (f_opLimit, f_nodeLimit, f_levelLimit, nI (gt_l g), f_textLimit, nI (gt_n g), nI n, f_nodeTotal, f_treeTotal, f_depth, f_wanting, f_clashing, f_outLen, f_treeBase, f_treeNodes, f_workDepth, gt_k g, gt_p g, gt_a g, gt_c g, gt_t g, a_opener, a_joiner, a_inner, a_text, a_nodeList, a_frameOp, a_frameNext, a_out, a_partner, a_openAt, a_treeOp, a_parent, a_slot, a_kid, a_wrapped, a_workNode, a_workStep) (nI x) := by
  have hn12 := H.1
  unfold wpX_itemCount
  dsimp only
  rw [nI_clamp (n := x) (by omega), ht]
  refine ⟨vp_in_nI hx (by decide), nm_e ?_⟩
  match e, he, hp with
  | .inl t, _, hp => exact br_f (by show ¬ (0 : Int32) ≤ -1; decide) hp
  | .inr q, he, hp =>
    have hq : q < gt_n g := he.1
    obtain ⟨vq, cq⟩ := gt_in12 H hq
    obtain ⟨_, _, p3⟩ := H.2.2.2.2.1 q hq
    refine br_t (nI_pos' (n := q) (by omega)) (xw_ar H hq ⟨vq, ?_⟩)
    show post1 (gt_c g (nI q).toNatClampNeg + _)
    rw [cq, p3, nI_add]
    exact hp
/-- one turn at node x, step s, an item still to come -/
theorem xw_turn (H : gt_ok g) {x s d turn Nf it : Nat} {L : List Int32} (hx : x < 32) (hd : d < 32) (hwn : a_workNode d = nI x) (hws : a_workStep d = nI s) {e : Int32 ⊕ Nat} {k : ff_F} (he : ff_we g e k) (ht : a_treeOp x = pr_oc e) (hit : it = pr_ic g e) (hs : s < it) (hi : it < 100) (htn : turn < 300)
    (hp : wpX_writeItem (fun u => ∀ x1 : Int32, x1 = nI turn + 1 → match u with | (f_opLimit, f_nodeLimit, f_levelLimit, f_lastName, f_textLimit, f_opTotal, f_textLen, f_nodeTotal, f_treeTotal, f_depth, f_wanting, f_clashing, f_outLen, f_treeBase, f_treeNodes, f_workDepth, a_kinds, a_precs, a_assocs, a_partCounts, a_parts, a_opener, a_joiner, a_inner, a_text, a_nodeList, a_frameOp, a_frameNext, a_out, a_partner, a_openAt, a_treeOp, a_parent, a_slot, a_kid, a_wrapped, a_workNode, a_workStep) => wX_writeTree_22 post Nf x1 f_opLimit f_nodeLimit f_levelLimit f_lastName f_textLimit f_opTotal f_textLen f_nodeTotal f_treeTotal f_depth f_wanting f_clashing f_outLen f_treeBase f_treeNodes f_workDepth a_kinds a_precs a_assocs a_partCounts a_parts a_opener a_joiner a_inner a_text a_nodeList a_frameOp a_frameNext a_out a_partner a_openAt a_treeOp a_parent a_slot a_kid a_wrapped a_workNode a_workStep) (f_opLimit, f_nodeLimit, f_levelLimit, nI (gt_l g), f_textLimit, nI (gt_n g), nI L.length, f_nodeTotal, f_treeTotal, f_depth, f_wanting, f_clashing, f_outLen, f_treeBase, f_treeNodes, nI (d + 1), gt_k g, gt_p g, gt_a g, gt_c g, gt_t g, a_opener, a_joiner, a_inner, a_text, a_nodeList, a_frameOp, a_frameNext, a_out, a_partner, a_openAt, a_treeOp, a_parent, a_slot, a_kid, a_wrapped, a_workNode, upd a_workStep d (nI (s + 1))) (nI x) (nI s)) :
    wX_writeTree_22 post (Nf + 1) (nI turn) f_opLimit f_nodeLimit f_levelLimit (nI (gt_l g)) f_textLimit (nI (gt_n g)) (nI L.length) f_nodeTotal f_treeTotal f_depth f_wanting f_clashing f_outLen f_treeBase f_treeNodes (nI (d + 1)) (gt_k g) (gt_p g) (gt_a g) (gt_c g) (gt_t g) a_opener a_joiner a_inner a_text a_nodeList a_frameOp a_frameNext a_out a_partner a_openAt a_treeOp a_parent a_slot a_kid a_wrapped a_workNode a_workStep := by
  rw [wX_writeTree_22]
  dsimp only
  rw [show nI (d + 1) - 1 = nI d from nI_pred d, nI_clamp (n := d) (by omega), hwn, hws]
  have vin : vp_in (nI d) 32 := vp_in_nI hd (by decide)
  refine br_f (nI_ge (b := 300) htn (by decide)) (br_f (nI_nle (Nat.succ_pos _) (by omega)) ⟨vin, nm_e ⟨vin, nm_e (xw_items H hx he ht ?_)⟩⟩)
  rw [← hit]
  refine br_t (nI_lt hs (by omega)) ⟨vin, ?_⟩
  rw [nI_1]
  exact nm_e hp
/-- the last turn at node x -/
theorem xw_pop (H : gt_ok g) {x d turn Nf it : Nat} {L : List Int32} (hx : x < 32) (hd : d < 32) (hwn : a_workNode d = nI x) (hws : a_workStep d = nI it) {e : Int32 ⊕ Nat} {k : ff_F} (he : ff_we g e k) (ht : a_treeOp x = pr_oc e) (hit : it = pr_ic g e) (hi : it < 100) (htn : turn < 300) (haw : a_wrapped x = gt_b (w x)) (hL : (L ++ pr_cl w x).length ≤ lim) (hl : lim ≤ 128) (htx : mt_aO a_text L)
    (hp : ∀ xt : Nat → Int32, mt_aO xt (L ++ pr_cl w x) → wX_writeTree_22 post Nf (nI (turn + 1)) f_opLimit f_nodeLimit f_levelLimit (nI (gt_l g)) (nI lim) (nI (gt_n g)) (nI (L ++ pr_cl w x).length) f_nodeTotal f_treeTotal f_depth f_wanting f_clashing f_outLen f_treeBase f_treeNodes (nI d) (gt_k g) (gt_p g) (gt_a g) (gt_c g) (gt_t g) a_opener a_joiner a_inner xt a_nodeList a_frameOp a_frameNext a_out a_partner a_openAt a_treeOp a_parent a_slot a_kid a_wrapped a_workNode a_workStep) :
    wX_writeTree_22 post (Nf + 1) (nI turn) f_opLimit f_nodeLimit f_levelLimit (nI (gt_l g)) (nI lim) (nI (gt_n g)) (nI L.length) f_nodeTotal f_treeTotal f_depth f_wanting f_clashing f_outLen f_treeBase f_treeNodes (nI (d + 1)) (gt_k g) (gt_p g) (gt_a g) (gt_c g) (gt_t g) a_opener a_joiner a_inner a_text a_nodeList a_frameOp a_frameNext a_out a_partner a_openAt a_treeOp a_parent a_slot a_kid a_wrapped a_workNode a_workStep := by
  rw [wX_writeTree_22]
  dsimp only
  rw [show nI (d + 1) - 1 = nI d from nI_pred d, nI_clamp (n := d) (by omega), hwn, hws]
  have vin : vp_in (nI d) 32 := vp_in_nI hd (by decide)
  refine br_f (nI_ge (b := 300) htn (by decide)) (br_f (nI_nle (Nat.succ_pos _) (by omega)) ⟨vin, nm_e ⟨vin, nm_e (xw_items H hx he ht ?_)⟩⟩)
  rw [← hit]
  refine br_f (nI_nlt (Nat.le_refl _) (by omega)) ⟨vp_in_nI hx (by decide), ?_⟩
  rw [nI_clamp (n := x) (by omega), haw]
  cases hw : w x with
  | false =>
    have eo : L ++ pr_cl w x = L := by
      unfold pr_cl
      rw [hw]
      exact List.append_nil L
    rw [eo] at hp
    refine br_t rfl ?_
    unfold wX_writeTree_87
    exact nm_r (nI_pred d) (nm_r (nI_1 turn) (hp a_text htx))
  | true =>
    have eo : L ++ pr_cl w x = L ++ [1] := by
      unfold pr_cl
      rw [hw]
      rfl
    rw [eo] at hp hL
    rw [List.length_append, List.length_singleton] at hL
    refine br_f (by decide) (xw_app (by omega) hl htx ?_)
    intro xt hxt
    unfold wX_writeTree_87
    exact nm_r (nI_pred d) (nm_r (nI_1 turn) (hp xt hxt))
end
end
section
theorem pr_ni_s {g : gt_T} {q c : Nat} : pr_ni g q (c + 1) = pr_ni g q c + (if gt_LO g q = true ∧ c = 0 then 0 else 1) + 1 := by
  unfold pr_ni
  by_cases h : gt_LO g q = true
  · rw [if_pos h, if_pos h]
    by_cases hc : c = 0
    · rw [if_pos ⟨h, hc⟩, hc]
    · rw [if_neg (fun z => hc z.2)]
      omega
  · rw [if_neg h, if_neg h, if_neg (fun z => h z.1)]
    omega
theorem pr_ni_e {g : gt_T} (H : gt_ok g) {q : Nat} (hq : q < gt_n g) : gt_PC g q + gt_ar g q = pr_ni g q (gt_ar g q) + (if gt_RO g q = true then 0 else 1) := by
  unfold pr_ni
  rcases gt_cs H hq with h | h | h | h
  · rw [h.1, h.2.1]; simp; omega
  · rw [h.1, h.2.1]; simp; omega
  · rw [h.1, h.2.1]; simp; omega
  · rw [h.1, h.2.1]; simp; omega
/-- where the part ahead of operand c stands, and operand c -/
theorem pr_ni_p {g : gt_T} {q c : Nat} (h : ¬ (gt_LO g q = true ∧ c = 0)) : ¬ (decide (pr_ni g q c % 2 = 0) = gt_LO g q) ∧ pr_ni g q c / 2 = gt_s g q c - 1 ∧ (decide ((pr_ni g q c + 1) % 2 = 0) = gt_LO g q) ∧ (pr_ni g q c + 1) / 2 = c := by
  unfold pr_ni gt_s
  cases hl : gt_LO g q with
  | true =>
    have hc : ¬ c = 0 := fun z => h ⟨hl, z⟩
    rw [if_pos rfl, if_pos rfl]
    refine ⟨?_, by omega, ?_, by omega⟩
    · rw [decide_eq_false (by omega)]; decide
    · rw [decide_eq_true (by omega)]
  | false =>
    rw [if_neg (by decide), if_neg (by decide)]
    refine ⟨?_, by omega, ?_, by omega⟩
    · rw [decide_eq_true (by omega)]; decide
    · rw [decide_eq_false (by omega)]
def pr_fx (g : gt_T) (w : Nat → Bool) (F : ff_F) (a q : Nat) : List Int32 := (ff_fl g (pr_mk w F a) q).map Prod.fst
def pr_sx (g : gt_T) (q c : Nat) : List Int32 := if gt_LO g q = true ∧ c = 0 then [] else [gt_PT g q (gt_s g q c - 1)]
theorem pr_fx_in {g : gt_T} {w : Nat → Bool} {m : Nat} {e : Int32 ⊕ Nat} {u : Unit} {p k : ff_F} {a q : Nat} : pr_fx g w (.inner m e u p k) a q = pr_fx g w p a q ++ (pr_sx g q (ff_len p) ++ (pr_op w (a + ff_sz p + ff_sz k) ++ (pr_bd g w e k (a + ff_sz p) ++ pr_cl w (a + ff_sz p + ff_sz k)))) := by
  have hl : ff_len (pr_mk w p a) = ff_len p := ((ff_ss_len _ _ (pr_mk_ss w p a)).1).symm
  show ((ff_fl g (pr_mk w p a) q) ++ (ff_sp g q (ff_len (pr_mk w p a)) _ ++ ff_N g (cond (w (a + ff_sz p + ff_sz k)) 1 0) e (pr_mk w k (a + ff_sz p)))).map Prod.fst = _
  rw [List.map_append, List.map_append, ff_sp_fst, hl, pr_N_tx]
  rfl
theorem pr_bd_a {g : gt_T} {w : Nat → Bool} {t : Int32} {k : ff_F} {b : Nat} : pr_bd g w (.inl t) k b = [t] := rfl
theorem pr_bd_o {g : gt_T} {w : Nat → Bool} {q : Nat} {k : ff_F} {b : Nat} : pr_bd g w (.inr q) k b = pr_fx g w k b q ++ (if gt_RO g q = true then [] else pr_sx g q (ff_len k)) := by
  show ((ff_fl g (pr_mk w k b) q) ++ ff_tl g q (ff_len k)).map Prod.fst = _
  rw [List.map_append]
  unfold ff_tl
  by_cases h : gt_RO g q = true
  · rw [if_pos h, if_pos h]; rfl
  · rw [if_neg h, if_neg h, ff_sp_fst]; rfl
section
variable {g : gt_T} {n N base lim : Nat} {post : SX → Prop} {w : Nat → Bool}
variable {f_opLimit f_nodeLimit f_levelLimit f_textLimit f_nodeTotal f_treeTotal f_depth f_wanting f_clashing f_outLen f_treeBase f_treeNodes f_workDepth : Int32} {a_opener a_joiner a_inner a_text a_nodeList a_frameOp a_frameNext a_out a_partner a_openAt a_treeOp a_parent a_slot a_kid a_wrapped a_workNode a_workStep : Nat → Int32}
theorem xw_wrK (H : gt_ok g) (hN : base + N ≤ 32) (hlim : lim ≤ 128) (haw : pr_aw a_wrapped w N) : ∀ (F : ff_F) (a : Nat), ff_wf g F → pr_lk a_treeOp a_parent a_slot a_kid F a → ff_at a_nodeList (base + a) F → a + ff_sz F ≤ N →
    ∀ (q x d turn Nf : Nat) (L : List Int32) (xt wn ws : Nat → Int32), q < gt_n g → a_treeOp x = nI q → (∀ c y, (pr_rt F a)[c]? = some y → a_kid (3 * x + c) = nI y) → ff_len F ≤ gt_ar g q → a + ff_sz F ≤ x → x + d < N → turn + (pr_ni g q (ff_len F) + pr_cs g F) ≤ 290 → (L ++ pr_fx g w F a q).length ≤ lim → mt_aO xt L → wn d = nI x → ws d = nI 0 →
    (∀ xt' wn' ws' : Nat → Int32, mt_aO xt' (L ++ pr_fx g w F a q) → wn' d = nI x → ws' d = nI (pr_ni g q (ff_len F)) → (∀ j, j < d → wn' j = wn j ∧ ws' j = ws j) → wX_writeTree_22 post Nf (nI (turn + (pr_ni g q (ff_len F) + pr_cs g F))) f_opLimit f_nodeLimit f_levelLimit (nI (gt_l g)) (nI lim) (nI (gt_n g)) (nI (L ++ pr_fx g w F a q).length) f_nodeTotal f_treeTotal f_depth f_wanting f_clashing f_outLen (nI base) f_treeNodes (nI (d + 1)) (gt_k g) (gt_p g) (gt_a g) (gt_c g) (gt_t g) a_opener a_joiner a_inner xt' a_nodeList a_frameOp a_frameNext a_out a_partner a_openAt a_treeOp a_parent a_slot a_kid a_wrapped wn' ws') →
    wX_writeTree_22 post (Nf + (pr_ni g q (ff_len F) + pr_cs g F)) (nI turn) f_opLimit f_nodeLimit f_levelLimit (nI (gt_l g)) (nI lim) (nI (gt_n g)) (nI L.length) f_nodeTotal f_treeTotal f_depth f_wanting f_clashing f_outLen (nI base) f_treeNodes (nI (d + 1)) (gt_k g) (gt_p g) (gt_a g) (gt_c g) (gt_t g) a_opener a_joiner a_inner xt a_nodeList a_frameOp a_frameNext a_out a_partner a_openAt a_treeOp a_parent a_slot a_kid a_wrapped wn ws := by
  have hn12 := H.1
  intro F
  induction F with
  | leaf =>
    intro a _ _ _ _ q x d turn Nf L xt wn ws hq ht _ _ _ _ _ _ hxt hwn hws hp
    have e0 : pr_ni g q 0 = 0 := by unfold pr_ni; split <;> rfl
    have e1 : pr_ni g q (ff_len (.leaf : ff_F)) + pr_cs g .leaf = 0 := by show pr_ni g q 0 + 0 = 0; rw [e0]
    have e2 : L ++ pr_fx g w .leaf a q = L := List.append_nil L
    rw [e1, e2] at hp
    rw [e1]
    exact hp xt wn ws hxt hwn (by show ws d = nI (pr_ni g q 0); rw [e0]; exact hws) (fun j _ => ⟨rfl, rfl⟩)
  | inner m e u p k ihp ihk =>
    intro a hw hlk hat hle q x d turn Nf L xt wn ws hq ht hkd hlen hax hxd htn hL hxt hwn hws hp
    obtain ⟨l1, l2, l3, l4⟩ := hlk
    obtain ⟨t1, t2, t3⟩ := ff_at_in hat
    have hs : ff_sz (.inner m e u p k) = ff_sz p + ff_sz k + 1 := rfl
    have hln : ff_len (.inner m e u p k) = ff_len p + 1 := rfl
    have hcs : pr_cs g (.inner m e u p k) = pr_cs g p + pr_cs g k + (pr_ic g e + 1) := rfl
    rw [hs] at hle hax
    rw [hln, hcs] at htn hp
    rw [hln] at hlen
    rw [hln, hcs]
    rw [pr_fx_in] at hL hp
    have hni := pr_ni_s (g := g) (q := q) (c := ff_len p)
    have har3 := gt_ar3 H hq
    have h4 := gt_pc4 H hq
    have hsle := gt_s_le H hq (i := ff_len p) (by omega)
    -- the operand itself, from its entry on
    have runT : ∀ (d turn Nf : Nat) (L : List Int32) (xt wn ws : Nat → Int32), a + ff_sz p + ff_sz k + d < N → turn + (pr_cs g k + (pr_ic g e + 1)) ≤ 291 → (L ++ (pr_bd g w e k (a + ff_sz p) ++ pr_cl w (a + ff_sz p + ff_sz k))).length ≤ lim → mt_aO xt L → wn d = nI (a + ff_sz p + ff_sz k) → ws d = nI 0 →
        (∀ xt' wn' ws' : Nat → Int32, mt_aO xt' (L ++ (pr_bd g w e k (a + ff_sz p) ++ pr_cl w (a + ff_sz p + ff_sz k))) → (∀ j, j < d → wn' j = wn j ∧ ws' j = ws j) → wX_writeTree_22 post Nf (nI (turn + (pr_cs g k + (pr_ic g e + 1)))) f_opLimit f_nodeLimit f_levelLimit (nI (gt_l g)) (nI lim) (nI (gt_n g)) (nI (L ++ (pr_bd g w e k (a + ff_sz p) ++ pr_cl w (a + ff_sz p + ff_sz k))).length) f_nodeTotal f_treeTotal f_depth f_wanting f_clashing f_outLen (nI base) f_treeNodes (nI d) (gt_k g) (gt_p g) (gt_a g) (gt_c g) (gt_t g) a_opener a_joiner a_inner xt' a_nodeList a_frameOp a_frameNext a_out a_partner a_openAt a_treeOp a_parent a_slot a_kid a_wrapped wn' ws') →
        wX_writeTree_22 post (Nf + (pr_cs g k + (pr_ic g e + 1))) (nI turn) f_opLimit f_nodeLimit f_levelLimit (nI (gt_l g)) (nI lim) (nI (gt_n g)) (nI L.length) f_nodeTotal f_treeTotal f_depth f_wanting f_clashing f_outLen (nI base) f_treeNodes (nI (d + 1)) (gt_k g) (gt_p g) (gt_a g) (gt_c g) (gt_t g) a_opener a_joiner a_inner xt a_nodeList a_frameOp a_frameNext a_out a_partner a_openAt a_treeOp a_parent a_slot a_kid a_wrapped wn ws := by
      intro d turn Nf L xt wn ws hyd htn hL hxt hwn hws hp
      have hwy := haw (a + ff_sz p + ff_sz k) (by omega)
      match e, hw, l3, hL, hp, htn, t3 with
      | .inl t, hw, l3, hL, hp, htn, t3 =>
        have ek := ff_lf_leaf hw.2.2.2
        subst ek
        have hy : a + ff_sz p + ff_sz (.leaf : ff_F) = a + ff_sz p := rfl
        have hcc : pr_cs g (.leaf : ff_F) + (pr_ic g (.inl t) + 1) = 2 := rfl
        rw [hcc] at hp htn ⊢
        rw [pr_bd_a] at hL hp
        have hL1 : (L ++ [t]).length ≤ lim := by
          rw [← List.append_assoc, List.length_append] at hL
          omega
        have hL2 : L.length < lim := by rw [List.length_append, List.length_singleton] at hL1; omega
        refine xw_turn (it := 1) (s := 0) (e := .inl t) (k := .leaf) (Nf := Nf + 1) H (by omega) (by omega) hwn hws hw.2.2 l3 rfl (by decide) (by decide) (by omega) ?_
        have hb : base + (a + ff_sz p + ff_sz (.leaf : ff_F)) < 32 := by rw [hy]; omega
        unfold wpX_writeItem
        dsimp only
        rw [nI_clamp (n := a + ff_sz p + ff_sz (.leaf : ff_F)) (by omega), l3, nI_add, nI_clamp (n := base + (a + ff_sz p + ff_sz (.leaf : ff_F))) (by omega), show a_nodeList (base + (a + ff_sz p + ff_sz (.leaf : ff_F))) = t by rw [show base + (a + ff_sz p + ff_sz (.leaf : ff_F)) = base + a + ff_sz p + ff_sz (.leaf : ff_F) by omega]; exact t3]
        refine ⟨vp_in_nI (by omega) (by decide), nm_e (br_f (by show ¬ (0 : Int32) ≤ -1; decide) ⟨vp_in_nI hb (by decide), xw_app (L := L) (t := t) hL2 hlim hxt ?_⟩)⟩
        intro xt' hxt'
        refine nm_r (nI_1 turn) ?_
        refine xw_pop (w := w) (x := a + ff_sz p + ff_sz (.leaf : ff_F)) (it := 1) (e := .inl t) (k := .leaf) H (by omega) (by omega) hwn pk_us hw.2.2 l3 rfl (by decide) (by omega) hwy (by rw [List.append_assoc]; exact hL) hlim hxt' ?_
        intro xt2 hxt2
        rw [List.append_assoc] at hxt2 ⊢
        refine hp xt2 wn (upd ws d (nI 1)) hxt2 ?_
        intro j hj
        exact ⟨rfl, pk_un (by omega)⟩
      | .inr q', hw, l3, hL, hp, htn, t3 =>
        have hq' : q' < gt_n g := hw.2.2.1
        have hlk' : ff_len k = gt_ar g q' := hw.2.2.2
        have hice : pr_ic g (.inr q') = gt_PC g q' + gt_ar g q' := rfl
        have hnie := pr_ni_e H hq'
        have h4' := gt_pc4 H hq'
        have har3' := gt_ar3 H hq'
        rw [pr_bd_o] at hL hp
        have hL1 : (L ++ pr_fx g w k (a + ff_sz p) q').length ≤ lim := by
          simp only [List.length_append] at hL ⊢
          omega
        have fuel : ∀ z, Nf + (pr_cs g k + (pr_ic g (.inr q') + 1)) = (Nf + 1 + z) + (pr_ni g q' (ff_len k) + pr_cs g k) ↔ z = (if gt_RO g q' = true then 0 else 1) := by
          intro z
          rw [hice, hnie, hlk']
          omega
        rw [(fuel _).mpr rfl]
        refine ihk (a + ff_sz p) hw.2.1 l2 (by rw [← Nat.add_assoc]; exact t2) (by omega) q' (a + ff_sz p + ff_sz k) d turn _ L xt wn ws hq' l3 (fun c y hc => (l4 c y hc).1) (Nat.le_of_eq hlk') (Nat.le_refl _) hyd (by rw [hice, hnie, ← hlk'] at htn; omega) hL1 hxt hwn hws ?_
        intro xt' wn' ws' hxt' hwn' hws' hkeep
        by_cases hr : gt_RO g q' = true
        · rw [if_pos hr] at hnie hL hp ⊢
          rw [List.append_nil] at hL hp
          refine xw_pop (w := w) (x := a + ff_sz p + ff_sz k) (it := pr_ic g (.inr q')) (e := .inr q') (k := k) H (by omega) (by omega) hwn' (by rw [hws', hice, hnie, hlk']; rfl) hw.2.2 l3 rfl (by rw [hice]; omega) (by rw [hlk']; rw [hice] at htn; omega) hwy (by rw [List.append_assoc]; exact hL) hlim hxt' ?_
          intro xt2 hxt2
          rw [List.append_assoc] at hxt2 ⊢
          have h9 := hp xt2 wn' ws' hxt2 hkeep
          rw [show turn + (pr_cs g k + (pr_ic g (.inr q') + 1)) = turn + (pr_ni g q' (ff_len k) + pr_cs g k) + 1 by rw [hice, hnie, hlk']; omega] at h9
          exact h9
        · rw [if_neg hr] at hnie hL hp ⊢
          have hr' : gt_RO g q' = false := by
            cases h : gt_RO g q' with
            | false => rfl
            | true => exact absurd h hr
          have hsPC := gt_npush H hq' hr' hlk'
          have hnz : ¬ (gt_LO g q' = true ∧ ff_len k = 0) := by
            rintro ⟨z1, z2⟩
            unfold gt_s at hsPC
            rw [if_pos z1, z2] at hsPC
            omega
          obtain ⟨np1, np2, _, _⟩ := pr_ni_p (g := g) (q := q') (c := ff_len k) hnz
          have hsx : pr_sx g q' (ff_len k) = [gt_PT g q' (gt_s g q' (ff_len k) - 1)] := by
            unfold pr_sx
            rw [if_neg hnz]
          rw [hsx] at hL hp
          have hni6 : pr_ni g q' (ff_len k) ≤ 6 := by
            unfold pr_ni
            split <;> omega
          have hL3 : ((L ++ pr_fx g w k (a + ff_sz p) q') ++ [gt_PT g q' (gt_s g q' (ff_len k) - 1)]).length ≤ lim := by
            simp only [List.length_append] at hL ⊢
            omega
          have hL4 : (L ++ pr_fx g w k (a + ff_sz p) q').length < lim := by
            rw [List.length_append (as := L ++ pr_fx g w k (a + ff_sz p) q'), List.length_singleton] at hL3
            omega
          refine xw_turn (it := pr_ic g (.inr q')) (s := pr_ni g q' (ff_len k)) (e := .inr q') (k := k) (Nf := Nf + 1) H (by omega) (by omega) hwn' hws' hw.2.2 l3 rfl (by rw [hice, hnie, hlk']; omega) (by rw [hice]; omega) (by omega) ?_
          refine xw_item H (by omega) l3 hq' (by omega) (Or.inl (by omega)) (Or.inr np1) ?_ (fun z => absurd z np1)
          intro _
          rw [np2]
          refine xw_app hL4 hlim hxt' ?_
          intro xt2 hxt2
          refine nm_r (nI_1 _) ?_
          refine xw_pop (w := w) (x := a + ff_sz p + ff_sz k) (it := pr_ic g (.inr q')) (e := .inr q') (k := k) H (by omega) (by omega) hwn' (by rw [pk_us, hice, hnie, hlk']) hw.2.2 l3 rfl (by rw [hice]; omega) (by omega) hwy (by simp only [List.append_assoc] at hL ⊢; exact hL) hlim hxt2 ?_
          intro xt3 hxt3
          have eL : (L ++ pr_fx g w k (a + ff_sz p) q' ++ [gt_PT g q' (gt_s g q' (ff_len k) - 1)]) ++ pr_cl w (a + ff_sz p + ff_sz k) = L ++ (pr_fx g w k (a + ff_sz p) q' ++ [gt_PT g q' (gt_s g q' (ff_len k) - 1)] ++ pr_cl w (a + ff_sz p + ff_sz k)) := by simp only [List.append_assoc]
          rw [eL] at hxt3 ⊢
          have h9 := hp xt3 wn' (upd ws' d (nI (pr_ni g q' (ff_len k) + 1))) hxt3 (fun j hj => ⟨(hkeep j hj).1, by rw [pk_un (by omega)]; exact (hkeep j hj).2⟩)
          rw [show turn + (pr_cs g k + (pr_ic g (.inr q') + 1)) = turn + (pr_ni g q' (ff_len k) + pr_cs g k) + 1 + 1 by rw [hice, hnie, hlk']; omega] at h9
          exact h9
    -- the operand's entry
    have kidEntry : ∀ (s turn Nf : Nat) (L : List Int32) (xt wn ws : Nat → Int32), decide (s % 2 = 0) = gt_LO g q → s / 2 = ff_len p → s < gt_PC g q + gt_ar g q → s + 1 = pr_ni g q (ff_len p + 1) → turn + (1 + (pr_cs g k + (pr_ic g e + 1))) ≤ 290 → (L ++ (pr_op w (a + ff_sz p + ff_sz k) ++ (pr_bd g w e k (a + ff_sz p) ++ pr_cl w (a + ff_sz p + ff_sz k)))).length ≤ lim → mt_aO xt L → wn d = nI x → ws d = nI s →
        (∀ xt' wn' ws' : Nat → Int32, mt_aO xt' (L ++ (pr_op w (a + ff_sz p + ff_sz k) ++ (pr_bd g w e k (a + ff_sz p) ++ pr_cl w (a + ff_sz p + ff_sz k)))) → wn' d = nI x → ws' d = nI (s + 1) → (∀ j, j < d → wn' j = wn j ∧ ws' j = ws j) → wX_writeTree_22 post Nf (nI (turn + (1 + (pr_cs g k + (pr_ic g e + 1))))) f_opLimit f_nodeLimit f_levelLimit (nI (gt_l g)) (nI lim) (nI (gt_n g)) (nI (L ++ (pr_op w (a + ff_sz p + ff_sz k) ++ (pr_bd g w e k (a + ff_sz p) ++ pr_cl w (a + ff_sz p + ff_sz k)))).length) f_nodeTotal f_treeTotal f_depth f_wanting f_clashing f_outLen (nI base) f_treeNodes (nI (d + 1)) (gt_k g) (gt_p g) (gt_a g) (gt_c g) (gt_t g) a_opener a_joiner a_inner xt' a_nodeList a_frameOp a_frameNext a_out a_partner a_openAt a_treeOp a_parent a_slot a_kid a_wrapped wn' ws') →
        wX_writeTree_22 post (Nf + (1 + (pr_cs g k + (pr_ic g e + 1)))) (nI turn) f_opLimit f_nodeLimit f_levelLimit (nI (gt_l g)) (nI lim) (nI (gt_n g)) (nI L.length) f_nodeTotal f_treeTotal f_depth f_wanting f_clashing f_outLen (nI base) f_treeNodes (nI (d + 1)) (gt_k g) (gt_p g) (gt_a g) (gt_c g) (gt_t g) a_opener a_joiner a_inner xt a_nodeList a_frameOp a_frameNext a_out a_partner a_openAt a_treeOp a_parent a_slot a_kid a_wrapped wn ws := by
      intro s turn Nf L xt wn ws hpar hidx hsit hs1 htn hL hxt hwn hws hp
      have hrl := pr_rt_len p a
      have hkid : a_kid (3 * x + ff_len p) = nI (a + ff_sz p + ff_sz k) := by
        refine hkd (ff_len p) _ ?_
        show (pr_rt p a ++ [a + ff_sz p + ff_sz k])[ff_len p]? = _
        rw [List.getElem?_append_right (by omega), hrl, Nat.sub_self]
        rfl
      rw [show Nf + (1 + (pr_cs g k + (pr_ic g e + 1))) = (Nf + (pr_cs g k + (pr_ic g e + 1))) + 1 by omega]
      have hd32 : x < 32 := by omega
      have hqk : ∃ kk, ff_we g (.inr q) kk := by
        have mkf : ∀ c, ∃ F : ff_F, ff_len F = c := by
          intro c
          induction c with
          | zero => exact ⟨.leaf, rfl⟩
          | succ c ih =>
            obtain ⟨F, hF⟩ := ih
            exact ⟨.inner 0 (.inl 0) () F .leaf, by show ff_len F + 1 = _; rw [hF]⟩
        obtain ⟨F, hF⟩ := mkf (gt_ar g q)
        exact ⟨F, hq, hF⟩
      obtain ⟨kk, hkk⟩ := hqk
      refine xw_turn (it := pr_ic g (.inr q)) (s := s) (e := .inr q) (k := kk) H hd32 (by omega) hwn hws hkk ht rfl hsit (by show gt_PC g q + gt_ar g q < 100; omega) (by omega) ?_
      refine xw_item H hd32 ht hq (by omega) (Or.inr hpar) (Or.inl (by omega)) (fun z => absurd hpar z) ?_
      intro _
      rw [hidx, hkid]
      have hL1 : (L ++ pr_op w (a + ff_sz p + ff_sz k)).length ≤ lim := by
        simp only [List.length_append] at hL ⊢
        omega
      refine xw_enter (w := w) (by omega) (by omega) (haw _ (by omega)) hL1 hlim hxt ?_
      intro xt1 hxt1
      refine nm_r (nI_1 _) ?_
      refine runT (d + 1) (turn + 1) Nf (L ++ pr_op w (a + ff_sz p + ff_sz k)) xt1 _ _ (by omega) (by omega) (by rw [List.append_assoc]; exact hL) hxt1 pk_us pk_us ?_
      intro xt2 wn2 ws2 hxt2 hkeep2
      rw [List.append_assoc] at hxt2 ⊢
      rw [show turn + 1 + (pr_cs g k + (pr_ic g e + 1)) = turn + (1 + (pr_cs g k + (pr_ic g e + 1))) by omega]
      refine hp xt2 wn2 ws2 hxt2 ?_ ?_ ?_
      · rw [(hkeep2 d (by omega)).1, pk_un (by omega)]
        exact hwn
      · rw [(hkeep2 d (by omega)).2, pk_un (by omega), pk_us]
      · intro j hj
        rw [(hkeep2 j (by omega)).1, (hkeep2 j (by omega)).2, pk_un (by omega), pk_un (by omega), pk_un (by omega)]
        exact ⟨rfl, rfl⟩
    have hnile : pr_ni g q (ff_len p + 1) ≤ gt_PC g q + gt_ar g q := by
      have h5 := pr_ni_e H hq
      have h6 : pr_ni g q (ff_len p + 1) ≤ pr_ni g q (gt_ar g q) := by
        unfold pr_ni
        split <;> omega
      omega
    have hL0 : (L ++ pr_fx g w p a q).length ≤ lim := by
      simp only [List.length_append] at hL ⊢
      omega
    by_cases hz : gt_LO g q = true ∧ ff_len p = 0
    · -- operand 0 of a left open operator: no part ahead
      have hsx : pr_sx g q (ff_len p) = [] := by unfold pr_sx; rw [if_pos hz]
      rw [if_pos hz] at hni
      rw [hsx, List.nil_append] at hL hp
      rw [show Nf + (pr_ni g q (ff_len p + 1) + (pr_cs g p + pr_cs g k + (pr_ic g e + 1))) = (Nf + (1 + (pr_cs g k + (pr_ic g e + 1)))) + (pr_ni g q (ff_len p) + pr_cs g p) by omega]
      refine ihp a hw.1 l1 t1 (by omega) q x d turn _ L xt wn ws hq ht (fun c y hc => hkd c y (by show (pr_rt p a ++ [_])[c]? = _; rw [List.getElem?_append_left (List.getElem?_eq_some_iff.mp hc).1]; exact hc)) (by omega) (by omega) hxd (by omega) hL0 hxt hwn hws ?_
      intro xt1 wn1 ws1 hxt1 hwn1 hws1 hkeep1
      have hn0 : pr_ni g q (ff_len p) = 0 := by
        unfold pr_ni
        rw [hz.2]
        split <;> rfl
      refine kidEntry 0 _ Nf (L ++ pr_fx g w p a q) xt1 wn1 ws1 (by rw [hz.1]; rfl) (by rw [hz.2]) (by omega) (by omega) (by omega) (by rw [List.append_assoc]; exact hL) hxt1 hwn1 (by rw [hws1, hn0]) ?_
      intro xt2 wn2 ws2 hxt2 hwn2 hws2 hkeep2
      rw [List.append_assoc] at hxt2 ⊢
      have h9 := hp xt2 wn2 ws2 hxt2 hwn2 (by rw [hws2]; congr 1; omega) (fun j hj => ⟨(hkeep2 j hj).1.trans (hkeep1 j hj).1, (hkeep2 j hj).2.trans (hkeep1 j hj).2⟩)
      rw [show turn + (pr_ni g q (ff_len p + 1) + (pr_cs g p + pr_cs g k + (pr_ic g e + 1))) = turn + (pr_ni g q (ff_len p) + pr_cs g p) + (1 + (pr_cs g k + (pr_ic g e + 1))) by omega] at h9
      exact h9
    · obtain ⟨np1, np2, np3, np4⟩ := pr_ni_p (g := g) (q := q) (c := ff_len p) hz
      have hsx : pr_sx g q (ff_len p) = [gt_PT g q (gt_s g q (ff_len p) - 1)] := by unfold pr_sx; rw [if_neg hz]
      rw [if_neg hz] at hni
      rw [hsx] at hL hp
      have hni6 : pr_ni g q (ff_len p) ≤ 6 := by
        unfold pr_ni
        split <;> omega
      rw [show Nf + (pr_ni g q (ff_len p + 1) + (pr_cs g p + pr_cs g k + (pr_ic g e + 1))) = ((Nf + (1 + (pr_cs g k + (pr_ic g e + 1)))) + 1) + (pr_ni g q (ff_len p) + pr_cs g p) by omega]
      refine ihp a hw.1 l1 t1 (by omega) q x d turn _ L xt wn ws hq ht (fun c y hc => hkd c y (by show (pr_rt p a ++ [_])[c]? = _; rw [List.getElem?_append_left (List.getElem?_eq_some_iff.mp hc).1]; exact hc)) (by omega) (by omega) hxd (by omega) hL0 hxt hwn hws ?_
      intro xt1 wn1 ws1 hxt1 hwn1 hws1 hkeep1
      have hqk : ∃ kk, ff_we g (.inr q) kk := by
        have mkf : ∀ c, ∃ F : ff_F, ff_len F = c := by
          intro c
          induction c with
          | zero => exact ⟨.leaf, rfl⟩
          | succ c ih =>
            obtain ⟨F, hF⟩ := ih
            exact ⟨.inner 0 (.inl 0) () F .leaf, by show ff_len F + 1 = _; rw [hF]⟩
        obtain ⟨F, hF⟩ := mkf (gt_ar g q)
        exact ⟨F, hq, hF⟩
      obtain ⟨kk, hkk⟩ := hqk
      have hL3 : ((L ++ pr_fx g w p a q) ++ [gt_PT g q (gt_s g q (ff_len p) - 1)]).length ≤ lim := by
        simp only [List.length_append] at hL ⊢
        omega
      have hL4 : (L ++ pr_fx g w p a q).length < lim := by
        rw [List.length_append (as := L ++ pr_fx g w p a q), List.length_singleton] at hL3
        omega
      refine xw_turn (it := pr_ic g (.inr q)) (s := pr_ni g q (ff_len p)) (e := .inr q) (k := kk) H (by omega) (by omega) hwn1 hws1 hkk ht rfl (by show _ < gt_PC g q + gt_ar g q; omega) (by show gt_PC g q + gt_ar g q < 100; omega) (by omega) ?_
      refine xw_item H (by omega) ht hq (by omega) (Or.inl (by omega)) (Or.inr np1) ?_ (fun z => absurd z np1)
      intro _
      rw [np2]
      refine xw_app hL4 hlim hxt1 ?_
      intro xt2 hxt2
      refine nm_r (nI_1 _) ?_
      refine kidEntry (pr_ni g q (ff_len p) + 1) _ Nf ((L ++ pr_fx g w p a q) ++ [gt_PT g q (gt_s g q (ff_len p) - 1)]) xt2 wn1 _ np3 np4 (by omega) (by omega) (by omega) (by simp only [List.append_assoc] at hL ⊢; exact hL) hxt2 hwn1 pk_us ?_
      intro xt3 wn3 ws3 hxt3 hwn3 hws3 hkeep3
      have eL : ((L ++ pr_fx g w p a q) ++ [gt_PT g q (gt_s g q (ff_len p) - 1)]) ++ (pr_op w (a + ff_sz p + ff_sz k) ++ (pr_bd g w e k (a + ff_sz p) ++ pr_cl w (a + ff_sz p + ff_sz k))) = L ++ (pr_fx g w p a q ++ ([gt_PT g q (gt_s g q (ff_len p) - 1)] ++ (pr_op w (a + ff_sz p + ff_sz k) ++ (pr_bd g w e k (a + ff_sz p) ++ pr_cl w (a + ff_sz p + ff_sz k))))) := by simp only [List.append_assoc]
      rw [eL] at hxt3 ⊢
      have h9 := hp xt3 wn3 ws3 hxt3 hwn3 (by rw [hws3]; congr 1; omega) (fun j hj => by
        obtain ⟨z1, z2⟩ := hkeep3 j hj
        rw [z1, z2, pk_un (by omega)]
        exact hkeep1 j hj)
      rw [show turn + (pr_ni g q (ff_len p + 1) + (pr_cs g p + pr_cs g k + (pr_ic g e + 1))) = turn + (pr_ni g q (ff_len p) + pr_cs g p) + 1 + (1 + (pr_cs g k + (pr_ic g e + 1))) by omega] at h9
      exact h9
end
end
section
section
variable {g : gt_T} {n N base lim : Nat} {post : SX → Prop} {post2 : Int32 → SX → Prop} {w : Nat → Bool}
variable {f_opLimit f_nodeLimit f_levelLimit f_textLimit f_nodeTotal f_treeTotal f_depth f_wanting f_clashing f_outLen f_treeBase f_treeNodes f_workDepth : Int32} {a_opener a_joiner a_inner a_text a_nodeList a_frameOp a_frameNext a_out a_partner a_openAt a_treeOp a_parent a_slot a_kid a_wrapped a_workNode a_workStep : Nat → Int32}
/-- a whole tree, from its entry on -/
theorem xw_wrT (H : gt_ok g) (hN : base + N ≤ 32) (hlim : lim ≤ 128) (haw : pr_aw a_wrapped w N) {e : Int32 ⊕ Nat} {k : ff_F} {b x : Nat} (hx : b + ff_sz k = x) (hwk : ff_wf g k) (hwe : ff_we g e k) (l2 : pr_lk a_treeOp a_parent a_slot a_kid k b) (l3 : a_treeOp x = pr_oc e) (l4 : ∀ c y, (pr_rt k b)[c]? = some y → a_kid (3 * x + c) = nI y) (t2 : ff_at a_nodeList (base + b) k) (t3 : a_nodeList (base + x) = ff_ent e)
    {d turn Nf : Nat} {L : List Int32} (hyd : x + d < N) (htn : turn + (pr_cs g k + (pr_ic g e + 1)) ≤ 291) (hL : (L ++ (pr_bd g w e k b ++ pr_cl w x)).length ≤ lim) (hxt : mt_aO a_text L) (hwn : a_workNode d = nI x) (hws : a_workStep d = nI 0)
    (hp : ∀ xt' wn' ws' : Nat → Int32, mt_aO xt' (L ++ (pr_bd g w e k b ++ pr_cl w x)) → wX_writeTree_22 post Nf (nI (turn + (pr_cs g k + (pr_ic g e + 1)))) f_opLimit f_nodeLimit f_levelLimit (nI (gt_l g)) (nI lim) (nI (gt_n g)) (nI (L ++ (pr_bd g w e k b ++ pr_cl w x)).length) f_nodeTotal f_treeTotal f_depth f_wanting f_clashing f_outLen (nI base) f_treeNodes (nI d) (gt_k g) (gt_p g) (gt_a g) (gt_c g) (gt_t g) a_opener a_joiner a_inner xt' a_nodeList a_frameOp a_frameNext a_out a_partner a_openAt a_treeOp a_parent a_slot a_kid a_wrapped wn' ws') :
    wX_writeTree_22 post (Nf + (pr_cs g k + (pr_ic g e + 1))) (nI turn) f_opLimit f_nodeLimit f_levelLimit (nI (gt_l g)) (nI lim) (nI (gt_n g)) (nI L.length) f_nodeTotal f_treeTotal f_depth f_wanting f_clashing f_outLen (nI base) f_treeNodes (nI (d + 1)) (gt_k g) (gt_p g) (gt_a g) (gt_c g) (gt_t g) a_opener a_joiner a_inner a_text a_nodeList a_frameOp a_frameNext a_out a_partner a_openAt a_treeOp a_parent a_slot a_kid a_wrapped a_workNode a_workStep := by
  have hn12 := H.1
  have hwy := haw x (by omega)
  match e, hwe, l3, hL, hp, htn, t3 with
  | .inl t, hwe, l3, hL, hp, htn, t3 =>
    have ek := ff_lf_leaf hwe.2
    subst ek
    have hcc : pr_cs g (.leaf : ff_F) + (pr_ic g (.inl t) + 1) = 2 := rfl
    rw [hcc] at hp htn ⊢
    rw [pr_bd_a] at hL hp
    have hL1 : (L ++ [t]).length ≤ lim := by
      rw [← List.append_assoc, List.length_append] at hL
      omega
    have hL2 : L.length < lim := by rw [List.length_append, List.length_singleton] at hL1; omega
    refine xw_turn (it := 1) (s := 0) (e := .inl t) (k := .leaf) (Nf := Nf + 1) H (by omega) (by omega) hwn hws hwe l3 rfl (by decide) (by decide) (by omega) ?_
    unfold wpX_writeItem
    dsimp only
    rw [nI_clamp (n := x) (by omega), l3, nI_add, nI_clamp (n := base + x) (by omega), show a_nodeList (base + x) = t from t3]
    refine ⟨vp_in_nI (by omega) (by decide), nm_e (br_f (by show ¬ (0 : Int32) ≤ -1; decide) ⟨vp_in_nI (by omega) (by decide), xw_app (L := L) (t := t) hL2 hlim hxt ?_⟩)⟩
    intro xt' hxt'
    refine nm_r (nI_1 turn) ?_
    refine xw_pop (w := w) (x := x) (it := 1) (e := .inl t) (k := .leaf) H (by omega) (by omega) hwn pk_us hwe l3 rfl (by decide) (by omega) hwy (by rw [List.append_assoc]; exact hL) hlim hxt' ?_
    intro xt2 hxt2
    rw [List.append_assoc] at hxt2 ⊢
    exact hp xt2 _ _ hxt2
  | .inr q', hwe, l3, hL, hp, htn, t3 =>
    have hq' : q' < gt_n g := hwe.1
    have hlk' : ff_len k = gt_ar g q' := hwe.2
    have hice : pr_ic g (.inr q') = gt_PC g q' + gt_ar g q' := rfl
    have hnie := pr_ni_e H hq'
    have h4' := gt_pc4 H hq'
    have har3' := gt_ar3 H hq'
    rw [pr_bd_o] at hL hp
    have hL1 : (L ++ pr_fx g w k b q').length ≤ lim := by
      simp only [List.length_append] at hL ⊢
      omega
    have fuel : Nf + (pr_cs g k + (pr_ic g (.inr q') + 1)) = (Nf + 1 + (if gt_RO g q' = true then 0 else 1)) + (pr_ni g q' (ff_len k) + pr_cs g k) := by
      rw [hice, hnie, hlk']
      omega
    rw [fuel]
    refine xw_wrK (w := w) H hN hlim haw k b hwk l2 t2 (by omega) q' x d turn _ L a_text a_workNode a_workStep hq' l3 l4 (Nat.le_of_eq hlk') (by omega) hyd (by rw [hice, hnie, ← hlk'] at htn; omega) hL1 hxt hwn hws ?_
    intro xt' wn' ws' hxt' hwn' hws' hkeep
    by_cases hr : gt_RO g q' = true
    · rw [if_pos hr] at hnie hL hp ⊢
      rw [List.append_nil] at hL hp
      refine xw_pop (w := w) (x := x) (it := pr_ic g (.inr q')) (e := .inr q') (k := k) H (by omega) (by omega) hwn' (by rw [hws', hice, hnie, hlk']; rfl) hwe l3 rfl (by rw [hice]; omega) (by rw [hlk']; rw [hice] at htn; omega) hwy (by rw [List.append_assoc]; exact hL) hlim hxt' ?_
      intro xt2 hxt2
      rw [List.append_assoc] at hxt2 ⊢
      have h9 := hp xt2 wn' ws' hxt2
      rw [show turn + (pr_cs g k + (pr_ic g (.inr q') + 1)) = turn + (pr_ni g q' (ff_len k) + pr_cs g k) + 1 by rw [hice, hnie, hlk']; omega] at h9
      exact h9
    · rw [if_neg hr] at hnie hL hp ⊢
      have hr' : gt_RO g q' = false := by
        cases h : gt_RO g q' with
        | false => rfl
        | true => exact absurd h hr
      have hsPC := gt_npush H hq' hr' hlk'
      have hnz : ¬ (gt_LO g q' = true ∧ ff_len k = 0) := by
        rintro ⟨z1, z2⟩
        unfold gt_s at hsPC
        rw [if_pos z1, z2] at hsPC
        omega
      obtain ⟨np1, np2, _, _⟩ := pr_ni_p (g := g) (q := q') (c := ff_len k) hnz
      have hsx : pr_sx g q' (ff_len k) = [gt_PT g q' (gt_s g q' (ff_len k) - 1)] := by
        unfold pr_sx
        rw [if_neg hnz]
      rw [hsx] at hL hp
      have hni6 : pr_ni g q' (ff_len k) ≤ 6 := by
        unfold pr_ni
        split <;> omega
      have hL3 : ((L ++ pr_fx g w k b q') ++ [gt_PT g q' (gt_s g q' (ff_len k) - 1)]).length ≤ lim := by
        simp only [List.length_append] at hL ⊢
        omega
      have hL4 : (L ++ pr_fx g w k b q').length < lim := by
        rw [List.length_append (as := L ++ pr_fx g w k b q'), List.length_singleton] at hL3
        omega
      have htn2 : turn + (pr_ni g q' (ff_len k) + pr_cs g k) + 1 < 300 := by
        rw [hlk']
        rw [hice] at htn
        omega
      refine xw_turn (it := pr_ic g (.inr q')) (s := pr_ni g q' (ff_len k)) (e := .inr q') (k := k) (Nf := Nf + 1) H (by omega) (by omega) hwn' hws' hwe l3 rfl (by rw [hice, hnie, hlk']; omega) (by rw [hice]; omega) (by omega) ?_
      refine xw_item H (by omega) l3 hq' (by omega) (Or.inl (by omega)) (Or.inr np1) ?_ (fun z => absurd z np1)
      intro _
      rw [np2]
      refine xw_app hL4 hlim hxt' ?_
      intro xt2 hxt2
      refine nm_r (nI_1 _) ?_
      refine xw_pop (w := w) (x := x) (it := pr_ic g (.inr q')) (e := .inr q') (k := k) H (by omega) (by omega) hwn' (by rw [pk_us, hice, hnie, hlk']) hwe l3 rfl (by rw [hice]; omega) (by omega) hwy (by simp only [List.append_assoc] at hL ⊢; exact hL) hlim hxt2 ?_
      intro xt3 hxt3
      have eL : (L ++ pr_fx g w k b q' ++ [gt_PT g q' (gt_s g q' (ff_len k) - 1)]) ++ pr_cl w x = L ++ (pr_fx g w k b q' ++ [gt_PT g q' (gt_s g q' (ff_len k) - 1)] ++ pr_cl w x) := by simp only [List.append_assoc]
      rw [eL] at hxt3 ⊢
      have h9 := hp xt3 wn' (upd ws' d (nI (pr_ni g q' (ff_len k) + 1))) hxt3
      rw [show turn + (pr_cs g k + (pr_ic g (.inr q') + 1)) = turn + (pr_ni g q' (ff_len k) + pr_cs g k) + 1 + 1 by rw [hice, hnie, hlk']; omega] at h9
      exact h9
theorem pr_tx_in {m : Nat} {e : Int32 ⊕ Nat} {u : Unit} {k : ff_F} : pr_tx g w (.inner m e u .leaf k) = pr_op w (ff_sz k) ++ (pr_bd g w e k 0 ++ pr_cl w (ff_sz k)) := by
  have z1 : 0 + ff_sz (.leaf : ff_F) + ff_sz k = ff_sz k := by show 0 + 0 + ff_sz k = _; omega
  show (ff_N g (cond (w (0 + ff_sz (.leaf : ff_F) + ff_sz k)) 1 0) e (pr_mk w k (0 + ff_sz (.leaf : ff_F)))).map Prod.fst = _
  rw [z1]
  exact pr_N_tx
theorem xw_write (H : gt_ok g) (hN : base + N ≤ 32) (hlim : lim ≤ 128) (haw : pr_aw a_wrapped w N) {m : Nat} {e : Int32 ⊕ Nat} {u : Unit} {k : ff_F} (hNk : N = ff_sz k + 1) (hw : ff_wf g (.inner m e u .leaf k)) (hlk : pr_lk a_treeOp a_parent a_slot a_kid (.inner m e u .leaf k) 0) (hat : ff_at a_nodeList base (.inner m e u .leaf k)) (hL : (pr_tx g w (.inner m e u .leaf k)).length ≤ lim)
    (hp : ∀ (xt wn ws : Nat → Int32), mt_aO xt (pr_tx g w (.inner m e u .leaf k)) → post (f_opLimit, f_nodeLimit, f_levelLimit, nI (gt_l g), nI lim, nI (gt_n g), nI (pr_tx g w (.inner m e u .leaf k)).length, f_nodeTotal, f_treeTotal, f_depth, f_wanting, f_clashing, f_outLen, nI base, nI N, nI 0, gt_k g, gt_p g, gt_a g, gt_c g, gt_t g, a_opener, a_joiner, a_inner, xt, a_nodeList, a_frameOp, a_frameNext, a_out, a_partner, a_openAt, a_treeOp, a_parent, a_slot, a_kid, a_wrapped, wn, ws)) : wpX_writeTree post (f_opLimit, f_nodeLimit, f_levelLimit, nI (gt_l g), nI lim, nI (gt_n g), nI n, f_nodeTotal, f_treeTotal, f_depth, f_wanting, f_clashing, f_outLen, nI base, nI N, f_workDepth, gt_k g, gt_p g, gt_a g, gt_c g, gt_t g, a_opener, a_joiner, a_inner, a_text, a_nodeList, a_frameOp, a_frameNext, a_out, a_partner, a_openAt, a_treeOp, a_parent, a_slot, a_kid, a_wrapped, a_workNode, a_workStep) := by
  obtain ⟨_, l2, l3, l4⟩ := hlk
  have z0 : 0 + ff_sz (.leaf : ff_F) = 0 := rfl
  have z1 : 0 + ff_sz (.leaf : ff_F) + ff_sz k = ff_sz k := by rw [z0, Nat.zero_add]
  rw [z0] at l2
  rw [z1] at l3
  rw [z1, z0] at l4
  obtain ⟨_, t2, t3⟩ := ff_at_in hat
  have t2' : ff_at a_nodeList (base + 0) k := t2
  have t3' : a_nodeList (base + ff_sz k) = ff_ent e := t3
  have hcs := pr_cs_le H k hw.2.1
  have hic : pr_ic g e ≤ 7 := by
    match e, hw with
    | .inl t, _ =>
      show 1 ≤ 7
      decide
    | .inr q, hw =>
      have hq : q < gt_n g := hw.2.2.1
      show gt_PC g q + gt_ar g q ≤ 7
      rcases gt_cs H hq with h | h | h | h <;> omega
  rw [pr_tx_in] at hL hp
  unfold wpX_writeTree
  dsimp only
  rw [show nI N - 1 = nI (ff_sz k) by rw [hNk, nI_pred]]
  have hL1 : (([] : List Int32) ++ pr_op w (ff_sz k)).length ≤ lim := by
    simp only [List.length_append] at hL ⊢
    simp only [List.length_nil]
    omega
  refine xw_enter (w := w) (L := []) (d := 0) (y := ff_sz k) (by decide) (by omega) (haw _ (by omega)) hL1 hlim (fun j x h => by simp at h) ?_
  intro xt hxt
  rw [List.nil_append] at hxt ⊢
  refine ⟨1 + (pr_cs g k + (pr_ic g e + 1)), ?_⟩
  dsimp only
  refine xw_wrT (w := w) (e := e) (k := k) (b := 0) (x := ff_sz k) (d := 0) (turn := 0) (L := pr_op w (ff_sz k)) H hN hlim haw (Nat.zero_add _) hw.2.1 hw.2.2 l2 l3 (fun c y h => (l4 c y h).1) t2' t3' (by omega) (by omega) hL hxt pk_us pk_us ?_
  intro xt' wn' ws' hxt'
  rw [wX_writeTree_22]
  have hfin := hp xt' wn' ws' hxt'
  exact br_c (fun _ => hfin) (fun _ => br_t (by decide) hfin)
theorem xw_cnt_l (hN : N ≤ 32) (haw : pr_aw a_wrapped w N) (hp : post2 (nI (pr_bs w 0 N)) (f_opLimit, f_nodeLimit, f_levelLimit, nI (gt_l g), f_textLimit, nI (gt_n g), nI n, f_nodeTotal, f_treeTotal, f_depth, f_wanting, f_clashing, f_outLen, f_treeBase, nI N, f_workDepth, gt_k g, gt_p g, gt_a g, gt_c g, gt_t g, a_opener, a_joiner, a_inner, a_text, a_nodeList, a_frameOp, a_frameNext, a_out, a_partner, a_openAt, a_treeOp, a_parent, a_slot, a_kid, a_wrapped, a_workNode, a_workStep)) : ∀ (d i Nf : Nat), i + d = N → d < Nf → wX_print_48 post2 f_opLimit f_nodeLimit f_levelLimit (nI (gt_l g)) f_textLimit (nI (gt_n g)) (nI n) f_nodeTotal f_treeTotal f_depth f_wanting f_clashing f_outLen f_treeBase (nI N) f_workDepth (gt_k g) (gt_p g) (gt_a g) (gt_c g) (gt_t g) a_opener a_joiner a_inner a_text a_nodeList a_frameOp a_frameNext a_out a_partner a_openAt a_treeOp a_parent a_slot a_kid a_wrapped a_workNode a_workStep Nf (nI (pr_bs w 0 i)) (nI i) := by
  intro d
  induction d with
  | zero =>
    intro i Nf hi hNf
    obtain ⟨Nf, rfl⟩ : ∃ k, Nf = k + 1 := ⟨Nf - 1, by omega⟩
    have ei : i = N := hi
    subst ei
    rw [wX_print_48]
    exact br_t (nI_le (Nat.le_refl _) (by omega)) hp
  | succ d ih =>
    intro i Nf hi hNf
    obtain ⟨Nf, rfl⟩ : ∃ k, Nf = k + 1 := ⟨Nf - 1, by omega⟩
    have h9 := ih (i + 1) Nf (by omega) (by omega)
    have hb : pr_bs w 0 (i + 1) = pr_bs w 0 i + cond (w i) 1 0 := by
      show pr_bs w 0 i + cond (w (0 + i)) 1 0 = _
      rw [Nat.zero_add]
    rw [hb] at h9
    rw [wX_print_48]
    refine br_f (nI_ge (by omega) (by omega)) ⟨vp_in_nI (by omega) (by decide), ?_⟩
    rw [nI_clamp (n := i) (by omega), haw i (by omega)]
    cases hw : w i with
    | false =>
      rw [hw] at h9
      exact br_t rfl (nm_r (nI_1 i) h9)
    | true =>
      rw [hw] at h9
      exact br_f (by decide) (nm_r (nI_1 _) (nm_r (nI_1 i) h9))
end
/-- all but the root wrapped: valid -/
theorem pr_w1 {g : gt_T} {w : Nat → Bool} : ∀ (F : ff_F) (a : Nat), (∀ x, a ≤ x → x < a + ff_sz F → w x = true) → ff_ok g (pr_mk w F a) ∧ ff_rF g (pr_mk w F a) = [] ∧ ff_lL g (pr_mk w F a) = [] := by
  intro F
  induction F with
  | leaf => intro a _; exact ⟨trivial, rfl, rfl⟩
  | inner m e u p k ihp ihk =>
    intro a h
    have hs : ff_sz (.inner m e u p k) = ff_sz p + ff_sz k + 1 := rfl
    rw [hs] at h
    obtain ⟨p1, p2, p3⟩ := ihp a (fun x h1 h2 => h x h1 (by omega))
    obtain ⟨k1, k2, k3⟩ := ihk (a + ff_sz p) (fun x h1 h2 => h x (by omega) (by omega))
    have hx := h (a + ff_sz p + ff_sz k) (by omega) (by omega)
    have hr : ∀ L, ff_rN g (cond (w (a + ff_sz p + ff_sz k)) 1 0) e L = [] := by
      intro L
      rw [hx]
      cases e <;> rfl
    have hl : ∀ L, ff_lN g (cond (w (a + ff_sz p + ff_sz k)) 1 0) e L = [] := by
      intro L
      rw [hx]
      cases e <;> rfl
    refine ⟨⟨p1, k1, ?_⟩, ?_, hl _⟩
    · match e with
      | .inl t => trivial
      | .inr q =>
        refine ⟨fun _ r hr => ?_, fun _ r hr => ?_⟩
        · rw [k2] at hr; cases hr
        · rw [k3] at hr; cases hr
    · show (if ff_lf (pr_mk w p a) = true then ff_rN g _ e _ else ff_rF g (pr_mk w p a)) = []
      split
      · exact hr _
      · exact p2
def pr_w0 (N : Nat) : Nat → Bool := fun x => decide (x + 1 < N)
theorem pr_w0_ok {g : gt_T} {m : Nat} {e : Int32 ⊕ Nat} {u : Unit} {k : ff_F} : ff_ok g (pr_mk (pr_w0 (ff_sz k + 1)) (.inner m e u .leaf k) 0) := by
  obtain ⟨k1, k2, k3⟩ := pr_w1 (g := g) (w := pr_w0 (ff_sz k + 1)) k (0 + ff_sz (.leaf : ff_F)) (by
    intro x h1 h2
    have h3 : x < 0 + 0 + ff_sz k := h2
    exact decide_eq_true (by omega))
  refine ⟨trivial, k1, ?_⟩
  match e with
  | .inl t => trivial
  | .inr q =>
    refine ⟨fun _ r hr => ?_, fun _ r hr => ?_⟩
    · rw [k2] at hr; cases hr
    · rw [k3] at hr; cases hr
/-- the order of trials of a style -/
def pr_ord (s : Int32) (k : ff_F) : List Nat := if s = 0 then pr_pre k 0 else List.range' 0 (ff_sz k)
noncomputable def pr_wf (g : gt_T) (s : Int32) (T : ff_F) (k : ff_F) : Nat → Bool := pr_trs g T (pr_w0 (ff_sz k + 1)) (pr_ord s k)
theorem pr_wf_r {g : gt_T} {s : Int32} {T k : ff_F} : pr_wf g s T k (ff_sz k) = false := pr_trs_0 _ _ (decide_eq_false (by omega))
section
variable {g : gt_T} {n : Nat} {post2 : Int32 → SX → Prop}
variable {f_opLimit f_nodeLimit f_levelLimit f_textLimit f_nodeTotal f_treeTotal f_depth f_wanting f_clashing f_outLen f_treeBase f_treeNodes f_workDepth : Int32} {a_opener a_joiner a_inner a_text a_nodeList a_frameOp a_frameNext a_out a_partner a_openAt a_treeOp a_parent a_slot a_kid a_wrapped a_workNode a_workStep : Nat → Int32}
theorem xw_print (H : gt_ok g) {nodeL : Nat} (hnL : nodeL ≤ 32) {m : Nat} {e : Int32 ⊕ Nat} {u : Unit} {p k : ff_F} (hw : ff_wf g (.inner m e u p k)) (hat : ff_at a_nodeList 0 (.inner m e u p k)) (hsz : ff_sz (.inner m e u p k) ≤ nodeL) {s : Int32} (hs : s = 0 ∨ s = 1)
    (hp : ∀ (tb tn wd : Int32) (xt tr pa sl kd aw wn ws : Nat → Int32), mt_aO xt (pr_tx g (pr_wf g s (.inner m e () .leaf k) k) (.inner m e () .leaf k)) → post2 (nI (pr_bs (pr_wf g s (.inner m e () .leaf k) k) 0 (ff_sz k + 1))) (f_opLimit, f_nodeLimit, f_levelLimit, nI (gt_l g), nI (4 * nodeL), nI (gt_n g), nI (pr_tx g (pr_wf g s (.inner m e () .leaf k) k) (.inner m e () .leaf k)).length, nI (ff_sz (.inner m e u p k)), nI (ff_len (.inner m e u p k)), f_depth, f_wanting, f_clashing, f_outLen, tb, tn, wd, gt_k g, gt_p g, gt_a g, gt_c g, gt_t g, a_opener, a_joiner, a_inner, xt, a_nodeList, a_frameOp, a_frameNext, a_out, a_partner, a_openAt, tr, pa, sl, kd, aw, wn, ws)) :
    wpX_print post2 (f_opLimit, f_nodeLimit, f_levelLimit, nI (gt_l g), nI (4 * nodeL), nI (gt_n g), nI n, nI (ff_sz (.inner m e u p k)), nI (ff_len (.inner m e u p k)), f_depth, f_wanting, f_clashing, f_outLen, f_treeBase, f_treeNodes, f_workDepth, gt_k g, gt_p g, gt_a g, gt_c g, gt_t g, a_opener, a_joiner, a_inner, a_text, a_nodeList, a_frameOp, a_frameNext, a_out, a_partner, a_openAt, a_treeOp, a_parent, a_slot, a_kid, a_wrapped, a_workNode, a_workStep) s := by
  obtain ⟨t1, t2, t3, t4⟩ := ff_top hw hat
  have hsz0 : ff_sz (.inner m e () .leaf k) = ff_sz k + 1 := by show 0 + ff_sz k + 1 = _; omega
  have hlp := ff_len_sz (.inner m e u p k)
  have hl1 : ff_len (.inner m e u p k) = ff_len p + 1 := rfl
  have p11 : wX_print_11 post2 s f_opLimit f_nodeLimit f_levelLimit (nI (gt_l g)) (nI (4 * nodeL)) (nI (gt_n g)) (nI n) (nI (ff_sz (.inner m e u p k))) (nI (ff_len (.inner m e u p k))) f_depth f_wanting f_clashing f_outLen f_treeBase f_treeNodes f_workDepth (gt_k g) (gt_p g) (gt_a g) (gt_c g) (gt_t g) a_opener a_joiner a_inner a_text a_nodeList a_frameOp a_frameNext a_out a_partner a_openAt a_treeOp a_parent a_slot a_kid a_wrapped a_workNode a_workStep := by
    unfold wX_print_11
    refine br_f (nI_ne0 (by omega) (by omega)) ?_
    unfold wpX_loadTopTree
    refine xw_size H t1 t2 t3 t4 (by omega) rfl ?_
    refine nm_r (e' := nI (ff_sz p)) (by rw [pk_sub (by omega), t4, Nat.add_sub_cancel]) ⟨1 + ff_sz (.inner m e () .leaf k), ?_⟩
    refine xw_load_l (base := ff_sz p) (N := ff_sz (.inner m e () .leaf k)) H (by omega) (.inner m e () .leaf k) 0 1 [] a_treeOp a_parent a_slot a_kid a_wrapped a_workNode t2 t3 (by omega) (Nat.le_refl _) (fun j y h => by simp at h) ?_
    intro tr pa sl kd wr wn lk rp _ _ wrd _
    rw [Nat.zero_add]
    rw [wX_loadTopTree_34]
    refine br_t (nI_le (Nat.le_refl _) (by omega)) ?_
    rw [hsz0]
    have hroot : pa (ff_sz k) = -1 := by
      refine rp (ff_sz k) ?_
      show ff_sz k ∈ [] ++ [0 + ff_sz (.leaf : ff_F) + ff_sz k]
      rw [List.nil_append, List.mem_singleton]
      show ff_sz k = 0 + 0 + ff_sz k
      omega
    have haw0 : pr_aw wr (pr_w0 (ff_sz k + 1)) (ff_sz k + 1) := by
      intro x hx
      rw [wrd x (Nat.zero_le _) (by rw [hsz0]; omega), hsz0]
      rfl
    have fin40 : ∀ (wd : Int32) (aw wn : Nat → Int32), pr_aw aw (pr_wf g s (.inner m e () .leaf k) k) (ff_sz k + 1) → wX_print_40 post2 f_opLimit f_nodeLimit f_levelLimit (nI (gt_l g)) (nI (4 * nodeL)) (nI (gt_n g)) (nI n) (nI (ff_sz (.inner m e u p k))) (nI (ff_len (.inner m e u p k))) f_depth f_wanting f_clashing f_outLen (nI (ff_sz p)) (nI (ff_sz k + 1)) wd (gt_k g) (gt_p g) (gt_a g) (gt_c g) (gt_t g) a_opener a_joiner a_inner a_text a_nodeList a_frameOp a_frameNext a_out a_partner a_openAt tr pa sl kd aw wn a_workStep := by
      intro wd aw wn haw
      have hlen := (pr_tx_all H t1 t2 (w := pr_wf g s (.inner m e () .leaf k) k) (by rw [hsz0, Nat.add_sub_cancel]; exact pr_wf_r)).2.2.2.1
      unfold wX_print_40
      refine xw_write (w := pr_wf g s (.inner m e () .leaf k) k) (N := ff_sz k + 1) (base := ff_sz p) (lim := 4 * nodeL) H (by omega) (by omega) haw rfl t2 lk t3 (by omega) ?_
      intro xt wn2 ws2 hxt
      exact ⟨ff_sz k + 1 + 1, xw_cnt_l (w := pr_wf g s (.inner m e () .leaf k) k) (N := ff_sz k + 1) (by omega) haw (hp _ _ _ _ _ _ _ _ _ _ _ hxt) (ff_sz k + 1) 0 _ (by omega) (Nat.lt_succ_self _)⟩
    rcases hs with e0 | e1
    · subst e0
      refine br_t rfl (xw_tout (m := m) (e := e) (u := ()) (k := k) (w := pr_w0 (ff_sz k + 1)) H t2 lk hroot rfl (by omega) haw0 pr_w0_ok (fun y hy => decide_eq_true (by omega)) ?_)
      intro wd aw wn2 haw _
      exact fin40 wd aw wn2 haw
    · subst e1
      refine br_f (by decide) ⟨ff_sz k + 1, ?_⟩
      refine xw_tin_l (T := .inner m e () .leaf k) (N := ff_sz k + 1) H t1 t2 lk (by rw [hsz0, Nat.add_sub_cancel]; exact hroot) hsz0.symm (by omega) (ff_sz k) 0 (ff_sz k + 1) (pr_w0 (ff_sz k + 1)) wr (by omega) (Nat.lt_succ_self _) haw0 pr_w0_ok (fun y _ hy => decide_eq_true (by omega)) ?_
      intro aw haw _
      exact fin40 _ aw _ haw
  unfold wpX_print
  rcases hs with e0 | e1
  · subst e0
    exact br_t rfl p11
  · subst e1
    exact br_f (by decide) (br_t rfl p11)
end
end
section
/-! the reference's write -/
theorem mt_aO_pre {f : Nat → Int32} {A B : List Int32} (h : mt_aO f (A ++ B)) : mt_aO f A := by
  intro j x hj
  refine h j x ?_
  have hl : j < A.length := by
    rcases Nat.lt_or_ge j A.length with z | z
    · exact z
    · rw [List.getElem?_eq_none z] at hj; cases hj
  rw [List.getElem?_append_left hl]
  exact hj
theorem mt_aO_last {f : Nat → Int32} {A : List Int32} {t : Int32} (h : mt_aO f (A ++ [t])) : f A.length = t := by
  refine h A.length t ?_
  rw [List.getElem?_append_right (Nat.le_refl _), Nat.sub_self]
  rfl
theorem ff_at_one {l : Nat → Int32} {a m : Nat} {e : Int32 ⊕ Nat} {u : Unit} {p k : ff_F} (h : ff_at l a (.inner m e u p k)) : ff_at l (a + ff_sz p) (.inner m e () .leaf k) := by
  intro j x hj
  have hj' : (ff_post k ++ [ff_ent e])[j]? = some x := hj
  have := h (ff_sz p + j) x (by
    show (ff_post p ++ (ff_post k ++ [ff_ent e]))[ff_sz p + j]? = some x
    rw [List.getElem?_append_right (by rw [ff_post_len]; omega), ff_post_len, Nat.add_sub_cancel_left]
    exact hj')
  rw [Nat.add_assoc]
  exact this
def yp_it (g : gt_T) (base q : Nat) : ff_F → Nat → List Int32
  | .leaf, _ => []
  | .inner _ _ _ p k, a => yp_it g base q p a ++ (pr_sx g q (ff_len p) ++ [nI (1000 + (base + (a + ff_sz p + ff_sz k)))])
def yp_tr (g : gt_T) (q c : Nat) : List Int32 := if gt_RO g q = true then [] else pr_sx g q c
def yp_bd (g : gt_T) (base : Nat) (e : Int32 ⊕ Nat) (k : ff_F) (b : Nat) : List Int32 := match e with
  | .inl t => [t]
  | .inr q => yp_it g base q k b ++ yp_tr g q (ff_len k)
theorem pr_sx_rev {g : gt_T} {q c : Nat} : (pr_sx g q c).reverse = pr_sx g q c := by
  unfold pr_sx
  split <;> rfl
theorem pr_op_rev {w : Nat → Bool} {x : Nat} : (pr_op w x).reverse = pr_op w x := by
  unfold pr_op
  cases w x <;> rfl
theorem pr_cl_rev {w : Nat → Bool} {x : Nat} : (pr_cl w x).reverse = pr_cl w x := by
  unfold pr_cl
  cases w x <;> rfl
theorem yp_tr_rev {g : gt_T} {q c : Nat} : (yp_tr g q c).reverse = yp_tr g q c := by
  unfold yp_tr
  split
  · rfl
  · exact pr_sx_rev
section
variable {g : gt_T} {n base : Nat} {post : SY → Prop} {w : Nat → Bool}
variable {f_maxOps f_maxNodes f_maxLevels f_maxNames f_listLen : Int32} {a_text a_list a_leadOp a_follow a_groupAt a_groupOp a_groupNext a_rootOf a_found a_fromAt a_toAt a_work a_mark a_order : Nat → Int32}
theorem yw_sp (H : gt_ok g) {q s Nf Nf0 : Nat} {x2 x4 x6 : Int32} {R : List Int32} (hq : q < gt_n g) (hs : s < 100) (h48 : 4 * q + s / 2 < 48) (hne : ¬ (decide (s % 2 = 0) = gt_LO g q)) (hR : R.length < 256) (hwk : mt_aO a_work R)
    (hp : ∀ wk : Nat → Int32, mt_aO wk (R ++ [gt_PT g q (s / 2)]) → wY_write_173 post (wY_write_25 post f_maxOps f_maxNodes f_maxLevels f_maxNames (nI (gt_n g)) f_listLen Nf0) x2 x4 (nI q) f_maxOps f_maxNodes f_maxLevels f_maxNames (nI (gt_n g)) (nI n) f_listLen Nf (nI (R ++ [gt_PT g q (s / 2)]).length) x6 (nI s - 1) (gt_k g) (gt_p g) (gt_a g) (gt_c g) (gt_t g) a_text a_list a_leadOp a_follow a_groupAt a_groupOp a_groupNext a_rootOf a_found a_fromAt a_toAt wk a_mark a_order) :
    wY_write_173 post (wY_write_25 post f_maxOps f_maxNodes f_maxLevels f_maxNames (nI (gt_n g)) f_listLen Nf0) x2 x4 (nI q) f_maxOps f_maxNodes f_maxLevels f_maxNames (nI (gt_n g)) (nI n) f_listLen (Nf + 1) (nI R.length) x6 (nI s) (gt_k g) (gt_p g) (gt_a g) (gt_c g) (gt_t g) a_text a_list a_leadOp a_follow a_groupAt a_groupOp a_groupNext a_rootOf a_found a_fromAt a_toAt a_work a_mark a_order := by
  have e1 : nI s - nI s / 2 * 2 = nI (s % 2) := pk_rem (a := s) (d := 2) (by omega) (by decide) (by decide)
  have e2 : nI s / 2 = nI (s / 2) := pk_div (a := s) (d := 2) (by omega) (by decide) (by decide)
  have e3 : (4 : Int32) * nI q + nI (s / 2) = nI (4 * q + s / 2) := by rw [show (4 : Int32) * nI q = nI (4 * q) from pk_mul 4 q, nI_add]
  have h9 := hp _ (mt_aO_snoc hwk)
  rw [List.length_append, List.length_singleton] at h9
  have s197 : ∀ od : Bool, od = gt_LO g q → wY_write_197 post (wY_write_25 post f_maxOps f_maxNodes f_maxLevels f_maxNames (nI (gt_n g)) f_listLen Nf0) (wY_write_173 post (wY_write_25 post f_maxOps f_maxNodes f_maxLevels f_maxNames (nI (gt_n g)) f_listLen Nf0) x2 x4 (nI q) f_maxOps f_maxNodes f_maxLevels f_maxNames (nI (gt_n g)) (nI n) f_listLen Nf) (nI R.length) x2 x4 (nI q) x6 (nI s) (gt_b od) (gt_b (gt_LO g q)) f_maxOps f_maxNodes f_maxLevels f_maxNames (nI (gt_n g)) (nI n) f_listLen (gt_k g) (gt_p g) (gt_a g) (gt_c g) (gt_t g) a_text a_list a_leadOp a_follow a_groupAt a_groupOp a_groupNext a_rootOf a_found a_fromAt a_toAt a_work a_mark a_order := by
    intro od hod
    unfold wY_write_197
    refine br_t (by rw [hod]) ?_
    unfold wY_write_205
    rw [e2, e3, nI_clamp (n := 4 * q + s / 2) (by omega)]
    refine br_f (by decide) ⟨by decide, vp_in_nI h48 (by decide), ?_⟩
    unfold wY_write_240
    rw [nI_clamp (n := R.length) (by omega)]
    exact ⟨vp_in_nI hR (by decide), nm_e (nm_r (nI_1 _) (br_f (by decide) (nm_r (Int32.sub_eq_add_neg _ _).symm h9)))⟩
  rw [wY_write_173]
  refine br_f (Int32.not_lt.mpr (nI_pos' (by omega))) (yw_lo H hq ⟨by decide, ?_⟩)
  rw [e1]
  refine br_c (fun h => s197 true ?_) (fun h => s197 false ?_)
  · have : s % 2 = 1 := (nI_eq (a := s % 2) (b := 1) (by omega) (by omega)).mp h
    rw [decide_eq_false (by omega)] at hne
    cases hl : gt_LO g q with
    | true => rfl
    | false => exact absurd hl.symm hne
  · have : ¬ s % 2 = 1 := fun z => h (by rw [z]; rfl)
    rw [decide_eq_true (by omega)] at hne
    cases hl : gt_LO g q with
    | false => rfl
    | true => exact absurd hl.symm hne
theorem yw_so (H : gt_ok g) {q s Nf Nf0 a b : Nat} {x2 x4 : Int32} {R : List Int32} {T : ff_F} (h1 : ff_len T = 1) (hwT : ff_wf g T) (hat : ff_at a_list a T) (hb : b = a + ff_sz T) (hle : b ≤ 32) (hq : q < gt_n g) (hs : s < 100) (heq : decide (s % 2 = 0) = gt_LO g q) (hR : R.length < 256) (hwk : mt_aO a_work R)
    (hp : ∀ wk : Nat → Int32, mt_aO wk (R ++ [nI (1000 + (b - 1))]) → wY_write_173 post (wY_write_25 post f_maxOps f_maxNodes f_maxLevels f_maxNames (nI (gt_n g)) f_listLen Nf0) x2 x4 (nI q) f_maxOps f_maxNodes f_maxLevels f_maxNames (nI (gt_n g)) (nI n) f_listLen Nf (nI (R ++ [nI (1000 + (b - 1))]).length) (nI a - 1) (nI s - 1) (gt_k g) (gt_p g) (gt_a g) (gt_c g) (gt_t g) a_text a_list a_leadOp a_follow a_groupAt a_groupOp a_groupNext a_rootOf a_found a_fromAt a_toAt wk a_mark a_order) :
    wY_write_173 post (wY_write_25 post f_maxOps f_maxNodes f_maxLevels f_maxNames (nI (gt_n g)) f_listLen Nf0) x2 x4 (nI q) f_maxOps f_maxNodes f_maxLevels f_maxNames (nI (gt_n g)) (nI n) f_listLen (Nf + 1) (nI R.length) (nI b - 1) (nI s) (gt_k g) (gt_p g) (gt_a g) (gt_c g) (gt_t g) a_text a_list a_leadOp a_follow a_groupAt a_groupOp a_groupNext a_rootOf a_found a_fromAt a_toAt a_work a_mark a_order := by
  have hsz := (ff_C_sz H hwT h1).2
  have e1 : nI s - nI s / 2 * 2 = nI (s % 2) := pk_rem (a := s) (d := 2) (by omega) (by decide) (by decide)
  have e2 : (1000 : Int32) + (nI b - 1) = nI (1000 + (b - 1)) := by
    rw [show b = (b - 1) + 1 by omega, nI_pred]
    exact nI_add 1000 _
  have h9 := hp _ (mt_aO_snoc hwk)
  rw [List.length_append, List.length_singleton] at h9
  have s197 : ∀ od : Bool, od ≠ gt_LO g q → wY_write_197 post (wY_write_25 post f_maxOps f_maxNodes f_maxLevels f_maxNames (nI (gt_n g)) f_listLen Nf0) (wY_write_173 post (wY_write_25 post f_maxOps f_maxNodes f_maxLevels f_maxNames (nI (gt_n g)) f_listLen Nf0) x2 x4 (nI q) f_maxOps f_maxNodes f_maxLevels f_maxNames (nI (gt_n g)) (nI n) f_listLen Nf) (nI R.length) x2 x4 (nI q) (nI b - 1) (nI s) (gt_b od) (gt_b (gt_LO g q)) f_maxOps f_maxNodes f_maxLevels f_maxNames (nI (gt_n g)) (nI n) f_listLen (gt_k g) (gt_p g) (gt_a g) (gt_c g) (gt_t g) a_text a_list a_leadOp a_follow a_groupAt a_groupOp a_groupNext a_rootOf a_found a_fromAt a_toAt a_work a_mark a_order := by
    intro od hod
    unfold wY_write_197
    refine br_f (fun z => hod (gt_b_inj.mp z).symm) ?_
    unfold wY_write_205
    rw [e2]
    refine br_t rfl ?_
    unfold wY_write_240
    rw [nI_clamp (n := R.length) (by omega)]
    refine ⟨vp_in_nI hR (by decide), nm_e (nm_r (nI_1 _) (br_t rfl (yw_start H h1 hwT hat hb hle rfl (nm_e (nm_r (Int32.sub_eq_add_neg _ _).symm h9)))))⟩
  rw [wY_write_173]
  refine br_f (Int32.not_lt.mpr (nI_pos' (by omega))) (yw_lo H hq ⟨by decide, ?_⟩)
  rw [e1]
  refine br_c (fun h => s197 true ?_) (fun h => s197 false ?_)
  · have : s % 2 = 1 := (nI_eq (a := s % 2) (b := 1) (by omega) (by omega)).mp h
    rw [decide_eq_false (by omega)] at heq
    rw [← heq]
    decide
  · have : ¬ s % 2 = 1 := fun z => h (by rw [z]; rfl)
    rw [decide_eq_true (by omega)] at heq
    rw [← heq]
    decide
theorem yw_push (H : gt_ok g) {q Nf Nf0 : Nat} {x2 x4 : Int32} (hq : q < gt_n g) : ∀ (F : ff_F) (a : Nat) (R : List Int32) (wk : Nat → Int32), ff_wf g F → ff_at a_list (base + a) F → base + a + ff_sz F ≤ 32 → ff_len F ≤ gt_ar g q → R.length + (yp_it g base q F a).length ≤ 256 → mt_aO wk R →
    (∀ wk' : Nat → Int32, mt_aO wk' (R ++ (yp_it g base q F a).reverse) → wY_write_173 post (wY_write_25 post f_maxOps f_maxNodes f_maxLevels f_maxNames (nI (gt_n g)) f_listLen Nf0) x2 x4 (nI q) f_maxOps f_maxNodes f_maxLevels f_maxNames (nI (gt_n g)) (nI n) f_listLen Nf (nI (R ++ (yp_it g base q F a).reverse).length) (nI (base + a) - 1) (nI 0 - 1) (gt_k g) (gt_p g) (gt_a g) (gt_c g) (gt_t g) a_text a_list a_leadOp a_follow a_groupAt a_groupOp a_groupNext a_rootOf a_found a_fromAt a_toAt wk' a_mark a_order) →
    wY_write_173 post (wY_write_25 post f_maxOps f_maxNodes f_maxLevels f_maxNames (nI (gt_n g)) f_listLen Nf0) x2 x4 (nI q) f_maxOps f_maxNodes f_maxLevels f_maxNames (nI (gt_n g)) (nI n) f_listLen (Nf + pr_ni g q (ff_len F)) (nI R.length) (nI (base + a + ff_sz F) - 1) (nI (pr_ni g q (ff_len F)) - 1) (gt_k g) (gt_p g) (gt_a g) (gt_c g) (gt_t g) a_text a_list a_leadOp a_follow a_groupAt a_groupOp a_groupNext a_rootOf a_found a_fromAt a_toAt wk a_mark a_order := by
  have hn12 := H.1
  have har3 := gt_ar3 H hq
  intro F
  induction F with
  | leaf =>
    intro a R wk _ _ _ _ _ hwk hp
    have h9 := hp wk (by rw [show (yp_it g base q (.leaf : ff_F) a).reverse = [] from rfl, List.append_nil]; exact hwk)
    rw [show (yp_it g base q (.leaf : ff_F) a).reverse = [] from rfl, List.append_nil] at h9
    have e0 : pr_ni g q (ff_len (.leaf : ff_F)) = 0 := by
      unfold pr_ni
      split <;> rfl
    rw [e0]
    exact h9
  | inner m e u p k ihp _ =>
    intro a R wk hw hat hsz hlen hlenR hwk hp
    have hs : ff_sz (.inner m e u p k) = ff_sz p + ff_sz k + 1 := rfl
    have hl : ff_len (.inner m e u p k) = ff_len p + 1 := rfl
    rw [hs] at hsz
    rw [hl] at hlen
    have hT1 : ff_len (.inner m e () .leaf k) = 1 := rfl
    have hTw : ff_wf g (.inner m e () .leaf k) := ⟨trivial, hw.2.1, hw.2.2⟩
    have hTa : ff_at a_list (base + a + ff_sz p) (.inner m e () .leaf k) := ff_at_one hat
    have hTs : ff_sz (.inner m e () .leaf k) = ff_sz k + 1 := by show 0 + ff_sz k + 1 = _; omega
    have hit : R ++ (yp_it g base q (.inner m e u p k) a).reverse = R ++ [nI (1000 + (base + a + ff_sz (.inner m e u p k) - 1))] ++ pr_sx g q (ff_len p) ++ (yp_it g base q p a).reverse := by
      show R ++ (yp_it g base q p a ++ (pr_sx g q (ff_len p) ++ [nI (1000 + (base + (a + ff_sz p + ff_sz k)))])).reverse = _
      rw [List.reverse_append, List.reverse_append, pr_sx_rev, hs, show base + a + (ff_sz p + ff_sz k + 1) - 1 = base + (a + ff_sz p + ff_sz k) by omega]
      simp only [List.append_assoc]
      rfl
    have hle2 : (yp_it g base q (.inner m e u p k) a).length = (yp_it g base q p a).length + ((pr_sx g q (ff_len p)).length + 1) := by
      show (yp_it g base q p a ++ (pr_sx g q (ff_len p) ++ [nI (1000 + (base + (a + ff_sz p + ff_sz k)))])).length = _
      simp only [List.length_append, List.length_singleton]
    rw [hit] at hp
    rw [hle2] at hlenR
    obtain ⟨hat1, _, _⟩ := ff_at_in hat
    have hni6 : pr_ni g q (ff_len p) ≤ 6 := by
      unfold pr_ni
      split <;> omega
    rw [hl, pr_ni_s]
    by_cases hz : gt_LO g q = true ∧ ff_len p = 0
    · have esx : pr_sx g q (ff_len p) = [] := by
        unfold pr_sx
        rw [if_pos hz]
      rw [esx, List.append_nil] at hp
      rw [if_pos hz]
      have e0 : pr_ni g q (ff_len p) = 0 := by
        unfold pr_ni
        rw [if_pos hz.1, hz.2]
      rw [Nat.add_zero, nI_pred, ← Nat.add_assoc Nf]
      refine yw_so (T := .inner m e () .leaf k) (a := base + a + ff_sz p) (b := base + a + ff_sz (.inner m e u p k)) H hT1 hTw hTa (by rw [hTs, hs]; omega) (by rw [hs]; omega) hq (by omega) (by rw [e0, hz.1]; rfl) (by omega) hwk ?_
      intro wk1 hwk1
      exact ihp a _ wk1 hw.1 hat1 (by omega) (by omega) (by rw [List.length_append, List.length_singleton]; omega) hwk1 hp
    · obtain ⟨n1, n2, n3, n4⟩ := pr_ni_p (g := g) (q := q) (c := ff_len p) hz
      have esx : pr_sx g q (ff_len p) = [gt_PT g q (pr_ni g q (ff_len p) / 2)] := by
        unfold pr_sx
        rw [if_neg hz, n2]
      rw [esx] at hp hlenR
      rw [List.length_singleton] at hlenR
      rw [if_neg hz, nI_pred, ← Nat.add_assoc Nf, ← Nat.add_assoc Nf]
      refine yw_so (T := .inner m e () .leaf k) (a := base + a + ff_sz p) (b := base + a + ff_sz (.inner m e u p k)) H hT1 hTw hTa (by rw [hTs, hs]; omega) (by rw [hs]; omega) hq (by omega) n3 (by omega) hwk ?_
      intro wk1 hwk1
      rw [nI_pred]
      refine yw_sp H hq (by omega) (by omega) n1 (by rw [List.length_append, List.length_singleton]; omega) hwk1 ?_
      intro wk2 hwk2
      exact ihp a _ wk2 hw.1 hat1 (by omega) (by omega) (by simp only [List.length_append, List.length_singleton]; omega) hwk2 hp
end
end
section
section
variable {g : gt_T} {n base N : Nat} {post : SY → Prop} {w : Nat → Bool}
variable {f_maxOps f_maxNodes f_maxLevels f_maxNames f_listLen : Int32} {a_text a_list a_leadOp a_follow a_groupAt a_groupOp a_groupNext a_rootOf a_found a_fromAt a_toAt a_work a_mark a_order : Nat → Int32}
theorem yw_tk {R L : List Int32} {t : Int32} {j turn Nf : Nat} (ht : t = nI j) (hj : j < 1000) (hR : R.length < 256) (hL : L.length < 128) (htn : turn < 256) (hxt : mt_aO a_text L) (hwk : mt_aO a_work (R ++ [t]))
    (hp : ∀ xt : Nat → Int32, mt_aO xt (L ++ [t]) → wY_write_25 post f_maxOps f_maxNodes f_maxLevels f_maxNames (nI (gt_n g)) f_listLen Nf (nI R.length) (nI (turn + 1)) (nI (L ++ [t]).length) (gt_k g) (gt_p g) (gt_a g) (gt_c g) (gt_t g) xt a_list a_leadOp a_follow a_groupAt a_groupOp a_groupNext a_rootOf a_found a_fromAt a_toAt a_work a_mark a_order) :
    wY_write_25 post f_maxOps f_maxNodes f_maxLevels f_maxNames (nI (gt_n g)) f_listLen (Nf + 1) (nI (R ++ [t]).length) (nI turn) (nI L.length) (gt_k g) (gt_p g) (gt_a g) (gt_c g) (gt_t g) a_text a_list a_leadOp a_follow a_groupAt a_groupOp a_groupNext a_rootOf a_found a_fromAt a_toAt a_work a_mark a_order := by
  have h9 := hp _ (mt_aO_snoc hxt)
  have hv := mt_aO_last hwk
  rw [List.length_append, List.length_singleton] at h9 ⊢
  rw [wY_write_25]
  refine br_f (nI_ge (b := 256) htn (by decide)) (br_f (nI_ge (a := 0) (b := R.length + 1) (by omega) (by omega) |> fun z y => z (by exact y)) (nm_r (pk_m1 _) ?_))
  rw [nI_clamp (n := R.length) (by omega), nI_clamp (n := L.length) (by omega)]
  exact ⟨vp_in_nI hR (by decide), nm_r (hv.trans ht) (br_f (nI_ge (b := 1000) hj (by decide)) ⟨vp_in_nI hL (by decide), nm_r (by rw [ht]) (nm_r (nI_1 _) (nm_r (nI_1 _) h9))⟩)⟩
theorem yw_tks : ∀ (l R L : List Int32) (xt : Nat → Int32) (turn Nf : Nat), (∀ t, t ∈ l → ∃ j, j < 1000 ∧ t = nI j) → R.length + l.length ≤ 256 → L.length + l.length ≤ 128 → turn + l.length ≤ 256 → mt_aO xt L → mt_aO a_work (R ++ l.reverse) →
    (∀ xt' : Nat → Int32, mt_aO xt' (L ++ l) → wY_write_25 post f_maxOps f_maxNodes f_maxLevels f_maxNames (nI (gt_n g)) f_listLen Nf (nI R.length) (nI (turn + l.length)) (nI (L ++ l).length) (gt_k g) (gt_p g) (gt_a g) (gt_c g) (gt_t g) xt' a_list a_leadOp a_follow a_groupAt a_groupOp a_groupNext a_rootOf a_found a_fromAt a_toAt a_work a_mark a_order) →
    wY_write_25 post f_maxOps f_maxNodes f_maxLevels f_maxNames (nI (gt_n g)) f_listLen (Nf + l.length) (nI (R ++ l.reverse).length) (nI turn) (nI L.length) (gt_k g) (gt_p g) (gt_a g) (gt_c g) (gt_t g) xt a_list a_leadOp a_follow a_groupAt a_groupOp a_groupNext a_rootOf a_found a_fromAt a_toAt a_work a_mark a_order := by
  intro l
  induction l with
  | nil =>
    intro R L xt turn Nf _ _ _ _ hxt _ hp
    have h9 := hp xt (by rw [List.append_nil]; exact hxt)
    rw [List.append_nil] at h9
    rw [List.reverse_nil, List.append_nil]
    exact h9
  | cons t l ih =>
    intro R L xt turn Nf htk h1 h2 h3 hxt hwk hp
    rw [List.length_cons] at h1 h2 h3
    rw [List.reverse_cons, ← List.append_assoc] at hwk ⊢
    obtain ⟨j, hj, ej⟩ := htk t List.mem_cons_self
    rw [List.length_cons, ← Nat.add_assoc]
    refine yw_tk ej hj (by rw [List.length_append, List.length_reverse]; omega) (by omega) (by omega) hxt hwk ?_
    intro xt1 hxt1
    refine ih R (L ++ [t]) xt1 (turn + 1) Nf (fun z hz => htk z (List.mem_cons_of_mem _ hz)) (by omega) (by rw [List.length_append, List.length_singleton]; omega) (by omega) hxt1 (mt_aO_pre hwk) ?_
    intro xt2 hxt2
    have e1 : L ++ [t] ++ l = L ++ t :: l := by rw [List.append_assoc]; rfl
    rw [e1] at hxt2 ⊢
    have h9 := hp xt2 hxt2
    rw [List.length_cons, show turn + (l.length + 1) = turn + 1 + l.length by omega] at h9
    exact h9
theorem yw_fin {x4 x2 x5 x6 x8 : Int32} {y turn Nf Nf0 x : Nat} {R : List Int32} (h4 : x4 = nI y) (hy : y < 32) (hx2 : x2 = nI turn) (h8 : x8 < 0) (hmk : a_mark y = gt_b (w x)) (hR : R.length < 256) (hwk : mt_aO a_work R)
    (hp : ∀ wk : Nat → Int32, mt_aO wk (R ++ pr_op w x) → wY_write_25 post f_maxOps f_maxNodes f_maxLevels f_maxNames (nI (gt_n g)) f_listLen Nf0 (nI (R ++ pr_op w x).length) (nI (turn + 1)) (nI n) (gt_k g) (gt_p g) (gt_a g) (gt_c g) (gt_t g) a_text a_list a_leadOp a_follow a_groupAt a_groupOp a_groupNext a_rootOf a_found a_fromAt a_toAt wk a_mark a_order) :
    wY_write_173 post (wY_write_25 post f_maxOps f_maxNodes f_maxLevels f_maxNames (nI (gt_n g)) f_listLen Nf0) x2 x4 x5 f_maxOps f_maxNodes f_maxLevels f_maxNames (nI (gt_n g)) (nI n) f_listLen (Nf + 1) (nI R.length) x6 x8 (gt_k g) (gt_p g) (gt_a g) (gt_c g) (gt_t g) a_text a_list a_leadOp a_follow a_groupAt a_groupOp a_groupNext a_rootOf a_found a_fromAt a_toAt a_work a_mark a_order := by
  subst h4 hx2
  rw [wY_write_173]
  refine br_t h8 ?_
  rw [nI_clamp (n := y) (by omega), hmk, nI_clamp (n := R.length) (by omega)]
  refine ⟨vp_in_nI hy (by decide), ?_⟩
  unfold pr_op at hp
  cases hw : w x with
  | false =>
    rw [hw] at hp
    have h9 := hp a_work (by rw [show (cond false [0] [] : List Int32) = [] from rfl, List.append_nil]; exact hwk)
    rw [show (cond false [0] [] : List Int32) = [] from rfl, List.append_nil] at h9
    exact br_t (by decide) (nm_r (nI_1 _) h9)
  | true =>
    rw [hw] at hp
    have h9 := hp _ (mt_aO_snoc hwk)
    rw [show (cond true [0] [] : List Int32) = [0] from rfl, List.length_append, List.length_singleton] at h9
    exact br_f (by decide) ⟨vp_in_nI hR (by decide), nm_e (nm_r (nI_1 _) (nm_r (nI_1 _) h9))⟩
theorem yw_nd (H : gt_ok g) {e : Int32 ⊕ Nat} {k : ff_F} {b x turn Nf : Nat} {R : List Int32} (hx : b + ff_sz k = x) (hwk' : ff_wf g k) (hwe : ff_we g e k) (hat : ff_at a_list (base + b) k) (hle : a_list (base + x) = ff_ent e) (hy : base + x < 32) (hmk : a_mark (base + x) = gt_b (w x)) (htn : turn < 256) (hR : R.length + ((yp_bd g base e k b).length + 2) ≤ 255) (hwk : mt_aO a_work (R ++ [nI (1000 + (base + x))]))
    (hp : ∀ wk : Nat → Int32, mt_aO wk (R ++ (pr_op w x ++ (yp_bd g base e k b ++ pr_cl w x)).reverse) → wY_write_25 post f_maxOps f_maxNodes f_maxLevels f_maxNames (nI (gt_n g)) f_listLen Nf (nI (R ++ (pr_op w x ++ (yp_bd g base e k b ++ pr_cl w x)).reverse).length) (nI (turn + 1)) (nI n) (gt_k g) (gt_p g) (gt_a g) (gt_c g) (gt_t g) a_text a_list a_leadOp a_follow a_groupAt a_groupOp a_groupNext a_rootOf a_found a_fromAt a_toAt wk a_mark a_order) :
    wY_write_25 post f_maxOps f_maxNodes f_maxLevels f_maxNames (nI (gt_n g)) f_listLen (Nf + 1) (nI (R ++ [nI (1000 + (base + x))]).length) (nI turn) (nI n) (gt_k g) (gt_p g) (gt_a g) (gt_c g) (gt_t g) a_text a_list a_leadOp a_follow a_groupAt a_groupOp a_groupNext a_rootOf a_found a_fromAt a_toAt a_work a_mark a_order := by
  have hn12 := H.1
  have hl31 := H.2.1
  have hv := mt_aO_last hwk
  have hR0 := mt_aO_pre hwk
  have hrev : R ++ (pr_op w x ++ (yp_bd g base e k b ++ pr_cl w x)).reverse = R ++ pr_cl w x ++ (yp_bd g base e k b).reverse ++ pr_op w x := by
    rw [List.reverse_append, List.reverse_append, pr_op_rev, pr_cl_rev]
    simp only [List.append_assoc]
  rw [hrev] at hp
  have hcl : (pr_cl w x).length ≤ 1 := by
    unfold pr_cl
    cases w x <;> decide
  have s121 : ∀ wk : Nat → Int32, mt_aO wk (R ++ pr_cl w x) → wY_write_121 post (wY_write_25 post f_maxOps f_maxNodes f_maxLevels f_maxNames (nI (gt_n g)) f_listLen Nf) (nI (R ++ pr_cl w x).length) (nI turn) (nI (base + x)) (ff_ent e - 100) (nI (base + x) - 1) f_maxOps f_maxNodes f_maxLevels f_maxNames (nI (gt_n g)) (nI n) f_listLen (gt_k g) (gt_p g) (gt_a g) (gt_c g) (gt_t g) a_text a_list a_leadOp a_follow a_groupAt a_groupOp a_groupNext a_rootOf a_found a_fromAt a_toAt wk a_mark a_order := by
    intro wk hwk1
    unfold wY_write_121
    match e, hwe, hle, hp, hR with
    | .inl t, hwe, hle, hp, hR =>
      obtain ⟨j, j1, j2, j3⟩ := gt_at_j H hwe.1
      have hneg : ¬ (0 : Int32) ≤ ff_ent (.inl t) - 100 := by
        show ¬ (0 : Int32) ≤ t - nI 100
        rw [j3]
        exact Int32.not_le.mpr (pk_sneg (by decide) (by omega))
      have hb1 : (yp_bd g base (.inl t) k b).length = 1 := rfl
      rw [hb1] at hR
      have hlc : (R ++ pr_cl w x).length < 256 := by rw [List.length_append]; omega
      rw [nI_clamp (n := base + x) (by omega), nI_clamp (n := (R ++ pr_cl w x).length) (by omega), hle]
      refine br_f hneg ⟨vp_in_nI hy (by decide), vp_in_nI hlc (by decide), nm_e (nm_r (nI_1 _) ?_)⟩
      unfold wY_write_142
      refine br_f hneg (nm_e ⟨0 + 1, ?_⟩)
      have h7 := yw_fin (x5 := ff_ent (.inl t) - 100) (x6 := nI (base + x) - 1) (x8 := 0 - 1) (x4 := nI (base + x)) (x2 := nI turn) (Nf := 0) (R := R ++ pr_cl w x ++ [t]) (w := w) (x := x) rfl hy rfl (by decide) hmk (by rw [List.length_append, List.length_singleton, List.length_append]; omega) (mt_aO_snoc hwk1) hp
      rw [List.length_append, List.length_singleton] at h7
      exact h7
    | .inr q, hwe, hle, hp, hR =>
      have hq : q < gt_n g := hwe.1
      have hlk : ff_len k = gt_ar g q := hwe.2
      obtain ⟨vq, cq⟩ := gt_in12 H hq
      obtain ⟨hp1, hp2, hp3⟩ := H.2.2.2.2.1 q hq
      have har3 := gt_ar3 H hq
      have h4 := gt_pc4 H hq
      have hnie := pr_ni_e H hq
      have he : ff_ent (.inr q) - 100 = nI q := by
        show nI 100 + nI q - nI 100 = nI q
        rw [nI_add, pk_sub (by omega), Nat.add_sub_cancel_left]
      have hni6 : pr_ni g q (gt_ar g q) ≤ 6 := by
        unfold pr_ni
        split <;> omega
      have hbd : (yp_bd g base (.inr q) k b).reverse = yp_tr g q (ff_len k) ++ (yp_it g base q k b).reverse := by
        show (yp_it g base q k b ++ yp_tr g q (ff_len k)).reverse = _
        rw [List.reverse_append, yp_tr_rev]
      have hbl : (yp_bd g base (.inr q) k b).length = (yp_it g base q k b).length + (yp_tr g q (ff_len k)).length := List.length_append
      rw [hbd] at hp
      rw [hbl] at hR
      rw [he]
      refine br_t (nI_pos' (by omega)) ?_
      unfold wY_write_142
      rw [cq]
      refine br_t (nI_pos' (by omega)) ⟨vq, yw_ar H hq (nm_r (by rw [hp3, nI_add]) (nm_e ?_))⟩
      have ex : nI (base + x) - 1 = nI (base + b + ff_sz k) - 1 := by rw [← hx, Nat.add_assoc]
      have hpush : ∀ wk2 : Nat → Int32, mt_aO wk2 (R ++ pr_cl w x ++ yp_tr g q (ff_len k)) → wY_write_173 post (wY_write_25 post f_maxOps f_maxNodes f_maxLevels f_maxNames (nI (gt_n g)) f_listLen Nf) (nI turn) (nI (base + x)) (nI q) f_maxOps f_maxNodes f_maxLevels f_maxNames (nI (gt_n g)) (nI n) f_listLen (0 + 1 + pr_ni g q (gt_ar g q)) (nI (R ++ pr_cl w x ++ yp_tr g q (ff_len k)).length) (nI (base + x) - 1) (nI (pr_ni g q (gt_ar g q)) - 1) (gt_k g) (gt_p g) (gt_a g) (gt_c g) (gt_t g) a_text a_list a_leadOp a_follow a_groupAt a_groupOp a_groupNext a_rootOf a_found a_fromAt a_toAt wk2 a_mark a_order := by
        intro wk2 hwk2
        rw [ex, ← hlk]
        refine yw_push H hq k b _ wk2 hwk' hat (by omega) (Nat.le_of_eq hlk) (by simp only [List.length_append]; omega) hwk2 ?_
        intro wk3 hwk3
        refine yw_fin (w := w) (x := x) (y := base + x) (turn := turn) rfl hy rfl (by decide) hmk (by simp only [List.length_append, List.length_reverse]; omega) hwk3 ?_
        intro wk4 hwk4
        have e5 : R ++ pr_cl w x ++ yp_tr g q (ff_len k) ++ (yp_it g base q k b).reverse ++ pr_op w x = R ++ pr_cl w x ++ (yp_tr g q (ff_len k) ++ (yp_it g base q k b).reverse) ++ pr_op w x := by simp only [List.append_assoc]
        rw [e5] at hwk4 ⊢
        exact hp wk4 hwk4
      by_cases hr : gt_RO g q = true
      · rw [if_pos hr, Nat.add_zero] at hnie
        have etr : yp_tr g q (ff_len k) = [] := if_pos hr
        rw [etr, List.append_nil] at hpush
        rw [hnie]
        exact ⟨_, hpush wk hwk1⟩
      · rw [if_neg hr] at hnie
        have hr' : gt_RO g q = false := by
          cases h : gt_RO g q with
          | false => rfl
          | true => exact absurd h hr
        have hsPC := gt_npush H hq hr' hlk
        have hnz : ¬ (gt_LO g q = true ∧ ff_len k = 0) := by
          rintro ⟨z1, z2⟩
          unfold gt_s at hsPC
          rw [if_pos z1, z2] at hsPC
          omega
        obtain ⟨np1, np2, _, _⟩ := pr_ni_p (g := g) (q := q) (c := ff_len k) hnz
        have etr : yp_tr g q (ff_len k) = [gt_PT g q (pr_ni g q (gt_ar g q) / 2)] := by
          unfold yp_tr pr_sx
          rw [if_neg hr, if_neg hnz, ← np2, hlk]
        rw [etr] at hpush hR
        rw [List.length_singleton] at hR
        rw [hlk] at np1
        rw [hnie, nI_pred]
        refine ⟨0 + 1 + pr_ni g q (gt_ar g q) + 1, ?_⟩
        exact yw_sp H hq (by omega) (by omega) np1 (by rw [List.length_append]; omega) hwk1 hpush
  rw [List.length_append, List.length_singleton]
  rw [wY_write_25]
  refine br_f (nI_ge (b := 256) htn (by decide)) (br_f (nI_ge (a := 0) (b := R.length + 1) (by omega) (by omega) |> fun z y => z (by exact y)) (nm_r (pk_m1 _) ?_))
  rw [nI_clamp (n := R.length) (by omega)]
  refine ⟨vp_in_nI (by omega) (by decide), nm_r hv (br_t (nI_le (a := 1000) (by omega) (by omega)) (nm_r (e' := nI (base + x)) (by
    show nI (1000 + (base + x)) - nI 1000 = _
    rw [pk_sub (by omega), Nat.add_sub_cancel_left]) ⟨vp_in_nI hy (by decide), ?_⟩))⟩
  rw [nI_clamp (n := base + x) (by omega), hle, hmk]
  refine nm_e (nm_e ⟨vp_in_nI hy (by decide), ?_⟩)
  unfold pr_cl at s121
  cases hw : w x with
  | false =>
    rw [hw] at s121
    have h9 := s121 a_work (by rw [show (cond false [1] [] : List Int32) = [] from rfl, List.append_nil]; exact hR0)
    rw [show (cond false [1] [] : List Int32) = [] from rfl, List.append_nil] at h9
    exact br_t (by decide) h9
  | true =>
    rw [hw] at s121
    have h9 := s121 _ (mt_aO_snoc hR0)
    rw [show (cond true [1] [] : List Int32) = [1] from rfl, List.length_append, List.length_singleton] at h9
    exact br_f (by decide) ⟨vp_in_nI (by omega) (by decide), nm_e (nm_r (nI_1 _) h9)⟩
end
end
section
theorem pr_bd_pos {g : gt_T} (H : gt_ok g) {w : Nat → Bool} {m : Nat} {e : Int32 ⊕ Nat} {u : Unit} {p k : ff_F} {b : Nat} (hw : ff_wf g (.inner m e u p k)) : 1 ≤ (pr_bd g w e k b).length := by
  have h1 : ff_wf g (.inner 0 e () .leaf k) := ⟨trivial, hw.2.1, hw.2.2⟩
  have h2 : ff_wf g (.inner (cond (w (b + 0 + ff_sz k)) 1 0) e () .leaf (pr_mk w k b)) := ff_ss_wf _ _ (pr_mk_ss w (.inner 0 e () .leaf k) b) h1
  have h3 := ff_N_sz (m := 0) (u := ()) (p := .leaf) H ⟨trivial, h2.2.1, h2.2.2⟩
  have hl : ff_len (pr_mk w k b) = ff_len k := ((ff_ss_len _ _ (pr_mk_ss w k b)).1).symm
  have h4 : pr_bd g w e k b = (ff_N g 0 e (pr_mk w k b)).map Prod.fst := by
    unfold pr_bd ff_N
    rw [hl]
    rfl
  rw [h4, List.length_map]
  omega
theorem yp_len {g : gt_T} (H : gt_ok g) {w : Nat → Bool} {base q : Nat} : ∀ (F : ff_F) (a : Nat), ff_wf g F → (yp_it g base q F a).length ≤ (pr_fx g w F a q).length := by
  intro F
  induction F with
  | leaf => intro a _; exact Nat.zero_le _
  | inner m e u p k ihp _ =>
    intro a hw
    have h1 := ihp a hw.1
    have h2 := pr_bd_pos H (w := w) (b := a + ff_sz p) hw
    rw [pr_fx_in]
    show (yp_it g base q p a ++ (pr_sx g q (ff_len p) ++ [nI (1000 + (base + (a + ff_sz p + ff_sz k)))])).length ≤ _
    simp only [List.length_append, List.length_singleton]
    omega
section
variable {g : gt_T} {n base N : Nat} {post : SY → Prop} {w : Nat → Bool}
variable {f_maxOps f_maxNodes f_maxLevels f_maxNames f_listLen : Int32} {a_text a_list a_leadOp a_follow a_groupAt a_groupOp a_groupNext a_rootOf a_found a_fromAt a_toAt a_work a_mark a_order : Nat → Int32}
theorem yw_nT (H : gt_ok g) (hN : base + N ≤ 32) (hmk : ∀ x, x < N → a_mark (base + x) = gt_b (w x)) {m : Nat} {e : Int32 ⊕ Nat} {u : Unit} {p k : ff_F} {b x : Nat} (hx : b + ff_sz k = x) (hxN : x < N) (hw : ff_wf g (.inner m e u p k)) (hat : ff_at a_list (base + b) k) (hle : a_list (base + x) = ff_ent e)
    (ih : ∀ (q turn Nf : Nat) (R L : List Int32) (xt wk : Nat → Int32), q < gt_n g → ff_len k ≤ gt_ar g q → (∀ t, t ∈ pr_fx g w k b q → ∃ j, j < 1000 ∧ t = nI j) → turn + (ff_sz k + (pr_fx g w k b q).length) ≤ 256 → R.length + (pr_fx g w k b q).length ≤ 250 → L.length + (pr_fx g w k b q).length ≤ 128 → mt_aO xt L → mt_aO wk (R ++ (yp_it g base q k b).reverse) → (∀ xt' wk' : Nat → Int32, mt_aO xt' (L ++ pr_fx g w k b q) → mt_aO wk' R → wY_write_25 post f_maxOps f_maxNodes f_maxLevels f_maxNames (nI (gt_n g)) f_listLen Nf (nI R.length) (nI (turn + (ff_sz k + (pr_fx g w k b q).length))) (nI (L ++ pr_fx g w k b q).length) (gt_k g) (gt_p g) (gt_a g) (gt_c g) (gt_t g) xt' a_list a_leadOp a_follow a_groupAt a_groupOp a_groupNext a_rootOf a_found a_fromAt a_toAt wk' a_mark a_order) → wY_write_25 post f_maxOps f_maxNodes f_maxLevels f_maxNames (nI (gt_n g)) f_listLen (Nf + (ff_sz k + (pr_fx g w k b q).length)) (nI (R ++ (yp_it g base q k b).reverse).length) (nI turn) (nI L.length) (gt_k g) (gt_p g) (gt_a g) (gt_c g) (gt_t g) xt a_list a_leadOp a_follow a_groupAt a_groupOp a_groupNext a_rootOf a_found a_fromAt a_toAt wk a_mark a_order)
    {turn Nf : Nat} {R L : List Int32} (htk : ∀ t, t ∈ pr_op w x ++ (pr_bd g w e k b ++ pr_cl w x) → ∃ j, j < 1000 ∧ t = nI j) (htn : turn + (ff_sz k + 1 + (pr_op w x ++ (pr_bd g w e k b ++ pr_cl w x)).length) ≤ 256) (hR : R.length + (pr_op w x ++ (pr_bd g w e k b ++ pr_cl w x)).length ≤ 250) (hL : L.length + (pr_op w x ++ (pr_bd g w e k b ++ pr_cl w x)).length ≤ 128) (hxt : mt_aO a_text L) (hwk : mt_aO a_work (R ++ [nI (1000 + (base + x))]))
    (hp : ∀ xt' wk' : Nat → Int32, mt_aO xt' (L ++ (pr_op w x ++ (pr_bd g w e k b ++ pr_cl w x))) → mt_aO wk' R → wY_write_25 post f_maxOps f_maxNodes f_maxLevels f_maxNames (nI (gt_n g)) f_listLen Nf (nI R.length) (nI (turn + (ff_sz k + 1 + (pr_op w x ++ (pr_bd g w e k b ++ pr_cl w x)).length))) (nI (L ++ (pr_op w x ++ (pr_bd g w e k b ++ pr_cl w x))).length) (gt_k g) (gt_p g) (gt_a g) (gt_c g) (gt_t g) xt' a_list a_leadOp a_follow a_groupAt a_groupOp a_groupNext a_rootOf a_found a_fromAt a_toAt wk' a_mark a_order) :
    wY_write_25 post f_maxOps f_maxNodes f_maxLevels f_maxNames (nI (gt_n g)) f_listLen (Nf + (ff_sz k + 1 + (pr_op w x ++ (pr_bd g w e k b ++ pr_cl w x)).length)) (nI (R ++ [nI (1000 + (base + x))]).length) (nI turn) (nI L.length) (gt_k g) (gt_p g) (gt_a g) (gt_c g) (gt_t g) a_text a_list a_leadOp a_follow a_groupAt a_groupOp a_groupNext a_rootOf a_found a_fromAt a_toAt a_work a_mark a_order := by
  have hn12 := H.1
  have hlen : (pr_op w x ++ (pr_bd g w e k b ++ pr_cl w x)).length = (pr_op w x).length + ((pr_bd g w e k b).length + (pr_cl w x).length) := by simp only [List.length_append]
  rw [hlen] at htn hR hL hp ⊢
  rw [show Nf + (ff_sz k + 1 + ((pr_op w x).length + ((pr_bd g w e k b).length + (pr_cl w x).length))) = (Nf + (ff_sz k + ((pr_op w x).length + ((pr_bd g w e k b).length + (pr_cl w x).length)))) + 1 by omega]
  match e, hw, hle, htk, hp, hlen, htn, hR, hL with
  | .inl t, hw, hle, htk, hp, hlen, htn, hR, hL =>
    have ek := ff_lf_leaf hw.2.2.2
    subst ek
    have s0 : ff_sz (.leaf : ff_F) = 0 := rfl
    have eb : pr_bd g w (.inl t) .leaf b = [t] := pr_bd_a
    rw [s0] at htn hp ⊢
    rw [eb] at htk htn hR hL hp ⊢
    rw [List.length_singleton] at htn hR hL hp ⊢
    refine yw_nd (w := w) (e := .inl t) (k := .leaf) H hx hw.2.1 hw.2.2 hat hle (by omega) (hmk x hxN) (by omega) (by show R.length + (1 + 2) ≤ 255; omega) hwk ?_
    intro wk hwk1
    have e1 : pr_op w x ++ (yp_bd g base (.inl t) .leaf b ++ pr_cl w x) = pr_op w x ++ ([t] ++ pr_cl w x) := rfl
    rw [e1] at hwk1 ⊢
    have el : (pr_op w x ++ ([t] ++ pr_cl w x)).length = (pr_op w x).length + (1 + (pr_cl w x).length) := by simp only [List.length_append, List.length_singleton]
    rw [Nat.zero_add, ← el]
    refine yw_tks _ R L a_text (turn + 1) Nf htk (by rw [el]; omega) (by rw [el]; omega) (by rw [el]; omega) hxt hwk1 ?_
    intro xt' hxt'
    have h9 := hp xt' wk hxt' (mt_aO_pre hwk1)
    rw [← el, show turn + (0 + 1 + (pr_op w x ++ ([t] ++ pr_cl w x)).length) = turn + 1 + (pr_op w x ++ ([t] ++ pr_cl w x)).length by omega] at h9
    exact h9
  | .inr q, hw, hle, htk, hp, hlen, htn, hR, hL =>
    have hq : q < gt_n g := hw.2.2.1
    have hlk : ff_len k = gt_ar g q := hw.2.2.2
    have eb : pr_bd g w (.inr q) k b = pr_fx g w k b q ++ yp_tr g q (ff_len k) := pr_bd_o
    have ebl : (pr_bd g w (.inr q) k b).length = (pr_fx g w k b q).length + (yp_tr g q (ff_len k)).length := by rw [eb, List.length_append]
    have hyl := yp_len H (w := w) (base := base) (q := q) k b hw.2.1
    have hyb : (yp_bd g base (.inr q) k b).length = (yp_it g base q k b).length + (yp_tr g q (ff_len k)).length := List.length_append
    rw [ebl] at htn hR hL hp ⊢
    rw [eb] at htk hp
    refine yw_nd (w := w) (e := .inr q) (k := k) H hx hw.2.1 hw.2.2 hat hle (by omega) (hmk x hxN) (by omega) (by rw [hyb]; omega) hwk ?_
    intro wk hwk1
    have e1 : R ++ (pr_op w x ++ (yp_bd g base (.inr q) k b ++ pr_cl w x)).reverse = R ++ (yp_tr g q (ff_len k) ++ pr_cl w x).reverse ++ (yp_it g base q k b).reverse ++ (pr_op w x).reverse := by
      show R ++ (pr_op w x ++ (yp_it g base q k b ++ yp_tr g q (ff_len k) ++ pr_cl w x)).reverse = _
      simp only [List.reverse_append, List.append_assoc]
    rw [e1] at hwk1 ⊢
    rw [show Nf + (ff_sz k + ((pr_op w x).length + ((pr_fx g w k b q).length + (yp_tr g q (ff_len k)).length + (pr_cl w x).length))) = Nf + (yp_tr g q (ff_len k) ++ pr_cl w x).length + (ff_sz k + (pr_fx g w k b q).length) + (pr_op w x).length by rw [List.length_append]; omega]
    refine yw_tks (pr_op w x) _ L a_text (turn + 1) _ (fun t ht => htk t (List.mem_append_left _ ht)) (by simp only [List.length_append, List.length_reverse]; omega) (by omega) (by omega) hxt hwk1 ?_
    intro xt1 hxt1
    refine ih q _ _ (R ++ (yp_tr g q (ff_len k) ++ pr_cl w x).reverse) (L ++ pr_op w x) xt1 wk hq (Nat.le_of_eq hlk) (fun t ht => htk t (List.mem_append_right _ (List.mem_append_left _ (List.mem_append_left _ ht)))) (by omega) (by simp only [List.length_append, List.length_reverse]; omega) (by rw [List.length_append]; omega) hxt1 (mt_aO_pre hwk1) ?_
    intro xt2 wk2 hxt2 hwk2
    refine yw_tks (yp_tr g q (ff_len k) ++ pr_cl w x) R (L ++ pr_op w x ++ pr_fx g w k b q) xt2 _ Nf ?_ (by rw [List.length_append]; omega) (by simp only [List.length_append]; omega) (by rw [List.length_append]; omega) hxt2 hwk2 ?_
    · intro t ht
      refine htk t (List.mem_append_right _ ?_)
      rw [List.append_assoc]
      exact List.mem_append_right _ ht
    · intro xt3 hxt3
      have e2 : L ++ pr_op w x ++ pr_fx g w k b q ++ (yp_tr g q (ff_len k) ++ pr_cl w x) = L ++ (pr_op w x ++ (pr_fx g w k b q ++ yp_tr g q (ff_len k) ++ pr_cl w x)) := by simp only [List.append_assoc]
      rw [e2] at hxt3 ⊢
      have h9 := hp xt3 wk2 hxt3 (mt_aO_pre hwk2)
      rw [show turn + (ff_sz k + 1 + ((pr_op w x).length + ((pr_fx g w k b q).length + (yp_tr g q (ff_len k)).length + (pr_cl w x).length))) = turn + 1 + (pr_op w x).length + (ff_sz k + (pr_fx g w k b q).length) + (yp_tr g q (ff_len k) ++ pr_cl w x).length by rw [List.length_append]; omega] at h9
      exact h9
theorem yw_wF (H : gt_ok g) (hN : base + N ≤ 32) (hmk : ∀ x, x < N → a_mark (base + x) = gt_b (w x)) : ∀ (F : ff_F) (a : Nat), ff_wf g F → ff_at a_list (base + a) F → a + ff_sz F ≤ N → ∀ (q turn Nf : Nat) (R L : List Int32) (xt wk : Nat → Int32), q < gt_n g → ff_len F ≤ gt_ar g q → (∀ t, t ∈ pr_fx g w F a q → ∃ j, j < 1000 ∧ t = nI j) → turn + (ff_sz F + (pr_fx g w F a q).length) ≤ 256 → R.length + (pr_fx g w F a q).length ≤ 250 → L.length + (pr_fx g w F a q).length ≤ 128 → mt_aO xt L → mt_aO wk (R ++ (yp_it g base q F a).reverse) → (∀ xt' wk' : Nat → Int32, mt_aO xt' (L ++ pr_fx g w F a q) → mt_aO wk' R → wY_write_25 post f_maxOps f_maxNodes f_maxLevels f_maxNames (nI (gt_n g)) f_listLen Nf (nI R.length) (nI (turn + (ff_sz F + (pr_fx g w F a q).length))) (nI (L ++ pr_fx g w F a q).length) (gt_k g) (gt_p g) (gt_a g) (gt_c g) (gt_t g) xt' a_list a_leadOp a_follow a_groupAt a_groupOp a_groupNext a_rootOf a_found a_fromAt a_toAt wk' a_mark a_order) → wY_write_25 post f_maxOps f_maxNodes f_maxLevels f_maxNames (nI (gt_n g)) f_listLen (Nf + (ff_sz F + (pr_fx g w F a q).length)) (nI (R ++ (yp_it g base q F a).reverse).length) (nI turn) (nI L.length) (gt_k g) (gt_p g) (gt_a g) (gt_c g) (gt_t g) xt a_list a_leadOp a_follow a_groupAt a_groupOp a_groupNext a_rootOf a_found a_fromAt a_toAt wk a_mark a_order := by
  intro F
  induction F with
  | leaf =>
    intro a _ _ _ q turn Nf R L xt wk _ _ _ _ _ _ hxt hwk hp
    have ef : pr_fx g w (.leaf : ff_F) a q = [] := rfl
    have ei : (yp_it g base q (.leaf : ff_F) a).reverse = [] := rfl
    have s0 : ff_sz (.leaf : ff_F) = 0 := rfl
    rw [ei, List.append_nil] at hwk ⊢
    have h9 := hp xt wk (by rw [ef, List.append_nil]; exact hxt) hwk
    rw [ef, List.append_nil, s0] at h9
    rw [ef, s0]
    exact h9
  | inner m e u p k ihp ihk =>
    intro a hw hat hsz q turn Nf R L xt wk hq hlen htk htn hR hL hxt hwk hp
    obtain ⟨t1, t2, t3⟩ := ff_at_in hat
    have hs : ff_sz (.inner m e u p k) = ff_sz p + ff_sz k + 1 := rfl
    have hl : ff_len (.inner m e u p k) = ff_len p + 1 := rfl
    have hbp := pr_bd_pos H (w := w) (b := a + ff_sz p) hw
    rw [hs] at hsz htn hp ⊢
    rw [hl] at hlen
    have hit : R ++ (yp_it g base q (.inner m e u p k) a).reverse = R ++ [nI (1000 + (base + (a + ff_sz p + ff_sz k)))] ++ (pr_sx g q (ff_len p)).reverse ++ (yp_it g base q p a).reverse := by
      show R ++ (yp_it g base q p a ++ (pr_sx g q (ff_len p) ++ [nI (1000 + (base + (a + ff_sz p + ff_sz k)))])).reverse = _
      simp only [List.reverse_append, List.append_assoc]
      rfl
    have hfl : (pr_fx g w (.inner m e u p k) a q).length = (pr_fx g w p a q).length + ((pr_sx g q (ff_len p)).length + (pr_op w (a + ff_sz p + ff_sz k) ++ (pr_bd g w e k (a + ff_sz p) ++ pr_cl w (a + ff_sz p + ff_sz k))).length) := by
      rw [pr_fx_in]
      simp only [List.length_append]
    have hbl : (pr_bd g w e k (a + ff_sz p)).length ≤ (pr_op w (a + ff_sz p + ff_sz k) ++ (pr_bd g w e k (a + ff_sz p) ++ pr_cl w (a + ff_sz p + ff_sz k))).length := by
      simp only [List.length_append]
      omega
    rw [hfl] at htn hR hL hp ⊢
    rw [pr_fx_in] at htk hp
    rw [hit] at hwk ⊢
    rw [show Nf + (ff_sz p + ff_sz k + 1 + ((pr_fx g w p a q).length + ((pr_sx g q (ff_len p)).length + (pr_op w (a + ff_sz p + ff_sz k) ++ (pr_bd g w e k (a + ff_sz p) ++ pr_cl w (a + ff_sz p + ff_sz k))).length))) = Nf + (ff_sz k + 1 + (pr_op w (a + ff_sz p + ff_sz k) ++ (pr_bd g w e k (a + ff_sz p) ++ pr_cl w (a + ff_sz p + ff_sz k))).length) + (pr_sx g q (ff_len p)).length + (ff_sz p + (pr_fx g w p a q).length) by omega]
    refine ihp a hw.1 t1 (by omega) q turn _ (R ++ [nI (1000 + (base + (a + ff_sz p + ff_sz k)))] ++ (pr_sx g q (ff_len p)).reverse) L xt wk hq (by omega) (fun t ht => htk t (List.mem_append_left _ ht)) (by omega) (by simp only [List.length_append, List.length_singleton, List.length_reverse]; omega) (by omega) hxt hwk ?_
    intro xt1 wk1 hxt1 hwk1
    refine yw_tks (pr_sx g q (ff_len p)) _ _ xt1 _ _ (fun t ht => htk t (List.mem_append_right _ (List.mem_append_left _ ht))) (by simp only [List.length_append, List.length_singleton]; omega) (by rw [List.length_append]; omega) (by omega) hxt1 hwk1 ?_
    intro xt2 hxt2
    refine yw_nT (m := m) (u := u) (p := p) (b := a + ff_sz p) (x := a + ff_sz p + ff_sz k) H hN hmk rfl (by omega) hw (by rw [← Nat.add_assoc]; exact t2) (by rw [← Nat.add_assoc, ← Nat.add_assoc]; exact t3) (ihk (a + ff_sz p) hw.2.1 (by rw [← Nat.add_assoc]; exact t2) (by omega)) (fun t ht => htk t (List.mem_append_right _ (List.mem_append_right _ ht))) (by omega) (by omega) (by simp only [List.length_append] at hL ⊢; omega) hxt2 (mt_aO_pre hwk1) ?_
    intro xt3 wk3 hxt3 hwk3
    have e2 : L ++ pr_fx g w p a q ++ pr_sx g q (ff_len p) ++ (pr_op w (a + ff_sz p + ff_sz k) ++ (pr_bd g w e k (a + ff_sz p) ++ pr_cl w (a + ff_sz p + ff_sz k))) = L ++ (pr_fx g w p a q ++ (pr_sx g q (ff_len p) ++ (pr_op w (a + ff_sz p + ff_sz k) ++ (pr_bd g w e k (a + ff_sz p) ++ pr_cl w (a + ff_sz p + ff_sz k))))) := by simp only [List.append_assoc]
    rw [e2] at hxt3 ⊢
    have h9 := hp xt3 wk3 hxt3 hwk3
    rw [show turn + (ff_sz p + ff_sz k + 1 + ((pr_fx g w p a q).length + ((pr_sx g q (ff_len p)).length + (pr_op w (a + ff_sz p + ff_sz k) ++ (pr_bd g w e k (a + ff_sz p) ++ pr_cl w (a + ff_sz p + ff_sz k))).length))) = turn + (ff_sz p + (pr_fx g w p a q).length) + (pr_sx g q (ff_len p)).length + (ff_sz k + 1 + (pr_op w (a + ff_sz p + ff_sz k) ++ (pr_bd g w e k (a + ff_sz p) ++ pr_cl w (a + ff_sz p + ff_sz k))).length) by omega] at h9
    exact h9
theorem yw_write (H : gt_ok g) {m : Nat} {e : Int32 ⊕ Nat} {u : Unit} {k : ff_F} {b : Nat} (hb : b = base + (ff_sz k + 1)) (hle : b ≤ 32) (hmk : ∀ x, x < ff_sz k + 1 → a_mark (base + x) = gt_b (w x)) (hr : w (ff_sz k) = false) (hw : ff_wf g (.inner m e u .leaf k)) (hat : ff_at a_list base (.inner m e u .leaf k))
    (hp : ∀ (xt wk : Nat → Int32), mt_aO xt (pr_tx g w (.inner m e u .leaf k)) → post (f_maxOps, f_maxNodes, f_maxLevels, f_maxNames, nI (gt_n g), nI (pr_tx g w (.inner m e u .leaf k)).length, nI b, gt_k g, gt_p g, gt_a g, gt_c g, gt_t g, xt, a_list, a_leadOp, a_follow, a_groupAt, a_groupOp, a_groupNext, a_rootOf, a_found, a_fromAt, a_toAt, wk, a_mark, a_order)) : wpY_write post (f_maxOps, f_maxNodes, f_maxLevels, f_maxNames, nI (gt_n g), nI n, nI b, gt_k g, gt_p g, gt_a g, gt_c g, gt_t g, a_text, a_list, a_leadOp, a_follow, a_groupAt, a_groupOp, a_groupNext, a_rootOf, a_found, a_fromAt, a_toAt, a_work, a_mark, a_order) := by
  have hsz0 : ff_sz (.inner m e u .leaf k) = ff_sz k + 1 := by show 0 + ff_sz k + 1 = _; omega
  obtain ⟨m1, m2, m3, m4, m5, m6⟩ := pr_tx_all H (w := w) (T := .inner m e u .leaf k) rfl hw (by rw [hsz0, Nat.add_sub_cancel]; exact hr)
  obtain ⟨_, t2, t3⟩ := ff_at_in hat
  have t2' : ff_at a_list (base + 0) k := t2
  have t3' : a_list (base + ff_sz k) = ff_ent e := t3
  have hl31 := H.2.1
  rw [hsz0] at m4
  rw [pr_tx_in] at m4 m6 hp
  unfold wpY_write
  refine nm_r (e' := upd a_work 0 (nI (1000 + (base + ff_sz k)))) (by
    rw [show (1000 : Int32) + nI b = nI (1000 + b) from nI_add 1000 b, hb, show 1000 + (base + (ff_sz k + 1)) = (1000 + (base + ff_sz k)) + 1 by omega, nI_pred]) ?_
  refine ⟨1 + (ff_sz k + 1 + (pr_op w (ff_sz k) ++ (pr_bd g w e k 0 ++ pr_cl w (ff_sz k))).length), ?_⟩
  refine yw_nT (N := ff_sz k + 1) (m := m) (u := u) (p := .leaf) (b := 0) (x := ff_sz k) (turn := 0) (R := []) (L := []) H (by omega) hmk (Nat.zero_add _) (Nat.lt_succ_self _) hw t2' t3' (yw_wF H (by omega) hmk k 0 hw.2.1 t2' (by omega)) (fun t ht => by
    obtain ⟨j, j1, j2⟩ := m6 t ht
    exact ⟨j, by omega, j2⟩) (by omega) (by rw [List.length_nil]; omega) (by rw [List.length_nil]; omega) (fun j x h => by simp at h) (by
      have := mt_aO_snoc (ou := a_work) (L := []) (x := nI (1000 + (base + ff_sz k))) (fun j x h => by simp at h)
      exact this) ?_
  intro xt wk hxt _
  rw [List.nil_append] at hxt ⊢
  rw [wY_write_25]
  have h9 := hp xt wk hxt
  exact br_c (fun _ => h9) (fun _ => br_t (by decide) h9)
end
end
section
/-! the order of trials -/
def pr_st : ff_F → Nat → Nat → Nat
  | .leaf, _, _ => 0
  | .inner _ _ _ p k, a, x => if x < a + ff_sz p then pr_st p a x else if x < a + ff_sz p + ff_sz k then pr_st k (a + ff_sz p) x else a + ff_sz p
theorem pr_st_1 {m : Nat} {e : Int32 ⊕ Nat} {u : Unit} {p k : ff_F} {a x : Nat} (h : x < a + ff_sz p) : pr_st (.inner m e u p k) a x = pr_st p a x := if_pos h
theorem pr_st_2 {m : Nat} {e : Int32 ⊕ Nat} {u : Unit} {p k : ff_F} {a x : Nat} (h1 : a + ff_sz p ≤ x) (h : x < a + ff_sz p + ff_sz k) : pr_st (.inner m e u p k) a x = pr_st k (a + ff_sz p) x := by
  show (if x < a + ff_sz p then _ else _) = _
  rw [if_neg (by omega), if_pos h]
theorem pr_st_3 {m : Nat} {e : Int32 ⊕ Nat} {u : Unit} {p k : ff_F} {a x : Nat} (h1 : a + ff_sz p + ff_sz k ≤ x) : pr_st (.inner m e u p k) a x = a + ff_sz p := by
  show (if x < a + ff_sz p then _ else _) = _
  rw [if_neg (by omega), if_neg (by omega)]
theorem pr_st_t {g : gt_T} {l : Nat → Int32} {base : Nat} : ∀ (F : ff_F) (a x : Nat), a ≤ x → x < a + ff_sz F → ff_wf g F → ff_at l (base + a) F → a ≤ pr_st F a x ∧ ∃ T : ff_F, ff_len T = 1 ∧ ff_wf g T ∧ ff_at l (base + pr_st F a x) T ∧ x + 1 = pr_st F a x + ff_sz T := by
  intro F
  induction F with
  | leaf =>
    intro a x h1 h2
    have : ff_sz (.leaf : ff_F) = 0 := rfl
    omega
  | inner m e u p k ihp ihk =>
    intro a x h1 h2 hw hat
    have hs : ff_sz (.inner m e u p k) = ff_sz p + ff_sz k + 1 := rfl
    rw [hs] at h2
    obtain ⟨t1, t2, _⟩ := ff_at_in hat
    rcases Nat.lt_or_ge x (a + ff_sz p) with c1 | c1
    · rw [pr_st_1 c1]
      exact ihp a x h1 c1 hw.1 t1
    · rcases Nat.lt_or_ge x (a + ff_sz p + ff_sz k) with c2 | c2
      · rw [pr_st_2 c1 c2]
        obtain ⟨b1, b2⟩ := ihk (a + ff_sz p) x c1 c2 hw.2.1 (by rw [← Nat.add_assoc]; exact t2)
        exact ⟨by omega, b2⟩
      · rw [pr_st_3 c2]
        refine ⟨by omega, .inner m e () .leaf k, rfl, ⟨trivial, hw.2.1, hw.2.2⟩, ?_, ?_⟩
        · rw [← Nat.add_assoc]
          exact ff_at_one hat
        · show x + 1 = a + ff_sz p + (0 + ff_sz k + 1)
          omega
theorem pr_st_ge : ∀ (F : ff_F) (a x : Nat), a ≤ x → x < a + ff_sz F → a ≤ pr_st F a x := by
  intro F
  induction F with
  | leaf =>
    intro a x h1 h2
    have : ff_sz (.leaf : ff_F) = 0 := rfl
    omega
  | inner m e u p k ihp ihk =>
    intro a x h1 h2
    have hs : ff_sz (.inner m e u p k) = ff_sz p + ff_sz k + 1 := rfl
    rw [hs] at h2
    rcases Nat.lt_or_ge x (a + ff_sz p) with c1 | c1
    · rw [pr_st_1 c1]
      exact ihp a x h1 c1
    · rcases Nat.lt_or_ge x (a + ff_sz p + ff_sz k) with c2 | c2
      · rw [pr_st_2 c1 c2]
        have := ihk (a + ff_sz p) x c1 c2
        omega
      · rw [pr_st_3 c2]
        omega
def pr_cn (f : Nat → Nat) (x : Nat) : Nat → Nat → Nat
  | _, 0 => 0
  | y, d + 1 => (if f y ≤ x then 1 else 0) + pr_cn f x (y + 1) d
theorem pr_cn_0 {f : Nat → Nat} {x : Nat} : ∀ (d y : Nat), (∀ z, y ≤ z → z < y + d → x < f z) → pr_cn f x y d = 0 := by
  intro d
  induction d with
  | zero => intro y _; rfl
  | succ d ih =>
    intro y h
    show (if f y ≤ x then 1 else 0) + pr_cn f x (y + 1) d = 0
    have := h y (Nat.le_refl _) (by omega)
    rw [if_neg (by omega), ih (y + 1) (fun z h1 h2 => h z (by omega) (by omega))]
theorem pr_cn_c {f f' : Nat → Nat} {x : Nat} : ∀ (d y : Nat), (∀ z, y ≤ z → z < y + d → f z = f' z) → pr_cn f x y d = pr_cn f' x y d := by
  intro d
  induction d with
  | zero => intro y _; rfl
  | succ d ih =>
    intro y h
    show (if f y ≤ x then 1 else 0) + pr_cn f x (y + 1) d = (if f' y ≤ x then 1 else 0) + pr_cn f' x (y + 1) d
    rw [h y (Nat.le_refl _) (by omega), ih (y + 1) (fun z h1 h2 => h z (by omega) (by omega))]
theorem pr_cn_add {f : Nat → Nat} {x c : Nat} : ∀ (d y : Nat), pr_cn f x y (d + c) = pr_cn f x y d + pr_cn f x (y + d) c := by
  intro d
  induction d with
  | zero =>
    intro y
    rw [Nat.zero_add, Nat.add_zero]
    show _ = 0 + _
    rw [Nat.zero_add]
  | succ d ih =>
    intro y
    rw [show d + 1 + c = (d + c) + 1 by omega, show y + (d + 1) = y + 1 + d by omega]
    show (if f y ≤ x then 1 else 0) + pr_cn f x (y + 1) (d + c) = (if f y ≤ x then 1 else 0) + pr_cn f x (y + 1) d + _
    rw [ih (y + 1)]
    exact (Nat.add_assoc _ _ _).symm
theorem pr_pre_len : ∀ (F : ff_F) (a : Nat), (pr_pre F a).length = ff_sz F := by
  intro F
  induction F with
  | leaf => intro a; rfl
  | inner m e u p k ihp ihk =>
    intro a
    show (pr_pre p a ++ ((a + ff_sz p + ff_sz k) :: pr_pre k (a + ff_sz p))).length = ff_sz p + ff_sz k + 1
    rw [List.length_append, List.length_cons, ihp, ihk]
    omega
def pr_bf (F : ff_F) (a x : Nat) : Nat := pr_st F a x - a + pr_cn (pr_st F a) x (x + 1) (a + ff_sz F - (x + 1))
theorem pr_bf_at : ∀ (F : ff_F) (a x : Nat), a ≤ x → x < a + ff_sz F → (pr_pre F a)[pr_bf F a x]? = some x := by
  intro F
  induction F with
  | leaf =>
    intro a x h1 h2
    have : ff_sz (.leaf : ff_F) = 0 := rfl
    omega
  | inner m e u p k ihp ihk =>
    intro a x h1 h2
    have hs : ff_sz (.inner m e u p k) = ff_sz p + ff_sz k + 1 := rfl
    rw [hs] at h2
    show (pr_pre p a ++ ((a + ff_sz p + ff_sz k) :: pr_pre k (a + ff_sz p)))[pr_bf (.inner m e u p k) a x]? = some x
    rcases Nat.lt_or_ge x (a + ff_sz p) with c1 | c1
    · have e1 : pr_bf (.inner m e u p k) a x = pr_bf p a x := by
        unfold pr_bf
        rw [hs, show a + (ff_sz p + ff_sz k + 1) - (x + 1) = (a + ff_sz p - (x + 1)) + (ff_sz k + 1) by omega, pr_cn_add, pr_st_1 c1, pr_cn_c (f' := pr_st p a) _ _ (fun z z1 z2 => pr_st_1 (by omega)), pr_cn_0 (ff_sz k + 1), Nat.add_zero]
        intro z z1 z2
        rcases Nat.lt_or_ge z (a + ff_sz p + ff_sz k) with c2 | c2
        · rw [pr_st_2 (by omega) c2]
          have := pr_st_ge k (a + ff_sz p) z (by omega) c2
          omega
        · rw [pr_st_3 c2]
          omega
      rw [e1]
      have h9 := ihp a x h1 c1
      obtain ⟨z, _⟩ := List.getElem?_eq_some_iff.mp h9
      rw [List.getElem?_append_left z]
      exact h9
    · rcases Nat.lt_or_ge x (a + ff_sz p + ff_sz k) with c2 | c2
      · have h8 := pr_st_ge k (a + ff_sz p) x c1 c2
        have e1 : pr_bf (.inner m e u p k) a x = ff_sz p + (pr_bf k (a + ff_sz p) x + 1) := by
          unfold pr_bf
          rw [hs, show a + (ff_sz p + ff_sz k + 1) - (x + 1) = (a + ff_sz p + ff_sz k - (x + 1)) + 1 by omega, pr_cn_add, pr_st_2 c1 c2, pr_cn_c (f' := pr_st k (a + ff_sz p)) _ _ (fun z z1 z2 => pr_st_2 (by omega) (by omega))]
          have e2 : pr_cn (pr_st (.inner m e u p k) a) x (x + 1 + (a + ff_sz p + ff_sz k - (x + 1))) 1 = 1 := by
            show (if pr_st (.inner m e u p k) a _ ≤ x then 1 else 0) + 0 = 1
            rw [pr_st_3 (by omega), if_pos (by omega)]
          rw [e2]
          omega
        rw [e1, List.getElem?_append_right (by rw [pr_pre_len]; omega), pr_pre_len, Nat.add_sub_cancel_left, List.getElem?_cons_succ]
        exact ihk _ _ c1 c2
      · have ex : x = a + ff_sz p + ff_sz k := by omega
        have e1 : pr_bf (.inner m e u p k) a x = ff_sz p := by
          unfold pr_bf
          rw [hs, show a + (ff_sz p + ff_sz k + 1) - (x + 1) = 0 by omega, pr_st_3 c2]
          show a + ff_sz p - a + 0 = ff_sz p
          omega
        rw [e1, List.getElem?_append_right (by rw [pr_pre_len]; omega), pr_pre_len, Nat.sub_self, ex]
        rfl
/-- the place of x in the order, and the order -/
def pr_pos (s : Int32) (T : ff_F) (x : Nat) : Nat := if s = 0 then pr_bf T 0 x else x
def pr_od (s : Int32) (T : ff_F) : List Nat := if s = 0 then pr_pre T 0 else List.range' 0 (ff_sz T)
theorem pr_od_at {s : Int32} {T : ff_F} {x : Nat} (h : x < ff_sz T) : (pr_od s T)[pr_pos s T x]? = some x := by
  unfold pr_od pr_pos
  split
  · exact pr_bf_at T 0 x (Nat.zero_le _) (by omega)
  · rw [List.getElem?_range' h, Nat.zero_add, Nat.one_mul]
theorem pr_od_len {s : Int32} {T : ff_F} : (pr_od s T).length = ff_sz T := by
  unfold pr_od
  split
  · exact pr_pre_len T 0
  · exact List.length_range'
theorem pr_od_lt {s : Int32} {T : ff_F} {x : Nat} (h : x ∈ pr_od s T) : x < ff_sz T := by
  unfold pr_od at h
  split at h
  · have := pr_pre_lt T 0 x h
    omega
  · have := List.mem_range'_1.mp h
    omega
theorem pr_od_nd {s : Int32} {T : ff_F} : (pr_od s T).Nodup := by
  unfold pr_od
  split
  · exact pr_pre_nd T 0
  · exact List.nodup_range'
theorem pr_pos_lt {s : Int32} {T : ff_F} {x : Nat} (h : x < ff_sz T) : pr_pos s T x < ff_sz T := by
  obtain ⟨z, _⟩ := List.getElem?_eq_some_iff.mp (pr_od_at (s := s) h)
  rw [pr_od_len] at z
  exact z
theorem pr_od_arr {s : Int32} {T : ff_F} {base : Nat} {od : Nat → Int32} (h : ∀ y, y < ff_sz T → od (pr_pos s T y) = nI (base + y)) {i y : Nat} (hi : (pr_od s T)[i]? = some y) : od i = nI (base + y) := by
  have hy : y < ff_sz T := pr_od_lt (List.mem_of_getElem? hi)
  have h2 := pr_od_at (s := s) hy
  obtain ⟨z1, z2⟩ := List.getElem?_eq_some_iff.mp hi
  obtain ⟨z3, z4⟩ := List.getElem?_eq_some_iff.mp h2
  have hnd := List.pairwise_iff_getElem.mp (pr_od_nd (s := s) (T := T))
  have : i = pr_pos s T y := by
    rcases Nat.lt_trichotomy i (pr_pos s T y) with c | c | c
    · exact absurd (z2.trans z4.symm) (hnd _ _ z1 z3 c)
    · exact c
    · exact absurd (z4.trans z2.symm) (hnd _ _ z3 z1 c)
  rw [this]
  exact h y hy
end
section
section
variable {g : gt_T} {n base M : Nat} {post : Int32 → SY → Prop} {post1 : Int32 → Prop} {T : ff_F} {s : Int32}
variable {f_maxOps f_maxNodes f_maxLevels f_maxNames f_listLen : Int32} {a_text a_list a_leadOp a_follow a_groupAt a_groupOp a_groupNext a_rootOf a_found a_fromAt a_toAt a_work a_mark a_order : Nat → Int32}
theorem yw_st (H : gt_ok g) (hw : ff_wf g T) (hat : ff_at a_list (base + 0) T) (hb : base + ff_sz T ≤ 32) {x : Nat} (hx : x < ff_sz T) (hp : post1 (nI (base + pr_st T 0 x))) : wpY_startOf post1 (f_maxOps, f_maxNodes, f_maxLevels, f_maxNames, nI (gt_n g), nI n, f_listLen, gt_k g, gt_p g, gt_a g, gt_c g, gt_t g, a_text, a_list, a_leadOp, a_follow, a_groupAt, a_groupOp, a_groupNext, a_rootOf, a_found, a_fromAt, a_toAt, a_work, a_mark, a_order) (nI (base + x)) := by
  obtain ⟨_, T', h1, hw', hat', hs⟩ := pr_st_t T 0 x (Nat.zero_le _) (by omega) hw hat
  exact yw_start (b := base + x + 1) H h1 hw' hat' (by omega) (by omega) (nI_pred _).symm hp
theorem yw_o77 (H : gt_ok g) (hw : ff_wf g T) (hat : ff_at a_list (base + 0) T) (hM : ff_sz T = M + 1) (hb : base + M + 1 ≤ 32) {x Nf0 : Nat} (hx : x ≤ M)
    (hp : wY_print_37 post s (nI (base + M)) (nI base) f_maxOps f_maxNodes f_maxLevels f_maxNames (nI (gt_n g)) (nI n) f_listLen Nf0 (nI (base + (x + 1))) (gt_k g) (gt_p g) (gt_a g) (gt_c g) (gt_t g) a_text a_list a_leadOp a_follow a_groupAt a_groupOp a_groupNext a_rootOf a_found a_fromAt a_toAt a_work a_mark (upd a_order (pr_pos s T x) (nI (base + x)))) :
    ∀ (d y c Nf : Nat), y + d = M + 1 → d < Nf → c + pr_cn (pr_st T 0) x y d = pr_bf T 0 x → wY_print_77 post (wY_print_37 post s (nI (base + M)) (nI base) f_maxOps f_maxNodes f_maxLevels f_maxNames (nI (gt_n g)) (nI n) f_listLen Nf0) s (nI (base + M)) (nI base) (nI (base + x)) f_maxOps f_maxNodes f_maxLevels f_maxNames (nI (gt_n g)) (nI n) f_listLen (gt_k g) (gt_p g) (gt_a g) (gt_c g) (gt_t g) a_text a_list a_leadOp a_follow a_groupAt a_groupOp a_groupNext a_rootOf a_found a_fromAt a_toAt a_work a_mark a_order Nf (nI c) (nI (base + y)) := by
  intro d
  induction d with
  | zero =>
    intro y c Nf hy hNf hc
    obtain ⟨Nf, rfl⟩ : ∃ k, Nf = k + 1 := ⟨Nf - 1, by omega⟩
    have hpl := pr_pos_lt (s := s) (T := T) (x := x) (by omega)
    have hc' : c = pr_bf T 0 x := hc
    rw [wY_print_77]
    refine br_t (nI_lt (by omega) (by omega)) (br_c (fun h => ?_) (fun h => ?_))
    · have e : pr_pos s T x = c := by
        rw [hc']
        exact if_pos h
      rw [e] at hp hpl
      rw [nI_clamp (n := c) (by omega)]
      exact ⟨vp_in_nI (by omega) (by decide), nm_e (nm_r (nI_1 _) hp)⟩
    · have e : pr_pos s T x = x := if_neg h
      rw [e] at hp
      rw [pk_sub (by omega), Nat.add_sub_cancel_left, nI_clamp (n := x) (by omega)]
      exact ⟨vp_in_nI (by omega) (by decide), nm_e (nm_r (nI_1 _) hp)⟩
  | succ d ih =>
    intro y c Nf hy hNf hc
    obtain ⟨Nf, rfl⟩ : ∃ k, Nf = k + 1 := ⟨Nf - 1, by omega⟩
    have hc' : c + ((if pr_st T 0 y ≤ x then 1 else 0) + pr_cn (pr_st T 0) x (y + 1) d) = pr_bf T 0 x := hc
    obtain ⟨_, T', _, _, _, hsT⟩ := pr_st_t T 0 y (Nat.zero_le _) (by omega) hw hat
    rw [wY_print_77]
    refine br_f (Int32.not_lt.mpr (nI_le (by omega) (by omega))) (yw_st H hw hat (by omega) (by omega) ?_)
    by_cases h : pr_st T 0 y ≤ x
    · rw [if_pos h] at hc'
      exact br_f (Int32.not_lt.mpr (nI_le (by omega) (by omega))) (nm_r (nI_1 c) (nm_r (nI_1 _) (ih (y + 1) (c + 1) Nf (by omega) (by omega) (by omega))))
    · rw [if_neg h] at hc'
      exact br_t (nI_lt (by omega) (by omega)) (nm_r (nI_1 _) (ih (y + 1) c Nf (by omega) (by omega) (by omega)))
theorem yw_o37 (H : gt_ok g) (hw : ff_wf g T) (hat : ff_at a_list (base + 0) T) (hM : ff_sz T = M + 1) (hb : base + M + 1 ≤ 32)
    (hp : ∀ mk od : Nat → Int32, (∀ y, y < M + 1 → mk (base + y) = gt_b (pr_w0 (M + 1) y)) → (∀ y, y < M + 1 → od (pr_pos s T y) = nI (base + y)) → ∃ N : Nat, wY_print_132 post (nI (base + M)) (nI base) N 0 f_maxOps f_maxNodes f_maxLevels f_maxNames (nI (gt_n g)) (nI n) f_listLen (gt_k g) (gt_p g) (gt_a g) (gt_c g) (gt_t g) a_text a_list a_leadOp a_follow a_groupAt a_groupOp a_groupNext a_rootOf a_found a_fromAt a_toAt a_work mk od) :
    ∀ (d x Nf : Nat) (mk od : Nat → Int32), x + d = M + 1 → d < Nf → (∀ y, y < x → mk (base + y) = gt_b (pr_w0 (M + 1) y)) → (∀ y, y < x → od (pr_pos s T y) = nI (base + y)) → wY_print_37 post s (nI (base + M)) (nI base) f_maxOps f_maxNodes f_maxLevels f_maxNames (nI (gt_n g)) (nI n) f_listLen Nf (nI (base + x)) (gt_k g) (gt_p g) (gt_a g) (gt_c g) (gt_t g) a_text a_list a_leadOp a_follow a_groupAt a_groupOp a_groupNext a_rootOf a_found a_fromAt a_toAt a_work mk od := by
  intro d
  induction d with
  | zero =>
    intro x Nf mk od hx hNf h1 h2
    obtain ⟨Nf, rfl⟩ : ∃ k, Nf = k + 1 := ⟨Nf - 1, by omega⟩
    have ex : x = M + 1 := hx
    subst ex
    rw [wY_print_37]
    exact br_t (nI_lt (by omega) (by omega)) (hp mk od h1 h2)
  | succ d ih =>
    intro x Nf mk od hx hNf h1 h2
    obtain ⟨Nf, rfl⟩ : ∃ k, Nf = k + 1 := ⟨Nf - 1, by omega⟩
    have h9 := ih (x + 1) Nf (upd mk (base + x) (gt_b (pr_w0 (M + 1) x))) (upd od (pr_pos s T x) (nI (base + x))) (by omega) (by omega) (by
      intro y hy
      by_cases e : y = x
      · rw [e, pk_us]
      · rw [pk_un (by omega)]
        exact h1 y (by omega)) (by
      intro y hy
      by_cases e : y = x
      · rw [e, pk_us]
      · have hne : pr_pos s T y ≠ pr_pos s T x := by
          intro z
          have q1 := pr_od_at (s := s) (T := T) (x := y) (by omega)
          rw [z, pr_od_at (s := s) (T := T) (x := x) (by omega)] at q1
          injection q1 with q1
          exact e q1.symm
        rw [pk_un hne]
        exact h2 y (by omega))
    have s60 : ∀ z : Int32, z = gt_b (pr_w0 (M + 1) x) → wY_print_60 post (wY_print_37 post s (nI (base + M)) (nI base) f_maxOps f_maxNodes f_maxLevels f_maxNames (nI (gt_n g)) (nI n) f_listLen Nf) s (nI (base + M)) (nI base) (nI (base + x)) z (nI (base + x)) f_maxOps f_maxNodes f_maxLevels f_maxNames (nI (gt_n g)) (nI n) f_listLen (gt_k g) (gt_p g) (gt_a g) (gt_c g) (gt_t g) a_text a_list a_leadOp a_follow a_groupAt a_groupOp a_groupNext a_rootOf a_found a_fromAt a_toAt a_work mk od := by
      intro z hz
      rw [← hz] at h9
      unfold wY_print_60
      rw [nI_clamp (n := base + x) (by omega)]
      refine ⟨vp_in_nI (by omega) (by decide), nm_e (yw_st H hw hat (by omega) (by omega) (nm_r (e' := nI (pr_st T 0 x)) (by rw [pk_sub (by omega), Nat.add_sub_cancel_left]) (nm_r (nI_1 _) ⟨M + 2, ?_⟩)))⟩
      refine yw_o77 H hw hat hM hb (by omega) h9 (M + 1 - (x + 1)) (x + 1) (pr_st T 0 x) (M + 2) (by omega) (by omega) ?_
      show _ = pr_st T 0 x - 0 + pr_cn (pr_st T 0) x (x + 1) (0 + ff_sz T - (x + 1))
      rw [hM, Nat.zero_add, Nat.sub_zero]
    rw [wY_print_37]
    refine br_f (Int32.not_lt.mpr (nI_le (by omega) (by omega))) ?_
    by_cases e : x = M
    · refine br_t (nI_le (by omega) (by omega)) (s60 0 ?_)
      show (0 : Int32) = gt_b (decide (x + 1 < M + 1))
      rw [decide_eq_false (by omega)]
      rfl
    · refine br_f (nI_ge (by omega) (by omega)) (s60 1 ?_)
      show (1 : Int32) = gt_b (decide (x + 1 < M + 1))
      rw [decide_eq_true (by omega)]
      rfl
end
end
section
/-! the reference's print -/
theorem pr_up_id {w : Nat → Bool} {x : Nat} (h : w x = false) : pr_up w x = w := by
  funext y
  show (if y = x then false else w y) = w y
  split
  · rename_i e
    rw [e, h]
  · rfl
theorem pr_tr_id {g : gt_T} {T : ff_F} {w : Nat → Bool} {x : Nat} (h : w x = false) : pr_tr g T w x = w := by
  by_cases z : ff_ok g (pr_mk (pr_up w x) T 0)
  · rw [pr_tr_t z, pr_up_id h]
  · exact pr_tr_f z
theorem pr_trs_od {g : gt_T} {T0 : ff_F} {s : Int32} {m : Nat} {e : Int32 ⊕ Nat} {u : Unit} {k : ff_F} {w : Nat → Bool} (h : w (ff_sz k) = false) : pr_trs g T0 w (pr_od s (.inner m e u .leaf k)) = pr_trs g T0 w (pr_ord s k) := by
  unfold pr_od pr_ord
  split
  · have e1 : pr_pre (.inner m e u .leaf k) 0 = ff_sz k :: pr_pre k 0 := by
      show [] ++ ((0 + 0 + ff_sz k) :: pr_pre k (0 + 0)) = _
      rw [List.nil_append, Nat.add_zero, Nat.zero_add]
    rw [e1]
    show pr_trs g T0 (pr_tr g T0 w (ff_sz k)) (pr_pre k 0) = _
    rw [pr_tr_id h]
  · have e1 : List.range' 0 (ff_sz (.inner m e u .leaf k)) = List.range' 0 (ff_sz k) ++ [ff_sz k] := by
      show List.range' 0 (0 + ff_sz k + 1) = _
      rw [Nat.zero_add, List.range'_1_concat, Nat.zero_add]
    rw [e1, pr_trs_app]
    show pr_tr g T0 _ (ff_sz k) = _
    exact pr_tr_id (pr_trs_0 _ _ h)
section
variable {g : gt_T} {n base : Nat} {post : Int32 → SY → Prop}
variable {f_maxOps f_maxNodes f_maxLevels f_maxNames f_listLen : Int32} {a_text a_list a_leadOp a_follow a_groupAt a_groupOp a_groupNext a_rootOf a_found a_fromAt a_toAt a_work a_mark a_order : Nat → Int32}
theorem yw_p132 (H : gt_ok g) (hm : f_maxNames + 1 = nI (gt_l g)) {m : Nat} {e : Int32 ⊕ Nat} {k : ff_F} {b : Nat} (hb : b = base + (ff_sz k + 1)) (hle : b ≤ 32) (hw : ff_wf g (.inner m e () .leaf k)) (hat : ff_at a_list base (.inner m e () .leaf k)) {wf : Nat → Bool}
    (hp : ∀ (xt ld fo ga go gn R fd fa ta wk mk : Nat → Int32), mt_aO xt (pr_tx g wf (.inner m e () .leaf k)) → post (nI (pr_bs wf 0 (ff_sz k + 1))) (f_maxOps, f_maxNodes, f_maxLevels, f_maxNames, nI (gt_n g), nI (pr_tx g wf (.inner m e () .leaf k)).length, nI b, gt_k g, gt_p g, gt_a g, gt_c g, gt_t g, xt, a_list, ld, fo, ga, go, gn, R, fd, fa, ta, wk, mk, a_order)) :
    ∀ (l : List Nat) (i Nf n : Nat) (w : Nat → Bool) (xt ld fo ga go gn R fd fa ta wk mk : Nat → Int32), (∀ j y : Nat, l[j]? = some y → a_order (i + j) = nI (base + y)) → l.Nodup → (∀ y, y ∈ l → y < ff_sz k + 1) → (∀ y, y ∈ l → y ≠ ff_sz k → w y = true) → w (ff_sz k) = false → i + l.length = ff_sz k + 1 → l.length < Nf → (∀ x, x < ff_sz k + 1 → mk (base + x) = gt_b (w x)) → pr_trs g (.inner m e () .leaf k) w l = wf →
      wY_print_132 post (nI (base + ff_sz k)) (nI base) Nf (nI i) f_maxOps f_maxNodes f_maxLevels f_maxNames (nI (gt_n g)) (nI n) (nI b) (gt_k g) (gt_p g) (gt_a g) (gt_c g) (gt_t g) xt a_list ld fo ga go gn R fd fa ta wk mk a_order := by
  have hsz0 : ff_sz (.inner m e () .leaf k) = ff_sz k + 1 := by show 0 + ff_sz k + 1 = _; omega
  intro l
  induction l with
  | nil =>
    intro i Nf n w xt ld fo ga go gn R fd fa ta wk mk hod hnd hlt hwt hwr hi hNf hmk htr
    obtain ⟨Nf, rfl⟩ : ∃ c, Nf = c + 1 := ⟨Nf - 1, by omega⟩
    have ew : w = wf := htr
    subst ew
    have ei : i = ff_sz k + 1 := hi
    subst ei
    obtain ⟨m1, m2, m3, m4, m5, m6⟩ := pr_tx_all H (w := w) (T := .inner m e () .leaf k) rfl hw (by rw [hsz0, Nat.add_sub_cancel]; exact hwr)
    rw [hsz0] at m4 m5
    rw [wY_print_132]
    refine br_t (by rw [pk_sub (by omega), Nat.add_sub_cancel_left]; exact nI_lt (by omega) (by omega)) ?_
    refine yw_write (w := w) H hb hle hmk hwr hw hat ?_
    intro xt' wk' hxt'
    refine yw_pairs (ts := pr_tx g w (.inner m e () .leaf k)) rfl (by omega) hxt' ?_
    rw [m5]
    exact hp xt' ld fo ga go gn R fd fa ta wk' mk hxt'
  | cons y l ih =>
    intro i Nf n w xt ld fo ga go gn R fd fa ta wk mk hod hnd hlt hwt hwr hi hNf hmk htr
    obtain ⟨Nf, rfl⟩ : ∃ c, Nf = c + 1 := ⟨Nf - 1, by omega⟩
    rw [List.length_cons] at hi hNf
    have htr' : pr_trs g (.inner m e () .leaf k) (pr_tr g (.inner m e () .leaf k) w y) l = wf := htr
    have hy := hlt y List.mem_cons_self
    have ho := hod 0 y rfl
    rw [Nat.add_zero] at ho
    have hod' : ∀ j z : Nat, l[j]? = some z → a_order (i + 1 + j) = nI (base + z) := by
      intro j z hz
      have := hod (j + 1) z hz
      rw [show i + (j + 1) = i + 1 + j by omega] at this
      exact this
    obtain ⟨hnd1, hnd2⟩ := List.nodup_cons.mp hnd
    have next : ∀ (n : Nat) (w' : Nat → Bool) (xt ld fo ga go gn R fd fa ta wk mk : Nat → Int32), w' = pr_tr g (.inner m e () .leaf k) w y → (∀ x, x < ff_sz k + 1 → mk (base + x) = gt_b (w' x)) → wY_print_132 post (nI (base + ff_sz k)) (nI base) Nf (nI (i + 1)) f_maxOps f_maxNodes f_maxLevels f_maxNames (nI (gt_n g)) (nI n) (nI b) (gt_k g) (gt_p g) (gt_a g) (gt_c g) (gt_t g) xt a_list ld fo ga go gn R fd fa ta wk mk a_order := by
      intro n w' xt ld fo ga go gn R fd fa ta wk mk hw' hmk'
      subst hw'
      refine ih (i + 1) Nf n _ xt ld fo ga go gn R fd fa ta wk mk hod' hnd2 (fun z hz => hlt z (List.mem_cons_of_mem _ hz)) ?_ (pr_tr_0 hwr) (by omega) (by omega) hmk' htr'
      intro z hz hzr
      rw [pr_tr_o (fun q => hnd1 (by rw [← q]; exact hz))]
      exact hwt z (List.mem_cons_of_mem _ hz) hzr
    rw [wY_print_132]
    refine br_f (by rw [pk_sub (by omega), Nat.add_sub_cancel_left]; exact Int32.not_lt.mpr (nI_le (by omega) (by omega))) ?_
    rw [nI_clamp (n := i) (by omega)]
    refine ⟨vp_in_nI (by omega) (by decide), nm_r ho ?_⟩
    by_cases hyr : y = ff_sz k
    · refine br_t (by rw [hyr]) (nm_r (nI_1 i) (next n w _ _ _ _ _ _ _ _ _ _ _ _ ?_ hmk))
      rw [hyr, pr_tr_id hwr]
    · have hwy := hwt y List.mem_cons_self hyr
      have hur : pr_up w y (ff_sz k) = false := by
        show (if ff_sz k = y then false else w (ff_sz k)) = false
        rw [if_neg (fun z => hyr z.symm), hwr]
      have hmk0 : ∀ x, x < ff_sz k + 1 → upd mk (base + y) 0 (base + x) = gt_b (pr_up w y x) := by
        intro x hx
        show _ = gt_b (if x = y then false else w x)
        by_cases c : x = y
        · rw [c, pk_us, if_pos rfl]
          rfl
        · rw [pk_un (by omega), if_neg c]
          exact hmk x hx
      obtain ⟨m1, m2, m3, m4, m5, m6⟩ := pr_tx_all H (w := pr_up w y) (T := .inner m e () .leaf k) rfl hw (by rw [hsz0, Nat.add_sub_cancel]; exact hur)
      rw [nI_clamp (n := base + y) (by omega)]
      refine br_f (fun z => hyr (by have := (nI_eq (a := base + y) (b := base + ff_sz k) (by omega) (by omega)).mp z; omega)) ⟨vp_in_nI (by omega) (by decide), nm_e ?_⟩
      refine yw_write (w := pr_up w y) H hb hle hmk0 hur hw hat ?_
      intro xt' wk' hxt'
      refine yw_back (Q := fun r' u => match u with | (f_maxOps, f_maxNodes, f_maxLevels, f_maxNames, f_opNum, f_textLen, f_listLen, a_opKind, a_opPrec, a_opAssoc, a_partCount, a_parts, a_text, a_list, a_leadOp, a_follow, a_groupAt, a_groupOp, a_groupNext, a_rootOf, a_found, a_fromAt, a_toAt, a_work, a_mark, a_order) => ((r' = 0 → (vp_in (nI (base + y)) 32 ∧ ∀ mk' : Nat → Int32, mk' = upd a_mark (base + y) 1 → (∀ x4 : Int32, x4 = nI i + 1 → wY_print_132 post (nI (base + ff_sz k)) (nI base) Nf x4 f_maxOps f_maxNodes f_maxLevels f_maxNames f_opNum f_textLen f_listLen a_opKind a_opPrec a_opAssoc a_partCount a_parts a_text a_list a_leadOp a_follow a_groupAt a_groupOp a_groupNext a_rootOf a_found a_fromAt a_toAt a_work mk' a_order))) ∧ (¬ r' = 0 → (∀ x4 : Int32, x4 = nI i + 1 → wY_print_132 post (nI (base + ff_sz k)) (nI base) Nf x4 f_maxOps f_maxNodes f_maxLevels f_maxNames f_opNum f_textLen f_listLen a_opKind a_opPrec a_opAssoc a_partCount a_parts a_text a_list a_leadOp a_follow a_groupAt a_groupOp a_groupNext a_rootOf a_found a_fromAt a_toAt a_work a_mark a_order)))) (w := pr_up w y) (T := .inner m e () .leaf k) (a := base) (b := b) H hm rfl hw (by rw [hsz0, Nat.add_sub_cancel]; exact hur) hat (by rw [hsz0]; exact hb) hle rfl hxt' ?_ ?_ ?_
      · intro r ld fo ga go gn R fd fa ta h
        exact h
      · intro hok ld fo ga go gn R fd fa ta
        exact br_f (by decide) (nm_r (nI_1 i) (next _ _ _ _ _ _ _ _ _ _ _ _ _ _ (pr_tr_t hok).symm hmk0))
      · intro hok ld fo ga go gn R fd fa ta
        refine br_t rfl ⟨vp_in_nI (by omega) (by decide), nm_e (nm_r (nI_1 i) (next _ _ _ _ _ _ _ _ _ _ _ _ _ _ (pr_tr_f hok).symm ?_))⟩
        intro x hx
        by_cases c : x = y
        · rw [c, pk_us, hwy]
          rfl
        · rw [pk_un (by omega), pk_un (by omega)]
          exact hmk x hx
end
end
section
section
variable {g : gt_T} {n : Nat} {post : Int32 → SY → Prop}
variable {f_maxOps f_maxNodes f_maxLevels f_maxNames f_listLen : Int32} {a_text a_list a_leadOp a_follow a_groupAt a_groupOp a_groupNext a_rootOf a_found a_fromAt a_toAt a_work a_mark a_order : Nat → Int32}
theorem yw_print (H : gt_ok g) (hm : f_maxNames + 1 = nI (gt_l g)) {m : Nat} {e : Int32 ⊕ Nat} {u : Unit} {p k : ff_F} (hw : ff_wf g (.inner m e u p k)) (hat : ff_at a_list 0 (.inner m e u p k)) (hsz : ff_sz (.inner m e u p k) ≤ 32) {s : Int32} (hs : s = 0 ∨ s = 1)
    (hp : ∀ (xt ld fo ga go gn R fd fa ta wk mk od : Nat → Int32), mt_aO xt (pr_tx g (pr_wf g s (.inner m e () .leaf k) k) (.inner m e () .leaf k)) → post (nI (pr_bs (pr_wf g s (.inner m e () .leaf k) k) 0 (ff_sz k + 1))) (f_maxOps, f_maxNodes, f_maxLevels, f_maxNames, nI (gt_n g), nI (pr_tx g (pr_wf g s (.inner m e () .leaf k) k) (.inner m e () .leaf k)).length, nI (ff_sz (.inner m e u p k)), gt_k g, gt_p g, gt_a g, gt_c g, gt_t g, xt, a_list, ld, fo, ga, go, gn, R, fd, fa, ta, wk, mk, od)) :
    wpY_print post (f_maxOps, f_maxNodes, f_maxLevels, f_maxNames, nI (gt_n g), nI n, nI (ff_sz (.inner m e u p k)), gt_k g, gt_p g, gt_a g, gt_c g, gt_t g, a_text, a_list, a_leadOp, a_follow, a_groupAt, a_groupOp, a_groupNext, a_rootOf, a_found, a_fromAt, a_toAt, a_work, a_mark, a_order) s := by
  obtain ⟨t1, t2, t3, t4⟩ := ff_top hw hat
  have hsz0 : ff_sz (.inner m e () .leaf k) = ff_sz k + 1 := by show 0 + ff_sz k + 1 = _; omega
  have hF : ff_sz (.inner m e u p k) = ff_sz p + ff_sz k + 1 := rfl
  have p11 : wY_print_11 post s f_maxOps f_maxNodes f_maxLevels f_maxNames (nI (gt_n g)) (nI n) (nI (ff_sz (.inner m e u p k))) (gt_k g) (gt_p g) (gt_a g) (gt_c g) (gt_t g) a_text a_list a_leadOp a_follow a_groupAt a_groupOp a_groupNext a_rootOf a_found a_fromAt a_toAt a_work a_mark a_order := by
    unfold wY_print_11
    refine br_f (nI_ne0 (by omega) (by omega)) (nm_r (e' := nI (ff_sz p + ff_sz k)) (by rw [hF, nI_pred]) ?_)
    refine yw_start (b := ff_sz p + ff_sz k + 1) H t1 t2 t3 (by omega) (by omega) (nI_pred _).symm ⟨ff_sz k + 2, ?_⟩
    refine yw_o37 (T := .inner m e () .leaf k) (base := ff_sz p) (M := ff_sz k) (s := s) H t2 t3 hsz0 (by omega) ?_ (ff_sz k + 1) 0 (ff_sz k + 2) a_mark a_order (by omega) (by omega) (fun y hy => absurd hy (Nat.not_lt_zero _)) (fun y hy => absurd hy (Nat.not_lt_zero _))
    intro mk od hmk hod
    refine ⟨ff_sz k + 2, ?_⟩
    rw [← hsz0] at hod
    have hw0 : pr_w0 (ff_sz k + 1) (ff_sz k) = false := decide_eq_false (by omega)
    have hlen : (pr_od s (.inner m e () .leaf k)).length = ff_sz k + 1 := by rw [pr_od_len, hsz0]
    refine yw_p132 (base := ff_sz p) (wf := pr_wf g s (.inner m e () .leaf k) k) (m := m) (e := e) (k := k) H hm (b := ff_sz (.inner m e u p k)) (by omega) hsz t2 t3 ?_ (pr_od s (.inner m e () .leaf k)) 0 (ff_sz k + 2) n (pr_w0 (ff_sz k + 1)) _ _ _ _ _ _ _ _ _ _ _ _ ?_ pr_od_nd ?_ ?_ hw0 (by omega) (by omega) hmk (pr_trs_od hw0)
    · intro xt ld fo ga go gn R fd fa ta wk mk hxt
      exact hp xt ld fo ga go gn R fd fa ta wk mk od hxt
    · intro j y hj
      rw [Nat.zero_add]
      exact pr_od_arr hod hj
    · intro y hy
      have := pr_od_lt hy
      omega
    · intro y hy hyr
      have := pr_od_lt hy
      exact decide_eq_true (by omega)
  unfold wpY_print
  rcases hs with e0 | e1
  · subst e0
    exact br_t rfl p11
  · subst e1
    exact br_f (by decide) (br_t rfl p11)
end
theorem i_vc_print {k : Nat} {u : SX} {v : SY} (I : i_Rel k u v) (hk : k + 5 ≤ 2564) (v1 : Int32) : wpX_print (fun r u' => wpY_print (fun r' v' => r' = r ∧ i_Rel (k + 5) u' v') v v1) u v1 := by
  refine rl_el (P := fun u v => wpX_print (fun r u' => wpY_print (fun r' v' => r' = r ∧ i_Rel (k + 5) u' v') v v1) u v1) I ?_
  intro g opL nodeL levL ts F f_depth f_wanting f_clashing f_outLen f_treeBase f_treeNodes f_workDepth a_opener a_joiner a_inner xt xl a_frameOp a_frameNext a_out a_partner a_openAt a_treeOp a_parent a_slot a_kid a_wrapped a_workNode a_workStep yt yl a_leadOp a_follow a_groupAt a_groupOp a_groupNext a_rootOf a_found a_fromAt a_toAt a_work a_mark a_order hR
  have hR' := hR
  obtain ⟨H, hl, ho, hn, hlv, hx, hts, hxt, hyt, htk, hw, hsz, hxl, hyl⟩ := hR
  have hg1 := gl_1 hl
  by_cases hs : v1 = 0 ∨ v1 = 1
  · match F, hw, hsz, hxl, hyl, hR' with
    | .leaf, hw, hsz, hxl, hyl, hR' =>
      have y11 : wY_print_11 (fun r' v' => r' = -3 ∧ i_Rel (k + 5) (nI opL, nI nodeL, nI levL, nI (gt_l g), nI (4 * nodeL), nI (gt_n g), nI ts.length, nI (ff_sz .leaf), nI (ff_len .leaf), f_depth, f_wanting, f_clashing, f_outLen, f_treeBase, f_treeNodes, f_workDepth, gt_k g, gt_p g, gt_a g, gt_c g, gt_t g, a_opener, a_joiner, a_inner, xt, xl, a_frameOp, a_frameNext, a_out, a_partner, a_openAt, a_treeOp, a_parent, a_slot, a_kid, a_wrapped, a_workNode, a_workStep) v') v1 (nI opL) (nI nodeL) (nI levL) (nI (gt_l g - 1)) (nI (gt_n g)) (nI ts.length) (nI (ff_sz .leaf)) (gt_k g) (gt_p g) (gt_a g) (gt_c g) (gt_t g) yt yl a_leadOp a_follow a_groupAt a_groupOp a_groupNext a_rootOf a_found a_fromAt a_toAt a_work a_mark a_order := by
        unfold wY_print_11
        exact br_t rfl ⟨rfl, rl_in hR'⟩
      have y : wpY_print (fun r' v' => r' = -3 ∧ i_Rel (k + 5) (nI opL, nI nodeL, nI levL, nI (gt_l g), nI (4 * nodeL), nI (gt_n g), nI ts.length, nI (ff_sz .leaf), nI (ff_len .leaf), f_depth, f_wanting, f_clashing, f_outLen, f_treeBase, f_treeNodes, f_workDepth, gt_k g, gt_p g, gt_a g, gt_c g, gt_t g, a_opener, a_joiner, a_inner, xt, xl, a_frameOp, a_frameNext, a_out, a_partner, a_openAt, a_treeOp, a_parent, a_slot, a_kid, a_wrapped, a_workNode, a_workStep) v') (nI opL, nI nodeL, nI levL, nI (gt_l g - 1), nI (gt_n g), nI ts.length, nI (ff_sz .leaf), gt_k g, gt_p g, gt_a g, gt_c g, gt_t g, yt, yl, a_leadOp, a_follow, a_groupAt, a_groupOp, a_groupNext, a_rootOf, a_found, a_fromAt, a_toAt, a_work, a_mark, a_order) v1 := by
        unfold wpY_print
        rcases hs with e0 | e1
        · subst e0
          exact br_t rfl y11
        · subst e1
          exact br_f (by decide) (br_t rfl y11)
      have x11 : wX_print_11 (fun r u' => wpY_print (fun r' v' => r' = r ∧ i_Rel (k + 5) u' v') (nI opL, nI nodeL, nI levL, nI (gt_l g - 1), nI (gt_n g), nI ts.length, nI (ff_sz .leaf), gt_k g, gt_p g, gt_a g, gt_c g, gt_t g, yt, yl, a_leadOp, a_follow, a_groupAt, a_groupOp, a_groupNext, a_rootOf, a_found, a_fromAt, a_toAt, a_work, a_mark, a_order) v1) v1 (nI opL) (nI nodeL) (nI levL) (nI (gt_l g)) (nI (4 * nodeL)) (nI (gt_n g)) (nI ts.length) (nI (ff_sz .leaf)) (nI (ff_len .leaf)) f_depth f_wanting f_clashing f_outLen f_treeBase f_treeNodes f_workDepth (gt_k g) (gt_p g) (gt_a g) (gt_c g) (gt_t g) a_opener a_joiner a_inner xt xl a_frameOp a_frameNext a_out a_partner a_openAt a_treeOp a_parent a_slot a_kid a_wrapped a_workNode a_workStep := by
        unfold wX_print_11
        exact br_t rfl y
      unfold wpX_print
      rcases hs with e0 | e1
      · subst e0
        exact br_t rfl x11
      · subst e1
        exact br_f (by decide) (br_t rfl x11)
    | .inner m e u p kk, hw, hsz, hxl, hyl, hR' =>
      obtain ⟨t1, t2, _, t4⟩ := ff_top hw hxl
      have hsz0 : ff_sz (.inner m e () .leaf kk) = ff_sz kk + 1 := by show 0 + ff_sz kk + 1 = _; omega
      obtain ⟨m1, m2, m3, m4, m5, m6⟩ := pr_tx_all H (w := pr_wf g v1 (.inner m e () .leaf kk) kk) t1 t2 (by rw [hsz0, Nat.add_sub_cancel]; exact pr_wf_r)
      refine xw_print (s := v1) H hn.2 hw hxl hsz hs ?_
      intro tb tn wd xt' tr pa sl kd aw wn ws hxt'
      refine yw_print (s := v1) H hg1 hw hyl (by omega) hs ?_
      intro yt' ld fo ga go gn R fd fa ta wk mk od hyt'
      exact ⟨rfl, rl_in ⟨H, hl, ho, hn, hlv, hx, by omega, hxt', hyt', m6, hw, hsz, hxl, hyl⟩⟩
  · have h0 : ¬ v1 = 0 := fun z => hs (Or.inl z)
    have h1 : ¬ v1 = 1 := fun z => hs (Or.inr z)
    unfold wpX_print
    refine br_f h0 (br_f h1 ?_)
    unfold wpY_print
    exact br_f h0 (br_f h1 ⟨rfl, rl_in hR'⟩)
end
