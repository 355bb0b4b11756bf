section
/-! pure rows to paste: stores, nI and lN arithmetic, masks, shifts, narrowing, branches by naturals (pk_le, pk_lt, pk_eq), loops (lp1 .. lp16: the measure of the state; rp1 ..: recursion), negatives. Take what you need -/
theorem pk_us {f : Nat → Int32} {k : Nat} {x : Int32} : upd f k x k = x := if_pos rfl
theorem pk_un {f : Nat → Int32} {k j : Nat} {x : Int32} (h : j ≠ k) : upd f k x j = f j := if_neg h
theorem pk_uLs {f : Nat → Int64} {k : Nat} {x : Int64} : vp_updL f k x k = x := if_pos rfl
theorem pk_uLn {f : Nat → Int64} {k j : Nat} {x : Int64} (h : j ≠ k) : vp_updL f k x j = f j := if_neg h
theorem pk_sub {a b : Nat} (h : b ≤ a) : nI a - nI b = nI (a - b) := by
  obtain ⟨c, rfl⟩ : ∃ c, a = c + b := ⟨a - b, by omega⟩
  rw [← nI_add, Int32.add_sub_cancel, Nat.add_sub_cancel]
theorem pk_m1 (n : Nat) : nI (n + 1) + (-1) = nI n := by
  rw [← nI_1, Int32.add_assoc, show (1 : Int32) + (-1) = 0 from rfl, Int32.add_zero]
theorem pk_mul (a b : Nat) : nI a * nI b = nI (a * b) := (Int32.ofNat_mul a b).symm
theorem pk_div {a d : Nat} (ha : a < 2 ^ 31) (h0 : 0 < d) (hd : d < 2 ^ 31) : nI a / nI d = nI (a / d) := by
  apply Int32.toInt_inj.mp
  rw [lg_idiv_nonneg (by rw [nI_toInt ha]; omega) (by rw [nI_toInt hd]; omega), nI_toInt ha, nI_toInt hd, nI_toInt (Nat.lt_of_le_of_lt (Nat.div_le_self a d) ha)]
  first | rfl | exact (Int.natCast_ediv _ _).symm
theorem pk_rem {a d : Nat} (ha : a < 2 ^ 31) (h0 : 0 < d) (hd : d < 2 ^ 31) : nI a - nI a / nI d * nI d = nI (a % d) := by
  rw [pk_div ha h0 hd, pk_mul, pk_sub (Nat.div_mul_le_self a d)]
  exact congrArg nI (by have := Nat.div_add_mod' a d; omega)
theorem pk_sub_toInt {a b : Nat} (ha : a < 2 ^ 30) (hb : b < 2 ^ 30) : (nI a - nI b).toInt = (a : Int) - b := by
  rw [Int32.toInt_sub, nI_toInt (by omega), nI_toInt (by omega)]
  exact Int.bmod_eq_of_le (by omega) (by omega)
theorem pk_sneg {a b : Nat} (hb : b < 2 ^ 30) (h : a < b) : nI a - nI b < 0 := by
  rw [Int32.lt_iff_toInt_lt, pk_sub_toInt (by omega) hb, show (0 : Int32).toInt = 0 from by decide]
  omega
theorem pk_ix (x : Int32) {n : Nat} (hn : n < 2 ^ 31) : x < 0 ∨ nI n ≤ x ∨ ∃ j : Nat, j < n ∧ x = nI j := by
  by_cases h : x < 0
  · exact Or.inl h
  · obtain ⟨j, hj, rfl⟩ := nI_of h
    by_cases h2 : j < n
    · exact Or.inr (Or.inr ⟨j, h2, rfl⟩)
    · exact Or.inr (Or.inl (nI_le (by omega) hj))
theorem pk_le {x y : Int32} {A B : Prop} (a b : Nat) (f : a ≤ b → A) (g : b < a → B) (hx : x = nI a := by rfl) (hy : y = nI b := by rfl) (ha : a < 2 ^ 31 := by omega) (hb : b < 2 ^ 31 := by omega) : (x ≤ y → A) ∧ (¬ x ≤ y → B) := by
  subst hx hy
  rw [nI_leI ha hb]
  exact ⟨f, fun z => g (by omega)⟩
theorem pk_lt {x y : Int32} {A B : Prop} (a b : Nat) (f : a < b → A) (g : b ≤ a → B) (hx : x = nI a := by rfl) (hy : y = nI b := by rfl) (ha : a < 2 ^ 31 := by omega) (hb : b < 2 ^ 31 := by omega) : (x < y → A) ∧ (¬ x < y → B) := by
  subst hx hy
  rw [nI_ltI ha hb]
  exact ⟨f, fun z => g (by omega)⟩
theorem pk_eq {x y : Int32} {A B : Prop} (a b : Nat) (f : a = b → A) (g : a ≠ b → B) (hx : x = nI a := by rfl) (hy : y = nI b := by rfl) (ha : a < 2 ^ 31 := by omega) (hb : b < 2 ^ 31 := by omega) : (x = y → A) ∧ (¬ x = y → B) := by
  subst hx hy
  rw [nI_eq ha hb]
  exact ⟨f, g⟩
theorem pk_in {x : Int32} (n N : Nat) (h : n < N) (hx : x = nI n := by rfl) (hN : N < 2 ^ 31 := by omega) : vp_in x N := by
  subst hx
  exact vp_in_nI h hN
theorem pk_cl {x : Int32} (n : Nat) (hx : x = nI n := by rfl) (h : n < 2 ^ 31 := by omega) : x.toNatClampNeg = n := by
  subst hx
  exact nI_clamp h
theorem pk_tn {n : Nat} (h : n < 2 ^ 32) : (nI n).toBitVec.toNat = n := Nat.mod_eq_of_lt h
theorem pk_and (x : Int32) {m : Int32} (k : Nat) (hm : m.toBitVec.toNat = 2 ^ k - 1) : x &&& m = nI (x.toBitVec.toNat % 2 ^ k) := by
  apply Int32.toBitVec_inj.mp
  apply BitVec.eq_of_toNat_eq
  rw [Int32.toBitVec_and, BitVec.toNat_and, hm, Nat.and_two_pow_sub_one_eq_mod]
  show _ = (BitVec.ofNat 32 _).toNat
  rw [BitVec.toNat_ofNat]
  exact (Nat.mod_eq_of_lt (Nat.lt_of_le_of_lt (Nat.mod_le _ _) x.toBitVec.isLt)).symm
theorem pk_andN {n : Nat} (h : n < 2 ^ 32) {m : Int32} (k : Nat) (hm : m.toBitVec.toNat = 2 ^ k - 1) : nI n &&& m = nI (n % 2 ^ k) := by
  rw [pk_and _ k hm, pk_tn h]
theorem pk_andE (x : Int32) {m : Int32} (k : Nat) (hm : m.toBitVec.toNat = 2 ^ k - 1) : ∃ j : Nat, j < 2 ^ k ∧ x &&& m = nI j := ⟨_, Nat.mod_lt _ (Nat.two_pow_pos k), pk_and x k hm⟩
theorem pk_andIn (x : Int32) {m : Int32} (k : Nat) (hm : m.toBitVec.toNat = 2 ^ k - 1) (hk : k ≤ 30) : vp_in (x &&& m) (2 ^ k) := by
  obtain ⟨j, hj, e⟩ := pk_andE x k hm
  rw [e]
  exact vp_in_nI hj (Nat.lt_of_le_of_lt (Nat.pow_le_pow_right (by decide) hk) (by decide))
theorem pk_shl (a s : Int32) (k : Nat) (hs : (s.toBitVec.smod 32).toNat = k) : (a <<< s).toBitVec.toNat = a.toBitVec.toNat * 2 ^ k % 2 ^ 32 := by
  show (a.toBitVec <<< (s.toBitVec.smod 32).toNat).toNat = _
  rw [hs, BitVec.toNat_shiftLeft, Nat.shiftLeft_eq]
theorem pk_shlN {n : Nat} (s : Int32) (k : Nat) (hs : (s.toBitVec.smod 32).toNat = k) (h : n * 2 ^ k < 2 ^ 32) : nI n <<< s = nI (n * 2 ^ k) := by
  apply Int32.toBitVec_inj.mp
  apply BitVec.eq_of_toNat_eq
  have hn : n < 2 ^ 32 := Nat.lt_of_le_of_lt (Nat.le_mul_of_pos_right n (Nat.two_pow_pos k)) h
  rw [pk_shl _ _ k hs, pk_tn hn, pk_tn h, Nat.mod_eq_of_lt h]
theorem pk_shr (a s : Int32) (k : Nat) (hs : (s.toBitVec.smod 32).toNat = k) : (a >>> s).toInt = a.toInt >>> k := by
  show (a.toBitVec.sshiftRight (s.toBitVec.smod 32).toNat).toInt = _
  rw [hs, BitVec.toInt_sshiftRight]
  rfl
theorem pk_shrN {n : Nat} (h : n < 2 ^ 31) (s : Int32) (k : Nat) (hs : (s.toBitVec.smod 32).toNat = k) : nI n >>> s = nI (n / 2 ^ k) := by
  apply Int32.toInt_inj.mp
  have h2 : n / 2 ^ k ≤ n := Nat.div_le_self _ _
  rw [pk_shr _ _ k hs, nI_toInt h, nI_toInt (by omega), Int.shiftRight_eq_div_pow]
  rfl
theorem pk_ushr (x s : Int32) (k : Nat) (hs : ((s.toUInt32 &&& Int32.toUInt32 31).toBitVec % 32).toNat = k) : (x.toUInt32 >>> (s.toUInt32 &&& Int32.toUInt32 31)).toInt32.toBitVec.toNat = x.toBitVec.toNat / 2 ^ k := by
  have e : (x.toUInt32 >>> (s.toUInt32 &&& Int32.toUInt32 31)).toInt32.toBitVec = x.toBitVec >>> k := by
    rw [← hs]
    exact UInt32.toBitVec_shiftRight _ _
  rw [e, BitVec.toNat_ushiftRight, Nat.shiftRight_eq_div_pow]
theorem pk_ushrN {n : Nat} (hn : n < 2 ^ 32) (s : Int32) (k : Nat) (hs : ((s.toUInt32 &&& Int32.toUInt32 31).toBitVec % 32).toNat = k) : ((nI n).toUInt32 >>> (s.toUInt32 &&& Int32.toUInt32 31)).toInt32 = nI (n / 2 ^ k) := by
  apply Int32.toBitVec_inj.mp
  apply BitVec.eq_of_toNat_eq
  rw [pk_ushr _ s k hs, pk_tn hn, pk_tn (Nat.lt_of_le_of_lt (Nat.div_le_self _ _) hn)]
theorem pk_nb (z : Int32) : narrow .byte (.int z.toInt8.toInt32) = .int z.toInt8.toInt32 := congrArg Value.int (by simp)
theorem pk_ns (z : Int32) : narrow .short (.int z.toInt16.toInt32) = .int z.toInt16.toInt32 := congrArg Value.int (by simp)
theorem pk_fb (r : Int32) : fits .byte (.int r.toInt8.toInt32) = true := by
  have ⟨a, b⟩ := lg_i2b_range r
  have h1 : (-128 : Int32).toInt = -128 := by decide
  have h2 : (127 : Int32).toInt = 127 := by decide
  simp only [fits, Bool.and_eq_true, decide_eq_true_eq, Int32.le_iff_toInt_le, h1, h2]
  omega
theorem pk_fs (r : Int32) : fits .short (.int r.toInt16.toInt32) = true := by
  have ⟨a, b⟩ := lg_i2s_range r
  have h1 : (-32768 : Int32).toInt = -32768 := by decide
  have h2 : (32767 : Int32).toInt = 32767 := by decide
  simp only [fits, Bool.and_eq_true, decide_eq_true_eq, Int32.le_iff_toInt_le, h1, h2]
  omega
theorem pk_charN {q : Nat} (hq : q < 65536) : narrow .char (.int (nI q)) = .int (nI q) ∧ fits .char (.int (nI q)) = true := by
  constructor
  · have e : (nI q).toUInt32.toUInt16.toUInt32.toInt32 = nI q := by
      apply Int32.toBitVec_inj.mp
      apply BitVec.eq_of_toNat_eq
      show (nI q).toUInt32.toUInt16.toUInt32.toNat = q % 2 ^ 32
      rw [UInt16.toNat_toUInt32, UInt32.toNat_toUInt16, show (nI q).toUInt32.toNat = q % 2 ^ 32 from rfl]
      omega
    exact congrArg Value.int e
  · have a : (0 : Int32) ≤ nI q := nI_pos' (by omega)
    have b : nI q ≤ 65535 := nI_le (b := 65535) (by omega) (by decide)
    show (decide ((0 : Int32) ≤ nI q) && decide (nI q ≤ 65535)) = true
    rw [decide_eq_true a, decide_eq_true b]
    rfl
theorem pk_char (x : Int32) : (x.toUInt32 % 65536).toInt32 = nI (x.toBitVec.toNat % 65536) := by
  apply Int32.toBitVec_inj.mp
  apply BitVec.eq_of_toNat_eq
  rw [pk_tn (by omega)]
  show (x.toUInt32 % 65536).toNat = _
  rw [UInt32.toNat_mod]
  rfl
theorem pk_nc (x : Int32) : narrow .char (.int (x.toUInt32 % 65536).toInt32) = .int (x.toUInt32 % 65536).toInt32 := by
  rw [pk_char]
  exact (pk_charN (Nat.mod_lt _ (by decide))).1
theorem pk_fc (x : Int32) : fits .char (.int (x.toUInt32 % 65536).toInt32) = true := by
  rw [pk_char]
  exact (pk_charN (Nat.mod_lt _ (by decide))).2
theorem pk_vb (z : Int32) : vp_nar .byte z.toInt8.toInt32 = z.toInt8.toInt32 := by rw [vp_nar_byte]; simp
theorem pk_vs (z : Int32) : vp_nar .short z.toInt16.toInt32 = z.toInt16.toInt32 := by rw [vp_nar_short]; simp
theorem pk_vc (z : Int32) : vp_nar .char (z.toUInt32 % 65536).toInt32 = (z.toUInt32 % 65536).toInt32 := Value.int.inj (pk_nc z)
theorem pk_lT {n : Nat} (h : n < 2 ^ 63) : (lN n).toInt = (n : Int) := lg_ofNat_toInt h
theorem pk_lLT {a b : Nat} (ha : a < 2 ^ 63) (hb : b < 2 ^ 63) : lN a < lN b ↔ a < b := by
  rw [Int64.lt_iff_toInt_lt, pk_lT ha, pk_lT hb]; omega
theorem pk_lLE {a b : Nat} (ha : a < 2 ^ 63) (hb : b < 2 ^ 63) : lN a ≤ lN b ↔ a ≤ b := by
  rw [Int64.le_iff_toInt_le, pk_lT ha, pk_lT hb]; omega
theorem pk_lEQ {a b : Nat} (ha : a < 2 ^ 63) (hb : b < 2 ^ 63) : lN a = lN b ↔ a = b := by
  rw [← Int64.toInt_inj, pk_lT ha, pk_lT hb]; omega
theorem pk_lOf {x : Int64} (h : ¬ x < 0) : ∃ k : Nat, k < 2 ^ 63 ∧ x = lN k := by
  rw [Int64.lt_iff_toInt_lt] at h
  have h0 : (0 : Int64).toInt = 0 := by decide
  have hx := Int64.toInt_lt x
  refine ⟨x.toInt.toNat, by omega, Int64.toInt_inj.mp ?_⟩
  rw [pk_lT (by omega)]
  omega
theorem pk_lDiv {a b : Nat} (ha : a < 2 ^ 63) (h0 : 0 < b) (hb : b < 2 ^ 63) : lN a / lN b = lN (a / b) := by
  apply Int64.toInt_inj.mp
  rw [lg_ldiv_nonneg (by rw [pk_lT ha]; omega) (by rw [pk_lT hb]; omega), pk_lT ha, pk_lT hb, pk_lT (Nat.lt_of_le_of_lt (Nat.div_le_self a b) ha)]
  rfl
theorem pk_lRem {a b : Nat} (ha : a < 2 ^ 63) (h0 : 0 < b) (hb : b < 2 ^ 63) : lN a - lN a / lN b * lN b = lN (a % b) := by
  rw [pk_lDiv ha h0 hb, lN_mul, lN_sub (Nat.div_mul_le_self a b)]
  exact congrArg lN (by have := Nat.div_add_mod' a b; omega)
theorem pk_loop {σ : Type} (W : Nat → Nat → σ → Prop) (I : Nat → σ → Prop) (e i0 : Nat) (s : σ) (hi : i0 ≤ e) (h0 : I i0 s) (hx : ∀ n s, I e s → W (n + 1) e s)
    (hs : ∀ n i s, i < e → I i s → (∀ s', I (i + 1) s' → W n (i + 1) s') → W (n + 1) i s) : ∃ n, W n i0 s :=
  ⟨e + 1, loop_i W I e hx hs (e + 1) i0 s hi (by omega) h0⟩
theorem pk_loopD {σ : Type} (W : Nat → Nat → σ → Prop) (I : Nat → σ → Prop) (hx : ∀ n s, I 0 s → W (n + 1) 0 s)
    (hs : ∀ n i s, I (i + 1) s → (∀ s', I i s' → W n i s') → W (n + 1) (i + 1) s) : ∀ (e : Nat) (s : σ), I e s → W (e + 1) e s := by
  intro e
  induction e with
  | zero => exact fun s h => hx 0 s h
  | succ e ih => exact fun s h => hs (e + 1) e s h (fun s' h' => ih s' h')
theorem lp1 {A1 : Type} (W : Nat → A1 → Prop) (I : A1 → Prop) (μ : A1 → Nat) (hs : ∀ (n : Nat) (a1 : A1), I a1 → (∀ (b1 : A1), I b1 → μ b1 < μ a1 → W n b1) → W (n + 1) a1) (a1 : A1) (h : I a1) : ∃ n, W n a1 :=
  loop_m (σ := A1) (fun n s => W n s) (fun s => I s) (fun s => μ s) (fun n s hI hk => hs n s hI (fun b1 h9 hm => hk b1 h9 hm)) a1 h
theorem lp2 {A1 A2 : Type} (W : Nat → A1 → A2 → Prop) (I : A1 → A2 → Prop) (μ : A1 → A2 → Nat) (hs : ∀ (n : Nat) (a1 : A1) (a2 : A2), I a1 a2 → (∀ (b1 : A1) (b2 : A2), I b1 b2 → μ b1 b2 < μ a1 a2 → W n b1 b2) → W (n + 1) a1 a2) (a1 : A1) (a2 : A2) (h : I a1 a2) : ∃ n, W n a1 a2 :=
  loop_m (σ := A1 × A2) (fun n s => W n s.1 s.2) (fun s => I s.1 s.2) (fun s => μ s.1 s.2) (fun n s hI hk => hs n s.1 s.2 hI (fun b1 b2 h9 hm => hk (b1, b2) h9 hm)) (a1, a2) h
theorem lp3 {A1 A2 A3 : Type} (W : Nat → A1 → A2 → A3 → Prop) (I : A1 → A2 → A3 → Prop) (μ : A1 → A2 → A3 → Nat) (hs : ∀ (n : Nat) (a1 : A1) (a2 : A2) (a3 : A3), I a1 a2 a3 → (∀ (b1 : A1) (b2 : A2) (b3 : A3), I b1 b2 b3 → μ b1 b2 b3 < μ a1 a2 a3 → W n b1 b2 b3) → W (n + 1) a1 a2 a3) (a1 : A1) (a2 : A2) (a3 : A3) (h : I a1 a2 a3) : ∃ n, W n a1 a2 a3 :=
  loop_m (σ := A1 × A2 × A3) (fun n s => W n s.1 s.2.1 s.2.2) (fun s => I s.1 s.2.1 s.2.2) (fun s => μ s.1 s.2.1 s.2.2) (fun n s hI hk => hs n s.1 s.2.1 s.2.2 hI (fun b1 b2 b3 h9 hm => hk (b1, b2, b3) h9 hm)) (a1, a2, a3) h
theorem lp4 {A1 A2 A3 A4 : Type} (W : Nat → A1 → A2 → A3 → A4 → Prop) (I : A1 → A2 → A3 → A4 → Prop) (μ : A1 → A2 → A3 → A4 → Nat) (hs : ∀ (n : Nat) (a1 : A1) (a2 : A2) (a3 : A3) (a4 : A4), I a1 a2 a3 a4 → (∀ (b1 : A1) (b2 : A2) (b3 : A3) (b4 : A4), I b1 b2 b3 b4 → μ b1 b2 b3 b4 < μ a1 a2 a3 a4 → W n b1 b2 b3 b4) → W (n + 1) a1 a2 a3 a4) (a1 : A1) (a2 : A2) (a3 : A3) (a4 : A4) (h : I a1 a2 a3 a4) : ∃ n, W n a1 a2 a3 a4 :=
  loop_m (σ := A1 × A2 × A3 × A4) (fun n s => W n s.1 s.2.1 s.2.2.1 s.2.2.2) (fun s => I s.1 s.2.1 s.2.2.1 s.2.2.2) (fun s => μ s.1 s.2.1 s.2.2.1 s.2.2.2) (fun n s hI hk => hs n s.1 s.2.1 s.2.2.1 s.2.2.2 hI (fun b1 b2 b3 b4 h9 hm => hk (b1, b2, b3, b4) h9 hm)) (a1, a2, a3, a4) h
theorem lp5 {A1 A2 A3 A4 A5 : Type} (W : Nat → A1 → A2 → A3 → A4 → A5 → Prop) (I : A1 → A2 → A3 → A4 → A5 → Prop) (μ : A1 → A2 → A3 → A4 → A5 → Nat) (hs : ∀ (n : Nat) (a1 : A1) (a2 : A2) (a3 : A3) (a4 : A4) (a5 : A5), I a1 a2 a3 a4 a5 → (∀ (b1 : A1) (b2 : A2) (b3 : A3) (b4 : A4) (b5 : A5), I b1 b2 b3 b4 b5 → μ b1 b2 b3 b4 b5 < μ a1 a2 a3 a4 a5 → W n b1 b2 b3 b4 b5) → W (n + 1) a1 a2 a3 a4 a5) (a1 : A1) (a2 : A2) (a3 : A3) (a4 : A4) (a5 : A5) (h : I a1 a2 a3 a4 a5) : ∃ n, W n a1 a2 a3 a4 a5 :=
  loop_m (σ := A1 × A2 × A3 × A4 × A5) (fun n s => W n s.1 s.2.1 s.2.2.1 s.2.2.2.1 s.2.2.2.2) (fun s => I s.1 s.2.1 s.2.2.1 s.2.2.2.1 s.2.2.2.2) (fun s => μ s.1 s.2.1 s.2.2.1 s.2.2.2.1 s.2.2.2.2) (fun n s hI hk => hs n s.1 s.2.1 s.2.2.1 s.2.2.2.1 s.2.2.2.2 hI (fun b1 b2 b3 b4 b5 h9 hm => hk (b1, b2, b3, b4, b5) h9 hm)) (a1, a2, a3, a4, a5) h
theorem lp6 {A1 A2 A3 A4 A5 A6 : Type} (W : Nat → A1 → A2 → A3 → A4 → A5 → A6 → Prop) (I : A1 → A2 → A3 → A4 → A5 → A6 → Prop) (μ : A1 → A2 → A3 → A4 → A5 → A6 → Nat) (hs : ∀ (n : Nat) (a1 : A1) (a2 : A2) (a3 : A3) (a4 : A4) (a5 : A5) (a6 : A6), I a1 a2 a3 a4 a5 a6 → (∀ (b1 : A1) (b2 : A2) (b3 : A3) (b4 : A4) (b5 : A5) (b6 : A6), I b1 b2 b3 b4 b5 b6 → μ b1 b2 b3 b4 b5 b6 < μ a1 a2 a3 a4 a5 a6 → W n b1 b2 b3 b4 b5 b6) → W (n + 1) a1 a2 a3 a4 a5 a6) (a1 : A1) (a2 : A2) (a3 : A3) (a4 : A4) (a5 : A5) (a6 : A6) (h : I a1 a2 a3 a4 a5 a6) : ∃ n, W n a1 a2 a3 a4 a5 a6 :=
  loop_m (σ := A1 × A2 × A3 × A4 × A5 × A6) (fun n s => W n s.1 s.2.1 s.2.2.1 s.2.2.2.1 s.2.2.2.2.1 s.2.2.2.2.2) (fun s => I s.1 s.2.1 s.2.2.1 s.2.2.2.1 s.2.2.2.2.1 s.2.2.2.2.2) (fun s => μ s.1 s.2.1 s.2.2.1 s.2.2.2.1 s.2.2.2.2.1 s.2.2.2.2.2) (fun n s hI hk => hs n s.1 s.2.1 s.2.2.1 s.2.2.2.1 s.2.2.2.2.1 s.2.2.2.2.2 hI (fun b1 b2 b3 b4 b5 b6 h9 hm => hk (b1, b2, b3, b4, b5, b6) h9 hm)) (a1, a2, a3, a4, a5, a6) h
theorem lp7 {A1 A2 A3 A4 A5 A6 A7 : Type} (W : Nat → A1 → A2 → A3 → A4 → A5 → A6 → A7 → Prop) (I : A1 → A2 → A3 → A4 → A5 → A6 → A7 → Prop) (μ : A1 → A2 → A3 → A4 → A5 → A6 → A7 → Nat) (hs : ∀ (n : Nat) (a1 : A1) (a2 : A2) (a3 : A3) (a4 : A4) (a5 : A5) (a6 : A6) (a7 : A7), I a1 a2 a3 a4 a5 a6 a7 → (∀ (b1 : A1) (b2 : A2) (b3 : A3) (b4 : A4) (b5 : A5) (b6 : A6) (b7 : A7), I b1 b2 b3 b4 b5 b6 b7 → μ b1 b2 b3 b4 b5 b6 b7 < μ a1 a2 a3 a4 a5 a6 a7 → W n b1 b2 b3 b4 b5 b6 b7) → W (n + 1) a1 a2 a3 a4 a5 a6 a7) (a1 : A1) (a2 : A2) (a3 : A3) (a4 : A4) (a5 : A5) (a6 : A6) (a7 : A7) (h : I a1 a2 a3 a4 a5 a6 a7) : ∃ n, W n a1 a2 a3 a4 a5 a6 a7 :=
  loop_m (σ := A1 × A2 × A3 × A4 × A5 × A6 × A7) (fun n s => W n s.1 s.2.1 s.2.2.1 s.2.2.2.1 s.2.2.2.2.1 s.2.2.2.2.2.1 s.2.2.2.2.2.2) (fun s => I s.1 s.2.1 s.2.2.1 s.2.2.2.1 s.2.2.2.2.1 s.2.2.2.2.2.1 s.2.2.2.2.2.2) (fun s => μ s.1 s.2.1 s.2.2.1 s.2.2.2.1 s.2.2.2.2.1 s.2.2.2.2.2.1 s.2.2.2.2.2.2) (fun n s hI hk => hs n s.1 s.2.1 s.2.2.1 s.2.2.2.1 s.2.2.2.2.1 s.2.2.2.2.2.1 s.2.2.2.2.2.2 hI (fun b1 b2 b3 b4 b5 b6 b7 h9 hm => hk (b1, b2, b3, b4, b5, b6, b7) h9 hm)) (a1, a2, a3, a4, a5, a6, a7) h
theorem lp8 {A1 A2 A3 A4 A5 A6 A7 A8 : Type} (W : Nat → A1 → A2 → A3 → A4 → A5 → A6 → A7 → A8 → Prop) (I : A1 → A2 → A3 → A4 → A5 → A6 → A7 → A8 → Prop) (μ : A1 → A2 → A3 → A4 → A5 → A6 → A7 → A8 → Nat) (hs : ∀ (n : Nat) (a1 : A1) (a2 : A2) (a3 : A3) (a4 : A4) (a5 : A5) (a6 : A6) (a7 : A7) (a8 : A8), I a1 a2 a3 a4 a5 a6 a7 a8 → (∀ (b1 : A1) (b2 : A2) (b3 : A3) (b4 : A4) (b5 : A5) (b6 : A6) (b7 : A7) (b8 : A8), I b1 b2 b3 b4 b5 b6 b7 b8 → μ b1 b2 b3 b4 b5 b6 b7 b8 < μ a1 a2 a3 a4 a5 a6 a7 a8 → W n b1 b2 b3 b4 b5 b6 b7 b8) → W (n + 1) a1 a2 a3 a4 a5 a6 a7 a8) (a1 : A1) (a2 : A2) (a3 : A3) (a4 : A4) (a5 : A5) (a6 : A6) (a7 : A7) (a8 : A8) (h : I a1 a2 a3 a4 a5 a6 a7 a8) : ∃ n, W n a1 a2 a3 a4 a5 a6 a7 a8 :=
  loop_m (σ := A1 × A2 × A3 × A4 × A5 × A6 × A7 × A8) (fun n s => W n s.1 s.2.1 s.2.2.1 s.2.2.2.1 s.2.2.2.2.1 s.2.2.2.2.2.1 s.2.2.2.2.2.2.1 s.2.2.2.2.2.2.2) (fun s => I s.1 s.2.1 s.2.2.1 s.2.2.2.1 s.2.2.2.2.1 s.2.2.2.2.2.1 s.2.2.2.2.2.2.1 s.2.2.2.2.2.2.2) (fun s => μ s.1 s.2.1 s.2.2.1 s.2.2.2.1 s.2.2.2.2.1 s.2.2.2.2.2.1 s.2.2.2.2.2.2.1 s.2.2.2.2.2.2.2) (fun n s hI hk => hs n s.1 s.2.1 s.2.2.1 s.2.2.2.1 s.2.2.2.2.1 s.2.2.2.2.2.1 s.2.2.2.2.2.2.1 s.2.2.2.2.2.2.2 hI (fun b1 b2 b3 b4 b5 b6 b7 b8 h9 hm => hk (b1, b2, b3, b4, b5, b6, b7, b8) h9 hm)) (a1, a2, a3, a4, a5, a6, a7, a8) h
theorem lp9 {A1 A2 A3 A4 A5 A6 A7 A8 A9 : Type} (W : Nat → A1 → A2 → A3 → A4 → A5 → A6 → A7 → A8 → A9 → Prop) (I : A1 → A2 → A3 → A4 → A5 → A6 → A7 → A8 → A9 → Prop) (μ : A1 → A2 → A3 → A4 → A5 → A6 → A7 → A8 → A9 → Nat) (hs : ∀ (n : Nat) (a1 : A1) (a2 : A2) (a3 : A3) (a4 : A4) (a5 : A5) (a6 : A6) (a7 : A7) (a8 : A8) (a9 : A9), I a1 a2 a3 a4 a5 a6 a7 a8 a9 → (∀ (b1 : A1) (b2 : A2) (b3 : A3) (b4 : A4) (b5 : A5) (b6 : A6) (b7 : A7) (b8 : A8) (b9 : A9), I b1 b2 b3 b4 b5 b6 b7 b8 b9 → μ b1 b2 b3 b4 b5 b6 b7 b8 b9 < μ a1 a2 a3 a4 a5 a6 a7 a8 a9 → W n b1 b2 b3 b4 b5 b6 b7 b8 b9) → W (n + 1) a1 a2 a3 a4 a5 a6 a7 a8 a9) (a1 : A1) (a2 : A2) (a3 : A3) (a4 : A4) (a5 : A5) (a6 : A6) (a7 : A7) (a8 : A8) (a9 : A9) (h : I a1 a2 a3 a4 a5 a6 a7 a8 a9) : ∃ n, W n a1 a2 a3 a4 a5 a6 a7 a8 a9 :=
  loop_m (σ := A1 × A2 × A3 × A4 × A5 × A6 × A7 × A8 × A9) (fun n s => W n s.1 s.2.1 s.2.2.1 s.2.2.2.1 s.2.2.2.2.1 s.2.2.2.2.2.1 s.2.2.2.2.2.2.1 s.2.2.2.2.2.2.2.1 s.2.2.2.2.2.2.2.2) (fun s => I s.1 s.2.1 s.2.2.1 s.2.2.2.1 s.2.2.2.2.1 s.2.2.2.2.2.1 s.2.2.2.2.2.2.1 s.2.2.2.2.2.2.2.1 s.2.2.2.2.2.2.2.2) (fun s => μ s.1 s.2.1 s.2.2.1 s.2.2.2.1 s.2.2.2.2.1 s.2.2.2.2.2.1 s.2.2.2.2.2.2.1 s.2.2.2.2.2.2.2.1 s.2.2.2.2.2.2.2.2) (fun n s hI hk => hs n s.1 s.2.1 s.2.2.1 s.2.2.2.1 s.2.2.2.2.1 s.2.2.2.2.2.1 s.2.2.2.2.2.2.1 s.2.2.2.2.2.2.2.1 s.2.2.2.2.2.2.2.2 hI (fun b1 b2 b3 b4 b5 b6 b7 b8 b9 h9 hm => hk (b1, b2, b3, b4, b5, b6, b7, b8, b9) h9 hm)) (a1, a2, a3, a4, a5, a6, a7, a8, a9) h
theorem lp10 {A1 A2 A3 A4 A5 A6 A7 A8 A9 A10 : Type} (W : Nat → A1 → A2 → A3 → A4 → A5 → A6 → A7 → A8 → A9 → A10 → Prop) (I : A1 → A2 → A3 → A4 → A5 → A6 → A7 → A8 → A9 → A10 → Prop) (μ : A1 → A2 → A3 → A4 → A5 → A6 → A7 → A8 → A9 → A10 → Nat) (hs : ∀ (n : Nat) (a1 : A1) (a2 : A2) (a3 : A3) (a4 : A4) (a5 : A5) (a6 : A6) (a7 : A7) (a8 : A8) (a9 : A9) (a10 : A10), I a1 a2 a3 a4 a5 a6 a7 a8 a9 a10 → (∀ (b1 : A1) (b2 : A2) (b3 : A3) (b4 : A4) (b5 : A5) (b6 : A6) (b7 : A7) (b8 : A8) (b9 : A9) (b10 : A10), I b1 b2 b3 b4 b5 b6 b7 b8 b9 b10 → μ b1 b2 b3 b4 b5 b6 b7 b8 b9 b10 < μ a1 a2 a3 a4 a5 a6 a7 a8 a9 a10 → W n b1 b2 b3 b4 b5 b6 b7 b8 b9 b10) → W (n + 1) a1 a2 a3 a4 a5 a6 a7 a8 a9 a10) (a1 : A1) (a2 : A2) (a3 : A3) (a4 : A4) (a5 : A5) (a6 : A6) (a7 : A7) (a8 : A8) (a9 : A9) (a10 : A10) (h : I a1 a2 a3 a4 a5 a6 a7 a8 a9 a10) : ∃ n, W n a1 a2 a3 a4 a5 a6 a7 a8 a9 a10 :=
  loop_m (σ := A1 × A2 × A3 × A4 × A5 × A6 × A7 × A8 × A9 × A10) (fun n s => W n s.1 s.2.1 s.2.2.1 s.2.2.2.1 s.2.2.2.2.1 s.2.2.2.2.2.1 s.2.2.2.2.2.2.1 s.2.2.2.2.2.2.2.1 s.2.2.2.2.2.2.2.2.1 s.2.2.2.2.2.2.2.2.2) (fun s => I s.1 s.2.1 s.2.2.1 s.2.2.2.1 s.2.2.2.2.1 s.2.2.2.2.2.1 s.2.2.2.2.2.2.1 s.2.2.2.2.2.2.2.1 s.2.2.2.2.2.2.2.2.1 s.2.2.2.2.2.2.2.2.2) (fun s => μ s.1 s.2.1 s.2.2.1 s.2.2.2.1 s.2.2.2.2.1 s.2.2.2.2.2.1 s.2.2.2.2.2.2.1 s.2.2.2.2.2.2.2.1 s.2.2.2.2.2.2.2.2.1 s.2.2.2.2.2.2.2.2.2) (fun n s hI hk => hs n s.1 s.2.1 s.2.2.1 s.2.2.2.1 s.2.2.2.2.1 s.2.2.2.2.2.1 s.2.2.2.2.2.2.1 s.2.2.2.2.2.2.2.1 s.2.2.2.2.2.2.2.2.1 s.2.2.2.2.2.2.2.2.2 hI (fun b1 b2 b3 b4 b5 b6 b7 b8 b9 b10 h9 hm => hk (b1, b2, b3, b4, b5, b6, b7, b8, b9, b10) h9 hm)) (a1, a2, a3, a4, a5, a6, a7, a8, a9, a10) h
theorem lp11 {A1 A2 A3 A4 A5 A6 A7 A8 A9 A10 A11 : Type} (W : Nat → A1 → A2 → A3 → A4 → A5 → A6 → A7 → A8 → A9 → A10 → A11 → Prop) (I : A1 → A2 → A3 → A4 → A5 → A6 → A7 → A8 → A9 → A10 → A11 → Prop) (μ : A1 → A2 → A3 → A4 → A5 → A6 → A7 → A8 → A9 → A10 → A11 → Nat) (hs : ∀ (n : Nat) (a1 : A1) (a2 : A2) (a3 : A3) (a4 : A4) (a5 : A5) (a6 : A6) (a7 : A7) (a8 : A8) (a9 : A9) (a10 : A10) (a11 : A11), I a1 a2 a3 a4 a5 a6 a7 a8 a9 a10 a11 → (∀ (b1 : A1) (b2 : A2) (b3 : A3) (b4 : A4) (b5 : A5) (b6 : A6) (b7 : A7) (b8 : A8) (b9 : A9) (b10 : A10) (b11 : A11), I b1 b2 b3 b4 b5 b6 b7 b8 b9 b10 b11 → μ b1 b2 b3 b4 b5 b6 b7 b8 b9 b10 b11 < μ a1 a2 a3 a4 a5 a6 a7 a8 a9 a10 a11 → W n b1 b2 b3 b4 b5 b6 b7 b8 b9 b10 b11) → W (n + 1) a1 a2 a3 a4 a5 a6 a7 a8 a9 a10 a11) (a1 : A1) (a2 : A2) (a3 : A3) (a4 : A4) (a5 : A5) (a6 : A6) (a7 : A7) (a8 : A8) (a9 : A9) (a10 : A10) (a11 : A11) (h : I a1 a2 a3 a4 a5 a6 a7 a8 a9 a10 a11) : ∃ n, W n a1 a2 a3 a4 a5 a6 a7 a8 a9 a10 a11 :=
  loop_m (σ := A1 × A2 × A3 × A4 × A5 × A6 × A7 × A8 × A9 × A10 × A11) (fun n s => W n s.1 s.2.1 s.2.2.1 s.2.2.2.1 s.2.2.2.2.1 s.2.2.2.2.2.1 s.2.2.2.2.2.2.1 s.2.2.2.2.2.2.2.1 s.2.2.2.2.2.2.2.2.1 s.2.2.2.2.2.2.2.2.2.1 s.2.2.2.2.2.2.2.2.2.2) (fun s => I s.1 s.2.1 s.2.2.1 s.2.2.2.1 s.2.2.2.2.1 s.2.2.2.2.2.1 s.2.2.2.2.2.2.1 s.2.2.2.2.2.2.2.1 s.2.2.2.2.2.2.2.2.1 s.2.2.2.2.2.2.2.2.2.1 s.2.2.2.2.2.2.2.2.2.2) (fun s => μ s.1 s.2.1 s.2.2.1 s.2.2.2.1 s.2.2.2.2.1 s.2.2.2.2.2.1 s.2.2.2.2.2.2.1 s.2.2.2.2.2.2.2.1 s.2.2.2.2.2.2.2.2.1 s.2.2.2.2.2.2.2.2.2.1 s.2.2.2.2.2.2.2.2.2.2) (fun n s hI hk => hs n s.1 s.2.1 s.2.2.1 s.2.2.2.1 s.2.2.2.2.1 s.2.2.2.2.2.1 s.2.2.2.2.2.2.1 s.2.2.2.2.2.2.2.1 s.2.2.2.2.2.2.2.2.1 s.2.2.2.2.2.2.2.2.2.1 s.2.2.2.2.2.2.2.2.2.2 hI (fun b1 b2 b3 b4 b5 b6 b7 b8 b9 b10 b11 h9 hm => hk (b1, b2, b3, b4, b5, b6, b7, b8, b9, b10, b11) h9 hm)) (a1, a2, a3, a4, a5, a6, a7, a8, a9, a10, a11) h
theorem lp12 {A1 A2 A3 A4 A5 A6 A7 A8 A9 A10 A11 A12 : Type} (W : Nat → A1 → A2 → A3 → A4 → A5 → A6 → A7 → A8 → A9 → A10 → A11 → A12 → Prop) (I : A1 → A2 → A3 → A4 → A5 → A6 → A7 → A8 → A9 → A10 → A11 → A12 → Prop) (μ : A1 → A2 → A3 → A4 → A5 → A6 → A7 → A8 → A9 → A10 → A11 → A12 → Nat) (hs : ∀ (n : Nat) (a1 : A1) (a2 : A2) (a3 : A3) (a4 : A4) (a5 : A5) (a6 : A6) (a7 : A7) (a8 : A8) (a9 : A9) (a10 : A10) (a11 : A11) (a12 : A12), I a1 a2 a3 a4 a5 a6 a7 a8 a9 a10 a11 a12 → (∀ (b1 : A1) (b2 : A2) (b3 : A3) (b4 : A4) (b5 : A5) (b6 : A6) (b7 : A7) (b8 : A8) (b9 : A9) (b10 : A10) (b11 : A11) (b12 : A12), I b1 b2 b3 b4 b5 b6 b7 b8 b9 b10 b11 b12 → μ b1 b2 b3 b4 b5 b6 b7 b8 b9 b10 b11 b12 < μ a1 a2 a3 a4 a5 a6 a7 a8 a9 a10 a11 a12 → W n b1 b2 b3 b4 b5 b6 b7 b8 b9 b10 b11 b12) → W (n + 1) a1 a2 a3 a4 a5 a6 a7 a8 a9 a10 a11 a12) (a1 : A1) (a2 : A2) (a3 : A3) (a4 : A4) (a5 : A5) (a6 : A6) (a7 : A7) (a8 : A8) (a9 : A9) (a10 : A10) (a11 : A11) (a12 : A12) (h : I a1 a2 a3 a4 a5 a6 a7 a8 a9 a10 a11 a12) : ∃ n, W n a1 a2 a3 a4 a5 a6 a7 a8 a9 a10 a11 a12 :=
  loop_m (σ := A1 × A2 × A3 × A4 × A5 × A6 × A7 × A8 × A9 × A10 × A11 × A12) (fun n s => W n s.1 s.2.1 s.2.2.1 s.2.2.2.1 s.2.2.2.2.1 s.2.2.2.2.2.1 s.2.2.2.2.2.2.1 s.2.2.2.2.2.2.2.1 s.2.2.2.2.2.2.2.2.1 s.2.2.2.2.2.2.2.2.2.1 s.2.2.2.2.2.2.2.2.2.2.1 s.2.2.2.2.2.2.2.2.2.2.2) (fun s => I s.1 s.2.1 s.2.2.1 s.2.2.2.1 s.2.2.2.2.1 s.2.2.2.2.2.1 s.2.2.2.2.2.2.1 s.2.2.2.2.2.2.2.1 s.2.2.2.2.2.2.2.2.1 s.2.2.2.2.2.2.2.2.2.1 s.2.2.2.2.2.2.2.2.2.2.1 s.2.2.2.2.2.2.2.2.2.2.2) (fun s => μ s.1 s.2.1 s.2.2.1 s.2.2.2.1 s.2.2.2.2.1 s.2.2.2.2.2.1 s.2.2.2.2.2.2.1 s.2.2.2.2.2.2.2.1 s.2.2.2.2.2.2.2.2.1 s.2.2.2.2.2.2.2.2.2.1 s.2.2.2.2.2.2.2.2.2.2.1 s.2.2.2.2.2.2.2.2.2.2.2) (fun n s hI hk => hs n s.1 s.2.1 s.2.2.1 s.2.2.2.1 s.2.2.2.2.1 s.2.2.2.2.2.1 s.2.2.2.2.2.2.1 s.2.2.2.2.2.2.2.1 s.2.2.2.2.2.2.2.2.1 s.2.2.2.2.2.2.2.2.2.1 s.2.2.2.2.2.2.2.2.2.2.1 s.2.2.2.2.2.2.2.2.2.2.2 hI (fun b1 b2 b3 b4 b5 b6 b7 b8 b9 b10 b11 b12 h9 hm => hk (b1, b2, b3, b4, b5, b6, b7, b8, b9, b10, b11, b12) h9 hm)) (a1, a2, a3, a4, a5, a6, a7, a8, a9, a10, a11, a12) h
theorem lp13 {A1 A2 A3 A4 A5 A6 A7 A8 A9 A10 A11 A12 A13 : Type} (W : Nat → A1 → A2 → A3 → A4 → A5 → A6 → A7 → A8 → A9 → A10 → A11 → A12 → A13 → Prop) (I : A1 → A2 → A3 → A4 → A5 → A6 → A7 → A8 → A9 → A10 → A11 → A12 → A13 → Prop) (μ : A1 → A2 → A3 → A4 → A5 → A6 → A7 → A8 → A9 → A10 → A11 → A12 → A13 → Nat) (hs : ∀ (n : Nat) (a1 : A1) (a2 : A2) (a3 : A3) (a4 : A4) (a5 : A5) (a6 : A6) (a7 : A7) (a8 : A8) (a9 : A9) (a10 : A10) (a11 : A11) (a12 : A12) (a13 : A13), I a1 a2 a3 a4 a5 a6 a7 a8 a9 a10 a11 a12 a13 → (∀ (b1 : A1) (b2 : A2) (b3 : A3) (b4 : A4) (b5 : A5) (b6 : A6) (b7 : A7) (b8 : A8) (b9 : A9) (b10 : A10) (b11 : A11) (b12 : A12) (b13 : A13), I b1 b2 b3 b4 b5 b6 b7 b8 b9 b10 b11 b12 b13 → μ b1 b2 b3 b4 b5 b6 b7 b8 b9 b10 b11 b12 b13 < μ a1 a2 a3 a4 a5 a6 a7 a8 a9 a10 a11 a12 a13 → W n b1 b2 b3 b4 b5 b6 b7 b8 b9 b10 b11 b12 b13) → W (n + 1) a1 a2 a3 a4 a5 a6 a7 a8 a9 a10 a11 a12 a13) (a1 : A1) (a2 : A2) (a3 : A3) (a4 : A4) (a5 : A5) (a6 : A6) (a7 : A7) (a8 : A8) (a9 : A9) (a10 : A10) (a11 : A11) (a12 : A12) (a13 : A13) (h : I a1 a2 a3 a4 a5 a6 a7 a8 a9 a10 a11 a12 a13) : ∃ n, W n a1 a2 a3 a4 a5 a6 a7 a8 a9 a10 a11 a12 a13 :=
  loop_m (σ := A1 × A2 × A3 × A4 × A5 × A6 × A7 × A8 × A9 × A10 × A11 × A12 × A13) (fun n s => W n s.1 s.2.1 s.2.2.1 s.2.2.2.1 s.2.2.2.2.1 s.2.2.2.2.2.1 s.2.2.2.2.2.2.1 s.2.2.2.2.2.2.2.1 s.2.2.2.2.2.2.2.2.1 s.2.2.2.2.2.2.2.2.2.1 s.2.2.2.2.2.2.2.2.2.2.1 s.2.2.2.2.2.2.2.2.2.2.2.1 s.2.2.2.2.2.2.2.2.2.2.2.2) (fun s => I s.1 s.2.1 s.2.2.1 s.2.2.2.1 s.2.2.2.2.1 s.2.2.2.2.2.1 s.2.2.2.2.2.2.1 s.2.2.2.2.2.2.2.1 s.2.2.2.2.2.2.2.2.1 s.2.2.2.2.2.2.2.2.2.1 s.2.2.2.2.2.2.2.2.2.2.1 s.2.2.2.2.2.2.2.2.2.2.2.1 s.2.2.2.2.2.2.2.2.2.2.2.2) (fun s => μ s.1 s.2.1 s.2.2.1 s.2.2.2.1 s.2.2.2.2.1 s.2.2.2.2.2.1 s.2.2.2.2.2.2.1 s.2.2.2.2.2.2.2.1 s.2.2.2.2.2.2.2.2.1 s.2.2.2.2.2.2.2.2.2.1 s.2.2.2.2.2.2.2.2.2.2.1 s.2.2.2.2.2.2.2.2.2.2.2.1 s.2.2.2.2.2.2.2.2.2.2.2.2) (fun n s hI hk => hs n s.1 s.2.1 s.2.2.1 s.2.2.2.1 s.2.2.2.2.1 s.2.2.2.2.2.1 s.2.2.2.2.2.2.1 s.2.2.2.2.2.2.2.1 s.2.2.2.2.2.2.2.2.1 s.2.2.2.2.2.2.2.2.2.1 s.2.2.2.2.2.2.2.2.2.2.1 s.2.2.2.2.2.2.2.2.2.2.2.1 s.2.2.2.2.2.2.2.2.2.2.2.2 hI (fun b1 b2 b3 b4 b5 b6 b7 b8 b9 b10 b11 b12 b13 h9 hm => hk (b1, b2, b3, b4, b5, b6, b7, b8, b9, b10, b11, b12, b13) h9 hm)) (a1, a2, a3, a4, a5, a6, a7, a8, a9, a10, a11, a12, a13) h
theorem lp14 {A1 A2 A3 A4 A5 A6 A7 A8 A9 A10 A11 A12 A13 A14 : Type} (W : Nat → A1 → A2 → A3 → A4 → A5 → A6 → A7 → A8 → A9 → A10 → A11 → A12 → A13 → A14 → Prop) (I : A1 → A2 → A3 → A4 → A5 → A6 → A7 → A8 → A9 → A10 → A11 → A12 → A13 → A14 → Prop) (μ : A1 → A2 → A3 → A4 → A5 → A6 → A7 → A8 → A9 → A10 → A11 → A12 → A13 → A14 → Nat) (hs : ∀ (n : Nat) (a1 : A1) (a2 : A2) (a3 : A3) (a4 : A4) (a5 : A5) (a6 : A6) (a7 : A7) (a8 : A8) (a9 : A9) (a10 : A10) (a11 : A11) (a12 : A12) (a13 : A13) (a14 : A14), I a1 a2 a3 a4 a5 a6 a7 a8 a9 a10 a11 a12 a13 a14 → (∀ (b1 : A1) (b2 : A2) (b3 : A3) (b4 : A4) (b5 : A5) (b6 : A6) (b7 : A7) (b8 : A8) (b9 : A9) (b10 : A10) (b11 : A11) (b12 : A12) (b13 : A13) (b14 : A14), I b1 b2 b3 b4 b5 b6 b7 b8 b9 b10 b11 b12 b13 b14 → μ b1 b2 b3 b4 b5 b6 b7 b8 b9 b10 b11 b12 b13 b14 < μ a1 a2 a3 a4 a5 a6 a7 a8 a9 a10 a11 a12 a13 a14 → W n b1 b2 b3 b4 b5 b6 b7 b8 b9 b10 b11 b12 b13 b14) → W (n + 1) a1 a2 a3 a4 a5 a6 a7 a8 a9 a10 a11 a12 a13 a14) (a1 : A1) (a2 : A2) (a3 : A3) (a4 : A4) (a5 : A5) (a6 : A6) (a7 : A7) (a8 : A8) (a9 : A9) (a10 : A10) (a11 : A11) (a12 : A12) (a13 : A13) (a14 : A14) (h : I a1 a2 a3 a4 a5 a6 a7 a8 a9 a10 a11 a12 a13 a14) : ∃ n, W n a1 a2 a3 a4 a5 a6 a7 a8 a9 a10 a11 a12 a13 a14 :=
  loop_m (σ := A1 × A2 × A3 × A4 × A5 × A6 × A7 × A8 × A9 × A10 × A11 × A12 × A13 × A14) (fun n s => W n s.1 s.2.1 s.2.2.1 s.2.2.2.1 s.2.2.2.2.1 s.2.2.2.2.2.1 s.2.2.2.2.2.2.1 s.2.2.2.2.2.2.2.1 s.2.2.2.2.2.2.2.2.1 s.2.2.2.2.2.2.2.2.2.1 s.2.2.2.2.2.2.2.2.2.2.1 s.2.2.2.2.2.2.2.2.2.2.2.1 s.2.2.2.2.2.2.2.2.2.2.2.2.1 s.2.2.2.2.2.2.2.2.2.2.2.2.2) (fun s => I s.1 s.2.1 s.2.2.1 s.2.2.2.1 s.2.2.2.2.1 s.2.2.2.2.2.1 s.2.2.2.2.2.2.1 s.2.2.2.2.2.2.2.1 s.2.2.2.2.2.2.2.2.1 s.2.2.2.2.2.2.2.2.2.1 s.2.2.2.2.2.2.2.2.2.2.1 s.2.2.2.2.2.2.2.2.2.2.2.1 s.2.2.2.2.2.2.2.2.2.2.2.2.1 s.2.2.2.2.2.2.2.2.2.2.2.2.2) (fun s => μ s.1 s.2.1 s.2.2.1 s.2.2.2.1 s.2.2.2.2.1 s.2.2.2.2.2.1 s.2.2.2.2.2.2.1 s.2.2.2.2.2.2.2.1 s.2.2.2.2.2.2.2.2.1 s.2.2.2.2.2.2.2.2.2.1 s.2.2.2.2.2.2.2.2.2.2.1 s.2.2.2.2.2.2.2.2.2.2.2.1 s.2.2.2.2.2.2.2.2.2.2.2.2.1 s.2.2.2.2.2.2.2.2.2.2.2.2.2) (fun n s hI hk => hs n s.1 s.2.1 s.2.2.1 s.2.2.2.1 s.2.2.2.2.1 s.2.2.2.2.2.1 s.2.2.2.2.2.2.1 s.2.2.2.2.2.2.2.1 s.2.2.2.2.2.2.2.2.1 s.2.2.2.2.2.2.2.2.2.1 s.2.2.2.2.2.2.2.2.2.2.1 s.2.2.2.2.2.2.2.2.2.2.2.1 s.2.2.2.2.2.2.2.2.2.2.2.2.1 s.2.2.2.2.2.2.2.2.2.2.2.2.2 hI (fun b1 b2 b3 b4 b5 b6 b7 b8 b9 b10 b11 b12 b13 b14 h9 hm => hk (b1, b2, b3, b4, b5, b6, b7, b8, b9, b10, b11, b12, b13, b14) h9 hm)) (a1, a2, a3, a4, a5, a6, a7, a8, a9, a10, a11, a12, a13, a14) h
theorem lp15 {A1 A2 A3 A4 A5 A6 A7 A8 A9 A10 A11 A12 A13 A14 A15 : Type} (W : Nat → A1 → A2 → A3 → A4 → A5 → A6 → A7 → A8 → A9 → A10 → A11 → A12 → A13 → A14 → A15 → Prop) (I : A1 → A2 → A3 → A4 → A5 → A6 → A7 → A8 → A9 → A10 → A11 → A12 → A13 → A14 → A15 → Prop) (μ : A1 → A2 → A3 → A4 → A5 → A6 → A7 → A8 → A9 → A10 → A11 → A12 → A13 → A14 → A15 → Nat) (hs : ∀ (n : Nat) (a1 : A1) (a2 : A2) (a3 : A3) (a4 : A4) (a5 : A5) (a6 : A6) (a7 : A7) (a8 : A8) (a9 : A9) (a10 : A10) (a11 : A11) (a12 : A12) (a13 : A13) (a14 : A14) (a15 : A15), I a1 a2 a3 a4 a5 a6 a7 a8 a9 a10 a11 a12 a13 a14 a15 → (∀ (b1 : A1) (b2 : A2) (b3 : A3) (b4 : A4) (b5 : A5) (b6 : A6) (b7 : A7) (b8 : A8) (b9 : A9) (b10 : A10) (b11 : A11) (b12 : A12) (b13 : A13) (b14 : A14) (b15 : A15), I b1 b2 b3 b4 b5 b6 b7 b8 b9 b10 b11 b12 b13 b14 b15 → μ b1 b2 b3 b4 b5 b6 b7 b8 b9 b10 b11 b12 b13 b14 b15 < μ a1 a2 a3 a4 a5 a6 a7 a8 a9 a10 a11 a12 a13 a14 a15 → W n b1 b2 b3 b4 b5 b6 b7 b8 b9 b10 b11 b12 b13 b14 b15) → W (n + 1) a1 a2 a3 a4 a5 a6 a7 a8 a9 a10 a11 a12 a13 a14 a15) (a1 : A1) (a2 : A2) (a3 : A3) (a4 : A4) (a5 : A5) (a6 : A6) (a7 : A7) (a8 : A8) (a9 : A9) (a10 : A10) (a11 : A11) (a12 : A12) (a13 : A13) (a14 : A14) (a15 : A15) (h : I a1 a2 a3 a4 a5 a6 a7 a8 a9 a10 a11 a12 a13 a14 a15) : ∃ n, W n a1 a2 a3 a4 a5 a6 a7 a8 a9 a10 a11 a12 a13 a14 a15 :=
  loop_m (σ := A1 × A2 × A3 × A4 × A5 × A6 × A7 × A8 × A9 × A10 × A11 × A12 × A13 × A14 × A15) (fun n s => W n s.1 s.2.1 s.2.2.1 s.2.2.2.1 s.2.2.2.2.1 s.2.2.2.2.2.1 s.2.2.2.2.2.2.1 s.2.2.2.2.2.2.2.1 s.2.2.2.2.2.2.2.2.1 s.2.2.2.2.2.2.2.2.2.1 s.2.2.2.2.2.2.2.2.2.2.1 s.2.2.2.2.2.2.2.2.2.2.2.1 s.2.2.2.2.2.2.2.2.2.2.2.2.1 s.2.2.2.2.2.2.2.2.2.2.2.2.2.1 s.2.2.2.2.2.2.2.2.2.2.2.2.2.2) (fun s => I s.1 s.2.1 s.2.2.1 s.2.2.2.1 s.2.2.2.2.1 s.2.2.2.2.2.1 s.2.2.2.2.2.2.1 s.2.2.2.2.2.2.2.1 s.2.2.2.2.2.2.2.2.1 s.2.2.2.2.2.2.2.2.2.1 s.2.2.2.2.2.2.2.2.2.2.1 s.2.2.2.2.2.2.2.2.2.2.2.1 s.2.2.2.2.2.2.2.2.2.2.2.2.1 s.2.2.2.2.2.2.2.2.2.2.2.2.2.1 s.2.2.2.2.2.2.2.2.2.2.2.2.2.2) (fun s => μ s.1 s.2.1 s.2.2.1 s.2.2.2.1 s.2.2.2.2.1 s.2.2.2.2.2.1 s.2.2.2.2.2.2.1 s.2.2.2.2.2.2.2.1 s.2.2.2.2.2.2.2.2.1 s.2.2.2.2.2.2.2.2.2.1 s.2.2.2.2.2.2.2.2.2.2.1 s.2.2.2.2.2.2.2.2.2.2.2.1 s.2.2.2.2.2.2.2.2.2.2.2.2.1 s.2.2.2.2.2.2.2.2.2.2.2.2.2.1 s.2.2.2.2.2.2.2.2.2.2.2.2.2.2) (fun n s hI hk => hs n s.1 s.2.1 s.2.2.1 s.2.2.2.1 s.2.2.2.2.1 s.2.2.2.2.2.1 s.2.2.2.2.2.2.1 s.2.2.2.2.2.2.2.1 s.2.2.2.2.2.2.2.2.1 s.2.2.2.2.2.2.2.2.2.1 s.2.2.2.2.2.2.2.2.2.2.1 s.2.2.2.2.2.2.2.2.2.2.2.1 s.2.2.2.2.2.2.2.2.2.2.2.2.1 s.2.2.2.2.2.2.2.2.2.2.2.2.2.1 s.2.2.2.2.2.2.2.2.2.2.2.2.2.2 hI (fun b1 b2 b3 b4 b5 b6 b7 b8 b9 b10 b11 b12 b13 b14 b15 h9 hm => hk (b1, b2, b3, b4, b5, b6, b7, b8, b9, b10, b11, b12, b13, b14, b15) h9 hm)) (a1, a2, a3, a4, a5, a6, a7, a8, a9, a10, a11, a12, a13, a14, a15) h
theorem lp16 {A1 A2 A3 A4 A5 A6 A7 A8 A9 A10 A11 A12 A13 A14 A15 A16 : Type} (W : Nat → A1 → A2 → A3 → A4 → A5 → A6 → A7 → A8 → A9 → A10 → A11 → A12 → A13 → A14 → A15 → A16 → Prop) (I : A1 → A2 → A3 → A4 → A5 → A6 → A7 → A8 → A9 → A10 → A11 → A12 → A13 → A14 → A15 → A16 → Prop) (μ : A1 → A2 → A3 → A4 → A5 → A6 → A7 → A8 → A9 → A10 → A11 → A12 → A13 → A14 → A15 → A16 → Nat) (hs : ∀ (n : Nat) (a1 : A1) (a2 : A2) (a3 : A3) (a4 : A4) (a5 : A5) (a6 : A6) (a7 : A7) (a8 : A8) (a9 : A9) (a10 : A10) (a11 : A11) (a12 : A12) (a13 : A13) (a14 : A14) (a15 : A15) (a16 : A16), I a1 a2 a3 a4 a5 a6 a7 a8 a9 a10 a11 a12 a13 a14 a15 a16 → (∀ (b1 : A1) (b2 : A2) (b3 : A3) (b4 : A4) (b5 : A5) (b6 : A6) (b7 : A7) (b8 : A8) (b9 : A9) (b10 : A10) (b11 : A11) (b12 : A12) (b13 : A13) (b14 : A14) (b15 : A15) (b16 : A16), I b1 b2 b3 b4 b5 b6 b7 b8 b9 b10 b11 b12 b13 b14 b15 b16 → μ b1 b2 b3 b4 b5 b6 b7 b8 b9 b10 b11 b12 b13 b14 b15 b16 < μ a1 a2 a3 a4 a5 a6 a7 a8 a9 a10 a11 a12 a13 a14 a15 a16 → W n b1 b2 b3 b4 b5 b6 b7 b8 b9 b10 b11 b12 b13 b14 b15 b16) → W (n + 1) a1 a2 a3 a4 a5 a6 a7 a8 a9 a10 a11 a12 a13 a14 a15 a16) (a1 : A1) (a2 : A2) (a3 : A3) (a4 : A4) (a5 : A5) (a6 : A6) (a7 : A7) (a8 : A8) (a9 : A9) (a10 : A10) (a11 : A11) (a12 : A12) (a13 : A13) (a14 : A14) (a15 : A15) (a16 : A16) (h : I a1 a2 a3 a4 a5 a6 a7 a8 a9 a10 a11 a12 a13 a14 a15 a16) : ∃ n, W n a1 a2 a3 a4 a5 a6 a7 a8 a9 a10 a11 a12 a13 a14 a15 a16 :=
  loop_m (σ := A1 × A2 × A3 × A4 × A5 × A6 × A7 × A8 × A9 × A10 × A11 × A12 × A13 × A14 × A15 × A16) (fun n s => W n s.1 s.2.1 s.2.2.1 s.2.2.2.1 s.2.2.2.2.1 s.2.2.2.2.2.1 s.2.2.2.2.2.2.1 s.2.2.2.2.2.2.2.1 s.2.2.2.2.2.2.2.2.1 s.2.2.2.2.2.2.2.2.2.1 s.2.2.2.2.2.2.2.2.2.2.1 s.2.2.2.2.2.2.2.2.2.2.2.1 s.2.2.2.2.2.2.2.2.2.2.2.2.1 s.2.2.2.2.2.2.2.2.2.2.2.2.2.1 s.2.2.2.2.2.2.2.2.2.2.2.2.2.2.1 s.2.2.2.2.2.2.2.2.2.2.2.2.2.2.2) (fun s => I s.1 s.2.1 s.2.2.1 s.2.2.2.1 s.2.2.2.2.1 s.2.2.2.2.2.1 s.2.2.2.2.2.2.1 s.2.2.2.2.2.2.2.1 s.2.2.2.2.2.2.2.2.1 s.2.2.2.2.2.2.2.2.2.1 s.2.2.2.2.2.2.2.2.2.2.1 s.2.2.2.2.2.2.2.2.2.2.2.1 s.2.2.2.2.2.2.2.2.2.2.2.2.1 s.2.2.2.2.2.2.2.2.2.2.2.2.2.1 s.2.2.2.2.2.2.2.2.2.2.2.2.2.2.1 s.2.2.2.2.2.2.2.2.2.2.2.2.2.2.2) (fun s => μ s.1 s.2.1 s.2.2.1 s.2.2.2.1 s.2.2.2.2.1 s.2.2.2.2.2.1 s.2.2.2.2.2.2.1 s.2.2.2.2.2.2.2.1 s.2.2.2.2.2.2.2.2.1 s.2.2.2.2.2.2.2.2.2.1 s.2.2.2.2.2.2.2.2.2.2.1 s.2.2.2.2.2.2.2.2.2.2.2.1 s.2.2.2.2.2.2.2.2.2.2.2.2.1 s.2.2.2.2.2.2.2.2.2.2.2.2.2.1 s.2.2.2.2.2.2.2.2.2.2.2.2.2.2.1 s.2.2.2.2.2.2.2.2.2.2.2.2.2.2.2) (fun n s hI hk => hs n s.1 s.2.1 s.2.2.1 s.2.2.2.1 s.2.2.2.2.1 s.2.2.2.2.2.1 s.2.2.2.2.2.2.1 s.2.2.2.2.2.2.2.1 s.2.2.2.2.2.2.2.2.1 s.2.2.2.2.2.2.2.2.2.1 s.2.2.2.2.2.2.2.2.2.2.1 s.2.2.2.2.2.2.2.2.2.2.2.1 s.2.2.2.2.2.2.2.2.2.2.2.2.1 s.2.2.2.2.2.2.2.2.2.2.2.2.2.1 s.2.2.2.2.2.2.2.2.2.2.2.2.2.2.1 s.2.2.2.2.2.2.2.2.2.2.2.2.2.2.2 hI (fun b1 b2 b3 b4 b5 b6 b7 b8 b9 b10 b11 b12 b13 b14 b15 b16 h9 hm => hk (b1, b2, b3, b4, b5, b6, b7, b8, b9, b10, b11, b12, b13, b14, b15, b16) h9 hm)) (a1, a2, a3, a4, a5, a6, a7, a8, a9, a10, a11, a12, a13, a14, a15, a16) h
theorem pk_least (P : Nat → Prop) (h : ∃ k, P k) : ∃ k, P k ∧ ∀ j, j < k → ¬ P j := by
  obtain ⟨k, hk⟩ := h
  induction k using Nat.strongRecOn with
  | ind k ih =>
    by_cases e : ∃ j, j < k ∧ P j
    · obtain ⟨j, hj, pj⟩ := e
      exact ih j hj pj
    · exact ⟨k, hk, fun j hj pj => e ⟨j, hj, pj⟩⟩
theorem rp1 {ρ A1 : Type} (W : Nat → (ρ → Prop) → A1 → Prop) (ok : A1 → Prop) (μ : A1 → Nat) (val : A1 → ρ)
    (hs : ∀ (d : Nat) (post : ρ → Prop) (a1 : A1), ok a1 → post (val a1) → (∀ (post' : ρ → Prop) (b1 : A1), ok b1 → μ b1 < μ a1 → post' (val b1) → W d post' b1) → W (d + 1) post a1) :
    ∀ (d : Nat) (post : ρ → Prop) (a1 : A1), ok a1 → μ a1 < d → post (val a1) → W d post a1 := by
  intro d
  induction d with
  | zero => intro post a1 _ h; omega
  | succ d ih =>
    intro post a1 ho hm hp
    exact hs d post a1 ho hp (fun post' b1 ho' hm' hp' => ih post' b1 ho' (by omega) hp')
theorem rp2 {ρ A1 A2 : Type} (W : Nat → (ρ → Prop) → A1 → A2 → Prop) (ok : A1 → A2 → Prop) (μ : A1 → A2 → Nat) (val : A1 → A2 → ρ)
    (hs : ∀ (d : Nat) (post : ρ → Prop) (a1 : A1) (a2 : A2), ok a1 a2 → post (val a1 a2) → (∀ (post' : ρ → Prop) (b1 : A1) (b2 : A2), ok b1 b2 → μ b1 b2 < μ a1 a2 → post' (val b1 b2) → W d post' b1 b2) → W (d + 1) post a1 a2) :
    ∀ (d : Nat) (post : ρ → Prop) (a1 : A1) (a2 : A2), ok a1 a2 → μ a1 a2 < d → post (val a1 a2) → W d post a1 a2 := by
  intro d
  induction d with
  | zero => intro post a1 a2 _ h; omega
  | succ d ih =>
    intro post a1 a2 ho hm hp
    exact hs d post a1 a2 ho hp (fun post' b1 b2 ho' hm' hp' => ih post' b1 b2 ho' (by omega) hp')
theorem rp3 {ρ A1 A2 A3 : Type} (W : Nat → (ρ → Prop) → A1 → A2 → A3 → Prop) (ok : A1 → A2 → A3 → Prop) (μ : A1 → A2 → A3 → Nat) (val : A1 → A2 → A3 → ρ)
    (hs : ∀ (d : Nat) (post : ρ → Prop) (a1 : A1) (a2 : A2) (a3 : A3), ok a1 a2 a3 → post (val a1 a2 a3) → (∀ (post' : ρ → Prop) (b1 : A1) (b2 : A2) (b3 : A3), ok b1 b2 b3 → μ b1 b2 b3 < μ a1 a2 a3 → post' (val b1 b2 b3) → W d post' b1 b2 b3) → W (d + 1) post a1 a2 a3) :
    ∀ (d : Nat) (post : ρ → Prop) (a1 : A1) (a2 : A2) (a3 : A3), ok a1 a2 a3 → μ a1 a2 a3 < d → post (val a1 a2 a3) → W d post a1 a2 a3 := by
  intro d
  induction d with
  | zero => intro post a1 a2 a3 _ h; omega
  | succ d ih =>
    intro post a1 a2 a3 ho hm hp
    exact hs d post a1 a2 a3 ho hp (fun post' b1 b2 b3 ho' hm' hp' => ih post' b1 b2 b3 ho' (by omega) hp')
theorem rp4 {ρ A1 A2 A3 A4 : Type} (W : Nat → (ρ → Prop) → A1 → A2 → A3 → A4 → Prop) (ok : A1 → A2 → A3 → A4 → Prop) (μ : A1 → A2 → A3 → A4 → Nat) (val : A1 → A2 → A3 → A4 → ρ)
    (hs : ∀ (d : Nat) (post : ρ → Prop) (a1 : A1) (a2 : A2) (a3 : A3) (a4 : A4), ok a1 a2 a3 a4 → post (val a1 a2 a3 a4) → (∀ (post' : ρ → Prop) (b1 : A1) (b2 : A2) (b3 : A3) (b4 : A4), ok b1 b2 b3 b4 → μ b1 b2 b3 b4 < μ a1 a2 a3 a4 → post' (val b1 b2 b3 b4) → W d post' b1 b2 b3 b4) → W (d + 1) post a1 a2 a3 a4) :
    ∀ (d : Nat) (post : ρ → Prop) (a1 : A1) (a2 : A2) (a3 : A3) (a4 : A4), ok a1 a2 a3 a4 → μ a1 a2 a3 a4 < d → post (val a1 a2 a3 a4) → W d post a1 a2 a3 a4 := by
  intro d
  induction d with
  | zero => intro post a1 a2 a3 a4 _ h; omega
  | succ d ih =>
    intro post a1 a2 a3 a4 ho hm hp
    exact hs d post a1 a2 a3 a4 ho hp (fun post' b1 b2 b3 b4 ho' hm' hp' => ih post' b1 b2 b3 b4 ho' (by omega) hp')
theorem rp5 {ρ A1 A2 A3 A4 A5 : Type} (W : Nat → (ρ → Prop) → A1 → A2 → A3 → A4 → A5 → Prop) (ok : A1 → A2 → A3 → A4 → A5 → Prop) (μ : A1 → A2 → A3 → A4 → A5 → Nat) (val : A1 → A2 → A3 → A4 → A5 → ρ)
    (hs : ∀ (d : Nat) (post : ρ → Prop) (a1 : A1) (a2 : A2) (a3 : A3) (a4 : A4) (a5 : A5), ok a1 a2 a3 a4 a5 → post (val a1 a2 a3 a4 a5) → (∀ (post' : ρ → Prop) (b1 : A1) (b2 : A2) (b3 : A3) (b4 : A4) (b5 : A5), ok b1 b2 b3 b4 b5 → μ b1 b2 b3 b4 b5 < μ a1 a2 a3 a4 a5 → post' (val b1 b2 b3 b4 b5) → W d post' b1 b2 b3 b4 b5) → W (d + 1) post a1 a2 a3 a4 a5) :
    ∀ (d : Nat) (post : ρ → Prop) (a1 : A1) (a2 : A2) (a3 : A3) (a4 : A4) (a5 : A5), ok a1 a2 a3 a4 a5 → μ a1 a2 a3 a4 a5 < d → post (val a1 a2 a3 a4 a5) → W d post a1 a2 a3 a4 a5 := by
  intro d
  induction d with
  | zero => intro post a1 a2 a3 a4 a5 _ h; omega
  | succ d ih =>
    intro post a1 a2 a3 a4 a5 ho hm hp
    exact hs d post a1 a2 a3 a4 a5 ho hp (fun post' b1 b2 b3 b4 b5 ho' hm' hp' => ih post' b1 b2 b3 b4 b5 ho' (by omega) hp')
theorem rp6 {ρ A1 A2 A3 A4 A5 A6 : Type} (W : Nat → (ρ → Prop) → A1 → A2 → A3 → A4 → A5 → A6 → Prop) (ok : A1 → A2 → A3 → A4 → A5 → A6 → Prop) (μ : A1 → A2 → A3 → A4 → A5 → A6 → Nat) (val : A1 → A2 → A3 → A4 → A5 → A6 → ρ)
    (hs : ∀ (d : Nat) (post : ρ → Prop) (a1 : A1) (a2 : A2) (a3 : A3) (a4 : A4) (a5 : A5) (a6 : A6), ok a1 a2 a3 a4 a5 a6 → post (val a1 a2 a3 a4 a5 a6) → (∀ (post' : ρ → Prop) (b1 : A1) (b2 : A2) (b3 : A3) (b4 : A4) (b5 : A5) (b6 : A6), ok b1 b2 b3 b4 b5 b6 → μ b1 b2 b3 b4 b5 b6 < μ a1 a2 a3 a4 a5 a6 → post' (val b1 b2 b3 b4 b5 b6) → W d post' b1 b2 b3 b4 b5 b6) → W (d + 1) post a1 a2 a3 a4 a5 a6) :
    ∀ (d : Nat) (post : ρ → Prop) (a1 : A1) (a2 : A2) (a3 : A3) (a4 : A4) (a5 : A5) (a6 : A6), ok a1 a2 a3 a4 a5 a6 → μ a1 a2 a3 a4 a5 a6 < d → post (val a1 a2 a3 a4 a5 a6) → W d post a1 a2 a3 a4 a5 a6 := by
  intro d
  induction d with
  | zero => intro post a1 a2 a3 a4 a5 a6 _ h; omega
  | succ d ih =>
    intro post a1 a2 a3 a4 a5 a6 ho hm hp
    exact hs d post a1 a2 a3 a4 a5 a6 ho hp (fun post' b1 b2 b3 b4 b5 b6 ho' hm' hp' => ih post' b1 b2 b3 b4 b5 b6 ho' (by omega) hp')
theorem rec_p {σ ρ : Type} (W : Nat → (ρ → Prop) → σ → Prop) (ok : σ → Prop) (μ : σ → Nat) (val : σ → ρ)
    (hs : ∀ d s post, ok s → post (val s) → (∀ s' post', ok s' → μ s' < μ s → post' (val s') → W d post' s') → W (d + 1) post s) :
    ∀ d s post, ok s → μ s < d → post (val s) → W d post s := by
  intro d
  induction d with
  | zero => intro s post _ h; omega
  | succ d ih =>
    intro s post ho hm hp
    exact hs d s post ho hp (fun s' post' ho' hm' hp' => ih s' post' ho' (by omega) hp')
theorem rec_q {σ ρ : Type} (W : Nat → (ρ → Prop) → σ → Prop) (ok : σ → Prop) (μ : σ → Nat) (Q : σ → ρ → Prop)
    (hs : ∀ d s post, ok s → (∀ r, Q s r → post r) → (∀ s' post', ok s' → μ s' < μ s → (∀ r, Q s' r → post' r) → W d post' s') → W (d + 1) post s) :
    ∀ d s post, ok s → μ s < d → (∀ r, Q s r → post r) → W d post s := by
  intro d
  induction d with
  | zero => intro s post _ h; omega
  | succ d ih =>
    intro s post ho hm hp
    exact hs d s post ho hp (fun s' post' ho' hm' hp' => ih s' post' ho' (by omega) hp')
def bx_sum (f : Nat → Int32) : Nat → Int32
  | 0 => 0
  | n + 1 => bx_sum f n + f n
theorem ek_u {A : Prop} {B : Nat → Prop} {k N : Nat} (hk : k < N) (h : B k) : (some k = none → A) ∧ (∀ y : Nat, some k = some y → (y < N ∧ B y)) :=
  ⟨fun z => absurd z (Option.some_ne_none k), fun _ e => (by cases e; exact ⟨hk, h⟩)⟩
theorem ek_nu {A : Prop} {B : Nat → Prop} (h : A) : ((none : Option Nat) = none → A) ∧ (∀ y : Nat, (none : Option Nat) = some y → B y) :=
  ⟨fun _ => h, fun _ e => (by cases e)⟩
theorem ek_if {c d A B : Prop} (e : c ↔ d) (f : d → A) (g : ¬ d → B) : (c → A) ∧ (¬ c → B) :=
  ⟨fun z => f (e.mp z), fun z => g (fun y => z (e.mpr y))⟩
theorem ek_v {α : Sort _} {P : α → Prop} {a b : α} (e : a = b) (h : P b) : P a := e ▸ h
theorem co_some {x : Option Nat} {A : Prop} {B : Nat → Prop} (i : Nat) (h : B i) (hx : x = some i := by rfl) : (x = none → A) ∧ (∀ y : Nat, x = some y → B y) := by
  subst hx
  exact ⟨fun e => (nomatch e), fun y e => Option.some.inj e ▸ h⟩
theorem co_none {x : Option Nat} {A : Prop} {B : Nat → Prop} (h : A) (hx : x = none := by rfl) : (x = none → A) ∧ (∀ y : Nat, x = some y → B y) := by
  subst hx
  exact ⟨fun _ => h, fun y e => (nomatch e)⟩
theorem co_any {x : Option Nat} {A : Prop} {B : Nat → Prop} (hn : x = none → A) (hs : ∀ i : Nat, x = some i → B i) : (x = none → A) ∧ (∀ y : Nat, x = some y → B y) := ⟨hn, hs⟩
theorem co_2 {P : Nat → Prop} (h0 : P 0) (h1 : P 1) {i : Nat} (hi : i < 2) : P i :=
  match i, hi with
  | 0, _ => h0
  | 1, _ => h1
theorem co_3 {P : Nat → Prop} (h0 : P 0) (h1 : P 1) (h2 : P 2) {i : Nat} (hi : i < 3) : P i :=
  match i, hi with
  | 0, _ => h0
  | 1, _ => h1
  | 2, _ => h2
theorem co_4 {P : Nat → Prop} (h0 : P 0) (h1 : P 1) (h2 : P 2) (h3 : P 3) {i : Nat} (hi : i < 4) : P i :=
  match i, hi with
  | 0, _ => h0
  | 1, _ => h1
  | 2, _ => h2
  | 3, _ => h3
theorem co_dec {N : Nat} {P : Nat → Prop} [DecidablePred P] (h : (List.range N).all (fun i => decide (P i)) = true) {i : Nat} (hi : i < N) : P i := by
  have := List.all_eq_true.mp h i (List.mem_range.mpr hi)
  exact of_decide_eq_true this
theorem co_tab {α : Type} {l : List α} {d : α} {P : α → Prop} (h : ∀ a, a ∈ l → P a) {i : Nat} (hi : i < l.length) : P (l.getD i d) := by
  rw [List.getD_eq_getElem?_getD, List.getElem?_eq_getElem hi]
  exact h _ (List.getElem_mem hi)
theorem pk_mu {x : Int32} {L : Nat} (h0 : ¬ x < 0) (h : ¬ nI L ≤ x) (hL : L < 2 ^ 31) : ∃ j : Nat, j < L ∧ x = nI j ∧ x + 1 = nI (j + 1) ∧ x.toNatClampNeg = j ∧ L - (x + 1).toNatClampNeg < L - x.toNatClampNeg := by
  obtain ⟨j, hj, rfl⟩ := nI_of h0
  have hl : j < L := Nat.not_le.mp fun q => h (nI_le q hj)
  refine ⟨j, hl, rfl, nI_1 j, nI_clamp hj, ?_⟩
  rw [nI_1, nI_clamp (by omega), nI_clamp hj]
  omega
theorem op_s {α : Type} {r : Option α} {A : Prop} {B : α → Prop} {y : α} (h : r = some y) (b : B y) : (r = none → A) ∧ ∀ z, r = some z → B z :=
  ⟨fun e => (by rw [h] at e; cases e), fun z e => (by rw [h] at e; cases e; exact b)⟩
def l_holds {α : Type} (a : Nat → Option Nat) (LP : List Nat) (p : Nat → α) (c : Nat) (b : Nat → α) : Prop :=
  ∀ j, j < c → ∃ y, a j = some y ∧ y ∈ LP ∧ p y = b j
theorem l_holds_0 {α : Type} {a : Nat → Option Nat} {LP : List Nat} {p b : Nat → α} : l_holds a LP p 0 b := fun j h => absurd h (Nat.not_lt_zero j)
theorem l_in_new (LP : List Nat) (q : Nat) : q ∈ LP ++ [q] := List.mem_append.mpr (Or.inr (List.mem_singleton.mpr rfl))
def l_sum (b : Nat → Int32) : Nat → Int32
  | 0 => 0
  | k + 1 => l_sum b k + b k
theorem sb_shr0 (x : Int32) : x >>> ((0 : Int32) &&& 31) = x := by
  rw [show ((0 : Int32) &&& 31) = 0 by decide]
  simp
theorem sb_shl0 (x : Int32) : x <<< ((0 : Int32) &&& 31) = x := by
  rw [show ((0 : Int32) &&& 31) = 0 by decide]
  simp
theorem sb_cl0 : (0 : Int32).toNatClampNeg = 0 := by decide
theorem sb_m1 {p : Nat} (h : 0 < p) : nI p + (-1) = nI (p - 1) := by
  obtain ⟨q, rfl⟩ : ∃ q, p = q + 1 := ⟨p - 1, by omega⟩
  exact pk_m1 q
def sb_b (c : Nat) : Int32 := (nI c).toInt8.toInt32
theorem sb_byte : ∀ c, c < 256 → sb_b c &&& 255 = nI c ∧ ((nI c).toUInt32 % 65536).toInt32 = nI c ∧ nI c ≤ 255 := by decide +kernel
def sb_Fit (a : Nat → Int32) : Prop := ∀ j, fits .byte (.int (a j)) = true
def sb_Lat (t : Nat → Nat) (n : Nat) (a : Nat → Int32) : Prop := ∀ j, j < n → t j < 256 ∧ a j = sb_b (t j)
theorem sb_fitB (c : Nat) : fits .byte (.int (sb_b c)) = true := pk_fb _
theorem sb_fit0 : sb_Fit (fun _ => 0) := fun _ => by
  show fits .byte (.int 0) = true
  decide
theorem sb_fitU {a : Nat → Int32} {k : Nat} {x : Int32} (h : sb_Fit a) (hx : fits .byte (.int x) = true) : sb_Fit (upd a k x) := by
  intro j
  by_cases e : j = k
  · subst e
    rw [pk_us]
    exact hx
  · rw [pk_un e]
    exact h j
def sb_cat (t : Nat → Nat) (n : Nat) (s : Nat → Nat) : Nat → Nat := fun j => if j < n then t j else s (j - n)
theorem sb_cat_lo {t s : Nat → Nat} {n j : Nat} (h : j < n) : sb_cat t n s j = t j := if_pos h
theorem sb_cat_hi {t s : Nat → Nat} {n j : Nat} : sb_cat t n s (n + j) = s j := by
  show (if n + j < n then t (n + j) else s (n + j - n)) = s j
  rw [if_neg (by omega), Nat.add_sub_cancel_left]
theorem sb_latPut {t s : Nat → Nat} {n w : Nat} {a a' : Nat → Int32} (h : sb_Lat t n a) (hk : ∀ j, j < n → a' j = a j) (hs : ∀ i, i < w → s i < 256 ∧ a' (n + i) = sb_b (s i)) : sb_Lat (sb_cat t n s) (n + w) a' := by
  intro j hj
  by_cases e : j < n
  · rw [sb_cat_lo e, hk j e]
    exact h j e
  · obtain ⟨i, rfl⟩ : ∃ i, j = n + i := ⟨j - n, by omega⟩
    rw [sb_cat_hi]
    exact hs i (by omega)
theorem sb_latKeep {t : Nat → Nat} {n : Nat} {a a' : Nat → Int32} (h : sb_Lat t n a) (hk : ∀ j, j < n → a' j = a j) : sb_Lat t n a' := fun j hj => by
  rw [hk j hj]
  exact h j hj
def sb_cap (q m : Nat) : Nat := if q ≤ m then m else if 2 * m + 2 < q then q else 2 * m + 2
def sb_Room (q m mc ms : Nat) : Prop := q ≤ m ∨ (1 ≤ mc ∧ sb_cap q m ≤ ms ∧ sb_cap q m ≤ 65536)
theorem sb_cap_ge (q m : Nat) : q ≤ sb_cap q m := by
  unfold sb_cap
  split
  · omega
  · split <;> omega
theorem sb_cap_gem (q m : Nat) : m ≤ sb_cap q m := by
  unfold sb_cap
  split
  · omega
  · split <;> omega
theorem sb_cap_le {q m mc ms : Nat} (hm : m ≤ 65536) (hr : sb_Room q m mc ms) : sb_cap q m ≤ 65536 := by
  rcases hr with h | h
  · rw [sb_cap, if_pos h]
    exact hm
  · exact h.2.2
theorem sb_at {P : Int32 → Prop} {x y : Int32} (e : x = y) (h : P y) : P x := e ▸ h
def sb_dg (w : Nat) : Nat := if w < 10 then 1 else if w < 100 then 2 else if w < 1000 then 3 else if w < 10000 then 4 else if w < 100000 then 5 else if w < 1000000 then 6 else if w < 10000000 then 7 else if w < 100000000 then 8 else if w < 1000000000 then 9 else 10
def sb_dec (v : Nat) : Nat → Nat := fun i => 48 + v / 10 ^ (sb_dg v - 1 - i) % 10
theorem sb_dg_in (w : Nat) : 1 ≤ sb_dg w ∧ sb_dg w ≤ 10 := by
  unfold sb_dg
  constructor <;> (repeat' split) <;> omega
theorem sb_dg100 {w : Nat} (h : 100 ≤ w) (hw : w < 2 ^ 31) : sb_dg w = sb_dg (w / 100) + 2 := by
  rw [sb_dg, sb_dg, if_neg (show ¬ w < 10 by omega), if_neg (show ¬ w < 100 by omega)]
  by_cases h3 : w < 1000
  · rw [if_pos h3, if_pos (show w / 100 < 10 by omega)]
  rw [if_neg h3, if_neg (show ¬ w / 100 < 10 by omega)]
  by_cases h4 : w < 10000
  · rw [if_pos h4, if_pos (show w / 100 < 100 by omega)]
  rw [if_neg h4, if_neg (show ¬ w / 100 < 100 by omega)]
  by_cases h5 : w < 100000
  · rw [if_pos h5, if_pos (show w / 100 < 1000 by omega)]
  rw [if_neg h5, if_neg (show ¬ w / 100 < 1000 by omega)]
  by_cases h6 : w < 1000000
  · rw [if_pos h6, if_pos (show w / 100 < 10000 by omega)]
  rw [if_neg h6, if_neg (show ¬ w / 100 < 10000 by omega)]
  by_cases h7 : w < 10000000
  · rw [if_pos h7, if_pos (show w / 100 < 100000 by omega)]
  rw [if_neg h7, if_neg (show ¬ w / 100 < 100000 by omega)]
  by_cases h8 : w < 100000000
  · rw [if_pos h8, if_pos (show w / 100 < 1000000 by omega)]
  rw [if_neg h8, if_neg (show ¬ w / 100 < 1000000 by omega)]
  by_cases h9 : w < 1000000000
  · rw [if_pos h9, if_pos (show w / 100 < 10000000 by omega)]
  rw [if_neg h9, if_neg (show ¬ w / 100 < 10000000 by omega)]
  rw [if_pos (show w / 100 < 100000000 by omega)]
theorem sb_negT {w : Nat} (h : w < 2 ^ 31) : (-nI w).toInt = -(w : Int) := by
  rw [Int32.toInt_neg, nI_toInt h]
  exact Int.bmod_eq_of_le (by omega) (by omega)
theorem sb_nle {a b : Nat} (ha : a < 2 ^ 31) (hb : b < 2 ^ 31) : -nI a ≤ -nI b ↔ b ≤ a := by
  rw [Int32.le_iff_toInt_le, sb_negT ha, sb_negT hb]
  omega
theorem sb_nlt {a b : Nat} (ha : a < 2 ^ 31) (hb : b < 2 ^ 31) : -nI a < -nI b ↔ b < a := by
  rw [Int32.lt_iff_toInt_lt, sb_negT ha, sb_negT hb]
  omega
theorem sb_cmp {A B : Prop} {x : Int32} (v c : Nat) (f : c ≤ v → A) (g : v < c → B) (hv : v < 2 ^ 31) (hx : x = -nI c := by rfl) (hc : c < 2 ^ 31 := by omega) : (-nI v ≤ x → A) ∧ (¬ -nI v ≤ x → B) := by
  subst hx
  rw [sb_nle hv hc]
  exact ⟨f, fun z => g (by omega)⟩
theorem sb_ndiv {w : Nat} (hw : w < 2 ^ 31) : (-nI w) / 100 = -nI (w / 100) := by
  apply Int32.toInt_inj.mp
  have h100 : (100 : Int32).toInt = 100 := by decide
  rw [Int32.toInt_div, sb_negT hw, h100, sb_negT (by omega), Int.neg_tdiv, Int.tdiv_eq_ediv_of_nonneg (by omega), Int.bmod_eq_of_le (by omega) (by omega)]
  omega
theorem sb_nrem {w : Nat} (hw : w < 2 ^ 31) : (-nI (w / 100)) * 100 - (-nI w) = nI (w % 100) := by
  have h := pk_rem (a := w) (d := 100) hw (by decide) (by decide)
  rw [pk_div hw (by decide) (by decide)] at h
  rw [← h]
  show (-nI (w / 100)) * nI 100 - (-nI w) = nI w - nI (w / 100) * nI 100
  rw [Int32.neg_mul, Int32.sub_neg, Int32.add_comm, ← Int32.sub_eq_add_neg]
end
section
/-! rows on bits, shifts and unsigned numbers, to paste: each family out of a closed proof of our own, whole with what it rests on; each by itself clean at Lean in its own claim (generation 39, form 5). Take a family whole -/
/-! ===== Int32 by its bits: bt x i ===== -/
def bt (x : Int32) (i : Nat) : Bool := x.toBitVec.getLsbD i
theorem b_ext {x y : Int32} (h : ∀ i, i < 32 → bt x i = bt y i) : x = y := Int32.toBitVec_inj.mp (BitVec.eq_of_getLsbD_eq (fun i hi => h i hi))
theorem b_or (x y : Int32) (i : Nat) : bt (x ||| y) i = (bt x i || bt y i) := by unfold bt; rw [Int32.toBitVec_or, BitVec.getLsbD_or]
theorem b_and (x y : Int32) (i : Nat) : bt (x &&& y) i = (bt x i && bt y i) := by unfold bt; rw [Int32.toBitVec_and, BitVec.getLsbD_and]
theorem b_xor (x y : Int32) (i : Nat) : bt (x ^^^ y) i = (bt x i ^^ bt y i) := by unfold bt; rw [Int32.toBitVec_xor, BitVec.getLsbD_xor]
theorem b_big {x : Int32} {i : Nat} (h : 32 ≤ i) : bt x i = false := BitVec.getLsbD_of_ge _ _ h
theorem b_255 (i : Nat) : bt 255 i = decide (i < 8) := by
  rcases Nat.lt_or_ge i 32 with h | h
  · exact (by decide +kernel : ∀ i, i < 32 → bt 255 i = decide (i < 8)) i h
  · rw [b_big h, decide_eq_false (by omega)]
theorem b_65535 (i : Nat) : bt 65535 i = decide (i < 16) := by
  rcases Nat.lt_or_ge i 32 with h | h
  · exact (by decide +kernel : ∀ i, i < 32 → bt 65535 i = decide (i < 16)) i h
  · rw [b_big h, decide_eq_false (by omega)]
theorem b_m1 : ∀ i, i < 32 → bt (-1) i = true := by decide +kernel
theorem b_0 (i : Nat) : bt 0 i = false := BitVec.getLsbD_zero
theorem s_l : ∀ n, n < 32 → ((nI n &&& 31).toBitVec.smod 32).toNat = n := by decide +kernel
theorem s_u : ∀ n, n < 32 → (((nI n).toUInt32 &&& Int32.toUInt32 31).toBitVec % 32).toNat = n := by decide +kernel
theorem b_shl (n : Nat) (hn : n < 32) (x : Int32) {i : Nat} (hi : i < 32) : bt (x <<< (nI n &&& 31)) i = (decide (n ≤ i) && bt x (i - n)) := by
  unfold bt
  rw [Int32.toBitVec_shiftLeft]
  show (x.toBitVec <<< ((nI n &&& 31).toBitVec.smod 32).toNat).getLsbD i = _
  rw [s_l n hn, BitVec.getLsbD_shiftLeft]
  rcases Nat.lt_or_ge i n with h | h
  · simp [h, Nat.not_le.mpr h]
  · simp [hi, h, Nat.not_lt.mpr h]
theorem b_ushr (n : Nat) (hn : n < 32) (x : Int32) (i : Nat) : bt ((x.toUInt32 >>> ((nI n).toUInt32 &&& Int32.toUInt32 31)).toInt32) i = bt x (n + i) := by
  show (x.toUInt32 >>> ((nI n).toUInt32 &&& Int32.toUInt32 31)).toBitVec.getLsbD i = x.toUInt32.toBitVec.getLsbD (n + i)
  rw [UInt32.toBitVec_shiftRight]
  show (x.toUInt32.toBitVec >>> (((nI n).toUInt32 &&& Int32.toUInt32 31).toBitVec % 32).toNat).getLsbD i = _
  rw [s_u n hn, BitVec.getLsbD_ushiftRight]
theorem b_sshr (n : Nat) (hn : n < 32) (x : Int32) {i : Nat} (hi : i < 32) : bt (x >>> (nI n &&& 31)) i = if n + i < 32 then bt x (n + i) else bt x 31 := by
  unfold bt
  rw [Int32.toBitVec_shiftRight]
  show (x.toBitVec.sshiftRight ((nI n &&& 31).toBitVec.smod 32).toNat).getLsbD i = _
  rw [s_l n hn, BitVec.getLsbD_sshiftRight, BitVec.msb_eq_getLsbD_last]
  simp [hi]
theorem b_shl8 (x : Int32) {i : Nat} (hi : i < 32) : bt (x <<< ((8 : Int32) &&& 31)) i = (decide (8 ≤ i) && bt x (i - 8)) := b_shl 8 (by omega) x hi
theorem b_shl16 (x : Int32) {i : Nat} (hi : i < 32) : bt (x <<< ((16 : Int32) &&& 31)) i = (decide (16 ≤ i) && bt x (i - 16)) := b_shl 16 (by omega) x hi
theorem b_shl24 (x : Int32) {i : Nat} (hi : i < 32) : bt (x <<< ((24 : Int32) &&& 31)) i = (decide (24 ≤ i) && bt x (i - 24)) := b_shl 24 (by omega) x hi
theorem b_sshr8 (x : Int32) {i : Nat} (hi : i < 32) : bt (x >>> ((8 : Int32) &&& 31)) i = if 8 + i < 32 then bt x (8 + i) else bt x 31 := b_sshr 8 (by omega) x hi
/-! ===== nI under and, xor, >>>, one bit, 65535 ===== -/
theorem nx_and (a b : Nat) : nI a &&& nI b = nI (a &&& b) := by
  apply Int32.toBitVec_inj.1
  show BitVec.ofNat 32 a &&& BitVec.ofNat 32 b = BitVec.ofNat 32 (a &&& b)
  apply BitVec.eq_of_getLsbD_eq
  intro i hi
  simp [hi]
theorem nx_xor (a b : Nat) : nI a ^^^ nI b = nI (a ^^^ b) := by
  apply Int32.toBitVec_inj.1
  show BitVec.ofNat 32 a ^^^ BitVec.ofNat 32 b = BitVec.ofNat 32 (a ^^^ b)
  apply BitVec.eq_of_getLsbD_eq
  intro i hi
  simp [hi]
theorem nx_cnt : ∀ j : Fin 32, (UInt32.ofNat j.val &&& Int32.toUInt32 31).toNat % 32 = j.val := by decide +kernel
theorem nx_ush {k j : Nat} (hk : k < 65536) (hj : j < 32) : ((nI k).toUInt32 >>> ((nI j).toUInt32 &&& Int32.toUInt32 31)).toInt32 = nI (k >>> j) := by
  have hs : k >>> j ≤ k := by
    rw [Nat.shiftRight_eq_div_pow]
    exact Nat.div_le_self _ _
  have e2 : UInt32.ofNat k >>> (UInt32.ofNat j &&& Int32.toUInt32 31) = UInt32.ofNat (k >>> j) := by
    apply UInt32.toNat_inj.1
    have h1 : (UInt32.ofNat k).toNat = k := Nat.mod_eq_of_lt (by omega)
    have h2 : (UInt32.ofNat (k >>> j)).toNat = k >>> j := Nat.mod_eq_of_lt (by omega)
    rw [UInt32.toNat_shiftRight, nx_cnt ⟨j, hj⟩, h1, h2]
  show (UInt32.ofNat k >>> (UInt32.ofNat j &&& Int32.toUInt32 31)).toInt32 = _
  rw [e2]
  rfl
theorem nx_bit {k j : Nat} (hk : k < 65536) (hj : j < 16) : (((nI k).toUInt32 >>> ((nI j).toUInt32 &&& Int32.toUInt32 31)).toInt32 &&& 1) = 0 ↔ k.testBit j = false := by
  rw [nx_ush hk (by omega)]
  show nI (k >>> j) &&& nI 1 = 0 ↔ _
  rw [nx_and, Nat.and_one_is_mod, ← nI_0, nI_eq (by omega) (by omega), Nat.testBit_eq_decide_div_mod_eq, Nat.shiftRight_eq_div_pow, decide_eq_false_iff_not]
  generalize k / 2 ^ j = z
  omega
theorem nx_mod (k : Nat) : nI k &&& 65535 = nI (k % 65536) := by
  show nI k &&& nI 65535 = _
  rw [nx_and, show (65535 : Nat) = 2 ^ 16 - 1 from rfl, Nat.and_two_pow_sub_one_eq_mod]
theorem nx_m16 {k : Nat} (h : k < 65536) : nI k &&& 65535 = nI k := by rw [nx_mod, Nat.mod_eq_of_lt h]
theorem nx_mask (x : Int32) : ∃ k, k < 65536 ∧ x &&& 65535 = nI k := by
  have e : x = nI x.toBitVec.toNat := by
    apply Int32.toBitVec_inj.1
    show x.toBitVec = BitVec.ofNat 32 x.toBitVec.toNat
    simp
  refine ⟨x.toBitVec.toNat % 65536, Nat.mod_lt _ (by omega), ?_⟩
  rw [← nx_mod, ← e]
/-! ===== Int32 as a set of bits: test, set ===== -/
def nf_M (m : Int32) : Nat := 4294967296 - m.toBitVec.toNat
theorem nf_sh : ∀ l, l < 32 → ((1 : Int32) <<< (nI l &&& 31)).toBitVec = BitVec.twoPow 32 l := by decide +kernel
theorem nf_sl : ∀ l, l < 32 → (((nI l).toUInt32 &&& Int32.toUInt32 31).toBitVec % 32).toNat = l := by decide +kernel
theorem nf_tp : ∀ l, l < 32 → BitVec.twoPow 32 l ≠ 0#32 := by decide +kernel
theorem nf_bit (m : Int32) (l : Nat) (hl : l < 32) : ((m.toUInt32 >>> ((nI l).toUInt32 &&& Int32.toUInt32 31)).toInt32 &&& 1) = 0 ↔ (m &&& ((1 : Int32) <<< (nI l &&& 31))) = 0 := by
  have e : ((m.toUInt32 >>> ((nI l).toUInt32 &&& Int32.toUInt32 31)).toInt32).toBitVec = m.toBitVec >>> l := by
    show m.toBitVec >>> (((nI l).toUInt32 &&& Int32.toUInt32 31).toBitVec % 32) = m.toBitVec >>> l
    rw [BitVec.ushiftRight_eq', nf_sl l hl]
  rw [← Int32.toBitVec_inj, ← Int32.toBitVec_inj, Int32.toBitVec_and, Int32.toBitVec_and, nf_sh l hl, e, BitVec.and_twoPow]
  show (m.toBitVec >>> l &&& 1#32) = 0#32 ↔ _ = 0#32
  rw [BitVec.and_one_eq_setWidth_ofBool_getLsbD, BitVec.getLsbD_ushiftRight, Nat.add_zero]
  cases hb : m.toBitVec.getLsbD l
  · exact ⟨fun _ => by simp, fun _ => by decide⟩
  · exact ⟨fun z => absurd z (by decide), fun z => absurd ((if_pos rfl).symm.trans z) (nf_tp l hl)⟩
theorem nf_gr (m k : Int32) (h : m &&& k = 0) (hk : k ≠ 0) : nf_M (m ||| k) < nf_M m := by
  have hm := m.toBitVec.isLt
  have hm' := (m ||| k).toBitVec.isLt
  have h1 : m.toBitVec.toNat ≤ (m ||| k).toBitVec.toNat := by
    rw [Int32.toBitVec_or, BitVec.toNat_or]
    exact Nat.left_le_or
  have h2 : m.toBitVec.toNat ≠ (m ||| k).toBitVec.toNat := by
    intro e
    have e2 : m = m ||| k := Int32.toBitVec_inj.mp (BitVec.eq_of_toNat_eq e)
    apply hk
    apply Int32.toBitVec_inj.mp
    show k.toBitVec = 0#32
    apply BitVec.eq_of_getLsbD_eq
    intro i hi
    have a : m.toBitVec.getLsbD i = (m.toBitVec.getLsbD i || k.toBitVec.getLsbD i) := by rw [← BitVec.getLsbD_or, ← Int32.toBitVec_or, ← e2]
    have b : (m.toBitVec.getLsbD i && k.toBitVec.getLsbD i) = false := by
      rw [← BitVec.getLsbD_and, ← Int32.toBitVec_and, h]
      exact BitVec.getLsbD_zero
    rw [BitVec.getLsbD_zero]
    revert a b
    cases m.toBitVec.getLsbD i <;> cases k.toBitVec.getLsbD i <;> simp
  unfold nf_M
  omega
/-! ===== a byte read unsigned ===== -/
theorem bp_b (x : Int32) : x.toInt8.toInt32 &&& 255 = x &&& 255 := by
  apply Int32.toBitVec_inj.mp
  rw [Int32.toBitVec_and, Int32.toBitVec_and, Int8.toBitVec_toInt32, Int32.toBitVec_toInt8]
  apply BitVec.eq_of_getLsbD_eq
  intro i hi
  rw [BitVec.getLsbD_and, BitVec.getLsbD_and]
  have hm : ∀ i < 32, 8 ≤ i → (255 : Int32).toBitVec.getLsbD i = false := by decide
  rcases Nat.lt_or_ge i 8 with z | z
  · rw [BitVec.getLsbD_signExtend, BitVec.getLsbD_signExtend, if_pos z, if_pos hi]
    simp only [z, hi, decide_true, Bool.true_and]
  · rw [hm i hi z]; simp
/-! ===== the char cast and 65535 ===== -/
theorem em_w (v : Int32) : ∃ w : Nat, w < 65536 ∧ (v.toUInt32 % 65536).toInt32 = nI w ∧ v &&& 65535 = nI w := by
  have hr := lw_u16_r v
  have h0 : (0 : Int32).toInt = 0 := by decide
  obtain ⟨w, h1, h2⟩ := nI_of (x := lw_u16 v) (by rw [Int32.lt_iff_toInt_lt]; omega)
  have h3 : (v.toUInt32 % 65536).toInt32 = nI w := h2
  rw [h2, nI_toInt h1] at hr
  exact ⟨w, by omega, h3, by rw [← lg_i2c_mask, ← lg_i2c_nf, h3]⟩
/-! ===== Int64 as a set of bits: test, set, clear ===== -/
theorem ts_nf {x : Bool} (h : ¬ x = false) : x = true := by cases x <;> first | rfl | exact absurd rfl h
theorem ts_nt {x : Bool} (h : ¬ x = true) : x = false := by cases x <;> first | rfl | exact absurd rfl h
theorem ts_bit {w : Int64} {s : UInt64} {j : Nat} (hj : j < 64) (hs : s.toNat = j) : ((w.toUInt64 >>> s).toInt64 &&& 1) = 0 ↔ w.toBitVec.getLsbD j = false := by
  have e : (w.toUInt64 >>> s).toInt64.toBitVec = w.toBitVec >>> j := by
    apply BitVec.eq_of_toNat_eq
    show (w.toUInt64 >>> s).toNat = _
    rw [UInt64.toNat_shiftRight, hs, Nat.mod_eq_of_lt hj, BitVec.toNat_ushiftRight]
    rfl
  rw [← Int64.toBitVec_inj, Int64.toBitVec_and, e]
  show w.toBitVec >>> j &&& 1#64 = 0#64 ↔ _
  constructor
  · intro h
    have t := congrArg (fun x => x.getLsbD 0) h
    simpa using t
  · intro h
    apply BitVec.eq_of_getLsbD_eq
    intro i hi
    cases i with
    | zero => simp [h]
    | succ i => simp
theorem ts_or {w m : Int64} {j : Nat} (hj : j < 64) (hm : m.toBitVec = BitVec.twoPow 64 j) : (w ||| m) = w ↔ w.toBitVec.getLsbD j = true := by
  rw [← Int64.toBitVec_inj, Int64.toBitVec_or, hm]
  constructor
  · intro h
    have t := congrArg (fun x => x.getLsbD j) h
    simp only [BitVec.getLsbD_or, BitVec.getLsbD_twoPow] at t
    simpa [hj] using t.symm
  · intro h
    apply BitVec.eq_of_getLsbD_eq
    intro i hi
    rw [BitVec.getLsbD_or, BitVec.getLsbD_twoPow]
    by_cases e : j = i
    · subst e; rw [h, Bool.true_or]
    · simp [e]
theorem ts_and {w m : Int64} {j : Nat} (hj : j < 64) (hm : m.toBitVec = BitVec.twoPow 64 j) : (w &&& (m ^^^ (-1))) = w ↔ w.toBitVec.getLsbD j = false := by
  have ha : (-1 : Int64).toBitVec = BitVec.allOnes 64 := by decide
  rw [← Int64.toBitVec_inj, Int64.toBitVec_and, Int64.toBitVec_xor, hm, ha]
  constructor
  · intro h
    have t := congrArg (fun x => x.getLsbD j) h
    simp only [BitVec.getLsbD_and, BitVec.getLsbD_xor, BitVec.getLsbD_twoPow, BitVec.getLsbD_allOnes] at t
    simpa [hj] using t.symm
  · intro h
    apply BitVec.eq_of_getLsbD_eq
    intro i hi
    rw [BitVec.getLsbD_and, BitVec.getLsbD_xor, BitVec.getLsbD_twoPow, BitVec.getLsbD_allOnes]
    by_cases e : j = i
    · subst e; rw [h, Bool.false_and]
    · simp [e, hi]
/-! ===== lN n to 2^64: shifts, and, or, masks, one bit ===== -/
theorem wb_tb (n : Nat) : (lN n).toBitVec = BitVec.ofNat 64 n := rfl
theorem wb_inj {a b : Int64} (h : a.toBitVec = b.toBitVec) : a = b := Int64.toBitVec_inj.mp h
theorem wb_tn {n : Nat} (h : n < 2 ^ 64) : (lN n).toBitVec.toNat = n := by rw [wb_tb, BitVec.toNat_ofNat, Nat.mod_eq_of_lt h]
theorem wb_of (x : Int64) : ∃ n, n < 2 ^ 64 ∧ x = lN n := ⟨x.toBitVec.toNat, x.toBitVec.isLt, wb_inj (by rw [wb_tb]; simp)⟩
theorem wb_of32 (x : Int32) : ∃ n, n < 2 ^ 32 ∧ x = nI n := ⟨x.toBitVec.toNat, x.toBitVec.isLt, Int32.toBitVec_inj.mp (by show _ = BitVec.ofNat 32 _; simp)⟩
theorem wb_c : ∀ k, k < 64 → ((nI k).toInt64 &&& 63) = lN k := by decide +kernel
theorem wb_cu : ∀ k, k < 64 → ((nI k).toInt64.toUInt64 &&& Int64.toUInt64 63) = UInt64.ofNat k := by decide +kernel
theorem wb_sm : ∀ k, k < 64 → (BitVec.ofNat 64 k).smod 64 = BitVec.ofNat 64 k := by decide +kernel
theorem wb_pw {a b : Nat} (h : a ≤ b) : 2 ^ b = 2 ^ a * 2 ^ (b - a) := by rw [← Nat.pow_add]; congr 1; omega
theorem wb_lt2 {a b : Nat} (h : a < b) : 2 ^ a < 2 ^ b := Nat.pow_lt_pow_right (by decide) h
theorem wb_mod (n : Nat) : lN n = lN (n % 2 ^ 64) := wb_inj (by rw [wb_tb, wb_tb]; apply BitVec.eq_of_toNat_eq; rw [BitVec.toNat_ofNat, BitVec.toNat_ofNat, Nat.mod_mod])
theorem wb_shr {n k : Nat} (hn : n < 2 ^ 64) (hk : k < 64) : ((lN n).toUInt64 >>> ((nI k).toInt64.toUInt64 &&& Int64.toUInt64 63)).toInt64 = lN (n / 2 ^ k) := by
  rw [wb_cu k hk]
  apply wb_inj
  apply BitVec.eq_of_toNat_eq
  show ((lN n).toUInt64 >>> UInt64.ofNat k).toNat = (BitVec.ofNat 64 _).toNat
  have h1 : (UInt64.ofNat k).toNat = k := by
    show (BitVec.ofNat 64 k).toNat = k
    rw [BitVec.toNat_ofNat, Nat.mod_eq_of_lt (by omega)]
  have h2 : (lN n).toUInt64.toNat = n := wb_tn hn
  rw [UInt64.toNat_shiftRight, h1, h2, Nat.mod_eq_of_lt hk, Nat.shiftRight_eq_div_pow, BitVec.toNat_ofNat, Nat.mod_eq_of_lt (Nat.lt_of_le_of_lt (Nat.div_le_self _ _) hn)]
theorem wb_shl (n : Nat) {k : Nat} (hk : k < 64) : lN n <<< ((nI k).toInt64 &&& 63) = lN (n * 2 ^ k) := by
  rw [wb_c k hk]
  apply wb_inj
  rw [Int64.toBitVec_shiftLeft, wb_tb, wb_tb, wb_tb, wb_sm k hk]
  apply BitVec.eq_of_toNat_eq
  rw [BitVec.shiftLeft_eq', BitVec.toNat_shiftLeft, BitVec.toNat_ofNat, BitVec.toNat_ofNat, BitVec.toNat_ofNat, Nat.mod_eq_of_lt (show k < 2 ^ 64 by omega), Nat.shiftLeft_eq, Nat.mul_mod, Nat.mod_mod, ← Nat.mul_mod]
theorem wb_and {a b : Nat} (ha : a < 2 ^ 64) (hb : b < 2 ^ 64) : lN a &&& lN b = lN (a &&& b) := by
  apply wb_inj
  rw [Int64.toBitVec_and, wb_tb, wb_tb, wb_tb]
  apply BitVec.eq_of_toNat_eq
  rw [BitVec.toNat_and, BitVec.toNat_ofNat, BitVec.toNat_ofNat, BitVec.toNat_ofNat, Nat.mod_eq_of_lt ha, Nat.mod_eq_of_lt hb, Nat.mod_eq_of_lt (Nat.and_lt_two_pow _ hb)]
theorem wb_or {a b : Nat} (ha : a < 2 ^ 64) (hb : b < 2 ^ 64) : lN a ||| lN b = lN (a ||| b) := by
  apply wb_inj
  rw [Int64.toBitVec_or, wb_tb, wb_tb, wb_tb]
  apply BitVec.eq_of_toNat_eq
  rw [BitVec.toNat_or, BitVec.toNat_ofNat, BitVec.toNat_ofNat, BitVec.toNat_ofNat, Nat.mod_eq_of_lt ha, Nat.mod_eq_of_lt hb, Nat.mod_eq_of_lt (Nat.or_lt_two_pow ha hb)]
theorem wb_mask {n k : Nat} (hn : n < 2 ^ 64) (hk : k < 64) : lN n &&& lN (2 ^ k - 1) = lN (n % 2 ^ k) := by
  rw [wb_and hn (by have := wb_lt2 hk; omega), Nat.and_two_pow_sub_one_eq_mod]
theorem wb_a1 {n : Nat} (hn : n < 2 ^ 64) : lN n &&& 1 = lN (n % 2) := wb_mask (k := 1) hn (by decide)
theorem wb_bit {n k : Nat} (hn : n < 2 ^ 64) (hk : k < 64) : ((lN n).toUInt64 >>> ((nI k).toInt64.toUInt64 &&& Int64.toUInt64 63)).toInt64 &&& 1 = lN (n / 2 ^ k % 2) := by
  rw [wb_shr hn hk, wb_a1 (Nat.lt_of_le_of_lt (Nat.div_le_self _ _) hn)]
theorem wb_xor {q k : Nat} (hk : k < 63) (h : 2 ^ k ≤ q) (h2 : q < 2 ^ (k + 1)) : lN q ^^^ lN (2 ^ k) = lN (q - 2 ^ k) := by
  obtain ⟨r, rfl⟩ : ∃ r, q = 2 ^ k + r := ⟨q - 2 ^ k, by omega⟩
  have hr : r < 2 ^ k := by rw [Nat.pow_succ] at h2; omega
  have hx : (2 ^ k + r) ^^^ 2 ^ k = r := by
    apply Nat.eq_of_testBit_eq
    intro i
    rw [Nat.testBit_xor, Nat.testBit_two_pow]
    rcases Nat.lt_trichotomy i k with h | h | h
    · rw [Nat.testBit_two_pow_add_gt h]
      simp [show ¬ k = i by omega]
    · subst h
      rw [Nat.testBit_two_pow_add_eq]
      simp
    · have a1 : 2 ^ (k + 1) ≤ 2 ^ i := Nat.pow_le_pow_right (by decide) h
      rw [Nat.testBit_lt_two_pow (show 2 ^ k + r < 2 ^ i by omega), Nat.testBit_lt_two_pow (show r < 2 ^ i by omega)]
      simp [show ¬ k = i by omega]
  have b1 := wb_lt2 (show k + 1 < 64 by omega)
  have b2 := wb_lt2 (show k < 64 by omega)
  apply wb_inj
  rw [Int64.toBitVec_xor, wb_tb, wb_tb, wb_tb]
  apply BitVec.eq_of_toNat_eq
  rw [BitVec.toNat_xor, BitVec.toNat_ofNat, BitVec.toNat_ofNat, BitVec.toNat_ofNat, Nat.mod_eq_of_lt (by omega : 2 ^ k + r < 2 ^ 64), Nat.mod_eq_of_lt b2, hx, Nat.add_sub_cancel_left, Nat.mod_eq_of_lt (by omega)]
/-! ===== lN: masks, 'or' of parts that don't overlap is a sum ===== -/
theorem u_tn {n : Nat} (h : n < 2 ^ 64) : (UInt64.ofNat n).toNat = n := Nat.mod_eq_of_lt h
theorem g_and {a b c : Nat} (ha : a < 2 ^ 64) (hb : b < 2 ^ 64) (hc : a &&& b = c) : lN a &&& lN b = lN c := by
  subst hc
  have h : UInt64.ofNat a &&& UInt64.ofNat b = UInt64.ofNat (a &&& b) := UInt64.toNat_inj.mp (by rw [UInt64.toNat_and, u_tn ha, u_tn hb, u_tn (Nat.and_lt_two_pow a hb)])
  have h2 := congrArg UInt64.toInt64 h
  exact h2
theorem g_and1 {a : Nat} (ha : a < 2 ^ 64) : lN a &&& 1 = lN (a % 2) := g_and (b := 1) ha (by decide) (Nat.and_two_pow_sub_one_eq_mod a 1)
theorem g_mask {a s p : Nat} (hp : 2 ^ s = p) (hs : s < 64) (ha : a < 2 ^ 64) : lN a &&& lN (p - 1) = lN (a % p) := by
  subst hp
  have := Nat.pow_lt_pow_right (show 1 < 2 by decide) hs
  exact g_and ha (by omega) (Nat.and_two_pow_sub_one_eq_mod a s)
theorem g_or {k p a b : Nat} (hp : 2 ^ k = p) (ha : a < p) (h : b * p + a < 2 ^ 64) : lN (b * p) ||| lN a = lN (b * p + a) := by
  subst hp
  have h1 : b * 2 ^ k ||| a = b * 2 ^ k + a := by rw [← Nat.shiftLeft_eq, Nat.shiftLeft_add_eq_or_of_lt ha]
  have h3 : UInt64.ofNat (b * 2 ^ k) ||| UInt64.ofNat a = UInt64.ofNat (b * 2 ^ k + a) := UInt64.toNat_inj.mp (by rw [UInt64.toNat_or, u_tn (by omega), u_tn (by omega), u_tn h, h1])
  have h2 := congrArg UInt64.toInt64 h3
  exact h2
theorem g_or' {k p a b : Nat} (hp : 2 ^ k = p) (ha : a < p) (h : a + b * p < 2 ^ 64) : lN a ||| lN (b * p) = lN (a + b * p) := by
  rw [Int64.or_comm, g_or hp ha (by omega), Nat.add_comm]
theorem g_ushr {a k p : Nat} {y : UInt64} (hy : y = UInt64.ofNat k) (hk : k < 64) (hp : 2 ^ k = p) (ha : a < 2 ^ 64) : ((lN a).toUInt64 >>> y).toInt64 = lN (a / p) := by
  subst hy hp
  have h : UInt64.ofNat a >>> UInt64.ofNat k = UInt64.ofNat (a / 2 ^ k) := UInt64.toNat_inj.mp (by rw [UInt64.toNat_shiftRight, u_tn ha, u_tn (by omega), u_tn (Nat.lt_of_le_of_lt (Nat.div_le_self _ _) ha), Nat.mod_eq_of_lt hk, Nat.shiftRight_eq_div_pow])
  have h2 := congrArg UInt64.toInt64 h
  exact h2
theorem g_shl {a k p : Nat} {y : Int64} (hy : y.toBitVec.smod 64 = BitVec.ofNat 64 k) (hk : k < 64) (hp : 2 ^ k = p) (ha : a < 2 ^ 64) : lN a <<< y = lN (a * p) := by
  subst hp
  apply Int64.toBitVec_inj.mp
  rw [Int64.toBitVec_shiftLeft, hy]
  apply BitVec.eq_of_toNat_eq
  have hb : (lN a).toBitVec.toNat = a := Nat.mod_eq_of_lt ha
  have hk' : (BitVec.ofNat 64 k).toNat = k := Nat.mod_eq_of_lt (by omega)
  have h : ((lN a).toBitVec <<< BitVec.ofNat 64 k).toNat = (a * 2 ^ k) % 2 ^ 64 := by simp only [BitVec.shiftLeft_eq', BitVec.toNat_shiftLeft, hb, hk', Nat.shiftLeft_eq]
  exact h
/-! ===== lN to 2^62 under >> and >>> ===== -/
theorem pf_lI {a : Nat} (h : a < 2 ^ 63) : (lN a).toInt = (a : Int) := lg_ofNat_toInt h
theorem pf_shr {a d : Nat} {D : Int64} (hD : (D.toBitVec.smod 64).toNat = d) (h : a < 2 ^ 62) : lN a >>> D = lN (a / 2 ^ d) := by
  have hd : a / 2 ^ d ≤ a := Nat.div_le_self _ _
  apply Int64.toInt_inj.mp
  have e : (lN a >>> D).toInt = (lN a).toInt >>> d := by
    rw [← hD]
    exact BitVec.toInt_sshiftRight ..
  rw [e, Int.shiftRight_eq_div_pow, pf_lI (by omega), pf_lI (by omega)]
  rfl
theorem pf_ushr {a d : Nat} {D : UInt64} (hD : D.toNat % 64 = d) (h : a < 2 ^ 62) : ((lN a).toUInt64 >>> D).toInt64 = lN (a / 2 ^ d) := by
  have hd : a / 2 ^ d ≤ a := Nat.div_le_self _ _
  have e : (lN a).toUInt64 >>> D = UInt64.ofNat (a / 2 ^ d) := UInt64.toNat_inj.mp (by
    rw [UInt64.toNat_shiftRight, hD, Nat.shiftRight_eq_div_pow, UInt64.toNat_ofNat']
    show (UInt64.ofNat a).toNat / 2 ^ d = _
    rw [UInt64.toNat_ofNat', Nat.mod_eq_of_lt (by omega), Nat.mod_eq_of_lt (by omega)])
  rw [e]
  rfl
theorem pf_andw (x : Int64) : ∃ m, m < 2 ^ 32 ∧ x &&& 4294967295 = lN m := ⟨x.toBitVec.toNat % 2 ^ 32, Nat.mod_lt _ (by decide), Int64.toBitVec_inj.mp (BitVec.eq_of_toNat_eq (by
  show (x.toBitVec &&& 4294967295#64).toNat = (BitVec.ofNat 64 (x.toBitVec.toNat % 2 ^ 32)).toNat
  rw [BitVec.toNat_and, show (4294967295#64).toNat = 2 ^ 32 - 1 from by decide, Nat.and_two_pow_sub_one_eq_mod, BitVec.toNat_ofNat]
  omega))⟩
/-! ===== Int64 as an unsigned number: uN x ===== -/
def uN (x : Int64) : Nat := x.toUInt64.toNat
theorem uN_lt (x : Int64) : uN x < 18446744073709551616 := x.toUInt64.toNat_lt
theorem uN_inj {x y : Int64} (h : uN x = uN y) : x = y := congrArg UInt64.toInt64 (UInt64.toNat_inj.mp h)
theorem uN_add (x y : Int64) : uN (x + y) = (uN x + uN y) % 18446744073709551616 := by
  show (x.toUInt64 + y.toUInt64).toNat = _
  exact UInt64.toNat_add _ _
theorem uN_mul (x y : Int64) : uN (x * y) = (uN x * uN y) % 18446744073709551616 := by
  show (x.toUInt64 * y.toUInt64).toNat = _
  exact UInt64.toNat_mul _ _
theorem uN_shl (x : Int64) : uN (x <<< ((1 : Int32).toInt64 &&& 63)) = (2 * uN x) % 18446744073709551616 := by
  have h : (((1 : Int32).toInt64 &&& 63).toBitVec.smod 64).toNat = 1 := by decide
  show (x.toBitVec <<< (((1 : Int32).toInt64 &&& 63).toBitVec.smod 64).toNat).toNat = _
  rw [h, BitVec.toNat_shiftLeft, Nat.shiftLeft_eq, Nat.mul_comm]
  rfl
theorem uN_shr (x : Int64) (s : UInt64) : uN (x.toUInt64 >>> s).toInt64 = uN x / 2 ^ (s.toNat % 64) := by
  show (x.toUInt64 >>> s).toNat = _
  rw [UInt64.toNat_shiftRight, Nat.shiftRight_eq_div_pow]
  rfl
theorem uN_s32 (x : Int64) : uN (x.toUInt64 >>> ((32 : Int32).toInt64.toUInt64 &&& Int64.toUInt64 63)).toInt64 = uN x / 4294967296 := by
  have h : ((32 : Int32).toInt64.toUInt64 &&& Int64.toUInt64 63).toNat % 64 = 32 := by decide
  rw [uN_shr, h]
theorem uN_s63 (x : Int64) : uN (x.toUInt64 >>> ((63 : Int32).toInt64.toUInt64 &&& Int64.toUInt64 63)).toInt64 = uN x / 9223372036854775808 := by
  have h : ((63 : Int32).toInt64.toUInt64 &&& Int64.toUInt64 63).toNat % 64 = 63 := by decide
  rw [uN_shr, h]
theorem uN_lo (x : Int64) : uN (x &&& 4294967295) = uN x % 4294967296 := by
  show (x.toUInt64 &&& Int64.toUInt64 4294967295).toNat = _
  rw [UInt64.toNat_and]
  exact Nat.and_two_pow_sub_one_eq_mod _ 32
theorem uN_bit (x : Int64) : (x &&& 1) = 0 ↔ uN x % 2 = 0 := by
  have h : uN (x &&& 1) = uN x % 2 := by
    show (x.toUInt64 &&& Int64.toUInt64 1).toNat = _
    rw [UInt64.toNat_and]
    exact Nat.and_two_pow_sub_one_eq_mod _ 1
  rw [← h]
  exact ⟨fun z => by rw [z]; rfl, fun z => uN_inj (z.trans rfl)⟩
theorem uN_or {x y : Int64} (hy : uN y < 2) : uN ((x <<< ((1 : Int32).toInt64 &&& 63)) ||| y) = (2 * uN x) % 18446744073709551616 + uN y := by
  have h1 : uN ((x <<< ((1 : Int32).toInt64 &&& 63)) ||| y) = uN (x <<< ((1 : Int32).toInt64 &&& 63)) ||| uN y := UInt64.toNat_or _ _
  have h2 : (2 * uN x) % 18446744073709551616 = 2 ^ 1 * (uN x % 9223372036854775808) := by omega
  rw [h1, uN_shl, h2]
  exact (Nat.two_pow_add_eq_or_of_lt (i := 1) hy _).symm
theorem nat_xor {a : Nat} (h : a < 18446744073709551616) : a ^^^ 2 ^ 63 = (a + 9223372036854775808) % 18446744073709551616 := by
  have h1 : (a ^^^ 2 ^ 63) % 2 ^ 63 = a % 2 ^ 63 := by rw [Nat.xor_mod_two_pow, Nat.mod_self, Nat.xor_zero]
  have h2 : (a ^^^ 2 ^ 63) / 2 ^ 63 = (a / 2 ^ 63) ^^^ 1 := by rw [Nat.xor_div_two_pow, Nat.div_self (Nat.two_pow_pos 63)]
  have h3 : a / 2 ^ 63 = 0 ∨ a / 2 ^ 63 = 1 := by omega
  generalize a ^^^ 2 ^ 63 = t at h1 h2
  rcases h3 with h3 | h3
  · rw [h3] at h2
    have h2 : t / 2 ^ 63 = 1 := h2
    omega
  · rw [h3] at h2
    have h2 : t / 2 ^ 63 = 0 := h2
    omega
theorem uN_xor (x : Int64) : uN (x ^^^ (-9223372036854775808)) = (uN x + 9223372036854775808) % 18446744073709551616 := by
  rw [← nat_xor (uN_lt x)]
  exact UInt64.toNat_xor _ _
theorem uN_int (x : Int64) : x.toInt = if 2 * uN x < 18446744073709551616 then (uN x : Int) else (uN x : Int) - 18446744073709551616 := BitVec.toInt_eq_toNat_cond _
theorem uN_le (x y : Int64) : (x ^^^ (-9223372036854775808)) ≤ (y ^^^ (-9223372036854775808)) ↔ uN x ≤ uN y := by
  have hx := uN_lt x
  have hy := uN_lt y
  rw [Int64.le_iff_toInt_le, uN_int, uN_int, uN_xor, uN_xor]
  omega
theorem uN_sk (x : Int64) {k : Nat} (hk : k < 64) : uN (x.toUInt64 >>> ((nI k).toInt64.toUInt64 &&& Int64.toUInt64 63)).toInt64 = uN x / 2 ^ k := by
  have h : ((nI k).toInt64.toUInt64 &&& Int64.toUInt64 63).toNat % 64 = k := by
    rw [nI_l (by omega), UInt64.toNat_and]
    have e : (lN k).toUInt64.toNat = k % 2 ^ 64 := rfl
    have e2 : (Int64.toUInt64 63).toNat = 2 ^ 6 - 1 := by decide
    rw [e, e2, Nat.and_two_pow_sub_one_eq_mod]
    omega
  rw [uN_shr, h]
/-! ===== unsigned comparison by xor with the least ===== -/
theorem lN_bv (n : Nat) : (lN n).toBitVec = BitVec.ofNat 64 n := rfl
theorem lN_nat {n : Nat} (h : n < 2 ^ 64) : (lN n).toBitVec.toNat = n := by rw [lN_bv, BitVec.toNat_ofNat]; exact Nat.mod_eq_of_lt h
theorem lN_xor (a b : Nat) : lN a ^^^ lN b = lN (a ^^^ b) := by
  apply Int64.toBitVec_inj.mp; rw [Int64.toBitVec_xor, lN_bv, lN_bv, lN_bv]; apply BitVec.eq_of_getLsbD_eq; intro i hi; simp [BitVec.getLsbD_ofNat, Nat.testBit_xor, hi]
theorem lN_ti {m : Nat} (h : m < 2 ^ 64) : (lN m).toInt = if m < 2 ^ 63 then (m : Int) else (m : Int) - 2 ^ 64 := by
  have c := BitVec.toInt_eq_toNat_cond (lN m).toBitVec
  rw [lN_nat h] at c
  show (lN m).toBitVec.toInt = _
  rw [c]
  split <;> split <;> omega
theorem xor63 {x : Nat} (h : x < 2 ^ 63) : x ^^^ 2 ^ 63 = 2 ^ 63 + x := by
  apply Nat.eq_of_testBit_eq
  intro i
  rw [Nat.testBit_xor, Nat.testBit_two_pow]
  rcases Nat.lt_trichotomy i 63 with z | z | z
  · rw [Nat.testBit_two_pow_add_gt z, decide_eq_false (by omega)]; simp
  · subst z; rw [Nat.testBit_two_pow_add_eq]; simp
  · have hp : 2 ^ 64 ≤ 2 ^ i := Nat.pow_le_pow_right (by decide) z
    rw [Nat.testBit_lt_two_pow (show x < 2 ^ i by omega), Nat.testBit_lt_two_pow (show 2 ^ 63 + x < 2 ^ i by omega), decide_eq_false (by omega)]; rfl
theorem xorS {a : Nat} (h : a < 2 ^ 64) : (lN a ^^^ (-9223372036854775808)).toInt = (a : Int) - 2 ^ 63 := by
  rw [show (-9223372036854775808 : Int64) = lN (2 ^ 63) from by decide +kernel, lN_xor]
  rcases Nat.lt_or_ge a (2 ^ 63) with z | z
  · rw [xor63 z, lN_ti (by omega), if_neg (by omega)]; omega
  · obtain ⟨x, rfl⟩ : ∃ x, a = 2 ^ 63 + x := ⟨a - 2 ^ 63, by omega⟩
    rw [← xor63 (by omega), Nat.xor_assoc, Nat.xor_self, Nat.xor_zero, lN_ti (by omega), if_pos (by omega), xor63 (by omega)]; omega
theorem ultL {a b : Nat} (ha : a < 2 ^ 64) (hb : b < 2 ^ 64) : ((lN b ^^^ (-9223372036854775808)) ≤ (lN a ^^^ (-9223372036854775808))) ↔ b ≤ a := by
  rw [Int64.le_iff_toInt_le, xorS ha, xorS hb]; omega
/-! ===== Int64 masks of n low bits ===== -/
theorem cr_bits (W U M : BitVec 64) : ((W &&& U) &&& (U &&& (M ^^^ BitVec.allOnes 64))) = 0#64 ↔ (W &&& U) &&& M = W &&& U := by
  constructor
  · intro h
    apply BitVec.eq_of_getLsbD_eq
    intro i hi
    have e := congrArg (fun x => BitVec.getLsbD x i) h
    simp only [BitVec.getLsbD_and, BitVec.getLsbD_xor, BitVec.getLsbD_allOnes, BitVec.getLsbD_zero, hi, decide_true] at e ⊢
    revert e
    cases W.getLsbD i <;> cases U.getLsbD i <;> cases M.getLsbD i <;> decide
  · intro h
    apply BitVec.eq_of_getLsbD_eq
    intro i hi
    have e := congrArg (fun x => BitVec.getLsbD x i) h
    simp only [BitVec.getLsbD_and, BitVec.getLsbD_xor, BitVec.getLsbD_allOnes, BitVec.getLsbD_zero, hi, decide_true] at e ⊢
    revert e
    cases W.getLsbD i <;> cases U.getLsbD i <;> cases M.getLsbD i <;> decide
theorem cr_mask (w U m : Int64) (n : Nat) (hm : m.toBitVec.toNat = 2 ^ n - 1) : ((w &&& U) &&& (U &&& (m ^^^ (-1)))) = 0 ↔ (w &&& U).toBitVec.toNat < 2 ^ n := by
  have e0 : (-1 : Int64).toBitVec = BitVec.allOnes 64 := by decide
  have z0 : (0 : Int64).toBitVec = 0#64 := by decide
  rw [← Int64.toBitVec_inj, z0, Int64.toBitVec_and, Int64.toBitVec_and, Int64.toBitVec_and, Int64.toBitVec_xor, e0, cr_bits]
  generalize w.toBitVec &&& U.toBitVec = T
  rw [← BitVec.toNat_inj, BitVec.toNat_and, hm, Nat.and_two_pow_sub_one_eq_mod]
  constructor
  · intro h
    have t := Nat.mod_lt T.toNat (Nat.two_pow_pos n)
    rw [h] at t
    exact t
  · exact Nat.mod_eq_of_lt
theorem cr_shr (t : Int64) (x : UInt64) (n : Nat) (hx : x.toNat % 64 = n) : (t.toUInt64 >>> x).toInt64 = 0 ↔ t.toBitVec.toNat < 2 ^ n := by
  rw [← Int64.toBitVec_inj, ← BitVec.toNat_inj]
  show (t.toUInt64 >>> x).toNat = 0 ↔ t.toUInt64.toNat < 2 ^ n
  rw [UInt64.toNat_shiftRight, hx, Nat.shiftRight_eq_div_pow]
  constructor
  · intro h
    have d : t.toUInt64.toNat / 2 ^ n < 1 := by
      rw [h]
      decide
    have e := (Nat.div_lt_iff_lt_mul (Nat.two_pow_pos n)).mp d
    rw [Nat.one_mul] at e
    exact e
  · exact Nat.div_eq_of_lt
theorem cr_amt (s : Int64) : ∃ n, n < 64 ∧ s &&& 63 = lN n ∧ (s.toUInt64 &&& Int64.toUInt64 63).toNat % 64 = n := by
  have e : (s.toUInt64 &&& Int64.toUInt64 63).toNat = s.toUInt64.toNat % 2 ^ 6 := by
    rw [UInt64.toNat_and, show (Int64.toUInt64 63).toNat = 2 ^ 6 - 1 from by decide, Nat.and_two_pow_sub_one_eq_mod]
  refine ⟨s.toUInt64.toNat % 2 ^ 6, by omega, ?_, by omega⟩
  rw [← Int64.toBitVec_inj, ← BitVec.toNat_inj]
  show (s.toUInt64 &&& Int64.toUInt64 63).toNat = (BitVec.ofNat 64 (s.toUInt64.toNat % 2 ^ 6)).toNat
  rw [e, BitVec.toNat_ofNat]
  omega
end
section
/-! pure basics: folds over Bool functions, bits of longs, planes -/
def dt_all (f : Nat → Bool) : Nat → Bool
  | 0 => true
  | k + 1 => dt_all f k && f k
def dt_any (f : Nat → Bool) : Nat → Bool
  | 0 => false
  | k + 1 => dt_any f k || f k
def dt_set (f : Nat → Bool) : Nat → Nat
  | 0 => 0
  | k + 1 => if f k = true then dt_set f k ||| 2 ^ k else dt_set f k
def dt_cn (f : Nat → Bool) : Nat → Nat
  | 0 => 0
  | k + 1 => if f k = true then dt_cn f k + 1 else dt_cn f k
theorem dt_all_iff {f : Nat → Bool} : ∀ {n : Nat}, dt_all f n = true ↔ ∀ i, i < n → f i = true := by
  intro n
  induction n with
  | zero => exact ⟨fun _ i h => absurd h (Nat.not_lt_zero i), fun _ => rfl⟩
  | succ n ih =>
    show (dt_all f n && f n) = true ↔ _
    rw [Bool.and_eq_true, ih]
    constructor
    · intro h i hi
      rcases Nat.lt_or_ge i n with z | z
      · exact h.1 i z
      · have e : i = n := by omega
        rw [e]; exact h.2
    · exact fun h => ⟨fun i hi => h i (by omega), h n (by omega)⟩
theorem dt_any_iff {f : Nat → Bool} : ∀ {n : Nat}, dt_any f n = true ↔ ∃ i, i < n ∧ f i = true := by
  intro n
  induction n with
  | zero => exact ⟨fun h => (nomatch h), fun h => by obtain ⟨i, hi, _⟩ := h; omega⟩
  | succ n ih =>
    show (dt_any f n || f n) = true ↔ _
    rw [Bool.or_eq_true, ih]
    constructor
    · intro h
      rcases h with h | h
      · obtain ⟨i, hi, hf⟩ := h
        exact ⟨i, by omega, hf⟩
      · exact ⟨n, by omega, h⟩
    · intro h
      obtain ⟨i, hi, hf⟩ := h
      rcases Nat.lt_or_ge i n with z | z
      · exact Or.inl ⟨i, z, hf⟩
      · have e : i = n := by omega
        rw [e] at hf
        exact Or.inr hf
theorem dt_any_false {f : Nat → Bool} {n : Nat} : dt_any f n = false ↔ ∀ i, i < n → f i = false := by
  constructor
  · intro h i hi
    cases hf : f i with
    | false => rfl
    | true => rw [dt_any_iff.mpr ⟨i, hi, hf⟩] at h; exact (nomatch h)
  · intro h
    cases hf : dt_any f n with
    | false => rfl
    | true =>
      obtain ⟨i, hi, e⟩ := dt_any_iff.mp hf
      rw [h i hi] at e; exact (nomatch e)
theorem dt_set_bit {f : Nat → Bool} : ∀ {n : Nat} (i : Nat), (dt_set f n).testBit i = (decide (i < n) && f i) := by
  intro n
  induction n with
  | zero => intro i; show Nat.testBit 0 i = _; rw [Nat.zero_testBit]; simp
  | succ n ih =>
    intro i
    show (if f n = true then dt_set f n ||| 2 ^ n else dt_set f n).testBit i = _
    by_cases hf : f n = true
    · rw [if_pos hf, Nat.testBit_or, ih, Nat.testBit_two_pow]
      by_cases e : n = i
      · subst e; simp [hf]
      · have h1 : decide (i < n + 1) = decide (i < n) := decide_eq_decide.mpr (by omega)
        rw [h1, decide_eq_false e, Bool.or_false]
    · rw [if_neg hf, ih]
      by_cases e : n = i
      · subst e
        have h2 : f n = false := by cases h : f n <;> simp_all
        rw [h2]; simp
      · have h1 : decide (i < n + 1) = decide (i < n) := decide_eq_decide.mpr (by omega)
        rw [h1]
theorem dt_set_lt {f : Nat → Bool} {n : Nat} : dt_set f n < 2 ^ n := by
  apply Nat.lt_pow_two_of_testBit
  intro i hi
  rw [dt_set_bit, decide_eq_false (by omega), Bool.false_and]
theorem dt_set_lt' {f : Nat → Bool} {n m : Nat} (h : n ≤ m) : dt_set f n < 2 ^ m := Nat.lt_of_lt_of_le dt_set_lt (Nat.pow_le_pow_right (by decide) h)
theorem dt_set_ext {f g : Nat → Bool} {n : Nat} (h : ∀ i, i < n → f i = g i) : dt_set f n = dt_set g n := by
  apply Nat.eq_of_testBit_eq
  intro i
  rw [dt_set_bit, dt_set_bit]
  by_cases hi : i < n
  · rw [h i hi]
  · rw [decide_eq_false hi]; rfl
theorem dt_set_of {x n : Nat} (h : x < 2 ^ n) : dt_set (fun b => x.testBit b) n = x := by
  apply Nat.eq_of_testBit_eq
  intro i
  rw [dt_set_bit]
  by_cases hi : i < n
  · rw [decide_eq_true hi]; rfl
  · rw [decide_eq_false hi, Nat.testBit_lt_two_pow (Nat.lt_of_lt_of_le h (Nat.pow_le_pow_right (by decide) (by omega)))]; rfl
theorem dt_set0 {f : Nat → Bool} {n : Nat} : dt_set f n = 0 ↔ ∀ i, i < n → f i = false := by
  constructor
  · intro h i hi
    have := dt_set_bit (f := f) (n := n) i
    rw [h, Nat.zero_testBit, decide_eq_true hi, Bool.true_and] at this
    exact this.symm
  · intro h
    apply Nat.eq_of_testBit_eq
    intro i
    rw [dt_set_bit, Nat.zero_testBit]
    by_cases hi : i < n
    · rw [h i hi, Bool.and_false]
    · rw [decide_eq_false hi, Bool.false_and]
theorem dt_cn_ext {f g : Nat → Bool} : ∀ {n : Nat}, (∀ i, i < n → f i = g i) → dt_cn f n = dt_cn g n := by
  intro n
  induction n with
  | zero => intro _; rfl
  | succ n ih =>
    intro h
    show (if f n = true then dt_cn f n + 1 else dt_cn f n) = (if g n = true then dt_cn g n + 1 else dt_cn g n)
    rw [ih (fun i hi => h i (by omega)), h n (by omega)]
theorem dt_cn_add (f : Nat → Bool) (a : Nat) : ∀ b : Nat, dt_cn f (a + b) = dt_cn f a + dt_cn (fun i => f (a + i)) b := by
  intro b
  induction b with
  | zero => rfl
  | succ b ih =>
    show (if f (a + b) = true then dt_cn f (a + b) + 1 else dt_cn f (a + b)) = dt_cn f a + (if f (a + b) = true then dt_cn (fun i => f (a + i)) b + 1 else dt_cn (fun i => f (a + i)) b)
    rw [ih]
    by_cases h : f (a + b) = true
    · rw [if_pos h, if_pos h]; rfl
    · rw [if_neg h, if_neg h]
theorem dt_cn_le (f : Nat → Bool) : ∀ n : Nat, dt_cn f n ≤ n := by
  intro n
  induction n with
  | zero => exact Nat.le_refl 0
  | succ n ih =>
    show (if f n = true then dt_cn f n + 1 else dt_cn f n) ≤ n + 1
    by_cases h : f n = true
    · rw [if_pos h]; omega
    · rw [if_neg h]; omega
theorem dt_cn0 {f : Nat → Bool} : ∀ {n : Nat}, dt_cn f n = 0 ↔ ∀ i, i < n → f i = false := by
  intro n
  induction n with
  | zero => exact ⟨fun _ i h => absurd h (Nat.not_lt_zero i), fun _ => rfl⟩
  | succ n ih =>
    show (if f n = true then dt_cn f n + 1 else dt_cn f n) = 0 ↔ _
    by_cases h : f n = true
    · rw [if_pos h]
      exact ⟨fun z => absurd z (Nat.succ_ne_zero _), fun z => by rw [z n (by omega)] at h; exact (nomatch h)⟩
    · rw [if_neg h, ih]
      have h2 : f n = false := by cases e : f n <;> simp_all
      constructor
      · intro z i hi
        rcases Nat.lt_or_ge i n with y | y
        · exact z i y
        · have e : i = n := by omega
          rw [e]; exact h2
      · exact fun z i hi => z i (by omega)
/-- a periodic predicate is counted period by period -/
theorem dt_cn_per (g : Nat → Bool) (m : Nat) : ∀ k : Nat, dt_cn (fun q => g (q % m)) (m * k) = k * dt_cn g m := by
  intro k
  induction k with
  | zero => rw [Nat.mul_zero, Nat.zero_mul]; rfl
  | succ k ih =>
    rw [Nat.mul_succ, dt_cn_add, ih, Nat.succ_mul]
    congr 1
    apply dt_cn_ext
    intro i hi
    show g ((m * k + i) % m) = g i
    rw [Nat.mul_add_mod, Nat.mod_eq_of_lt hi]
/-! ===== bits of a long ===== -/
def dt_lb (x : Int64) (i : Nat) : Bool := x.toBitVec.getLsbD i
theorem dt_lb_ext {x y : Int64} (h : ∀ i, i < 64 → dt_lb x i = dt_lb y i) : x = y := Int64.toBitVec_inj.mp (BitVec.eq_of_getLsbD_eq (fun i hi => h i hi))
theorem dt_lb_or (x y : Int64) (i : Nat) : dt_lb (x ||| y) i = (dt_lb x i || dt_lb y i) := by unfold dt_lb; rw [Int64.toBitVec_or, BitVec.getLsbD_or]
theorem dt_lb_and (x y : Int64) (i : Nat) : dt_lb (x &&& y) i = (dt_lb x i && dt_lb y i) := by unfold dt_lb; rw [Int64.toBitVec_and, BitVec.getLsbD_and]
theorem dt_lb_xor (x y : Int64) (i : Nat) : dt_lb (x ^^^ y) i = (dt_lb x i ^^ dt_lb y i) := by unfold dt_lb; rw [Int64.toBitVec_xor, BitVec.getLsbD_xor]
theorem dt_lb_0 (i : Nat) : dt_lb 0 i = false := BitVec.getLsbD_zero
theorem dt_lb_m1 : ∀ i, i < 64 → dt_lb (-1) i = true := by decide +kernel
theorem dt_lb_not (x : Int64) {i : Nat} (h : i < 64) : dt_lb (x ^^^ (-1)) i = !(dt_lb x i) := by
  rw [dt_lb_xor, dt_lb_m1 i h, Bool.xor_true]
theorem dt_lb_one : ∀ k, k < 64 → ((1 : Int64) <<< ((nI k).toInt64 &&& 63)).toBitVec = BitVec.twoPow 64 k := by decide +kernel
theorem dt_lb_shl {k i : Nat} (hk : k < 64) (hi : i < 64) : dt_lb ((1 : Int64) <<< ((nI k).toInt64 &&& 63)) i = decide (i = k) := by
  unfold dt_lb
  rw [dt_lb_one k hk, BitVec.getLsbD_twoPow]
  by_cases h : i = k
  · subst h; simp [hi]
  · rw [decide_eq_false h]; simp; omega
theorem dt_lb_ushr (x : Int64) {k : Nat} (hk : k < 64) (i : Nat) : dt_lb ((x.toUInt64 >>> ((nI k).toInt64.toUInt64 &&& Int64.toUInt64 63)).toInt64) i = dt_lb x (k + i) := by
  rw [wb_cu k hk]
  show (x.toUInt64 >>> UInt64.ofNat k).toBitVec.getLsbD i = x.toUInt64.toBitVec.getLsbD (k + i)
  rw [UInt64.toBitVec_shiftRight]
  have e : ((UInt64.ofNat k).toBitVec % 64).toNat = k := by
    rw [BitVec.toNat_umod]
    show (k % 2 ^ 64) % 64 = k
    omega
  show (x.toUInt64.toBitVec >>> ((UInt64.ofNat k).toBitVec % 64).toNat).getLsbD i = _
  rw [e, BitVec.getLsbD_ushiftRight]
theorem dt_lb_tst (x : Int64) {k : Nat} (hk : k < 64) : (((x.toUInt64 >>> ((nI k).toInt64.toUInt64 &&& Int64.toUInt64 63)).toInt64 &&& 1) = 0) ↔ dt_lb x k = false := by
  rw [wb_cu k hk]
  exact ts_bit hk (u_tn (by omega))
theorem dt_lb_z {x : Int64} : x = 0 ↔ ∀ i, i < 64 → dt_lb x i = false := by
  constructor
  · intro h i _; rw [h, dt_lb_0]
  · intro h; exact dt_lb_ext (fun i hi => by rw [h i hi, dt_lb_0])
/-! ===== plane j of an array of longs, case q ===== -/
def dt_bb (a : Nat → Int64) (j q : Nat) : Bool := dt_lb (a (8 * j + q / 64)) (q % 64)
theorem dt_bb_upd (a : Nat → Int64) {j0 w k : Nat} (x : Int64) (j : Nat) {q : Nat} (hk : k = 8 * j0 + w) (hw : w < 8) (hq : q < 512) : dt_bb (vp_updL a k x) j q = if j = j0 ∧ q / 64 = w then dt_lb x (q % 64) else dt_bb a j q := by
  subst hk
  unfold dt_bb vp_updL
  by_cases h : j = j0 ∧ q / 64 = w
  · rw [if_pos h, if_pos (by omega)]
  · rw [if_neg h, if_neg (by omega)]
theorem dt_bb_eq {a : Nat → Int64} {j w i k : Nat} (hk : k = 8 * j + w) (hi : i < 64) : dt_lb (a k) i = dt_bb a j (64 * w + i) := by
  subst hk
  unfold dt_bb
  rw [show (64 * w + i) / 64 = w from by omega, show (64 * w + i) % 64 = i from by omega]
/-! ===== Int32 by naturals ===== -/
theorem dt_or (a b : Nat) : nI a ||| nI b = nI (a ||| b) := by
  apply Int32.toBitVec_inj.1
  show BitVec.ofNat 32 a ||| BitVec.ofNat 32 b = BitVec.ofNat 32 (a ||| b)
  apply BitVec.eq_of_getLsbD_eq
  intro i hi
  simp [hi]
theorem dt_shl1 {r : Nat} (h : r < 31) : (1 : Int32) <<< (nI r &&& 31) = nI (2 ^ r) := by
  have e := pk_shlN (n := 1) (nI r &&& 31) r (s_l r (by omega)) (by rw [Nat.one_mul]; exact Nat.pow_lt_pow_right (by decide) (by omega))
  rw [Nat.one_mul] at e
  exact e
theorem dt_or1 (a : Nat) {r : Nat} (h : r < 31) : nI a ||| ((1 : Int32) <<< (nI r &&& 31)) = nI (a ||| 2 ^ r) := by rw [dt_shl1 h, dt_or]
theorem dt_bitN {x : Nat} (hx : x < 2 ^ 31) {b : Nat} (hb : b < 32) : (nI x >>> (nI b &&& 31)) &&& 1 = nI (x / 2 ^ b % 2) := by
  rw [pk_shrN hx (nI b &&& 31) b (s_l b hb), pk_andN (Nat.lt_of_le_of_lt (Nat.div_le_self _ _) (by omega)) 1 (by decide)]
theorem dt_bit {x : Nat} (hx : x < 2 ^ 31) {b : Nat} (hb : b < 32) : ((nI x >>> (nI b &&& 31)) &&& 1) = 0 ↔ x.testBit b = false := by
  rw [dt_bitN hx hb, ← nI_0, nI_eq (by omega) (by omega), Nat.testBit_eq_decide_div_mod_eq, decide_eq_false_iff_not]
  generalize x / 2 ^ b = z
  omega
theorem dt_bit1 {x : Nat} (hx : x < 2 ^ 31) {b : Nat} (hb : b < 32) : ((nI x >>> (nI b &&& 31)) &&& 1) = 1 ↔ x.testBit b = true := by
  rw [dt_bitN hx hb, show (1 : Int32) = nI 1 from rfl, nI_eq (by omega) (by omega), Nat.testBit_eq_decide_div_mod_eq, decide_eq_true_eq]
theorem dt_nf {x : Bool} (h : ¬ x = false) : x = true := by cases x <;> simp_all
theorem dt_nt {x : Bool} (h : ¬ x = true) : x = false := by cases x <;> simp_all
/-- a byte store of a small number -/
theorem dt_byte {n : Nat} (h : n < 128) : vp_nar .byte (nI n).toInt8.toInt32 = nI n := by
  rw [pk_vb]
  exact (by decide +kernel : ∀ n, n < 128 → (nI n).toInt8.toInt32 = nI n) n h
theorem dt_and7 (x : Nat) (h : x < 2 ^ 31) : nI x &&& 7 = nI (x % 8) := pk_andN (by omega) 3 (by decide)
theorem dt_shr {x : Nat} (hx : x < 2 ^ 31) {b : Nat} (hb : b < 32) : nI x >>> (nI b &&& 31) = nI (x / 2 ^ b) := pk_shrN hx (nI b &&& 31) b (s_l b hb)
theorem dt_shl (x : Nat) {b : Nat} (hb : b < 32) (h : x * 2 ^ b < 2 ^ 32) : nI x <<< (nI b &&& 31) = nI (x * 2 ^ b) := pk_shlN (nI b &&& 31) b (s_l b hb) h
end
section
/-! the result of a table: rs r the result of rule r, F r whether it fires -/
def dt_fs (rs : Nat → Nat) (F : Nat → Bool) : Nat → Nat
  | 0 => 0
  | r + 1 => if dt_fs rs F r = 0 ∧ F r = true then rs r + 1 else dt_fs rs F r
def dt_ls (rs : Nat → Nat) (F : Nat → Bool) : Nat → Nat
  | 0 => 0
  | r + 1 => if F r = true then rs r else dt_ls rs F r
def dt_mn (rs : Nat → Nat) (F : Nat → Bool) : Nat → Nat
  | 0 => 8
  | r + 1 => if F r = true ∧ rs r < dt_mn rs F r then rs r else dt_mn rs F r
def dt_mx (rs : Nat → Nat) (F : Nat → Bool) : Nat → Nat
  | 0 => 0
  | r + 1 => if F r = true ∧ dt_mx rs F r ≤ rs r then rs r + 1 else dt_mx rs F r
def dt_sm (rs : Nat → Nat) (F : Nat → Bool) : Nat → Nat
  | 0 => 0
  | r + 1 => if F r = true then dt_sm rs F r + rs r else dt_sm rs F r
def dt_res (p d : Nat) (rs : Nat → Nat) (F : Nat → Bool) : Nat :=
  if dt_cn F 8 = 0 then d
  else if p = 5 then (if dt_cn F 8 = 1 then dt_fs rs F 8 - 1 else d)
  else if p = 0 then dt_fs rs F 8 - 1
  else if p = 1 then dt_ls rs F 8
  else if p = 2 then dt_mn rs F 8
  else if p = 3 then dt_mx rs F 8 - 1
  else if 7 < dt_sm rs F 8 then 7 else dt_sm rs F 8
def dt_pk (V d : Nat) : Nat := if V = 0 then d else V - 1
section
variable {rs : Nat → Nat} {F : Nat → Bool}
theorem dt_fs_le (hr : ∀ r, rs r < 8) : ∀ n, dt_fs rs F n ≤ 8 := by
  intro n
  induction n with
  | zero => exact Nat.zero_le _
  | succ n ih =>
    show (if dt_fs rs F n = 0 ∧ F n = true then rs n + 1 else dt_fs rs F n) ≤ 8
    have := hr n
    split <;> omega
theorem dt_ls_lt (hr : ∀ r, rs r < 8) : ∀ n, dt_ls rs F n < 8 := by
  intro n
  induction n with
  | zero => exact Nat.zero_lt_succ 7
  | succ n ih =>
    show (if F n = true then rs n else dt_ls rs F n) < 8
    have := hr n
    split <;> omega
theorem dt_mn_le (hr : ∀ r, rs r < 8) : ∀ n, dt_mn rs F n ≤ 8 := by
  intro n
  induction n with
  | zero => exact Nat.le_refl 8
  | succ n ih =>
    show (if F n = true ∧ rs n < dt_mn rs F n then rs n else dt_mn rs F n) ≤ 8
    have := hr n
    split <;> omega
theorem dt_mx_le (hr : ∀ r, rs r < 8) : ∀ n, dt_mx rs F n ≤ 8 := by
  intro n
  induction n with
  | zero => exact Nat.zero_le _
  | succ n ih =>
    show (if F n = true ∧ dt_mx rs F n ≤ rs n then rs n + 1 else dt_mx rs F n) ≤ 8
    have := hr n
    split <;> omega
theorem dt_sm_le (hr : ∀ r, rs r < 8) : ∀ n, dt_sm rs F n ≤ 7 * n := by
  intro n
  induction n with
  | zero => exact Nat.le_refl 0
  | succ n ih =>
    show (if F n = true then dt_sm rs F n + rs n else dt_sm rs F n) ≤ 7 * (n + 1)
    have := hr n
    split <;> omega
/-- nothing fires behind n: the folds stand still -/
theorem dt_cut {α : Type} (g : Nat → α) {n : Nat} (h : ∀ r, n ≤ r → F r = false) (hs : ∀ r, F r = false → g (r + 1) = g r) : ∀ m, n ≤ m → g m = g n := by
  intro m hm
  obtain ⟨k, rfl⟩ : ∃ k, m = n + k := ⟨m - n, by omega⟩
  induction k with
  | zero => rfl
  | succ k ih => rw [← Nat.add_assoc, hs _ (h _ (by omega)), ih (by omega)]
theorem dt_fs_s {r : Nat} (h : F r = false) : dt_fs rs F (r + 1) = dt_fs rs F r := if_neg (fun z => by rw [h] at z; exact (nomatch z.2))
theorem dt_ls_s {r : Nat} (h : F r = false) : dt_ls rs F (r + 1) = dt_ls rs F r := if_neg (fun z => by rw [h] at z; exact (nomatch z))
theorem dt_mn_s {r : Nat} (h : F r = false) : dt_mn rs F (r + 1) = dt_mn rs F r := if_neg (fun z => by rw [h] at z; exact (nomatch z.1))
theorem dt_mx_s {r : Nat} (h : F r = false) : dt_mx rs F (r + 1) = dt_mx rs F r := if_neg (fun z => by rw [h] at z; exact (nomatch z.1))
theorem dt_sm_s {r : Nat} (h : F r = false) : dt_sm rs F (r + 1) = dt_sm rs F r := if_neg (fun z => by rw [h] at z; exact (nomatch z))
theorem dt_cn_s {r : Nat} (h : F r = false) : dt_cn F (r + 1) = dt_cn F r := if_neg (fun z => by rw [h] at z; exact (nomatch z))
theorem dt_fs_0 : ∀ {n : Nat}, dt_fs rs F n = 0 ↔ dt_cn F n = 0 := by
  intro n
  induction n with
  | zero => exact ⟨fun _ => rfl, fun _ => rfl⟩
  | succ n ih =>
    show (if dt_fs rs F n = 0 ∧ F n = true then rs n + 1 else dt_fs rs F n) = 0 ↔ (if F n = true then dt_cn F n + 1 else dt_cn F n) = 0
    by_cases h : F n = true
    · rw [if_pos h]
      by_cases z : dt_fs rs F n = 0
      · rw [if_pos ⟨z, h⟩]; omega
      · rw [if_neg (fun y => z y.1)]; omega
    · rw [if_neg h, if_neg (fun y => h y.2)]; exact ih
/-- policy 0 -/
theorem dt_p0 {n d : Nat} (hn : n ≤ 8) (hF : ∀ r, n ≤ r → F r = false) : dt_pk (dt_fs rs F n) d = dt_res 0 d rs F := by
  have e1 : dt_fs rs F 8 = dt_fs rs F n := dt_cut (F := F) (fun r => dt_fs rs F r) hF (fun r => dt_fs_s) 8 hn
  have e2 : dt_cn F 8 = dt_cn F n := dt_cut (F := F) (fun r => dt_cn F r) hF (fun r => dt_cn_s) 8 hn
  unfold dt_pk dt_res
  rw [e1, e2]
  by_cases h : dt_cn F n = 0
  · rw [if_pos h, if_pos (dt_fs_0.mpr h)]
  · rw [if_neg h, if_neg (fun z => h (dt_fs_0.mp z)), if_neg (by decide), if_pos rfl]
/-- policy 1: from the last rule down -/
def dt_fd (rs : Nat → Nat) (F : Nat → Bool) (n : Nat) : Nat → Nat
  | 0 => 0
  | k + 1 => if dt_fd rs F n k = 0 ∧ F (n - 1 - k) = true then rs (n - 1 - k) + 1 else dt_fd rs F n k
theorem dt_fd_s (n : Nat) : ∀ k, dt_fd rs F (n + 1) (k + 1) = if F n = true then rs n + 1 else dt_fd rs F n k := by
  intro k
  induction k with
  | zero =>
    show (if (0 : Nat) = 0 ∧ F (n + 1 - 1 - 0) = true then rs (n + 1 - 1 - 0) + 1 else 0) = if F n = true then rs n + 1 else 0
    simp
  | succ k ih =>
    show (if dt_fd rs F (n + 1) (k + 1) = 0 ∧ F (n + 1 - 1 - (k + 1)) = true then rs (n + 1 - 1 - (k + 1)) + 1 else dt_fd rs F (n + 1) (k + 1)) = if F n = true then rs n + 1 else (if dt_fd rs F n k = 0 ∧ F (n - 1 - k) = true then rs (n - 1 - k) + 1 else dt_fd rs F n k)
    rw [ih, show n + 1 - 1 - (k + 1) = n - 1 - k from by omega]
    by_cases h : F n = true
    · rw [if_pos h, if_pos h, if_neg (fun z => absurd z.1 (Nat.succ_ne_zero _))]
    · rw [if_neg h, if_neg h]
theorem dt_fd_e : ∀ n, dt_fd rs F n n = if dt_cn F n = 0 then 0 else dt_ls rs F n + 1 := by
  intro n
  induction n with
  | zero => rfl
  | succ n ih =>
    rw [dt_fd_s, ih]
    show _ = if (if F n = true then dt_cn F n + 1 else dt_cn F n) = 0 then 0 else (if F n = true then rs n else dt_ls rs F n) + 1
    by_cases h : F n = true
    · rw [if_pos h, if_pos h, if_pos h, if_neg (Nat.succ_ne_zero _)]
    · rw [if_neg h, if_neg h, if_neg h]
theorem dt_p1 {n d : Nat} (hn : n ≤ 8) (hF : ∀ r, n ≤ r → F r = false) : dt_pk (dt_fd rs F n n) d = dt_res 1 d rs F := by
  have e1 : dt_ls rs F 8 = dt_ls rs F n := dt_cut (F := F) (fun r => dt_ls rs F r) hF (fun r => dt_ls_s) 8 hn
  have e2 : dt_cn F 8 = dt_cn F n := dt_cut (F := F) (fun r => dt_cn F r) hF (fun r => dt_cn_s) 8 hn
  unfold dt_pk dt_res
  rw [e1, e2, dt_fd_e]
  by_cases h : dt_cn F n = 0
  · rw [if_pos h, if_pos h]; rfl
  · rw [if_neg h, if_neg h, if_neg (Nat.succ_ne_zero _), if_neg (by decide), if_neg (by decide), if_pos rfl]; rfl
/-- policies 2, 3: by the values; V 0 while nothing is taken -/
def dt_tw (rs : Nat → Nat) (F : Nat → Bool) (x V : Nat) : Nat → Nat
  | 0 => V
  | r + 1 => if rs r = x ∧ (dt_tw rs F x V r = 0 ∧ F r = true) then x + 1 else dt_tw rs F x V r
theorem dt_tw_e {x V : Nat} : ∀ n, (V ≠ 0 → dt_tw rs F x V n = V) ∧ (V = 0 → (∃ r, r < n ∧ F r = true ∧ rs r = x) → dt_tw rs F x V n = x + 1) ∧ (V = 0 → (¬ ∃ r, r < n ∧ F r = true ∧ rs r = x) → dt_tw rs F x V n = 0) := by
  intro n
  induction n with
  | zero => exact ⟨fun _ => rfl, fun _ h => by obtain ⟨r, h, _⟩ := h; omega, fun h _ => h⟩
  | succ n ih =>
    obtain ⟨i1, i2, i3⟩ := ih
    have e : dt_tw rs F x V (n + 1) = if rs n = x ∧ (dt_tw rs F x V n = 0 ∧ F n = true) then x + 1 else dt_tw rs F x V n := rfl
    rw [e]
    refine ⟨?_, ?_, ?_⟩
    · intro h
      rw [i1 h, if_neg (fun z => h z.2.1)]
    · intro h hr
      by_cases z : ∃ r, r < n ∧ F r = true ∧ rs r = x
      · rw [i2 h z, if_neg (fun y => absurd y.2.1 (Nat.succ_ne_zero _))]
      · obtain ⟨r, a, b, c⟩ := hr
        have er : r = n := by
          rcases Nat.lt_or_ge r n with y | y
          · exact absurd ⟨r, y, b, c⟩ z
          · omega
        subst er
        rw [if_pos ⟨c, i3 h z, b⟩]
    · intro h hr
      have z : ¬ ∃ r, r < n ∧ F r = true ∧ rs r = x := fun z => by
        obtain ⟨r, a, b⟩ := z
        exact hr ⟨r, by omega, b⟩
      rw [i3 h z, if_neg (fun y => hr ⟨n, by omega, y.2.2, y.1⟩)]
theorem dt_mn_c (hr : ∀ r, rs r < 8) : ∀ n, (∀ r, r < n → F r = true → dt_mn rs F n ≤ rs r) ∧ (dt_mn rs F n = 8 ∨ ∃ r, r < n ∧ F r = true ∧ rs r = dt_mn rs F n) := by
  intro n
  induction n with
  | zero => exact ⟨fun r h => absurd h (Nat.not_lt_zero r), Or.inl rfl⟩
  | succ n ih =>
    obtain ⟨i1, i2⟩ := ih
    have e : dt_mn rs F (n + 1) = if F n = true ∧ rs n < dt_mn rs F n then rs n else dt_mn rs F n := rfl
    by_cases h : F n = true ∧ rs n < dt_mn rs F n
    · rw [if_pos h] at e
      rw [e]
      refine ⟨fun r a b => ?_, Or.inr ⟨n, by omega, h.1, rfl⟩⟩
      rcases Nat.lt_or_ge r n with y | y
      · have := i1 r y b; omega
      · have : r = n := by omega
        subst this; exact Nat.le_refl _
    · rw [if_neg h] at e
      rw [e]
      refine ⟨fun r a b => ?_, ?_⟩
      · rcases Nat.lt_or_ge r n with y | y
        · exact i1 r y b
        · have : r = n := by omega
          subst this
          exact Nat.not_lt.mp (fun z => h ⟨b, z⟩)
      · rcases i2 with y | y
        · exact Or.inl y
        · obtain ⟨r, a, b⟩ := y
          exact Or.inr ⟨r, by omega, b⟩
theorem dt_mx_c : ∀ n, (∀ r, r < n → F r = true → rs r < dt_mx rs F n) ∧ (dt_mx rs F n = 0 ∨ ∃ r, r < n ∧ F r = true ∧ rs r + 1 = dt_mx rs F n) := by
  intro n
  induction n with
  | zero => exact ⟨fun r h => absurd h (Nat.not_lt_zero r), Or.inl rfl⟩
  | succ n ih =>
    obtain ⟨i1, i2⟩ := ih
    have e : dt_mx rs F (n + 1) = if F n = true ∧ dt_mx rs F n ≤ rs n then rs n + 1 else dt_mx rs F n := rfl
    by_cases h : F n = true ∧ dt_mx rs F n ≤ rs n
    · rw [if_pos h] at e
      rw [e]
      refine ⟨fun r a b => ?_, Or.inr ⟨n, by omega, h.1, rfl⟩⟩
      rcases Nat.lt_or_ge r n with y | y
      · have := i1 r y b; omega
      · have : r = n := by omega
        subst this; exact Nat.lt_succ_self _
    · rw [if_neg h] at e
      rw [e]
      refine ⟨fun r a b => ?_, ?_⟩
      · rcases Nat.lt_or_ge r n with y | y
        · exact i1 r y b
        · have : r = n := by omega
          subst this
          exact Nat.not_le.mp (fun z => h ⟨b, z⟩)
      · rcases i2 with y | y
        · exact Or.inl y
        · obtain ⟨r, a, b⟩ := y
          exact Or.inr ⟨r, by omega, b⟩
theorem dt_mn_0 (hr : ∀ r, rs r < 8) {n : Nat} : dt_mn rs F n = 8 ↔ dt_cn F n = 0 := by
  obtain ⟨i1, i2⟩ := dt_mn_c (F := F) hr n
  rw [dt_cn0]
  constructor
  · intro h r a
    apply dt_nt
    intro b
    have := i1 r a b
    have := hr r
    omega
  · intro h
    rcases i2 with y | y
    · exact y
    · obtain ⟨r, a, b, _⟩ := y
      rw [h r a] at b; exact (nomatch b)
theorem dt_mx_0 {n : Nat} : dt_mx rs F n = 0 ↔ dt_cn F n = 0 := by
  obtain ⟨i1, i2⟩ := dt_mx_c (rs := rs) (F := F) n
  rw [dt_cn0]
  constructor
  · intro h r a
    apply dt_nt
    intro b
    have := i1 r a b
    omega
  · intro h
    rcases i2 with y | y
    · exact y
    · obtain ⟨r, a, b, _⟩ := y
      rw [h r a] at b; exact (nomatch b)
/-- the values from s 0 on, one behind another -/
def dt_tt (rs : Nat → Nat) (F : Nat → Bool) (n : Nat) (s : Nat → Nat) : Nat → Nat
  | 0 => 0
  | k + 1 => dt_tw rs F (s k) (dt_tt rs F n s k) n
theorem dt_tt2 (hr : ∀ r, rs r < 8) (n : Nat) : ∀ k, k ≤ 8 → dt_tt rs F n (fun k => k) k = if dt_mn rs F n < k then dt_mn rs F n + 1 else 0 := by
  intro k
  obtain ⟨m1, m2⟩ := dt_mn_c (F := F) hr n
  induction k with
  | zero => intro _; rfl
  | succ k ih =>
    intro hk
    have i := ih (by omega)
    show dt_tw rs F k (dt_tt rs F n (fun k => k) k) n = _
    obtain ⟨w1, w2, w3⟩ := dt_tw_e (rs := rs) (F := F) (x := k) (V := dt_tt rs F n (fun k => k) k) n
    by_cases h : dt_mn rs F n < k
    · rw [if_pos h] at i
      rw [w1 (by omega), i, if_pos (by omega)]
    · rw [if_neg h] at i
      by_cases z : dt_mn rs F n = k
      · rcases m2 with y | y
        · omega
        · obtain ⟨r, a, b, c⟩ := y
          rw [w2 i ⟨r, a, b, by omega⟩, if_pos (by omega)]; omega
      · rw [w3 i (fun y => by
          obtain ⟨r, a, b, c⟩ := y
          have := m1 r a b
          omega), if_neg (by omega)]
theorem dt_tt3 (hr : ∀ r, rs r < 8) (n : Nat) : ∀ k, k ≤ 8 → dt_tt rs F n (fun k => 7 - k) k = if 8 - k < dt_mx rs F n then dt_mx rs F n else 0 := by
  intro k
  obtain ⟨m1, m2⟩ := dt_mx_c (rs := rs) (F := F) n
  have m3 := dt_mx_le (F := F) hr n
  induction k with
  | zero => intro _; show 0 = _; rw [if_neg (by omega)]
  | succ k ih =>
    intro hk
    have i := ih (by omega)
    show dt_tw rs F (7 - k) (dt_tt rs F n (fun k => 7 - k) k) n = _
    obtain ⟨w1, w2, w3⟩ := dt_tw_e (rs := rs) (F := F) (x := 7 - k) (V := dt_tt rs F n (fun k => 7 - k) k) n
    by_cases h : 8 - k < dt_mx rs F n
    · rw [if_pos h] at i
      rw [w1 (by omega), i, if_pos (by omega)]
    · rw [if_neg h] at i
      by_cases z : dt_mx rs F n = 8 - k
      · rcases m2 with y | y
        · omega
        · obtain ⟨r, a, b, c⟩ := y
          rw [w2 i ⟨r, a, b, by omega⟩, if_pos (by omega)]; omega
      · rw [w3 i (fun y => by
          obtain ⟨r, a, b, c⟩ := y
          have := m1 r a b
          omega), if_neg (by omega)]
theorem dt_p2 (hr : ∀ r, rs r < 8) {n d : Nat} (hn : n ≤ 8) (hF : ∀ r, n ≤ r → F r = false) : dt_pk (dt_tt rs F n (fun k => k) 8) d = dt_res 2 d rs F := by
  have e1 : dt_mn rs F 8 = dt_mn rs F n := dt_cut (F := F) (fun r => dt_mn rs F r) hF (fun r => dt_mn_s) 8 hn
  have e2 : dt_cn F 8 = dt_cn F n := dt_cut (F := F) (fun r => dt_cn F r) hF (fun r => dt_cn_s) 8 hn
  have e3 := dt_mn_0 (F := F) hr (n := n)
  have e4 := dt_mn_le (F := F) hr n
  unfold dt_pk dt_res
  rw [e1, e2, dt_tt2 hr n 8 (by omega)]
  by_cases h : dt_cn F n = 0
  · rw [if_pos h, if_pos (by rw [if_neg (by omega)])]
  · have h8 : dt_mn rs F n < 8 := by
      have : dt_mn rs F n ≠ 8 := fun z => h (e3.mp z)
      omega
    rw [if_neg h, if_pos h8, if_neg (Nat.succ_ne_zero _), if_neg (by decide), if_neg (by decide), if_neg (by decide), if_pos rfl]; rfl
theorem dt_p3 (hr : ∀ r, rs r < 8) {n d : Nat} (hn : n ≤ 8) (hF : ∀ r, n ≤ r → F r = false) : dt_pk (dt_tt rs F n (fun k => 7 - k) 8) d = dt_res 3 d rs F := by
  have e1 : dt_mx rs F 8 = dt_mx rs F n := dt_cut (F := F) (fun r => dt_mx rs F r) hF (fun r => dt_mx_s) 8 hn
  have e2 : dt_cn F 8 = dt_cn F n := dt_cut (F := F) (fun r => dt_cn F r) hF (fun r => dt_cn_s) 8 hn
  have e3 := dt_mx_0 (rs := rs) (F := F) (n := n)
  unfold dt_pk dt_res
  rw [e1, e2, dt_tt3 hr n 8 (by omega)]
  by_cases h : dt_cn F n = 0
  · rw [if_pos h, if_pos (by rw [if_neg (by omega)])]
  · have h8 : 8 - 8 < dt_mx rs F n := by
      have : dt_mx rs F n ≠ 0 := fun z => h (e3.mp z)
      omega
    rw [if_neg h, if_pos h8, if_neg (by omega), if_neg (by decide), if_neg (by decide), if_neg (by decide), if_neg (by decide), if_pos rfl]
/-- policy 4: what the planes, the carry and the default give -/
theorem dt_p4 {n d : Nat} (hn : n ≤ 8) (hF : ∀ r, n ≤ r → F r = false) : (if dt_cn F n = 0 then d else if 7 < dt_sm rs F n then 7 else dt_sm rs F n) = dt_res 4 d rs F := by
  have e1 : dt_sm rs F 8 = dt_sm rs F n := dt_cut (F := F) (fun r => dt_sm rs F r) hF (fun r => dt_sm_s) 8 hn
  have e2 : dt_cn F 8 = dt_cn F n := dt_cut (F := F) (fun r => dt_cn F r) hF (fun r => dt_cn_s) 8 hn
  unfold dt_res
  rw [e1, e2]
  by_cases h : dt_cn F n = 0
  · rw [if_pos h, if_pos h]
  · rw [if_neg h, if_neg h, if_neg (show ¬ (4 : Nat) = 5 from by decide), if_neg (show ¬ (4 : Nat) = 0 from by decide), if_neg (show ¬ (4 : Nat) = 1 from by decide), if_neg (show ¬ (4 : Nat) = 2 from by decide), if_neg (show ¬ (4 : Nat) = 3 from by decide)]
theorem dt_sm_0 : ∀ {n : Nat}, dt_cn F n = 0 → dt_sm rs F n = 0 := by
  intro n
  induction n with
  | zero => intro _; rfl
  | succ n ih =>
    intro h
    rw [dt_cn0] at h
    rw [dt_sm_s (h n (by omega))]
    exact ih (dt_cn0.mpr (fun i hi => h i (by omega)))
/-- policy 5 -/
def dt_ob (rs : Nat → Nat) (F : Nat → Bool) (b : Nat) : Nat → Bool := dt_any (fun r => F r && (rs r).testBit b)
theorem dt_ob_c {b : Nat} : ∀ {n : Nat}, (dt_cn F n = 0 → dt_ob rs F b n = false) ∧ (dt_cn F n = 1 → dt_ob rs F b n = (dt_fs rs F n - 1).testBit b) := by
  intro n
  induction n with
  | zero => exact ⟨fun _ => rfl, fun h => absurd (show (0 : Nat) = 1 from h) (by decide)⟩
  | succ n ih =>
    obtain ⟨i1, i2⟩ := ih
    have ec : dt_cn F (n + 1) = if F n = true then dt_cn F n + 1 else dt_cn F n := rfl
    have ef : dt_fs rs F (n + 1) = if dt_fs rs F n = 0 ∧ F n = true then rs n + 1 else dt_fs rs F n := rfl
    have eo : dt_ob rs F b (n + 1) = (dt_ob rs F b n || (F n && (rs n).testBit b)) := rfl
    by_cases h : F n = true
    · rw [if_pos h] at ec
      constructor
      · intro z; omega
      · intro z
        have z0 : dt_cn F n = 0 := by omega
        rw [eo, i1 z0, ef, if_pos ⟨dt_fs_0.mpr z0, h⟩, h]; simp
    · rw [if_neg h] at ec
      rw [ec, ef, if_neg (fun z => h z.2), eo, dt_nt h, Bool.false_and, Bool.or_false]
      exact ⟨i1, i2⟩
theorem dt_p5 {n d b : Nat} (hn : n ≤ 8) (hF : ∀ r, n ≤ r → F r = false) : (if dt_cn F n = 1 then dt_ob rs F b n else d.testBit b) = (dt_res 5 d rs F).testBit b := by
  have e1 : dt_fs rs F 8 = dt_fs rs F n := dt_cut (F := F) (fun r => dt_fs rs F r) hF (fun r => dt_fs_s) 8 hn
  have e2 : dt_cn F 8 = dt_cn F n := dt_cut (F := F) (fun r => dt_cn F r) hF (fun r => dt_cn_s) 8 hn
  unfold dt_res
  rw [e1, e2, if_pos rfl]
  by_cases h : dt_cn F n = 1
  · rw [if_pos h, if_pos h, if_neg (by omega)]; exact dt_ob_c.2 h
  · rw [if_neg h, if_neg h]
    by_cases z : dt_cn F n = 0
    · rw [if_pos z]
    · rw [if_neg z]
theorem dt_res_lt (hr : ∀ r, rs r < 8) {p d : Nat} (hd : d < 8) : dt_res p d rs F < 8 := by
  have h1 := dt_fs_le (F := F) hr 8
  have h2 := dt_ls_lt (F := F) hr 8
  have h3 := dt_mn_le (F := F) hr 8
  have h4 := dt_mx_le (F := F) hr 8
  have h5 := dt_mn_0 (F := F) hr (n := 8)
  unfold dt_res
  repeat' split
  all_goals omega
end
/-! ===== a set of rules as a number below 256: one rule alone ===== -/
theorem dt_alone : ∀ s, s < 256 → s ≠ 0 → ((s &&& (s - 1) = 0) ↔ dt_cn (fun r => s.testBit r) 8 = 1) := by decide +kernel
end
section
/-! the component: bits, values, where rules fire -/
theorem dt_8 (r w : Nat) : (8 : Int32) * nI r + nI w = nI (8 * r + w) := by
  show nI 8 * nI r + nI w = _
  rw [pk_mul, nI_add]
theorem dt_m8 (c : Nat) : (8 : Int32) * nI c = nI (8 * c) := pk_mul 8 c
theorem dt_m24 (c : Nat) : (24 : Int32) * nI c = nI (24 * c) := pk_mul 24 c
theorem dt_m3 (c : Nat) : (3 : Int32) * nI c = nI (3 * c) := pk_mul 3 c
theorem dt_m512 (c : Nat) : (512 : Int32) * nI c = nI (512 * c) := pk_mul 512 c
theorem dt_s6 {q : Nat} (h : q < 2 ^ 31) : nI q >>> ((6 : Int32) &&& 31) = nI (q / 64) := pk_shrN h _ 6 (by decide)
theorem dt_a63 {q : Nat} (h : q < 2 ^ 31) : nI q &&& 63 = nI (q % 64) := pk_andN (by omega) 6 (by decide)
theorem dt_all_s (f : Nat → Bool) (n : Nat) : dt_all f (n + 1) = (dt_all f n && f n) := rfl
theorem dt_any_s (f : Nat → Bool) (n : Nat) : dt_any f (n + 1) = (dt_any f n || f n) := rfl
theorem dt_all3 : ∀ V, V < 8 → ∀ x, x < 8 → dt_all (fun b => V.testBit b == x.testBit b) 3 = decide (V = x) := by decide +kernel
theorem dt_any8 (f : Nat → Bool) {V : Nat} (h : V < 8) : dt_any (fun x => f x && decide (V = x)) 8 = f V := by
  cases hf : f V with
  | true => exact dt_any_iff.mpr ⟨V, h, by rw [hf]; simp⟩
  | false =>
    rw [dt_any_false]
    intro i _
    by_cases e : V = i
    · subst e; rw [hf]; rfl
    · rw [decide_eq_false e, Bool.and_false]
theorem dt_sb {s c x : Nat} (hx : x < 8) : (s / 2 ^ (8 * c) % 2 ^ 8).testBit x = s.testBit (8 * c + x) := by
  rw [Nat.testBit_mod_two_pow, Nat.testBit_div_two_pow, decide_eq_true hx, Bool.true_and, Nat.add_comm]
section
variable {tc kn : Int32} {cc co po df rc so ro : Nat → Int32} {pl fi re ke rr tw : Nat → Int64}
theorem dt_isBitP {post : Int32 → Prop} {j q : Nat} (hj : j < 24) (hq : q < 512) (h0 : dt_bb pl j q = false → post 0) (h1 : dt_bb pl j q = true → post 1) : wpX_isBit__planes post (tc, kn, cc, co, po, df, rc, so, ro, pl, fi, re, ke, rr, tw) (nI (8 * j)) (nI q) := by
  unfold wpX_isBit__planes
  dsimp only
  rw [dt_s6 (by omega), nI_add, dt_a63 (by omega), nI_clamp (by omega)]
  refine ⟨vp_in_nI (by omega) (by decide), ?_⟩
  exact br_c (fun hz => h0 ((dt_lb_tst _ (by omega)).mp hz)) (fun hz => h1 (dt_nf (fun y => hz ((dt_lb_tst _ (by omega)).mpr y))))
theorem dt_isBitF {post : Int32 → Prop} {j q : Nat} (hj : j < 8) (hq : q < 512) (h0 : dt_bb fi j q = false → post 0) (h1 : dt_bb fi j q = true → post 1) : wpX_isBit__firing post (tc, kn, cc, co, po, df, rc, so, ro, pl, fi, re, ke, rr, tw) (nI (8 * j)) (nI q) := by
  unfold wpX_isBit__firing
  dsimp only
  rw [dt_s6 (by omega), nI_add, dt_a63 (by omega), nI_clamp (by omega)]
  refine ⟨vp_in_nI (by omega) (by decide), ?_⟩
  exact br_c (fun hz => h0 ((dt_lb_tst _ (by omega)).mp hz)) (fun hz => h1 (dt_nf (fun y => hz ((dt_lb_tst _ (by omega)).mpr y))))
theorem dt_valueAt {post : Int32 → Prop} {v q V : Nat} (hv : v < 8) (hq : q < 512) (hV : V < 8) (hp : ∀ b, b < 3 → dt_bb pl (3 * v + b) q = V.testBit b) (h : post (nI V)) : wpX_valueAt post (tc, kn, cc, co, po, df, rc, so, ro, pl, fi, re, ke, rr, tw) (nI v) (nI q) := by
  refine loop_0 (fun n i (s : Nat) => wX_valueAt_5 post (nI v) (nI q) tc kn cc co po df rc so ro pl fi re ke rr tw n (nI s) (nI i)) (fun i s => s = dt_set (fun b => V.testBit b) i) 3 0 rfl ?_ ?_
  · intro n s hs
    rw [dt_set_of (show V < 2 ^ 3 from hV)] at hs
    subst hs
    exact br_t (nI_le (a := 3) (b := 3) (Nat.le_refl _) (by decide)) h
  · intro n i s hi hs ih
    refine br_f (nI_ge (b := 3) hi (by decide)) ?_
    have e : (24 : Int32) * nI v + 8 * nI i = nI (8 * (3 * v + i)) := by
      rw [dt_m24, dt_m8, nI_add]
      exact congrArg nI (by omega)
    have es : dt_set (fun b => V.testBit b) (i + 1) = if V.testBit i = true then dt_set (fun b => V.testBit b) i ||| 2 ^ i else dt_set (fun b => V.testBit b) i := rfl
    rw [e]
    refine dt_isBitP (by omega) hq (fun hb => ?_) (fun hb => ?_)
    · rw [hp i hi] at hb
      rw [if_neg (by rw [hb]; decide)] at es
      exact br_t rfl (nm_r (nI_1 i) (ih s (hs.trans es.symm)))
    · rw [hp i hi] at hb
      rw [if_pos hb] at es
      exact br_f (by decide) (nm_r (dt_or1 s (by omega)) (nm_r (nI_1 i) (ih _ (by rw [es, hs]))))
theorem dt_agree {post : Int64 → Prop} {v w x : Nat} {V : Nat → Nat} (hv : v < 8) (hw : w < 8) (hx : x < 8) (hV : ∀ q, q < 512 → V q < 8) (hp : ∀ b q, b < 3 → q < 512 → dt_bb pl (3 * v + b) q = (V q).testBit b) (h : ∀ r : Int64, (∀ i, i < 64 → dt_lb r i = decide (V (64 * w + i) = x)) → post r) : wpX_agreeing__planes post (tc, kn, cc, co, po, df, rc, so, ro, pl, fi, re, ke, rr, tw) (nI (24 * v)) (nI w) (nI x) := by
  refine loop_0 (fun n i (s : Int64) => wX_agreeing__planes_8 post (nI (24 * v)) (nI w) (nI x) tc kn cc co po df rc so ro pl fi re ke rr tw n s (nI i)) (fun k s => ∀ i, i < 64 → dt_lb s i = dt_all (fun b => (V (64 * w + i)).testBit b == x.testBit b) k) 3 (-1) (fun i hi => dt_lb_m1 i hi) ?_ ?_
  · intro n s hs
    exact br_t (nI_le (a := 3) (b := 3) (Nat.le_refl _) (by decide)) (h s (fun i hi => by rw [hs i hi]; exact dt_all3 _ (hV _ (by omega)) x hx))
  · intro n b s hb hs ih
    refine br_f (nI_ge (b := 3) hb (by decide)) ?_
    have e : (nI (24 * v) + 8 * nI b) + nI w = nI (8 * (3 * v + b) + w) := by
      rw [dt_m8, nI_add, nI_add]
      exact congrArg nI (by omega)
    have hin : vp_in (nI (8 * (3 * v + b) + w)) 192 := vp_in_nI (by omega) (by decide)
    have hbit : ∀ i, i < 64 → dt_lb (pl (8 * (3 * v + b) + w)) i = (V (64 * w + i)).testBit b := fun i hi => by rw [dt_bb_eq rfl hi, hp b _ hb (by omega)]
    rw [e, nI_clamp (by omega)]
    refine br_c (fun hz => ⟨hin, nm_e (nm_r (nI_1 b) (ih _ (fun i hi => ?_)))⟩) (fun hz => ⟨hin, nm_e (nm_r (nI_1 b) (ih _ (fun i hi => ?_)))⟩)
    · rw [dt_bit (by omega) (by omega)] at hz
      rw [dt_lb_and, hs i hi, dt_lb_not _ hi, hbit i hi, dt_all_s, hz]
      cases (V (64 * w + i)).testBit b <;> rfl
    · rw [dt_bit (by omega) (by omega)] at hz
      rw [dt_lb_and, hs i hi, hbit i hi, dt_all_s, dt_nf hz]
      cases (V (64 * w + i)).testBit b <;> rfl
theorem dt_narrow {post : SX → Prop} {r v s : Nat} {V : Nat → Nat} (hr : r < 8) (hv : v < 8) (hs : s < 256) (hV : ∀ q, q < 512 → V q < 8) (hp : ∀ b q, b < 3 → q < 512 → dt_bb pl (3 * v + b) q = (V q).testBit b) (h : ∀ fi', (∀ j q, q < 512 → dt_bb fi' j q = (dt_bb fi j q && (decide (j ≠ r) || s.testBit (V q)))) → post (tc, kn, cc, co, po, df, rc, so, ro, pl, fi', re, ke, rr, tw)) : wpX_narrow post (tc, kn, cc, co, po, df, rc, so, ro, pl, fi, re, ke, rr, tw) (nI r) (nI v) (nI s) := by
  refine loop_0 (fun n i f => wX_narrow_3 post (nI r) (nI v) (nI s) tc kn n (nI i) cc co po df rc so ro pl f re ke rr tw) (fun i f => ∀ j q, q < 512 → dt_bb f j q = (dt_bb fi j q && (decide (j ≠ r) || (decide (i ≤ q / 64) || s.testBit (V q))))) 8 fi ?_ ?_ ?_
  · intro j q hq
    simp
  · intro n f hf
    refine br_t (nI_le (a := 8) (b := 8) (Nat.le_refl _) (by decide)) (h f (fun j q hq => ?_))
    rw [hf j q hq, decide_eq_false (show ¬ 8 ≤ q / 64 from by omega), Bool.false_or]
  · intro n w f hw hf ih
    refine br_f (nI_ge (b := 8) hw (by decide)) ?_
    refine loop_0 (fun n2 x (b : Int64) => wX_narrow_16 post (wX_narrow_3 post (nI r) (nI v) (nI s) tc kn n) (nI r) (nI v) (nI s) (nI w) tc kn cc co po df rc so ro pl f re ke rr tw n2 b (nI x)) (fun k b => ∀ i, i < 64 → dt_lb b i = dt_any (fun x => s.testBit x && decide (V (64 * w + i) = x)) k) 8 0 (fun i hi => dt_lb_0 i) ?_ ?_
    · intro n2 b hb
      refine br_t (nI_le (a := 8) (b := 8) (Nat.le_refl _) (by decide)) ?_
      have hin : vp_in (nI (8 * r + w)) 64 := vp_in_nI (by omega) (by decide)
      rw [dt_8, nI_clamp (by omega)]
      refine ⟨hin, hin, nm_e (nm_r (nI_1 w) (ih _ (fun j q hq => ?_)))⟩
      rw [dt_bb_upd _ _ _ rfl hw hq]
      by_cases c : j = r ∧ q / 64 = w
      · have eq : 64 * w + q % 64 = q := by omega
        have hm : q % 64 < 64 := Nat.mod_lt _ (by decide)
        rw [if_pos c, dt_lb_and, hb _ hm, dt_bb_eq rfl hm, eq, hf r q hq, dt_any8 _ (hV q hq), c.1, decide_eq_false (show ¬ r ≠ r from fun z => z rfl), decide_eq_true (show w ≤ q / 64 from by omega), decide_eq_false (show ¬ w + 1 ≤ q / 64 from by omega)]
        simp
      · rw [if_neg c, hf j q hq]
        by_cases e : j = r
        · have : decide (w ≤ q / 64) = decide (w + 1 ≤ q / 64) := decide_eq_decide.mpr (by omega)
          rw [this]
        · rw [decide_eq_true (show j ≠ r from e)]; simp
    · intro n2 x b hx hb ih2
      refine br_f (nI_ge (b := 8) hx (by decide)) ?_
      refine br_c (fun hz => ?_) (fun hz => ?_)
      · rw [dt_bit (by omega) (by omega)] at hz
        refine nm_r (nI_1 x) (ih2 b (fun i hi => ?_))
        rw [hb i hi, dt_any_s, hz, Bool.false_and, Bool.or_false]
      · rw [dt_bit (by omega) (by omega)] at hz
        rw [dt_m24]
        refine dt_agree hv hw hx hV hp (fun r2 h2 => nm_e (nm_r (nI_1 x) (ih2 _ (fun i hi => ?_))))
        rw [dt_lb_or, hb i hi, h2 i hi, dt_any_s, dt_nf hz, Bool.true_and]
/-- where each rule of table t fires: n rules, w columns with the variables cl, their values VV; L: what is left out -/
theorem dt_findFiring {post : SX → Prop} {t n w : Nat} {bi lf : Int32} {st cl : Nat → Nat} {VV : Nat → Nat → Nat} {L : Nat → Bool} (ht : t < 5) (hrc : rc t = nI n) (hn : n ≤ 8) (hcc : cc t = nI w) (hw : w ≤ 3) (hso : ∀ r, r < n → so (8 * t + r) = nI (st r) ∧ st r < 2 ^ 24)
    (hcl : ∀ c, c < w → cl c < 8 ∧ ((bi = 0 ∧ co (3 * t + c) = nI (cl c)) ∨ (bi ≠ 0 ∧ cl c = c))) (hL : ∀ r, r < 8 → (nI r = lf ↔ L r = true)) (hV : ∀ c q, c < w → q < 512 → VV c q < 8) (hp : ∀ c, c < w → ∀ b q, b < 3 → q < 512 → dt_bb pl (3 * cl c + b) q = (VV c q).testBit b)
    (h : ∀ fi', (∀ r q, r < n → q < 512 → dt_bb fi' r q = (!(L r) && dt_all (fun c => (st r).testBit (8 * c + VV c q)) w)) → post (tc, kn, cc, co, po, df, rc, so, ro, pl, fi', re, ke, rr, tw)) : wpX_findFiring post (tc, kn, cc, co, po, df, rc, so, ro, pl, fi, re, ke, rr, tw) (nI t) bi lf := by
  have hit : vp_in (nI t) 5 := vp_in_nI ht (by decide)
  refine loop_0 (fun m r f => wX_findFiring_3 post (nI t) bi lf m (nI r) tc kn cc co po df rc so ro pl f re ke rr tw) (fun r f => ∀ j q, j < r → q < 512 → dt_bb f j q = (!(L j) && dt_all (fun c => (st j).testBit (8 * c + VV c q)) w)) n fi (fun j q hj => absurd hj (Nat.not_lt_zero j)) ?_ ?_
  · intro m f hf
    refine ⟨hit, ?_⟩
    rw [nI_clamp (by omega), hrc]
    exact br_t (nI_le (Nat.le_refl _) (by omega)) (h f (fun r q hr hq => hf r q hr hq))
  · intro m r f hr hf ih
    refine ⟨hit, ?_⟩
    rw [nI_clamp (by omega), hrc]
    refine br_f (nI_ge hr (by omega)) ?_
    have key : ∀ f2 : Nat → Int64, (∀ j q, j < r → q < 512 → dt_bb f2 j q = (!(L j) && dt_all (fun c => (st j).testBit (8 * c + VV c q)) w)) → (∀ q, q < 512 → dt_bb f2 r q = !(L r)) → ∃ n59 : Nat, wX_findFiring_59 post (wX_findFiring_3 post (nI t) bi lf m) (nI t) bi lf (nI r) n59 0 tc kn cc co po df rc so ro pl f2 re ke rr tw := by
      intro f2 g1 g2
      refine loop_0 (fun n59 c f => wX_findFiring_59 post (wX_findFiring_3 post (nI t) bi lf m) (nI t) bi lf (nI r) n59 (nI c) tc kn cc co po df rc so ro pl f re ke rr tw) (fun c f => (∀ j q, j < r → q < 512 → dt_bb f j q = (!(L j) && dt_all (fun c => (st j).testBit (8 * c + VV c q)) w)) ∧ (∀ q, q < 512 → dt_bb f r q = (!(L r) && dt_all (fun c => (st r).testBit (8 * c + VV c q)) c))) w f2 ⟨g1, fun q hq => by rw [g2 q hq]; exact (Bool.and_true _).symm⟩ ?_ ?_
      · intro n59 f3 h3
        refine ⟨hit, ?_⟩
        rw [nI_clamp (by omega), hcc]
        refine br_t (nI_le (Nat.le_refl _) (by omega)) (nm_r (nI_1 r) (ih f3 (fun j q hj hq => ?_)))
        rcases Nat.lt_or_ge j r with y | y
        · exact h3.1 j q y hq
        · have : j = r := by omega
          subst this
          exact h3.2 q hq
      · intro n59 c f3 hc h3 ih3
        refine ⟨hit, ?_⟩
        rw [nI_clamp (by omega), hcc]
        refine br_f (nI_ge hc (by omega)) ?_
        obtain ⟨c8, hcol⟩ := hcl c hc
        obtain ⟨es, hst⟩ := hso r hr
        have go : wX_findFiring_90 post (wX_findFiring_3 post (nI t) bi lf m) (wX_findFiring_59 post (wX_findFiring_3 post (nI t) bi lf m) (nI t) bi lf (nI r) n59) (nI t) bi lf (nI r) (nI c) (nI (cl c)) tc kn cc co po df rc so ro pl f3 re ke rr tw := by
          unfold wX_findFiring_90
          rw [dt_8, nI_clamp (by omega), es, dt_m8, dt_shr (by omega) (by omega)]
          have e255 : nI (st r / 2 ^ (8 * c)) &&& 255 = nI (st r / 2 ^ (8 * c) % 2 ^ 8) := pk_andN (Nat.lt_of_le_of_lt (Nat.div_le_self _ _) (by omega)) 8 (by decide)
          rw [e255]
          refine ⟨vp_in_nI (by omega) (by decide), ?_⟩
          refine dt_narrow (by omega) c8 (Nat.mod_lt _ (by decide)) (fun q hq => hV c q hc hq) (hp c hc) (fun f4 h4 => ?_)
          refine nm_r (nI_1 c) (ih3 f4 ⟨fun j q hj hq => ?_, fun q hq => ?_⟩)
          · rw [h4 j q hq, h3.1 j q hj hq, decide_eq_true (show j ≠ r from by omega)]; simp
          · rw [h4 r q hq, h3.2 q hq, decide_eq_false (show ¬ r ≠ r from fun z => z rfl), Bool.false_or, dt_all_s, dt_sb (hV c q hc hq), Bool.and_assoc]
        rcases hcol with ⟨hb, hco⟩ | ⟨hb, hco⟩
        · refine br_t hb ?_
          rw [dt_m3, nI_add, nI_clamp (by omega), hco]
          exact ⟨vp_in_nI (by omega) (by decide), go⟩
        · refine br_f hb ?_
          rw [hco] at go
          exact go
    refine loop_0 (fun n17 i f => wX_findFiring_17 post (wX_findFiring_3 post (nI t) bi lf m) (nI t) bi lf (nI r) tc kn n17 (nI i) cc co po df rc so ro pl f re ke rr tw) (fun i f => (∀ j q, j < r → q < 512 → dt_bb f j q = (!(L j) && dt_all (fun c => (st j).testBit (8 * c + VV c q)) w)) ∧ (∀ q, q < 512 → q / 64 < i → dt_bb f r q = !(L r))) 8 f ⟨hf, fun q _ hq => absurd hq (Nat.not_lt_zero _)⟩ ?_ ?_
    · intro n17 f2 h2
      exact br_t (nI_le (a := 8) (b := 8) (Nat.le_refl _) (by decide)) (key f2 h2.1 (fun q hq => h2.2 q hq (by omega)))
    · intro n17 i f2 hi h2 ih2
      refine br_f (nI_ge (b := 8) hi (by decide)) ?_
      have hin : vp_in (nI (8 * r + i)) 64 := vp_in_nI (by omega) (by decide)
      have st2 : ∀ x : Int64, (∀ k, k < 64 → dt_lb x k = !(L r)) → wX_findFiring_17 post (wX_findFiring_3 post (nI t) bi lf m) (nI t) bi lf (nI r) tc kn n17 (nI (i + 1)) cc co po df rc so ro pl (vp_updL f2 (8 * r + i) x) re ke rr tw := by
        intro x hx
        refine ih2 _ ⟨fun j q hj hq => ?_, fun q hq hqi => ?_⟩
        · rw [dt_bb_upd _ _ _ rfl hi hq, if_neg (by omega)]; exact h2.1 j q hj hq
        · rw [dt_bb_upd _ _ _ rfl hi hq]
          by_cases e : q / 64 = i
          · rw [if_pos ⟨rfl, e⟩, hx _ (Nat.mod_lt _ (by decide))]
          · rw [if_neg (fun z => e z.2)]; exact h2.2 q hq (by omega)
      rw [dt_8, nI_clamp (by omega)]
      refine br_c (fun hz => ⟨hin, nm_e (nm_r (nI_1 i) (st2 0 (fun k hk => ?_)))⟩) (fun hz => ⟨hin, nm_e (nm_r (nI_1 i) (st2 (-1) (fun k hk => ?_)))⟩)
      · rw [dt_lb_0, (hL r (by omega)).mp hz]; rfl
      · rw [dt_lb_m1 k hk, dt_nt (fun z => hz ((hL r (by omega)).mpr z))]; rfl
end
end
section
/-! the component: results -/
/-- V q: 0 while no rule is taken in case q, then its result and one -/
def dt_PV (re rr : Nat → Int64) (V : Nat → Nat) : Prop := (∀ q, q < 512 → dt_bb rr 0 q = (V q == 0)) ∧ (∀ b q, b < 3 → q < 512 → dt_bb re b q = (V q - 1).testBit b)
theorem dt_PV_c {re rr : Nat → Int64} {V W : Nat → Nat} (h : ∀ q, q < 512 → V q = W q) (p : dt_PV re rr V) : dt_PV re rr W :=
  ⟨fun q hq => by rw [p.1 q hq, h q hq], fun b q hb hq => by rw [p.2 b q hb hq, h q hq]⟩
def dt_cy (b S y : Nat) : Bool := decide (2 ^ b ≤ S % 2 ^ b + y % 2 ^ b)
theorem dt_add8 : ∀ s, s < 8 → ∀ y, y < 8 → ∀ b, b < 3 → ((s + y).testBit b = ((s.testBit b ^^ y.testBit b) ^^ dt_cy b s y)) ∧ (dt_cy (b + 1) s y = ((s.testBit b && y.testBit b) || (dt_cy b s y && (s.testBit b ^^ y.testBit b)))) := by decide +kernel
theorem dt_tb8 (S : Nat) {b : Nat} (hb : b < 3) : S.testBit b = (S % 8).testBit b := by
  have := Nat.testBit_mod_two_pow S 3 b
  rw [decide_eq_true hb, Bool.true_and] at this
  exact this.symm
theorem dt_cy8 (S y : Nat) {b : Nat} (hb : b ≤ 3) : dt_cy b S y = dt_cy b (S % 8) y := by
  unfold dt_cy
  rw [show S % 8 % 2 ^ b = S % 2 ^ b from Nat.mod_mod_of_dvd S (show 2 ^ b ∣ 2 ^ 3 from Nat.pow_dvd_pow 2 hb)]
theorem dt_add {S y b : Nat} (hy : y < 8) (hb : b < 3) : ((S + y).testBit b = ((S.testBit b ^^ y.testBit b) ^^ dt_cy b S y)) ∧ (dt_cy (b + 1) S y = ((S.testBit b && y.testBit b) || (dt_cy b S y && (S.testBit b ^^ y.testBit b)))) := by
  have h := dt_add8 (S % 8) (Nat.mod_lt _ (by decide)) y hy b hb
  rw [dt_cy8 S y (by omega), dt_cy8 S y (b := b + 1) (by omega), dt_tb8 (S + y) hb, dt_tb8 S hb]
  rw [dt_tb8 (S % 8 + y) hb] at h
  rw [show (S + y) % 8 = (S % 8 + y) % 8 from by omega]
  exact h
theorem dt_ble (a b : Nat) : Nat.ble a b = decide (a ≤ b) := by
  rw [Bool.eq_iff_iff, Nat.ble_eq, decide_eq_true_eq]
/-- sums: S q in the planes, what it carried out, whether a rule fired -/
def dt_PS (re rr tw : Nat → Int64) (S : Nat → Nat) (A : Nat → Bool) : Prop := (∀ b q, b < 3 → q < 512 → dt_bb re b q = (S q).testBit b) ∧ (∀ q, q < 512 → dt_bb tw 0 q = Nat.ble 8 (S q)) ∧ (∀ q, q < 512 → dt_bb rr 0 q = !(A q))
section
variable {tc kn : Int32} {cc co po df rc so ro : Nat → Int32} {pl fi re ke rr tw : Nat → Int64}
theorem dt_lay {post : SX → Prop} {w x : Nat} {bits : Int64} (hw : w < 8) (hx : x < 8) (h : ∀ re', (∀ b q, b < 3 → q < 512 → dt_bb re' b q = (dt_bb re b q || (decide (q / 64 = w) && (x.testBit b && dt_lb bits (q % 64))))) → post (tc, kn, cc, co, po, df, rc, so, ro, pl, fi, re', ke, rr, tw)) : wpX_lay post (tc, kn, cc, co, po, df, rc, so, ro, pl, fi, re, ke, rr, tw) (nI w) (nI x) bits := by
  refine loop_0 (fun n i s => wX_lay_3 post (nI w) (nI x) bits tc kn n (nI i) cc co po df rc so ro pl fi s ke rr tw) (fun i s => ∀ b q, b < 3 → q < 512 → dt_bb s b q = (dt_bb re b q || (decide (b < i) && (decide (q / 64 = w) && (x.testBit b && dt_lb bits (q % 64)))))) 3 re ?_ ?_ ?_
  · intro b q hb hq
    rw [decide_eq_false (Nat.not_lt_zero b)]; simp
  · intro n s hs
    refine br_t (nI_le (a := 3) (b := 3) (Nat.le_refl _) (by decide)) (h s (fun b q hb hq => ?_))
    rw [hs b q hb hq, decide_eq_true hb, Bool.true_and]
  · intro n i s hi hs ih
    refine br_f (nI_ge (b := 3) hi (by decide)) ?_
    refine br_c (fun hz => ?_) (fun hz => ?_)
    · rw [dt_bit (by omega) (by omega)] at hz
      refine nm_r (nI_1 i) (ih s (fun b q hb hq => ?_))
      rw [hs b q hb hq]
      by_cases e : b = i
      · subst e; rw [hz]; simp
      · rw [show decide (b < i + 1) = decide (b < i) from decide_eq_decide.mpr (by omega)]
    · rw [dt_bit (by omega) (by omega)] at hz
      have hin : vp_in (nI (8 * i + w)) 24 := vp_in_nI (by omega) (by decide)
      rw [dt_8, nI_clamp (by omega)]
      refine ⟨hin, hin, nm_e (nm_r (nI_1 i) (ih _ (fun b q hb hq => ?_)))⟩
      rw [dt_bb_upd _ _ _ rfl hw hq]
      by_cases c : b = i ∧ q / 64 = w
      · have hm : q % 64 < 64 := Nat.mod_lt _ (by decide)
        have eq : 64 * w + q % 64 = q := by omega
        rw [if_pos c, dt_lb_or, dt_bb_eq rfl hm, eq, hs i q hi hq, c.1, decide_eq_false (Nat.lt_irrefl i), decide_eq_true (Nat.lt_succ_self i), decide_eq_true c.2, dt_nf hz]
        simp
      · rw [if_neg c, hs b q hb hq]
        by_cases e : b = i
        · rw [decide_eq_false (show ¬ q / 64 = w from fun z => c ⟨e, z⟩)]; simp
        · rw [show decide (b < i + 1) = decide (b < i) from decide_eq_decide.mpr (by omega)]
theorem dt_takeRest {post : SX → Prop} {t r x : Nat} {V : Nat → Nat} {F : Nat → Bool} (ht : t < 5) (hr : r < 8) (hro : ro (8 * t + r) = nI x) (hx : x < 8) (hF : ∀ q, q < 512 → dt_bb fi r q = F q) (hp : dt_PV re rr V)
    (h : ∀ re' rr', dt_PV re' rr' (fun q => if V q = 0 ∧ F q = true then x + 1 else V q) → post (tc, kn, cc, co, po, df, rc, so, ro, pl, fi, re', ke, rr', tw)) : wpX_takeRest post (tc, kn, cc, co, po, df, rc, so, ro, pl, fi, re, ke, rr, tw) (nI t) (nI r) := by
  refine loop_0 (fun n w (s : (Nat → Int64) × (Nat → Int64)) => wX_takeRest_2 post (nI t) (nI r) n (nI w) tc kn cc co po df rc so ro pl fi s.1 ke s.2 tw) (fun w s => dt_PV s.1 s.2 (fun q => if q / 64 < w ∧ (V q = 0 ∧ F q = true) then x + 1 else V q)) 8 (re, rr) (dt_PV_c (fun q hq => (if_neg (fun z => absurd z.1 (Nat.not_lt_zero _))).symm) hp) ?_ ?_
  · intro n s hs
    refine br_t (nI_le (a := 8) (b := 8) (Nat.le_refl _) (by decide)) (h s.1 s.2 (dt_PV_c (fun q hq => ?_) hs))
    by_cases c : V q = 0 ∧ F q = true
    · rw [if_pos ⟨by omega, c⟩, if_pos c]
    · rw [if_neg (fun z => c z.2), if_neg c]
  · intro n w s hw hs ih
    obtain ⟨s1, s2⟩ := s
    refine br_f (nI_ge (b := 8) hw (by decide)) ?_
    dsimp only at hs ih ⊢
    rw [dt_8, dt_8, nI_clamp (n := 8 * r + w) (by omega), nI_clamp (n := w) (by omega), nI_clamp (n := 8 * t + r) (by omega), hro]
    refine ⟨vp_in_nI (by omega) (by decide), vp_in_nI hw (by decide), nm_e ⟨vp_in_nI (by omega) (by decide), ?_⟩⟩
    refine dt_lay hw hx (fun re2 h2 => ?_)
    refine ⟨vp_in_nI hw (by decide), vp_in_nI hw (by decide), nm_e (nm_r (nI_1 w) (ih (re2, vp_updL s2 w (s2 w &&& ((fi (8 * r + w) &&& s2 w) ^^^ (-1)))) ⟨fun q hq => ?_, fun b q hb hq => ?_⟩))⟩
    · dsimp only
      have hm : q % 64 < 64 := Nat.mod_lt _ (by decide)
      rw [dt_bb_upd (j0 := 0) (w := w) _ _ _ (by omega) hw hq]
      by_cases c : q / 64 = w
      · have eq : 64 * w + q % 64 = q := by omega
        rw [if_pos ⟨rfl, c⟩, dt_lb_and, dt_lb_not _ hm, dt_lb_and, dt_bb_eq (j := r) (w := w) rfl hm, dt_bb_eq (j := 0) (w := w) (by omega) hm, eq, hF q hq, hs.1 q hq]
        dsimp only
        rw [if_neg (show ¬ (q / 64 < w ∧ (V q = 0 ∧ F q = true)) from fun z => absurd z.1 (by omega))]
        by_cases d : V q = 0 ∧ F q = true
        · rw [if_pos ⟨by omega, d⟩, d.1, d.2]; rfl
        · rw [if_neg (fun z => d z.2)]
          by_cases e : V q = 0
          · rw [dt_nt (fun z => d ⟨e, z⟩)]; simp
          · rw [beq_false_of_ne e]; rfl
      · rw [if_neg (fun z => c z.2), hs.1 q hq]
        dsimp only
        by_cases d : V q = 0 ∧ F q = true
        · by_cases f : q / 64 < w
          · rw [if_pos ⟨f, d⟩, if_pos ⟨by omega, d⟩]
          · rw [if_neg (fun z => f z.1), if_neg (fun z => absurd z.1 (by omega))]
        · rw [if_neg (fun z => d z.2), if_neg (fun z => d z.2)]
    · dsimp only
      have hm : q % 64 < 64 := Nat.mod_lt _ (by decide)
      rw [h2 b q hb hq, hs.2 b q hb hq]
      dsimp only
      by_cases c : q / 64 = w
      · have eq : 64 * w + q % 64 = q := by omega
        rw [dt_lb_and, dt_bb_eq (j := r) (w := w) rfl hm, dt_bb_eq (j := 0) (w := w) (by omega) hm, eq, hF q hq, hs.1 q hq]
        dsimp only
        rw [if_neg (show ¬ (q / 64 < w ∧ (V q = 0 ∧ F q = true)) from fun z => absurd z.1 (by omega)), decide_eq_true c]
        by_cases d : V q = 0 ∧ F q = true
        · rw [if_pos ⟨by omega, d⟩, d.1, d.2]; simp
        · rw [if_neg (fun z => d z.2)]
          by_cases e : V q = 0
          · rw [dt_nt (fun z => d ⟨e, z⟩)]; simp
          · rw [beq_false_of_ne e]; simp
      · rw [decide_eq_false c, Bool.false_and, Bool.or_false]
        by_cases d : V q = 0 ∧ F q = true
        · by_cases f : q / 64 < w
          · rw [if_pos ⟨f, d⟩, if_pos ⟨by omega, d⟩]
          · rw [if_neg (fun z => f z.1), if_neg (fun z => absurd z.1 (by omega))]
        · rw [if_neg (fun z => d z.2), if_neg (fun z => d z.2)]
theorem dt_takeWith {post : SX → Prop} {t n x : Nat} {V rs : Nat → Nat} {F : Nat → Nat → Bool} (ht : t < 5) (hrc : rc t = nI n) (hn : n ≤ 8) (hx : x < 8) (hro : ∀ r, r < n → ro (8 * t + r) = nI (rs r) ∧ rs r < 8) (hF : ∀ r q, r < n → q < 512 → dt_bb fi r q = F q r) (hp : dt_PV re rr V)
    (h : ∀ re' rr', dt_PV re' rr' (fun q => dt_tw rs (F q) x (V q) n) → post (tc, kn, cc, co, po, df, rc, so, ro, pl, fi, re', ke, rr', tw)) : wpX_takeWith post (tc, kn, cc, co, po, df, rc, so, ro, pl, fi, re, ke, rr, tw) (nI t) (nI x) := by
  have hit : vp_in (nI t) 5 := vp_in_nI ht (by decide)
  refine loop_0 (fun m r (s : (Nat → Int64) × (Nat → Int64)) => wX_takeWith_2 post (nI t) (nI x) m (nI r) tc kn cc co po df rc so ro pl fi s.1 ke s.2 tw) (fun r s => dt_PV s.1 s.2 (fun q => dt_tw rs (F q) x (V q) r)) n (re, rr) hp ?_ ?_
  · intro m s hs
    refine ⟨hit, ?_⟩
    rw [nI_clamp (by omega), hrc]
    exact br_t (nI_le (Nat.le_refl _) (by omega)) (h s.1 s.2 hs)
  · intro m r s hr hs ih
    obtain ⟨s1, s2⟩ := s
    dsimp only at hs ih ⊢
    refine ⟨hit, ?_⟩
    rw [nI_clamp (by omega), hrc]
    refine br_f (nI_ge hr (by omega)) ?_
    rw [dt_8, nI_clamp (by omega), (hro r hr).1]
    refine ⟨vp_in_nI (by omega) (by decide), ?_⟩
    have h8 := (hro r hr).2
    refine pk_eq (rs r) x (fun e => ?_) (fun e => ?_)
    · refine dt_takeRest ht (by omega) (hro r hr).1 h8 (fun q hq => hF r q hr hq) hs (fun re2 rr2 h2 => ?_)
      refine nm_r (nI_1 r) (ih (re2, rr2) (dt_PV_c (fun q hq => ?_) h2))
      show (if dt_tw rs (F q) x (V q) r = 0 ∧ F q r = true then rs r + 1 else dt_tw rs (F q) x (V q) r) = if rs r = x ∧ (dt_tw rs (F q) x (V q) r = 0 ∧ F q r = true) then x + 1 else dt_tw rs (F q) x (V q) r
      by_cases d : dt_tw rs (F q) x (V q) r = 0 ∧ F q r = true
      · rw [if_pos d, if_pos ⟨e, d⟩, e]
      · rw [if_neg d, if_neg (fun z => d z.2)]
    · refine nm_r (nI_1 r) (ih (s1, s2) (dt_PV_c (fun q hq => ?_) hs))
      exact (if_neg (fun z => e z.1)).symm
theorem dt_addRule {post : SX → Prop} {w x : Nat} {bits : Int64} {S : Nat → Nat} {A : Nat → Bool} (hw : w < 8) (hx : x < 8) (hp : dt_PS re rr tw S A)
    (h : ∀ re' rr' tw', dt_PS re' rr' tw' (fun q => if q / 64 = w ∧ dt_lb bits (q % 64) = true then S q + x else S q) (fun q => if q / 64 = w ∧ dt_lb bits (q % 64) = true then true else A q) → post (tc, kn, cc, co, po, df, rc, so, ro, pl, fi, re', ke, rr', tw')) : wpX_addRule post (tc, kn, cc, co, po, df, rc, so, ro, pl, fi, re, ke, rr, tw) (nI w) bits (nI x) := by
  refine loop_0 (fun n b (s : Int64 × (Nat → Int64)) => wX_addRule_6 post (nI w) bits (nI x) tc kn n s.1 (nI b) cc co po df rc so ro pl fi s.2 ke rr tw) (fun b s => (∀ i, i < 64 → dt_lb s.1 i = dt_cy b (S (64 * w + i)) (if dt_lb bits i = true then x else 0)) ∧ (∀ j q, j < 3 → q < 512 → dt_bb s.2 j q = if q / 64 = w ∧ j < b then (S q + if dt_lb bits (q % 64) = true then x else 0).testBit j else (S q).testBit j)) 3 (0, re) ⟨fun i hi => ?_, fun j q hj hq => ?_⟩ ?_ ?_
  · rw [dt_lb_0]
    unfold dt_cy
    rw [Nat.pow_zero, Nat.mod_one, Nat.mod_one]; rfl
  · rw [if_neg (fun z => absurd z.2 (Nat.not_lt_zero j))]
    exact hp.1 j q hj hq
  · intro n s hs
    obtain ⟨c, s2⟩ := s
    dsimp only at hs ⊢
    have hin : vp_in (nI w) 8 := vp_in_nI hw (by decide)
    refine br_t (nI_le (a := 3) (b := 3) (Nat.le_refl _) (by decide)) ?_
    rw [nI_clamp (by omega)]
    refine ⟨hin, hin, nm_e ⟨hin, hin, nm_e (h _ _ _ ⟨fun b q hb hq => ?_, fun q hq => ?_, fun q hq => ?_⟩)⟩⟩
    · dsimp only
      rw [hs.2 b q hb hq]
      by_cases e : q / 64 = w
      · rw [if_pos ⟨e, hb⟩]
        by_cases f : dt_lb bits (q % 64) = true
        · rw [if_pos f, if_pos ⟨e, f⟩]
        · rw [if_neg f, if_neg (fun z => f z.2)]; rfl
      · rw [if_neg (fun z => e z.1), if_neg (fun z => e z.1)]
    · have hm : q % 64 < 64 := Nat.mod_lt _ (by decide)
      dsimp only
      rw [dt_bb_upd (j0 := 0) (w := w) _ _ _ (by omega) hw hq]
      by_cases e : q / 64 = w
      · have eq : 64 * w + q % 64 = q := by omega
        rw [if_pos ⟨rfl, e⟩, dt_lb_or, hs.1 _ hm, dt_bb_eq (j := 0) (w := w) (by omega) hm, eq, hp.2.1 q hq]
        unfold dt_cy
        by_cases f : dt_lb bits (q % 64) = true
        · rw [if_pos f, if_pos ⟨e, f⟩, dt_ble, dt_ble, ← Bool.decide_or]
          exact decide_eq_decide.mpr (by omega)
        · rw [if_neg f, if_neg (fun z => f z.2), dt_ble, ← Bool.decide_or]
          exact decide_eq_decide.mpr (by omega)
      · rw [if_neg (fun z => e z.2), if_neg (fun z => e z.1)]
        exact hp.2.1 q hq
    · have hm : q % 64 < 64 := Nat.mod_lt _ (by decide)
      dsimp only
      rw [dt_bb_upd (j0 := 0) (w := w) _ _ _ (by omega) hw hq]
      by_cases e : q / 64 = w
      · have eq : 64 * w + q % 64 = q := by omega
        rw [if_pos ⟨rfl, e⟩, dt_lb_and, dt_lb_not _ hm, dt_bb_eq (j := 0) (w := w) (by omega) hm, eq, hp.2.2 q hq]
        by_cases f : dt_lb bits (q % 64) = true
        · rw [if_pos ⟨e, f⟩, f]; simp
        · rw [if_neg (fun z => f z.2), dt_nt f]; simp
      · rw [if_neg (fun z => e z.2), if_neg (fun z => e z.1)]
        exact hp.2.2 q hq
  · intro n b s hb hs ih
    obtain ⟨c, s2⟩ := s
    dsimp only at hs ih ⊢
    refine br_f (nI_ge (b := 3) hb (by decide)) ?_
    have go : ∀ z : Int64, (∀ i, i < 64 → dt_lb z i = (if dt_lb bits i = true then x else 0).testBit b) → wX_addRule_27 post (wX_addRule_6 post (nI w) bits (nI x) tc kn n) (nI w) bits (nI x) c (nI b) z tc kn cc co po df rc so ro pl fi s2 ke rr tw := by
      intro z hz
      unfold wX_addRule_27
      have hin : vp_in (nI (8 * b + w)) 24 := vp_in_nI (by omega) (by decide)
      rw [dt_8, nI_clamp (by omega)]
      have hre : ∀ i, i < 64 → dt_lb (s2 (8 * b + w)) i = (S (64 * w + i)).testBit b := fun i hi => by
        rw [dt_bb_eq rfl hi, hs.2 b _ hb (by omega), if_neg (fun z => Nat.lt_irrefl b z.2)]
      have hy : ∀ i : Nat, (if dt_lb bits i = true then x else 0) < 8 := fun i => by split <;> omega
      refine ⟨hin, nm_e ⟨hin, nm_e (nm_e (nm_r (nI_1 b) (ih ((s2 (8 * b + w) &&& z) ||| (c &&& (s2 (8 * b + w) ^^^ z)), vp_updL s2 (8 * b + w) ((s2 (8 * b + w) ^^^ z) ^^^ c)) ⟨fun i hi => ?_, fun j q hj hq => ?_⟩)))⟩⟩
      · dsimp only
        rw [dt_lb_or, dt_lb_and, dt_lb_and, dt_lb_xor, hre i hi, hz i hi, hs.1 i hi, (dt_add (hy i) hb).2]
      · dsimp only
        have hm : q % 64 < 64 := Nat.mod_lt _ (by decide)
        rw [dt_bb_upd _ _ _ rfl hw hq]
        by_cases e : j = b ∧ q / 64 = w
        · have eq : 64 * w + q % 64 = q := by omega
          rw [if_pos e, if_pos ⟨e.2, by omega⟩, dt_lb_xor, dt_lb_xor, hre _ hm, hz _ hm, hs.1 _ hm, eq, e.1, (dt_add (hy _) hb).1]
        · rw [if_neg e, hs.2 j q hj hq]
          by_cases f : q / 64 = w
          · have : j ≠ b := fun z => e ⟨z, f⟩
            by_cases g : j < b
            · rw [if_pos (show q / 64 = w ∧ j < b from ⟨f, g⟩), if_pos (show q / 64 = w ∧ j < b + 1 from ⟨f, by omega⟩)]
            · rw [if_neg (fun z => g z.2), if_neg (fun z => absurd z.2 (by omega))]
          · rw [if_neg (fun z => f z.1), if_neg (fun z => f z.1)]
    refine br_c (fun hz => go 0 (fun i hi => ?_)) (fun hz => go bits (fun i hi => ?_))
    · rw [dt_bit (by omega) (by omega)] at hz
      rw [dt_lb_0]
      by_cases f : dt_lb bits i = true
      · rw [if_pos f, hz]
      · rw [if_neg f, Nat.zero_testBit]
    · rw [dt_bit (by omega) (by omega)] at hz
      by_cases f : dt_lb bits i = true
      · rw [if_pos f, f, dt_nf hz]
      · rw [if_neg f, Nat.zero_testBit, dt_nt f]
end
end
section
/-! the component: sums, one rule alone, the whole result -/
theorem dt_or7 (S : Nat) {b : Nat} (hb : b < 3) : (S.testBit b || (Nat.testBit 7 b && decide (8 ≤ S))) = (if 7 < S then 7 else S).testBit b := by
  have h7 : Nat.testBit 7 b = true := (by decide : ∀ b, b < 3 → Nat.testBit 7 b = true) b hb
  by_cases e : 7 < S
  · rw [if_pos e, h7, decide_eq_true (show 8 ≤ S from e)]; simp
  · rw [if_neg e, decide_eq_false (show ¬ 8 ≤ S from e)]; simp
section
variable {tc kn : Int32} {cc co po df rc so ro : Nat → Int32} {pl fi re ke rr tw : Nat → Int64}
theorem dt_addAll {post : SX → Prop} {t n : Nat} {rs : Nat → Nat} {F : Nat → Nat → Bool} (ht : t < 5) (hrc : rc t = nI n) (hn : n ≤ 8) (hro : ∀ r, r < n → ro (8 * t + r) = nI (rs r) ∧ rs r < 8) (hF : ∀ r q, r < n → q < 512 → dt_bb fi r q = F q r) (hre : ∀ b q, b < 3 → q < 512 → dt_bb re b q = false) (hrr : ∀ q, q < 512 → dt_bb rr 0 q = true)
    (h : ∀ re' rr' tw', (∀ b q, b < 3 → q < 512 → dt_bb re' b q = (if 7 < dt_sm rs (F q) n then 7 else dt_sm rs (F q) n).testBit b) → (∀ q, q < 512 → dt_bb rr' 0 q = !(dt_any (F q) n)) → post (tc, kn, cc, co, po, df, rc, so, ro, pl, fi, re', ke, rr', tw')) : wpX_addAll post (tc, kn, cc, co, po, df, rc, so, ro, pl, fi, re, ke, rr, tw) (nI t) := by
  have hit : vp_in (nI t) 5 := vp_in_nI ht (by decide)
  -- the last loop
  have last : ∀ re1 rr1 tw1 : Nat → Int64, dt_PS re1 rr1 tw1 (fun q => dt_sm rs (F q) n) (fun q => dt_any (F q) n) → ∃ n82 : Nat, wX_addAll_82 post n82 0 tc kn cc co po df rc so ro pl fi re1 ke rr1 tw1 := by
    intro re1 rr1 tw1 hp
    refine loop_0 (fun m w s => wX_addAll_82 post m (nI w) tc kn cc co po df rc so ro pl fi s ke rr1 tw1) (fun w s => ∀ b q, b < 3 → q < 512 → dt_bb s b q = if q / 64 < w then (if 7 < dt_sm rs (F q) n then 7 else dt_sm rs (F q) n).testBit b else (dt_sm rs (F q) n).testBit b) 8 re1 (fun b q hb hq => by rw [if_neg (Nat.not_lt_zero _)]; exact hp.1 b q hb hq) ?_ ?_
    · intro m s hs
      exact br_t (nI_le (a := 8) (b := 8) (Nat.le_refl _) (by decide)) (h s rr1 tw1 (fun b q hb hq => by rw [hs b q hb hq, if_pos (show q / 64 < 8 from by omega)]) hp.2.2)
    · intro m w s hw hs ih
      refine br_f (nI_ge (b := 8) hw (by decide)) ⟨vp_in_nI hw (by decide), ?_⟩
      rw [nI_clamp (by omega)]
      refine dt_lay (x := 7) hw (by decide) (fun re2 h2 => nm_r (nI_1 w) (ih re2 (fun b q hb hq => ?_)))
      rw [h2 b q hb hq, hs b q hb hq]
      by_cases c : q / 64 = w
      · have hm : q % 64 < 64 := Nat.mod_lt _ (by decide)
        have eq : 64 * w + q % 64 = q := by omega
        rw [if_neg (show ¬ q / 64 < w from by omega), if_pos (show q / 64 < w + 1 from by omega), decide_eq_true c, Bool.true_and, dt_bb_eq (j := 0) (w := w) (by omega) hm, eq, hp.2.1 q hq, dt_ble]
        exact dt_or7 _ hb
      · rw [decide_eq_false c, Bool.false_and, Bool.or_false]
        by_cases d : q / 64 < w
        · rw [if_pos d, if_pos (show q / 64 < w + 1 from by omega)]
        · rw [if_neg d, if_neg (show ¬ q / 64 < w + 1 from by omega)]
  -- the rules
  have mid : ∀ tw1 : Nat → Int64, (∀ q, q < 512 → dt_bb tw1 0 q = false) → ∃ n23 : Nat, wX_addAll_23 post (nI t) n23 0 tc kn cc co po df rc so ro pl fi re ke rr tw1 := by
    intro tw1 htw
    refine loop_0 (fun m r (s : (Nat → Int64) × (Nat → Int64) × (Nat → Int64)) => wX_addAll_23 post (nI t) m (nI r) tc kn cc co po df rc so ro pl fi s.1 ke s.2.1 s.2.2) (fun r s => dt_PS s.1 s.2.1 s.2.2 (fun q => dt_sm rs (F q) r) (fun q => dt_any (F q) r)) n (re, rr, tw1) ⟨fun b q hb hq => by dsimp only; rw [hre b q hb hq]; exact (Nat.zero_testBit b).symm, fun q hq => htw q hq, fun q hq => hrr q hq⟩ ?_ ?_
    · intro m s hs
      refine ⟨hit, ?_⟩
      rw [nI_clamp (by omega), hrc]
      exact br_t (nI_le (Nat.le_refl _) (by omega)) (last s.1 s.2.1 s.2.2 hs)
    · intro m r s hr hs ih
      obtain ⟨s1, s2, s3⟩ := s
      dsimp only at hs ih ⊢
      refine ⟨hit, ?_⟩
      rw [nI_clamp (by omega), hrc]
      refine br_f (nI_ge hr (by omega)) ?_
      have h8 := (hro r hr).2
      refine loop_0 (fun n35 w (s : (Nat → Int64) × (Nat → Int64) × (Nat → Int64)) => wX_addAll_35 post (wX_addAll_23 post (nI t) m) (nI t) (nI r) n35 (nI w) tc kn cc co po df rc so ro pl fi s.1 ke s.2.1 s.2.2) (fun w s => dt_PS s.1 s.2.1 s.2.2 (fun q => if q / 64 < w then dt_sm rs (F q) (r + 1) else dt_sm rs (F q) r) (fun q => if q / 64 < w then dt_any (F q) (r + 1) else dt_any (F q) r)) 8 (s1, s2, s3) ?_ ?_ ?_
      · refine ⟨fun b q hb hq => ?_, fun q hq => ?_, fun q hq => ?_⟩
        · dsimp only; rw [if_neg (Nat.not_lt_zero _)]; exact hs.1 b q hb hq
        · dsimp only; rw [if_neg (Nat.not_lt_zero _)]; exact hs.2.1 q hq
        · dsimp only; rw [if_neg (Nat.not_lt_zero _)]; exact hs.2.2 q hq
      · intro n35 v hv
        refine br_t (nI_le (a := 8) (b := 8) (Nat.le_refl _) (by decide)) (nm_r (nI_1 r) (ih v ⟨fun b q hb hq => ?_, fun q hq => ?_, fun q hq => ?_⟩))
        · rw [hv.1 b q hb hq]; dsimp only; rw [if_pos (show q / 64 < 8 from by omega)]
        · rw [hv.2.1 q hq]; dsimp only; rw [if_pos (show q / 64 < 8 from by omega)]
        · rw [hv.2.2 q hq]; dsimp only; rw [if_pos (show q / 64 < 8 from by omega)]
      · intro n35 w v hw hv ih2
        obtain ⟨v1, v2, v3⟩ := v
        dsimp only at hv ih2 ⊢
        refine br_f (nI_ge (b := 8) hw (by decide)) ?_
        rw [dt_8, dt_8, nI_clamp (n := 8 * r + w) (by omega), nI_clamp (n := 8 * t + r) (by omega), (hro r hr).1]
        refine ⟨vp_in_nI (by omega) (by decide), vp_in_nI (by omega) (by decide), ?_⟩
        refine dt_addRule hw h8 hv (fun re2 rr2 tw2 h2 => nm_r (nI_1 w) (ih2 (re2, rr2, tw2) ?_))
        have hbit : ∀ q, q < 512 → q / 64 = w → dt_lb (fi (8 * r + w)) (q % 64) = F q r := fun q hq e => by
          have eq : 64 * w + q % 64 = q := by omega
          rw [dt_bb_eq rfl (Nat.mod_lt _ (by decide)), eq, hF r q hr hq]
        have eS : ∀ q, q < 512 → (if q / 64 = w ∧ dt_lb (fi (8 * r + w)) (q % 64) = true then (if q / 64 < w then dt_sm rs (F q) (r + 1) else dt_sm rs (F q) r) + rs r else (if q / 64 < w then dt_sm rs (F q) (r + 1) else dt_sm rs (F q) r)) = if q / 64 < w + 1 then dt_sm rs (F q) (r + 1) else dt_sm rs (F q) r := by
          intro q hq
          by_cases e : q / 64 = w
          · rw [hbit q hq e, if_pos (show q / 64 < w + 1 from by omega), if_neg (show ¬ q / 64 < w from by omega)]
            show _ = if F q r = true then dt_sm rs (F q) r + rs r else dt_sm rs (F q) r
            by_cases f : F q r = true
            · rw [if_pos ⟨e, f⟩, if_pos f]
            · rw [if_neg (fun z => f z.2), if_neg f]
          · rw [if_neg (fun z => e z.1)]
            by_cases d : q / 64 < w
            · rw [if_pos d, if_pos (show q / 64 < w + 1 from by omega)]
            · rw [if_neg d, if_neg (show ¬ q / 64 < w + 1 from by omega)]
        have eA : ∀ q, q < 512 → (if q / 64 = w ∧ dt_lb (fi (8 * r + w)) (q % 64) = true then true else (if q / 64 < w then dt_any (F q) (r + 1) else dt_any (F q) r)) = if q / 64 < w + 1 then dt_any (F q) (r + 1) else dt_any (F q) r := by
          intro q hq
          by_cases e : q / 64 = w
          · rw [hbit q hq e, if_pos (show q / 64 < w + 1 from by omega), if_neg (show ¬ q / 64 < w from by omega), dt_any_s]
            by_cases f : F q r = true
            · rw [if_pos ⟨e, f⟩, f, Bool.or_true]
            · rw [if_neg (fun z => f z.2), dt_nt f, Bool.or_false]
          · rw [if_neg (fun z => e z.1)]
            by_cases d : q / 64 < w
            · rw [if_pos d, if_pos (show q / 64 < w + 1 from by omega)]
            · rw [if_neg d, if_neg (show ¬ q / 64 < w + 1 from by omega)]
        refine ⟨fun b q hb hq => ?_, fun q hq => ?_, fun q hq => ?_⟩
        · dsimp only; rw [h2.1 b q hb hq, ← eS q hq]
        · dsimp only; rw [h2.2.1 q hq, ← eS q hq]
        · dsimp only; rw [h2.2.2 q hq, ← eA q hq]
  refine loop_0 (fun m w s => wX_addAll_2 post (nI t) tc kn m (nI w) cc co po df rc so ro pl fi re ke rr s) (fun w s => ∀ q, q < 512 → q / 64 < w → dt_bb s 0 q = false) 8 tw (fun q _ z => absurd z (Nat.not_lt_zero _)) ?_ ?_
  · intro m s hs
    exact br_t (nI_le (a := 8) (b := 8) (Nat.le_refl _) (by decide)) (mid s (fun q hq => hs q hq (by omega)))
  · intro m w s hw hs ih
    refine br_f (nI_ge (b := 8) hw (by decide)) ⟨vp_in_nI hw (by decide), ?_⟩
    rw [nI_clamp (by omega)]
    refine nm_e (nm_r (nI_1 w) (ih _ (fun q hq hw2 => ?_)))
    rw [dt_bb_upd (j0 := 0) (w := w) _ _ _ (by omega) hw hq]
    by_cases e : q / 64 = w
    · rw [if_pos ⟨rfl, e⟩, dt_lb_0]
    · rw [if_neg (fun z => e z.2)]
      exact hs q hq (by omega)
theorem dt_takeOnly {post : SX → Prop} {t n : Nat} {rs : Nat → Nat} {F : Nat → Nat → Bool} (ht : t < 5) (hrc : rc t = nI n) (hn : n ≤ 8) (hro : ∀ r, r < n → ro (8 * t + r) = nI (rs r) ∧ rs r < 8) (hF : ∀ r q, r < n → q < 512 → dt_bb fi r q = F q r) (hre : ∀ b q, b < 3 → q < 512 → dt_bb re b q = false)
    (h : ∀ re' rr' tw', (∀ b q, b < 3 → q < 512 → dt_bb re' b q = (decide (dt_cn (F q) n < 2) && dt_ob rs (F q) b n)) → (∀ q, q < 512 → dt_bb rr' 0 q = decide (dt_cn (F q) n ≠ 1)) → post (tc, kn, cc, co, po, df, rc, so, ro, pl, fi, re', ke, rr', tw')) : wpX_takeOnly post (tc, kn, cc, co, po, df, rc, so, ro, pl, fi, re, ke, rr, tw) (nI t) := by
  have hit : vp_in (nI t) 5 := vp_in_nI ht (by decide)
  refine loop_0 (fun m w (s : (Nat → Int64) × (Nat → Int64) × (Nat → Int64)) => wX_takeOnly_2 post (nI t) m (nI w) tc kn cc co po df rc so ro pl fi s.1 ke s.2.1 s.2.2) (fun w s => (∀ b q, b < 3 → q < 512 → dt_bb s.1 b q = (decide (q / 64 < w) && (decide (dt_cn (F q) n < 2) && dt_ob rs (F q) b n))) ∧ (∀ q, q < 512 → q / 64 < w → dt_bb s.2.1 0 q = decide (dt_cn (F q) n ≠ 1))) 8 (re, rr, tw) ⟨fun b q hb hq => by dsimp only; rw [hre b q hb hq, decide_eq_false (Nat.not_lt_zero _)]; rfl, fun q _ z => absurd z (Nat.not_lt_zero _)⟩ ?_ ?_
  · intro m s hs
    refine br_t (nI_le (a := 8) (b := 8) (Nat.le_refl _) (by decide)) (h s.1 s.2.1 s.2.2 (fun b q hb hq => ?_) (fun q hq => hs.2 q hq (by omega)))
    rw [hs.1 b q hb hq, decide_eq_true (show q / 64 < 8 from by omega), Bool.true_and]
  · intro m w s hw hs ih
    obtain ⟨s1, s2, s3⟩ := s
    dsimp only at hs ih ⊢
    refine br_f (nI_ge (b := 8) hw (by decide)) ⟨vp_in_nI hw (by decide), ?_⟩
    rw [nI_clamp (by omega)]
    refine nm_e ?_
    have hw8 : vp_in (nI w) 8 := vp_in_nI hw (by decide)
    have hbit : ∀ r i, r < n → i < 64 → dt_lb (fi (8 * r + w)) i = F (64 * w + i) r := fun r i hr hi => by rw [dt_bb_eq rfl hi, hF r _ hr (by omega)]
    -- laying the rules
    have lays : ∀ rr1 tw1 : Nat → Int64, (∀ i, i < 64 → dt_lb (tw1 w) i = decide (2 ≤ dt_cn (F (64 * w + i)) n)) → (∀ q, q < 512 → q / 64 < w + 1 → dt_bb rr1 0 q = decide (dt_cn (F q) n ≠ 1)) → ∃ n96 : Nat, wX_takeOnly_96 post (wX_takeOnly_2 post (nI t) m) (nI t) (nI w) n96 0 tc kn cc co po df rc so ro pl fi s1 ke rr1 tw1 := by
      intro rr1 tw1 h1 h2
      refine loop_0 (fun n96 r s => wX_takeOnly_96 post (wX_takeOnly_2 post (nI t) m) (nI t) (nI w) n96 (nI r) tc kn cc co po df rc so ro pl fi s ke rr1 tw1) (fun r s => ∀ b q, b < 3 → q < 512 → dt_bb s b q = if q / 64 = w then (decide (dt_cn (F q) n < 2) && dt_ob rs (F q) b r) else dt_bb s1 b q) n s1 (fun b q hb hq => ?_) ?_ ?_
      · by_cases e : q / 64 = w
        · rw [if_pos e, hs.1 b q hb hq, decide_eq_false (by omega)]
          show false = (_ && false)
          rw [Bool.and_false]
        · rw [if_neg e]
      · intro n96 s hs2
        refine ⟨hit, ?_⟩
        rw [nI_clamp (by omega), hrc]
        refine br_t (nI_le (Nat.le_refl _) (by omega)) (nm_r (nI_1 w) (ih (s, rr1, tw1) ⟨fun b q hb hq => ?_, h2⟩))
        dsimp only
        rw [hs2 b q hb hq]
        by_cases e : q / 64 = w
        · rw [if_pos e, decide_eq_true (show q / 64 < w + 1 from by omega), Bool.true_and]
        · rw [if_neg e, hs.1 b q hb hq, show decide (q / 64 < w + 1) = decide (q / 64 < w) from decide_eq_decide.mpr (by omega)]
      · intro n96 r s hr hs2 ih2
        refine ⟨hit, ?_⟩
        rw [nI_clamp (by omega), hrc]
        refine br_f (nI_ge hr (by omega)) ?_
        have h8 := (hro r hr).2
        rw [dt_8, dt_8, nI_clamp (n := 8 * r + w) (by omega), nI_clamp (n := 8 * t + r) (by omega), nI_clamp (n := w) (by omega), (hro r hr).1]
        refine ⟨vp_in_nI (by omega) (by decide), vp_in_nI (by omega) (by decide), hw8, ?_⟩
        refine dt_lay hw h8 (fun re2 h3 => nm_r (nI_1 r) (ih2 re2 (fun b q hb hq => ?_)))
        rw [h3 b q hb hq, hs2 b q hb hq]
        by_cases e : q / 64 = w
        · have hm : q % 64 < 64 := Nat.mod_lt _ (by decide)
          have eq : 64 * w + q % 64 = q := by omega
          have eo : dt_ob rs (F q) b (r + 1) = (dt_ob rs (F q) b r || (F q r && (rs r).testBit b)) := rfl
          rw [if_pos e, if_pos e, decide_eq_true e, Bool.true_and, dt_lb_and, dt_lb_not _ hm, h1 _ hm, hbit r _ hr hm, eq, eo]
          have e2 : decide (2 ≤ dt_cn (F q) n) = !(decide (dt_cn (F q) n < 2)) := by
            by_cases f : dt_cn (F q) n < 2
            · rw [decide_eq_true f, decide_eq_false (by omega)]; rfl
            · rw [decide_eq_false f, decide_eq_true (by omega)]; rfl
          rw [e2]
          cases decide (dt_cn (F q) n < 2) <;> cases F q r <;> cases (rs r).testBit b <;> simp
        · rw [if_neg e, if_neg e, decide_eq_false e, Bool.false_and, Bool.or_false]
    -- once and twice
    refine loop_0 (fun n20 r (v : Int64 × (Nat → Int64)) => wX_takeOnly_20 post (wX_takeOnly_2 post (nI t) m) (nI t) (nI w) tc kn n20 v.1 (nI r) cc co po df rc so ro pl fi s1 ke s2 v.2) (fun r v => (∀ i, i < 64 → dt_lb v.1 i = decide (1 ≤ dt_cn (F (64 * w + i)) r)) ∧ (∀ i, i < 64 → dt_lb (v.2 w) i = decide (2 ≤ dt_cn (F (64 * w + i)) r))) n (0, vp_updL s3 w 0) ⟨fun i hi => ?_, fun i hi => ?_⟩ ?_ ?_
    · dsimp only
      rw [dt_lb_0]
      exact (decide_eq_false (by show ¬ 1 ≤ 0; omega)).symm
    · dsimp only
      rw [pk_uLs, dt_lb_0]
      exact (decide_eq_false (by show ¬ 2 ≤ 0; omega)).symm
    · intro n20 v hv
      refine ⟨hit, ?_⟩
      rw [nI_clamp (by omega), hrc]
      refine br_t (nI_le (Nat.le_refl _) (by omega)) ?_
      rw [nI_clamp (by omega)]
      refine ⟨hw8, hw8, nm_e (lays _ v.2 hv.2 (fun q hq hw2 => ?_))⟩
      rw [dt_bb_upd (j0 := 0) (w := w) _ _ _ (by omega) hw hq]
      by_cases e : q / 64 = w
      · have hm : q % 64 < 64 := Nat.mod_lt _ (by decide)
        have eq : 64 * w + q % 64 = q := by omega
        rw [if_pos ⟨rfl, e⟩, dt_lb_or, dt_lb_not _ hm, hv.1 _ hm, hv.2 _ hm, eq, ← decide_not, ← Bool.decide_or]
        exact decide_eq_decide.mpr (by omega)
      · rw [if_neg (fun z => e z.2)]
        exact hs.2 q hq (by omega)
    · intro n20 r v hr hv ih2
      obtain ⟨v1, v2⟩ := v
      dsimp only at hv ih2 ⊢
      refine ⟨hit, ?_⟩
      rw [nI_clamp (by omega), hrc]
      refine br_f (nI_ge hr (by omega)) ?_
      rw [dt_8, nI_clamp (n := 8 * r + w) (by omega), nI_clamp (n := w) (by omega)]
      have hin : vp_in (nI (8 * r + w)) 64 := vp_in_nI (by omega) (by decide)
      have ec : ∀ q, dt_cn (F q) (r + 1) = if F q r = true then dt_cn (F q) r + 1 else dt_cn (F q) r := fun q => rfl
      refine ⟨hw8, hin, hw8, nm_e ⟨hin, nm_e (nm_r (nI_1 r) (ih2 (v1 ||| fi (8 * r + w), vp_updL v2 w (v2 w ||| (v1 &&& fi (8 * r + w)))) ⟨fun i hi => ?_, fun i hi => ?_⟩))⟩⟩
      · dsimp only
        rw [dt_lb_or, hv.1 i hi, hbit r i hr hi, ec]
        by_cases f : F (64 * w + i) r = true
        · rw [if_pos f, f, Bool.or_true, decide_eq_true (by omega)]
        · rw [if_neg f, dt_nt f, Bool.or_false]
      · dsimp only
        rw [pk_uLs, dt_lb_or, dt_lb_and, hv.1 i hi, hv.2 i hi, hbit r i hr hi, ec]
        by_cases f : F (64 * w + i) r = true
        · rw [if_pos f, f, Bool.and_true, ← Bool.decide_or]
          exact decide_eq_decide.mpr (by omega)
        · rw [if_neg f, dt_nt f, Bool.and_false, Bool.or_false]
/-- the default is laid where nothing was -/
theorem dt_fin {post : SX → Prop} {t d : Nat} (ht : t < 5) (hdf : df t = nI d) (hd : d < 8) (h : ∀ re', (∀ b q, b < 3 → q < 512 → dt_bb re' b q = (dt_bb re b q || (d.testBit b && dt_bb rr 0 q))) → post (tc, kn, cc, co, po, df, rc, so, ro, pl, fi, re', ke, rr, tw)) : ∃ n205 : Nat, wX_findResult_205 post (nI t) n205 0 tc kn cc co po df rc so ro pl fi re ke rr tw := by
  refine loop_0 (fun m w s => wX_findResult_205 post (nI t) m (nI w) tc kn cc co po df rc so ro pl fi s ke rr tw) (fun w s => ∀ b q, b < 3 → q < 512 → dt_bb s b q = (dt_bb re b q || (decide (q / 64 < w) && (d.testBit b && dt_bb rr 0 q)))) 8 re (fun b q hb hq => by rw [decide_eq_false (Nat.not_lt_zero _)]; simp) ?_ ?_
  · intro m s hs
    refine br_t (nI_le (a := 8) (b := 8) (Nat.le_refl _) (by decide)) (h s (fun b q hb hq => ?_))
    rw [hs b q hb hq, decide_eq_true (show q / 64 < 8 from by omega), Bool.true_and]
  · intro m w s hw hs ih
    refine br_f (nI_ge (b := 8) hw (by decide)) ⟨vp_in_nI ht (by decide), vp_in_nI hw (by decide), ?_⟩
    rw [nI_clamp (n := t) (by omega), nI_clamp (n := w) (by omega), hdf]
    refine dt_lay hw hd (fun re2 h2 => nm_r (nI_1 w) (ih re2 (fun b q hb hq => ?_)))
    rw [h2 b q hb hq, hs b q hb hq]
    by_cases e : q / 64 = w
    · have hm : q % 64 < 64 := Nat.mod_lt _ (by decide)
      have eq : 64 * w + q % 64 = q := by omega
      rw [decide_eq_true e, Bool.true_and, decide_eq_false (show ¬ q / 64 < w from by omega), decide_eq_true (show q / 64 < w + 1 from by omega), dt_bb_eq (j := 0) (w := w) (by omega) hm, eq]
      simp
    · rw [decide_eq_false e, show decide (q / 64 < w + 1) = decide (q / 64 < w) from decide_eq_decide.mpr (by omega)]
      simp
/-- picked values and the default -/
theorem dt_finV {post : SX → Prop} {t d : Nat} {V : Nat → Nat} (ht : t < 5) (hdf : df t = nI d) (hd : d < 8) (hp : dt_PV re rr V) (h : ∀ re', (∀ b q, b < 3 → q < 512 → dt_bb re' b q = (dt_pk (V q) d).testBit b) → post (tc, kn, cc, co, po, df, rc, so, ro, pl, fi, re', ke, rr, tw)) : ∃ n205 : Nat, wX_findResult_205 post (nI t) n205 0 tc kn cc co po df rc so ro pl fi re ke rr tw := by
  refine dt_fin ht hdf hd (fun re2 h2 => h re2 (fun b q hb hq => ?_))
  rw [h2 b q hb hq, hp.1 q hq, hp.2 b q hb hq]
  unfold dt_pk
  by_cases e : V q = 0
  · rw [if_pos e, e]; simp
  · rw [if_neg e, beq_false_of_ne e]; simp
end
end
section
/-! the component: a table's result by its policy; all planes -/
def dt_G (n w : Nat) (st : Nat → Nat) (x : Nat → Nat) (r : Nat) : Bool := decide (r < n) && dt_all (fun c => (st r).testBit (8 * c + x c)) w
theorem dt_G_ext {n w : Nat} {st x y : Nat → Nat} (h : ∀ c, c < w → x c = y c) : dt_G n w st x = dt_G n w st y := by
  funext r
  unfold dt_G
  congr 1
  apply Bool.eq_iff_iff.mpr
  rw [dt_all_iff, dt_all_iff]
  exact ⟨fun g c hc => by rw [← h c hc]; exact g c hc, fun g c hc => by rw [h c hc]; exact g c hc⟩
theorem dt_cn_any {F : Nat → Bool} {n : Nat} : dt_any F n = decide (dt_cn F n ≠ 0) := by
  by_cases h : dt_cn F n = 0
  · rw [decide_eq_false (fun z => z h)]
    exact dt_any_false.mpr (dt_cn0.mp h)
  · rw [decide_eq_true h]
    apply dt_nf
    intro z
    exact h (dt_cn0.mpr (dt_any_false.mp z))
theorem dt_sub1 (x : Int32) : x + (-1) = x - 1 := (Int32.sub_eq_add_neg x 1).symm
section
variable {tc kn : Int32} {cc co po df rc so ro : Nat → Int32} {pl fi re ke rr tw : Nat → Int64}
/-- behind the firing: the policies -/
theorem dt_policy {post : SX → Prop} {t n p d : Nat} {rs : Nat → Nat} {F : Nat → Nat → Bool} (ht : t < 5) (hrc : rc t = nI n) (hn : n ≤ 8) (hpo : po t = nI p) (hp5 : p ≤ 5) (hdf : df t = nI d) (hd : d < 8) (hro : ∀ r, r < n → ro (8 * t + r) = nI (rs r)) (hrs : ∀ r, rs r < 8) (hF : ∀ r q, r < n → q < 512 → dt_bb fi r q = F q r) (hG : ∀ q r, n ≤ r → F q r = false)
    (hre : ∀ b q, b < 3 → q < 512 → dt_bb re b q = false) (hrr : ∀ q, q < 512 → dt_bb rr 0 q = true)
    (h : ∀ re' rr' tw', (∀ b q, b < 3 → q < 512 → dt_bb re' b q = (dt_res p d rs (F q)).testBit b) → post (tc, kn, cc, co, po, df, rc, so, ro, pl, fi, re', ke, rr', tw')) :
    ((po t = 0 → (∃ n81 : Nat, wX_findResult_81 post (nI t) (rc t) n81 0 tc kn cc co po df rc so ro pl fi re ke rr tw)) ∧ (¬ po t = 0 → ((po t = 1 → (∀ x6 : Int32, x6 = rc t - 1 → (∃ n116 : Nat, wX_findResult_116 post (nI t) n116 x6 tc kn cc co po df rc so ro pl fi re ke rr tw))) ∧ (¬ po t = 1 → ((4 ≤ po t → ((po t = 4 → wpX_addAll (fun u => match u with | (tc, kn, cc, co, po, df, rc, so, ro, pl, fi, re, ke, rr, tw) => ∃ n205 : Nat, wX_findResult_205 post (nI t) n205 0 tc kn cc co po df rc so ro pl fi re ke rr tw) (tc, kn, cc, co, po, df, rc, so, ro, pl, fi, re, ke, rr, tw) (nI t)) ∧ (¬ po t = 4 → wpX_takeOnly (fun u => match u with | (tc, kn, cc, co, po, df, rc, so, ro, pl, fi, re, ke, rr, tw) => ∃ n205 : Nat, wX_findResult_205 post (nI t) n205 0 tc kn cc co po df rc so ro pl fi re ke rr tw) (tc, kn, cc, co, po, df, rc, so, ro, pl, fi, re, ke, rr, tw) (nI t)))) ∧ (¬ 4 ≤ po t → (∃ n146 : Nat, wX_findResult_146 post (nI t) (po t) n146 0 tc kn cc co po df rc so ro pl fi re ke rr tw))))))) := by
  have hro8 : ∀ r, r < n → ro (8 * t + r) = nI (rs r) ∧ rs r < 8 := fun r hr => ⟨hro r hr, hrs r⟩
  have h0 : dt_PV re rr (fun _ => 0) := ⟨fun q hq => by rw [hrr q hq]; rfl, fun b q hb hq => by rw [hre b q hb hq]; exact (Nat.zero_testBit b).symm⟩
  rw [hpo, hrc]
  refine pk_eq p 0 (fun e => ?_) (fun e0 => pk_eq p 1 (fun e => ?_) (fun e1 => pk_le 4 p (fun e4 => pk_eq p 4 (fun e => ?_) (fun e5 => ?_)) (fun e4 => ?_)))
  · subst e
    refine loop_0 (fun m r (s : (Nat → Int64) × (Nat → Int64)) => wX_findResult_81 post (nI t) (nI n) m (nI r) tc kn cc co po df rc so ro pl fi s.1 ke s.2 tw) (fun r s => dt_PV s.1 s.2 (fun q => dt_fs rs (F q) r)) n (re, rr) h0 ?_ ?_
    · intro m s hs
      refine br_t (nI_le (Nat.le_refl _) (by omega)) (dt_finV ht hdf hd hs (fun re2 h2 => h re2 s.2 tw (fun b q hb hq => ?_)))
      rw [h2 b q hb hq, dt_p0 hn (hG q)]
    · intro m r s hr hs ih
      refine br_f (nI_ge hr (by omega)) ?_
      exact dt_takeRest ht (by omega) (hro r hr) (hrs r) (fun q hq => hF r q hr hq) hs (fun re2 rr2 h2 => nm_r (nI_1 r) (ih (re2, rr2) h2))
  · subst e
    refine nm_e ⟨n + 1, pk_loopD (fun m i (s : (Nat → Int64) × (Nat → Int64)) => wX_findResult_116 post (nI t) m (nI i - 1) tc kn cc co po df rc so ro pl fi s.1 ke s.2 tw) (fun i s => i ≤ n ∧ dt_PV s.1 s.2 (fun q => dt_fd rs (F q) n (n - i))) ?_ ?_ n (re, rr) ⟨Nat.le_refl _, dt_PV_c (fun q hq => by rw [Nat.sub_self]; rfl) h0⟩⟩
    · intro m s hs
      refine br_t (by decide) (dt_finV ht hdf hd hs.2 (fun re2 h2 => h re2 s.2 tw (fun b q hb hq => ?_)))
      rw [h2 b q hb hq, Nat.sub_zero, dt_p1 hn (hG q)]
    · intro m i s hs ih
      have hi : i < n := by have := hs.1; omega
      rw [nI_pred]
      refine br_f (nI_pos (by omega)) ?_
      refine dt_takeRest ht (by omega) (hro i hi) (hrs i) (fun q hq => hF i q hi hq) hs.2 (fun re2 rr2 h2 => nm_r (dt_sub1 (nI i)) (ih (re2, rr2) ⟨by omega, dt_PV_c (fun q hq => ?_) h2⟩))
      rw [show n - i = (n - (i + 1)) + 1 from by omega]
      show _ = if dt_fd rs (F q) n (n - (i + 1)) = 0 ∧ F q (n - 1 - (n - (i + 1))) = true then rs (n - 1 - (n - (i + 1))) + 1 else dt_fd rs (F q) n (n - (i + 1))
      rw [show n - 1 - (n - (i + 1)) = i from by omega]
  · subst e
    refine dt_addAll ht hrc hn hro8 hF hre hrr (fun re2 rr2 tw2 h2 h3 => ?_)
    refine dt_fin ht hdf hd (fun re3 h4 => h re3 rr2 tw2 (fun b q hb hq => ?_))
    rw [h4 b q hb hq, h2 b q hb hq, h3 q hq, ← dt_p4 hn (hG q), dt_cn_any]
    by_cases e : dt_cn (F q) n = 0
    · rw [if_pos e, dt_sm_0 e, decide_eq_false (fun z => z e)]; simp
    · rw [if_neg e, decide_eq_true e]; simp
  · have e6 : p = 5 := by omega
    subst e6
    refine dt_takeOnly ht hrc hn hro8 hF hre (fun re2 rr2 tw2 h2 h3 => ?_)
    refine dt_fin ht hdf hd (fun re3 h4 => h re3 rr2 tw2 (fun b q hb hq => ?_))
    rw [h4 b q hb hq, h2 b q hb hq, h3 q hq, ← dt_p5 hn (hG q)]
    by_cases e : dt_cn (F q) n = 1
    · rw [if_pos e, e]; simp
    · rw [if_neg e, decide_eq_true (show dt_cn (F q) n ≠ 1 from e)]
      by_cases z : dt_cn (F q) n = 0
      · rw [dt_ob_c.1 z]; simp
      · rw [decide_eq_false (show ¬ dt_cn (F q) n < 2 from by omega)]; simp
  · have e6 : p = 2 ∨ p = 3 := by omega
    rcases e6 with e | e
    · subst e
      refine loop_0 (fun m k (s : (Nat → Int64) × (Nat → Int64)) => wX_findResult_146 post (nI t) (nI 2) m (nI k) tc kn cc co po df rc so ro pl fi s.1 ke s.2 tw) (fun k s => dt_PV s.1 s.2 (fun q => dt_tt rs (F q) n (fun k => k) k)) 8 (re, rr) h0 ?_ ?_
      · intro m s hs
        refine br_t (nI_le (a := 8) (b := 8) (Nat.le_refl _) (by decide)) (dt_finV ht hdf hd hs (fun re2 h2 => h re2 s.2 tw (fun b q hb hq => ?_)))
        rw [h2 b q hb hq, dt_p2 hrs hn (hG q)]
      · intro m k s hk hs ih
        refine br_f (nI_ge (b := 8) hk (by decide)) (br_t rfl ?_)
        unfold wX_findResult_171
        exact dt_takeWith ht hrc hn hk hro8 hF hs (fun re2 rr2 h2 => nm_r (nI_1 k) (ih (re2, rr2) h2))
    · subst e
      refine loop_0 (fun m k (s : (Nat → Int64) × (Nat → Int64)) => wX_findResult_146 post (nI t) (nI 3) m (nI k) tc kn cc co po df rc so ro pl fi s.1 ke s.2 tw) (fun k s => dt_PV s.1 s.2 (fun q => dt_tt rs (F q) n (fun k => 7 - k) k)) 8 (re, rr) h0 ?_ ?_
      · intro m s hs
        refine br_t (nI_le (a := 8) (b := 8) (Nat.le_refl _) (by decide)) (dt_finV ht hdf hd hs (fun re2 h2 => h re2 s.2 tw (fun b q hb hq => ?_)))
        rw [h2 b q hb hq, dt_p3 hrs hn (hG q)]
      · intro m k s hk hs ih
        refine br_f (nI_ge (b := 8) hk (by decide)) (br_f (by decide) ?_)
        unfold wX_findResult_171
        have e7 : (7 : Int32) - nI k = nI (7 - k) := pk_sub (a := 7) (by omega)
        rw [e7]
        exact dt_takeWith ht hrc hn (by omega) hro8 hF hs (fun re2 rr2 h2 => nm_r (nI_1 k) (ih (re2, rr2) h2))
theorem dt_findResult {post : SX → Prop} {t n w p d : Nat} {bi lf : Int32} {st cl rs : Nat → Nat} {VV : Nat → Nat → Nat} {L : Nat → Bool} (ht : t < 5) (hrc : rc t = nI n) (hn : n ≤ 8) (hcc : cc t = nI w) (hw : w ≤ 3) (hso : ∀ r, r < n → so (8 * t + r) = nI (st r) ∧ st r < 2 ^ 24)
    (hcl : ∀ c, c < w → cl c < 8 ∧ ((bi = 0 ∧ co (3 * t + c) = nI (cl c)) ∨ (bi ≠ 0 ∧ cl c = c))) (hL : ∀ r, r < 8 → (nI r = lf ↔ L r = true)) (hV : ∀ c q, c < w → q < 512 → VV c q < 8) (hp : ∀ c, c < w → ∀ b q, b < 3 → q < 512 → dt_bb pl (3 * cl c + b) q = (VV c q).testBit b)
    (hpo : po t = nI p) (hp5 : p ≤ 5) (hdf : df t = nI d) (hd : d < 8) (hro : ∀ r, r < n → ro (8 * t + r) = nI (rs r)) (hrs : ∀ r, rs r < 8)
    (h : ∀ fi' re' rr' tw', (∀ b q, b < 3 → q < 512 → dt_bb re' b q = (dt_res p d rs (fun r => !(L r) && dt_G n w st (fun c => VV c q) r)).testBit b) → post (tc, kn, cc, co, po, df, rc, so, ro, pl, fi', re', ke, rr', tw')) : wpX_findResult post (tc, kn, cc, co, po, df, rc, so, ro, pl, fi, re, ke, rr, tw) (nI t) bi lf := by
  unfold wpX_findResult
  dsimp only
  refine dt_findFiring ht hrc hn hcc hw hso hcl hL hV hp (fun f1 h1 => ?_)
  dsimp only
  have hit : vp_in (nI t) 5 := vp_in_nI ht (by decide)
  have hF : ∀ r q, r < n → q < 512 → dt_bb f1 r q = (!(L r) && dt_G n w st (fun c => VV c q) r) := fun r q hr hq => by
    rw [h1 r q hr hq]
    unfold dt_G
    rw [decide_eq_true hr, Bool.true_and]
  have hG : ∀ q r, n ≤ r → (!(L r) && dt_G n w st (fun c => VV c q) r) = false := fun q r hr => by
    unfold dt_G
    rw [decide_eq_false (by omega), Bool.false_and, Bool.and_false]
  refine loop_0 (fun m k s => wX_findResult_10 post (nI t) tc kn m (nI k) cc co po df rc so ro pl f1 s ke rr tw) (fun k s => ∀ b q, b < 3 → q < 512 → 8 * b + q / 64 < k → dt_bb s b q = false) 24 re (fun b q _ _ z => absurd z (Nat.not_lt_zero _)) ?_ ?_
  · intro m re1 hre
    refine br_t (nI_le (a := 24) (b := 24) (Nat.le_refl _) (by decide)) ?_
    refine loop_0 (fun m w s => wX_findResult_34 post (nI t) tc kn m (nI w) cc co po df rc so ro pl f1 re1 ke s tw) (fun w s => ∀ q, q < 512 → q / 64 < w → dt_bb s 0 q = true) 8 rr (fun q _ z => absurd z (Nat.not_lt_zero _)) ?_ ?_
    · intro m2 rr1 hrr
      refine br_t (nI_le (a := 8) (b := 8) (Nat.le_refl _) (by decide)) ?_
      rw [nI_clamp (by omega)]
      refine ⟨hit, nm_e ⟨hit, nm_e ?_⟩⟩
      exact dt_policy ht hrc hn hpo hp5 hdf hd hro hrs hF hG (fun b q hb hq => hre b q hb hq (by omega)) (fun q hq => hrr q hq (by omega)) (fun re2 rr2 tw2 h2 => h f1 re2 rr2 tw2 h2)
    · intro m2 w2 s hw2 hs ih
      refine br_f (nI_ge (b := 8) hw2 (by decide)) ⟨vp_in_nI hw2 (by decide), ?_⟩
      rw [nI_clamp (by omega)]
      refine nm_e (nm_r (nI_1 w2) (ih _ (fun q hq hw3 => ?_)))
      rw [dt_bb_upd (j0 := 0) (w := w2) _ _ _ (by omega) hw2 hq]
      by_cases e : q / 64 = w2
      · rw [if_pos ⟨rfl, e⟩, dt_lb_m1 _ (Nat.mod_lt _ (by decide))]
      · rw [if_neg (fun z => e z.2)]
        exact hs q hq (by omega)
  · intro m k s hk hs ih
    refine br_f (nI_ge (b := 24) hk (by decide)) ⟨vp_in_nI hk (by decide), ?_⟩
    rw [nI_clamp (by omega)]
    refine nm_e (nm_r (nI_1 k) (ih _ (fun b q hb hq hw3 => ?_)))
    rw [dt_bb_upd (j0 := k / 8) (w := k % 8) _ _ _ (by omega) (by omega) hq]
    by_cases e : b = k / 8 ∧ q / 64 = k % 8
    · rw [if_pos e, dt_lb_0]
    · rw [if_neg e]
      exact hs b q hb hq (by omega)
end
/-! ===== the values of all variables ===== -/
def dt_wd (c : Nat) : Nat := if c / 100 ≠ 9 then 3 else if c / 10 % 10 ≠ 9 then 2 else 1
theorem dt_wd3 (c : Nat) : 1 ≤ dt_wd c ∧ dt_wd c ≤ 3 := by unfold dt_wd; split <;> (try split) <;> omega
def dt_A (f : Nat → Nat) : Nat → Int32 := fun j => nI (f j)
def dt_T (cd po df nr st rs : Nat → Nat) (t : Nat) (x : Nat → Nat) : Nat := dt_res (po t) (df t) (fun r => rs (8 * t + r)) (dt_G (nr t) (dt_wd (cd t)) (fun r => st (8 * t + r)) x)
def dt_V (cd po df nr st rs : Nat → Nat) : Nat → Nat → Nat → Nat
  | 0 => fun v q => if v < 3 then q / 8 ^ v % 8 else 0
  | t + 1 => fun v q => if v = 3 + t then dt_T cd po df nr st rs t (fun c => dt_V cd po df nr st rs t (cd t / 10 ^ c % 10) q) else dt_V cd po df nr st rs t v q
def dt_BD (po df nr st rs : Nat → Nat) : Prop := (∀ j, po j ≤ 5) ∧ (∀ j, df j < 8) ∧ (∀ j, nr j ≤ 8) ∧ (∀ j, st j < 2 ^ 24) ∧ (∀ j, rs j < 8)
def dt_TF (T : Nat) (cc co : Nat → Int32) (cd : Nat → Nat) : Prop := ∀ t, t < T → cd t < 1000 ∧ cc t = nI (dt_wd (cd t)) ∧ (∀ c, c < 3 → co (3 * t + c) = nI (cd t / 10 ^ c % 10)) ∧ (∀ c, c < dt_wd (cd t) → cd t / 10 ^ c % 10 < 3 + t)
def dt_PL (pl : Nat → Int64) (V : Nat → Nat → Nat) (m : Nat) : Prop := ∀ v b q, v < m → b < 3 → q < 512 → dt_bb pl (3 * v + b) q = (V v q).testBit b
section
variable {cd po df nr st rs : Nat → Nat}
theorem dt_V_lt (B : dt_BD po df nr st rs) : ∀ t v q, dt_V cd po df nr st rs t v q < 8 := by
  intro t
  induction t with
  | zero =>
    intro v q
    show (if v < 3 then q / 8 ^ v % 8 else 0) < 8
    split <;> omega
  | succ t ih =>
    intro v q
    show (if v = 3 + t then dt_T cd po df nr st rs t (fun c => dt_V cd po df nr st rs t (cd t / 10 ^ c % 10) q) else dt_V cd po df nr st rs t v q) < 8
    split
    · exact dt_res_lt (fun r => B.2.2.2.2 _) (B.2.1 t)
    · exact ih v q
theorem dt_V_keep {t v : Nat} (hv : v < 3 + t) (q : Nat) : ∀ k, dt_V cd po df nr st rs (t + k) v q = dt_V cd po df nr st rs t v q := by
  intro k
  induction k with
  | zero => rfl
  | succ k ih =>
    show (if v = 3 + (t + k) then dt_T cd po df nr st rs (t + k) (fun c => dt_V cd po df nr st rs (t + k) (cd (t + k) / 10 ^ c % 10) q) else dt_V cd po df nr st rs (t + k) v q) = _
    rw [if_neg (by omega), ih]
theorem dt_V_keep' {t T v : Nat} (hv : v < 3 + t) (hT : t ≤ T) (q : Nat) : dt_V cd po df nr st rs T v q = dt_V cd po df nr st rs t v q := by
  have := dt_V_keep (cd := cd) (po := po) (df := df) (nr := nr) (st := st) (rs := rs) hv q (T - t)
  rw [show t + (T - t) = T from by omega] at this
  exact this
theorem dt_V_in {T v : Nat} (hv : v < 3) (q : Nat) : dt_V cd po df nr st rs T v q = q / 8 ^ v % 8 := by
  rw [dt_V_keep' (t := 0) (by omega) (by omega)]
  exact if_pos hv
theorem dt_V_hi : ∀ {t v : Nat} (q : Nat), 3 + t ≤ v → dt_V cd po df nr st rs t v q = 0 := by
  intro t
  induction t with
  | zero => intro v q h; exact if_neg (by omega)
  | succ t ih =>
    intro v q h
    show (if v = 3 + t then dt_T cd po df nr st rs t (fun c => dt_V cd po df nr st rs t (cd t / 10 ^ c % 10) q) else dt_V cd po df nr st rs t v q) = _
    rw [if_neg (by omega)]
    exact ih q (by omega)
theorem dt_V_at {t T : Nat} (hT : t < T) (q : Nat) : dt_V cd po df nr st rs T (3 + t) q = dt_T cd po df nr st rs t (fun c => dt_V cd po df nr st rs t (cd t / 10 ^ c % 10) q) := by
  rw [dt_V_keep' (t := t + 1) (by omega) (by omega)]
  exact if_pos rfl
/-- a table's columns are variables before it: the values may be taken from the end -/
theorem dt_V_at' {t T : Nat} (hT : t < T) (hc : ∀ c, c < dt_wd (cd t) → cd t / 10 ^ c % 10 < 3 + t) (q : Nat) : dt_V cd po df nr st rs T (3 + t) q = dt_T cd po df nr st rs t (fun c => dt_V cd po df nr st rs T (cd t / 10 ^ c % 10) q) := by
  rw [dt_V_at hT]
  unfold dt_T
  rw [dt_G_ext (fun c hc' => (dt_V_keep' (T := T) (hc c hc') (by omega) q).symm)]
end
theorem dt_Lm1 : ∀ r, r < 8 → (nI r = -1 ↔ (fun _ : Nat => false) r = true) := by decide +kernel
section
variable {tc kn : Int32} {cc co : Nat → Int32} {pl fi re ke rr tw : Nat → Int64} {cd po df nr st rs : Nat → Nat}
theorem dt_findAll {post : SX → Prop} {T : Nat} (hT : T ≤ 5) (B : dt_BD po df nr st rs) (TF : dt_TF T cc co cd) (hin : dt_PL pl (dt_V cd po df nr st rs T) 3) (hkn : kn ≠ 0 → dt_PL pl (dt_V cd po df nr st rs T) 8)
    (h : ∀ kn' pl' fi' re' rr' tw', kn' ≠ 0 → dt_PL pl' (dt_V cd po df nr st rs T) 8 → post (nI T, kn', cc, co, dt_A po, dt_A df, dt_A nr, dt_A st, dt_A rs, pl', fi', re', ke, rr', tw')) : wpX_findAll post (nI T, kn, cc, co, dt_A po, dt_A df, dt_A nr, dt_A st, dt_A rs, pl, fi, re, ke, rr, tw) := by
  refine br_c (fun hz => ?_) (fun hz => h kn pl fi re rr tw hz (hkn hz))
  refine loop_0 (fun m t (s : (Nat → Int64) × (Nat → Int64) × (Nat → Int64) × (Nat → Int64) × (Nat → Int64)) => wX_findAll_15 post m (nI t) (nI T) 1 cc co (dt_A po) (dt_A df) (dt_A nr) (dt_A st) (dt_A rs) s.1 s.2.1 s.2.2.1 ke s.2.2.2.1 s.2.2.2.2) (fun t s => dt_PL s.1 (dt_V cd po df nr st rs T) (3 + t)) 5 (pl, fi, re, rr, tw) hin ?_ ?_
  · intro m s hs
    exact br_t (nI_le (a := 5) (b := 5) (Nat.le_refl _) (by decide)) (h 1 s.1 s.2.1 s.2.2.1 s.2.2.2.1 s.2.2.2.2 (by decide) hs)
  · intro m t s ht hs ih
    obtain ⟨pl1, fi1, re1, rr1, tw1⟩ := s
    dsimp only at hs ih ⊢
    refine br_f (nI_ge (b := 5) ht (by decide)) ?_
    have copy : ∀ fi2 re2 rr2 tw2 : Nat → Int64, (t < T → ∀ b q, b < 3 → q < 512 → dt_bb re2 b q = (dt_V cd po df nr st rs T (3 + t) q).testBit b) → ∃ n37 : Nat, wX_findAll_37 post (wX_findAll_15 post m) (nI t) (nI T) 1 n37 0 cc co (dt_A po) (dt_A df) (dt_A nr) (dt_A st) (dt_A rs) pl1 fi2 re2 ke rr2 tw2 := by
      intro fi2 re2 rr2 tw2 h2
      refine loop_0 (fun n37 k s => wX_findAll_37 post (wX_findAll_15 post m) (nI t) (nI T) 1 n37 (nI k) cc co (dt_A po) (dt_A df) (dt_A nr) (dt_A st) (dt_A rs) s fi2 re2 ke rr2 tw2) (fun k s => dt_PL s (dt_V cd po df nr st rs T) (3 + t) ∧ ∀ b q, b < 3 → q < 512 → 8 * b + q / 64 < k → dt_bb s (3 * (3 + t) + b) q = (dt_V cd po df nr st rs T (3 + t) q).testBit b) 24 pl1 ⟨hs, fun b q _ _ z => absurd z (Nat.not_lt_zero _)⟩ ?_ ?_
      · intro n37 s hs2
        refine br_t (nI_le (a := 24) (b := 24) (Nat.le_refl _) (by decide)) (nm_r (nI_1 t) (ih (s, fi2, re2, rr2, tw2) (fun v b q hv hb hq => ?_)))
        rcases Nat.lt_or_ge v (3 + t) with y | y
        · exact hs2.1 v b q y hb hq
        · have : v = 3 + t := by omega
          subst this
          exact hs2.2 b q hb hq (by omega)
      · intro n37 k s hk hs2 ih2
        refine br_f (nI_ge (b := 24) hk (by decide)) ?_
        have e : (24 : Int32) * (3 + nI t) + nI k = nI (24 * (3 + t) + k) := by
          rw [show (3 : Int32) + nI t = nI (3 + t) from nI_add 3 t, dt_m24, nI_add]
        have hi192 : vp_in (nI (24 * (3 + t) + k)) 192 := vp_in_nI (by omega) (by decide)
        rw [e, nI_clamp (n := 24 * (3 + t) + k) (by omega), nI_clamp (n := k) (by omega)]
        have st2 : ∀ x : Int64, (∀ b q, b < 3 → q < 512 → 8 * b + q / 64 = k → dt_lb x (q % 64) = (dt_V cd po df nr st rs T (3 + t) q).testBit b) → wX_findAll_37 post (wX_findAll_15 post m) (nI t) (nI T) 1 n37 (nI (k + 1)) cc co (dt_A po) (dt_A df) (dt_A nr) (dt_A st) (dt_A rs) (vp_updL s (24 * (3 + t) + k) x) fi2 re2 ke rr2 tw2 := by
          intro x hx
          refine ih2 _ ⟨fun v b q hv hb hq => ?_, fun b q hb hq hk2 => ?_⟩
          · rw [dt_bb_upd (j0 := 3 * (3 + t) + k / 8) (w := k % 8) _ _ _ (by omega) (by omega) hq, if_neg (by omega)]
            exact hs2.1 v b q hv hb hq
          · rw [dt_bb_upd (j0 := 3 * (3 + t) + k / 8) (w := k % 8) _ _ _ (by omega) (by omega) hq]
            by_cases c : 8 * b + q / 64 = k
            · rw [if_pos (by omega)]
              exact hx b q hb hq c
            · rw [if_neg (by omega)]
              exact hs2.2 b q hb hq (by omega)
        refine pk_le T t (fun c => ⟨hi192, nm_e (nm_r (nI_1 k) (st2 0 (fun b q hb hq _ => ?_)))⟩) (fun c => ⟨vp_in_nI hk (by decide), hi192, nm_e (nm_r (nI_1 k) (st2 (re2 k) (fun b q hb hq e2 => ?_)))⟩)
        · rw [dt_lb_0, dt_V_hi q (by omega), Nat.zero_testBit]
        · rw [← h2 c b q hb hq]
          unfold dt_bb
          rw [e2]
    refine pk_le T t (fun c => copy fi1 re1 rr1 tw1 (fun z => absurd z (by omega))) (fun c => ?_)
    obtain ⟨hcd, hcc, hco, hcl⟩ := TF t c
    refine dt_findResult (n := nr t) (w := dt_wd (cd t)) (p := po t) (d := df t) (st := fun r => st (8 * t + r)) (rs := fun r => rs (8 * t + r)) (cl := fun c => cd t / 10 ^ c % 10) (VV := fun c q => dt_V cd po df nr st rs T (cd t / 10 ^ c % 10) q) (L := fun _ => false) ht rfl (B.2.2.1 t) hcc (dt_wd3 _).2 (fun r hr => ⟨rfl, B.2.2.2.1 _⟩)
      (fun c2 h2 => ⟨by have := hcl c2 h2; omega, Or.inl ⟨rfl, hco c2 (by have := (dt_wd3 (cd t)).2; omega)⟩⟩) dt_Lm1 (fun c2 q _ _ => dt_V_lt B _ _ _) (fun c2 h2 b q hb hq => hs _ b q (hcl c2 h2) hb hq) rfl (B.1 t) rfl (B.2.1 t) (fun r _ => rfl) (fun r => B.2.2.2.2 _) (fun fi2 re2 rr2 tw2 h2 => copy fi2 re2 rr2 tw2 (fun _ b q hb hq => ?_))
    rw [h2 b q hb hq, dt_V_at' c hcl]
    rfl
end
end
section
/-! the reference: width, firing, result, combination, all values -/
def dt_oM (m : Nat) : Int32 := if m = 0 then -1 else nI (m - 1)
theorem dt_oM_le {x m : Nat} (hx : x < 8) (hm : m ≤ 8) : nI x ≤ dt_oM m ↔ x < m :=
  (by decide +kernel : ∀ x, x < 8 → ∀ m, m < 9 → (nI x ≤ dt_oM m ↔ x < m)) x hx m (by omega)
theorem dt_oM_s (x : Nat) : dt_oM (x + 1) = nI x := if_neg (Nat.succ_ne_zero x)
theorem dt_oM_p {m : Nat} (h : m ≠ 0) : dt_oM m = nI (m - 1) := if_neg h
def dt_cb (x : Nat → Nat) : Nat → Nat
  | 0 => 0
  | c + 1 => dt_cb x c + x c * 8 ^ c
theorem dt_cb_lt {x : Nat → Nat} : ∀ {w : Nat}, (∀ c, c < w → x c < 8) → dt_cb x w < 8 ^ w := by
  intro w
  induction w with
  | zero => intro _; exact Nat.zero_lt_one
  | succ w ih =>
    intro h
    have h1 := ih (fun c hc => h c (by omega))
    have h2 : x w * 8 ^ w ≤ 7 * 8 ^ w := Nat.mul_le_mul_right _ (by have := h w (by omega); omega)
    show dt_cb x w + x w * 8 ^ w < 8 ^ (w + 1)
    rw [Nat.pow_succ]
    omega
theorem dt_cb_at {x : Nat → Nat} : ∀ {w : Nat}, (∀ c, c < w → x c < 8) → ∀ c, c < w → dt_cb x w / 8 ^ c % 8 = x c := by
  intro w
  induction w with
  | zero => intro _ c hc; omega
  | succ w ih =>
    intro h c hc
    have h1 := ih (fun c hc => h c (by omega))
    have h2 := dt_cb_lt (x := x) (w := w) (fun c hc => h c (by omega))
    show (dt_cb x w + x w * 8 ^ w) / 8 ^ c % 8 = x c
    rcases Nat.lt_or_ge c w with y | y
    · obtain ⟨k, rfl⟩ : ∃ k, w = c + 1 + k := ⟨w - (c + 1), by omega⟩
      have e : x (c + 1 + k) * 8 ^ (c + 1 + k) = 8 ^ c * (8 * (x (c + 1 + k) * 8 ^ k)) := by
        rw [Nat.pow_add, Nat.pow_succ]
        ac_rfl
      rw [e, Nat.add_mul_div_left _ _ (Nat.pow_pos (by decide)), Nat.add_mul_mod_self_left]
      exact h1 c y
    · have : c = w := by omega
      subst this
      rw [Nat.add_mul_div_right _ _ (Nat.pow_pos (by decide)), Nat.div_eq_of_lt h2, Nat.zero_add, Nat.mod_eq_of_lt (h c hc)]
theorem dt_p8 (c : Nat) : 2 ^ (3 * c) = 8 ^ c := by rw [Nat.pow_mul]
theorem dt_cb_or {a x c : Nat} (h : a < 8 ^ c) : a ||| (x * 2 ^ (3 * c)) = a + x * 8 ^ c := by
  have h2 : a < 2 ^ (3 * c) := by rw [dt_p8]; exact h
  have e := Nat.shiftLeft_add_eq_or_of_lt h2 x
  rw [Nat.shiftLeft_eq, dt_p8] at e
  rw [Nat.or_comm, dt_p8, ← e, Nat.add_comm]
theorem dt_G_set {n w : Nat} {st x : Nat → Nat} : (fun r => (dt_set (dt_G n w st x) n).testBit r) = dt_G n w st x := by
  funext r
  rw [dt_set_bit]
  unfold dt_G
  by_cases h : r < n
  · rw [decide_eq_true h]; simp
  · rw [decide_eq_false h]; simp
theorem dt_8p {c : Nat} (h : c < 3) : 8 ^ c ≤ 64 := (by decide : ∀ c, c < 3 → 8 ^ c ≤ 64) c h
theorem dt_8w {c : Nat} (h : c ≤ 3) : 8 ^ c ≤ 512 := (by decide : ∀ c, c < 4 → 8 ^ c ≤ 512) c (by omega)
theorem dt_inn {post : Int32 → Prop} {v : SY} {x lo hi : Int32} (h0 : (x < lo ∨ hi < x) → post 0) (h1 : ¬ x < lo → ¬ hi < x → post 1) : wpY_in post v x lo hi := by
  obtain ⟨_, _, _, _, _, _, _, _, _, _⟩ := v
  exact br_c (fun z => h0 (Or.inl z)) (fun y => br_c (fun z => h0 (Or.inr z)) (fun z => h1 y z))
section
variable {ky : Int32} {va tg : Nat → Int32} {cd po df nr st rs : Nat → Nat} {T : Nat}
theorem dt_yTab {post : Int32 → Prop} {p : Int32} (hT : T ≤ 5) (h0 : (¬ ∃ t, t < T ∧ p = nI t) → post 0) (h1 : ∀ t, t < T → p = nI t → post 1) : wpY_isTable post (nI T, ky, dt_A cd, dt_A po, dt_A df, dt_A nr, dt_A st, dt_A rs, va, tg) p := by
  unfold wpY_isTable
  dsimp only
  refine dt_inn (fun z => ⟨narrow_b0, h0 (fun y => ?_)⟩) (fun z1 z2 => ⟨narrow_b1, ?_⟩)
  · obtain ⟨t, ht, rfl⟩ := y
    rcases z with z | z
    · exact nI_pos (by omega) z
    · obtain ⟨k, rfl⟩ : ∃ k, T = k + 1 := ⟨T - 1, by omega⟩
      rw [nI_pred, nI_ltI (by omega) (by omega)] at z
      omega
  · obtain ⟨j, hj, rfl⟩ := nI_of z1
    by_cases e : T = 0
    · subst e
      exact absurd (show nI 0 - 1 < nI j from by rw [Int32.lt_iff_toInt_lt, nI_toInt hj]; exact Int.lt_of_lt_of_le (by decide) (Int.natCast_nonneg j)) z2
    · obtain ⟨k, rfl⟩ : ∃ k, T = k + 1 := ⟨T - 1, by omega⟩
      rw [nI_pred, nI_ltI (by omega) (by omega)] at z2
      exact h1 j (by omega) rfl
theorem dt_width {post : Int32 → Prop} {t : Nat} (ht : t < 5) (hc : cd t < 1000) (h : post (nI (dt_wd (cd t)))) : wpY_width post (nI T, ky, dt_A cd, dt_A po, dt_A df, dt_A nr, dt_A st, dt_A rs, va, tg) (nI t) := by
  have e1 : nI (cd t) / 100 = nI (cd t / 100) := pk_div (d := 100) (by omega) (by decide) (by decide)
  have e10 : nI (cd t) / 10 = nI (cd t / 10) := pk_div (d := 10) (by omega) (by decide) (by decide)
  have e2 : nI (cd t) / 10 - nI (cd t) / 10 / 10 * 10 = nI (cd t / 10 % 10) := by
    rw [e10]
    exact pk_rem (d := 10) (by omega) (by decide) (by decide)
  have hit : vp_in (nI t) 5 := vp_in_nI ht (by decide)
  unfold wpY_width
  dsimp only
  rw [nI_clamp (by omega), show dt_A cd t = nI (cd t) from rfl, e1, e2]
  unfold dt_wd at h
  refine ⟨hit, by decide, pk_eq (cd t / 100) 9 (fun e => ⟨hit, by decide, by decide, pk_eq (cd t / 10 % 10) 9 (fun f => ?_) (fun f => ?_)⟩) (fun e => ?_)⟩
  · rw [if_neg (fun z => z e), if_neg (fun z => z f)] at h; exact h
  · rw [if_neg (fun z => z e), if_pos f] at h; exact h
  · rw [if_pos e] at h; exact h
theorem dt_yfire {post : Int32 → Prop} {t k : Nat} (B : dt_BD po df nr st rs) (ht : t < 5) (hc : cd t < 1000) (hk : k < 512) (h : post (nI (dt_set (dt_G (nr t) (dt_wd (cd t)) (fun r => st (8 * t + r)) (fun c => k / 8 ^ c % 8)) (nr t)))) : wpY_firing post (nI T, ky, dt_A cd, dt_A po, dt_A df, dt_A nr, dt_A st, dt_A rs, va, tg) (nI t) (nI k) := by
  unfold wpY_firing
  dsimp only
  refine dt_width ht hc ?_
  have hit : vp_in (nI t) 5 := vp_in_nI ht (by decide)
  have hn := B.2.2.1 t
  have hw := (dt_wd3 (cd t)).2
  refine loop_0 (fun m r (s : Nat) => wY_firing_12 post (nI t) (nI k) (nI (dt_wd (cd t))) (nI T) ky (dt_A cd) (dt_A po) (dt_A df) (dt_A nr) (dt_A st) (dt_A rs) va tg m (nI s) (nI r)) (fun r s => s = dt_set (dt_G (nr t) (dt_wd (cd t)) (fun r => st (8 * t + r)) (fun c => k / 8 ^ c % 8)) r) (nr t) 0 rfl ?_ ?_
  · intro m s hs
    subst hs
    refine ⟨hit, ?_⟩
    rw [nI_clamp (by omega), show dt_A nr t = nI (nr t) from rfl]
    exact br_t (nI_le (Nat.le_refl _) (by omega)) h
  · intro m r s hr hs ih
    refine ⟨hit, ?_⟩
    rw [nI_clamp (by omega), show dt_A nr t = nI (nr t) from rfl]
    refine br_f (nI_ge hr (by omega)) ?_
    have hst := B.2.2.2.1 (8 * t + r)
    have hG : dt_G (nr t) (dt_wd (cd t)) (fun r => st (8 * t + r)) (fun c => k / 8 ^ c % 8) r = dt_all (fun c => (st (8 * t + r)).testBit (8 * c + k / 8 ^ c % 8)) (dt_wd (cd t)) := by
      unfold dt_G
      rw [decide_eq_true hr, Bool.true_and]
    have es : dt_set (dt_G (nr t) (dt_wd (cd t)) (fun r => st (8 * t + r)) (fun c => k / 8 ^ c % 8)) (r + 1) = if dt_G (nr t) (dt_wd (cd t)) (fun r => st (8 * t + r)) (fun c => k / 8 ^ c % 8) r = true then dt_set (dt_G (nr t) (dt_wd (cd t)) (fun r => st (8 * t + r)) (fun c => k / 8 ^ c % 8)) r ||| 2 ^ r else dt_set (dt_G (nr t) (dt_wd (cd t)) (fun r => st (8 * t + r)) (fun c => k / 8 ^ c % 8)) r := rfl
    rw [hG] at es
    refine loop_0 (fun n29 c (f : Int32) => wY_firing_29 post (wY_firing_12 post (nI t) (nI k) (nI (dt_wd (cd t))) (nI T) ky (dt_A cd) (dt_A po) (dt_A df) (dt_A nr) (dt_A st) (dt_A rs) va tg m) (nI t) (nI k) (nI s) (nI (dt_wd (cd t))) (nI r) (nI T) ky (dt_A cd) (dt_A po) (dt_A df) (dt_A nr) (dt_A st) (dt_A rs) va tg n29 f (nI c)) (fun c f => f = if dt_all (fun c => (st (8 * t + r)).testBit (8 * c + k / 8 ^ c % 8)) c = true then 1 else 0) (dt_wd (cd t)) 1 rfl ?_ ?_
    · intro n29 f hf
      refine br_t (nI_le (Nat.le_refl _) (by omega)) ?_
      by_cases z : dt_all (fun c => (st (8 * t + r)).testBit (8 * c + k / 8 ^ c % 8)) (dt_wd (cd t)) = true
      · rw [if_pos z] at hf es
        subst hf
        exact br_f (by decide) (nm_r (dt_or1 s (by omega)) (nm_r (nI_1 r) (ih _ (by rw [es, hs]))))
      · rw [if_neg z] at hf es
        subst hf
        exact br_t rfl (nm_r (nI_1 r) (ih _ (by rw [es, hs])))
    · intro n29 c f hcw hf ih2
      refine br_f (nI_ge hcw (by omega)) ?_
      have e8 : (nI k >>> ((3 * nI c) &&& 31)) &&& 7 = nI (k / 8 ^ c % 8) := by
        rw [dt_m3, dt_shr (by omega) (by omega), dt_p8, dt_and7 _ (Nat.lt_of_le_of_lt (Nat.div_le_self _ _) (by omega))]
      have h8 : k / 8 ^ c % 8 < 8 := Nat.mod_lt _ (by decide)
      have ea : dt_all (fun c => (st (8 * t + r)).testBit (8 * c + k / 8 ^ c % 8)) (c + 1) = (dt_all (fun c => (st (8 * t + r)).testBit (8 * c + k / 8 ^ c % 8)) c && (st (8 * t + r)).testBit (8 * c + k / 8 ^ c % 8)) := rfl
      refine nm_r e8 ?_
      rw [dt_8, dt_8, nI_clamp (n := 8 * t + r) (by omega), show dt_A st (8 * t + r) = nI (st (8 * t + r)) from rfl]
      refine ⟨vp_in_nI (by omega) (by decide), br_c (fun z => ?_) (fun z => ?_)⟩
      · rw [dt_bit (by omega) (by omega)] at z
        rw [z, Bool.and_false] at ea
        exact nm_r (nI_1 c) (ih2 0 (by rw [ea]; rfl))
      · rw [dt_bit (by omega) (by omega)] at z
        rw [dt_nf z, Bool.and_true] at ea
        exact nm_r (nI_1 c) (ih2 f (by rw [ea]; exact hf))
theorem dt_yres {post : Int32 → Prop} {t s : Nat} (B : dt_BD po df nr st rs) (ht : t < 5) (hs : s < 256) (h : post (nI (dt_res (po t) (df t) (fun r => rs (8 * t + r)) (fun r => s.testBit r)))) : wpY_result post (nI T, ky, dt_A cd, dt_A po, dt_A df, dt_A nr, dt_A st, dt_A rs, va, tg) (nI t) (nI s) := by
  have hit : vp_in (nI t) 5 := vp_in_nI ht (by decide)
  have hrs : ∀ r, (fun r => rs (8 * t + r)) r < 8 := fun r => B.2.2.2.2 _
  have hpo := B.1 t
  unfold dt_res at h
  have e0 : dt_cn (fun r => s.testBit r) 8 = 0 ↔ s = 0 := by
    rw [dt_cn0]
    constructor
    · intro z
      apply Nat.eq_of_testBit_eq
      intro i
      rw [Nat.zero_testBit]
      rcases Nat.lt_or_ge i 8 with y | y
      · exact z i y
      · exact Nat.testBit_lt_two_pow (Nat.lt_of_lt_of_le hs (show 2 ^ 8 ≤ 2 ^ i from Nat.pow_le_pow_right (by decide) y))
    · intro z i _
      subst z
      exact Nat.zero_testBit i
  unfold wpY_result
  dsimp only
  rw [nI_clamp (by omega)]
  refine pk_eq s 0 (fun e => ⟨hit, ?_⟩) (fun e => ⟨hit, nm_r (show dt_A po t = nI (po t) from rfl) ?_⟩)
  · rw [if_pos (e0.mpr e)] at h
    exact h
  · rw [if_neg (fun z => e (e0.mp z))] at h
    have es : nI s &&& (nI s - 1) = nI (s &&& (s - 1)) := by
      rw [show nI s - 1 = nI (s - 1) from pk_sub (b := 1) (by omega), nx_and]
    have eal := dt_alone s hs e
    have hsl : s &&& (s - 1) ≤ s := Nat.and_le_left
    have hfs := dt_fs_le (F := fun r => s.testBit r) hrs 8
    have hls := dt_ls_lt (F := fun r => s.testBit r) hrs 8
    have hsm := dt_sm_le (F := fun r => s.testBit r) hrs 8
    have hf0 : dt_fs (fun r => rs (8 * t + r)) (fun r => s.testBit r) 8 ≠ 0 := fun z => e (e0.mp (dt_fs_0.mp z))
    have hm0 : dt_mx (fun r => rs (8 * t + r)) (fun r => s.testBit r) 8 ≠ 0 := fun z => e (e0.mp (dt_mx_0.mp z))
    refine loop_0 (fun m r (_ : Unit) => wY_result_37 post (nI t) (nI s) (nI (po t)) (nI T) ky (dt_A cd) (dt_A po) (dt_A df) (dt_A nr) (dt_A st) (dt_A rs) va tg m (dt_oM (dt_fs (fun r => rs (8 * t + r)) (fun r => s.testBit r) r)) (nI (dt_ls (fun r => rs (8 * t + r)) (fun r => s.testBit r) r)) (nI (dt_mn (fun r => rs (8 * t + r)) (fun r => s.testBit r) r)) (dt_oM (dt_mx (fun r => rs (8 * t + r)) (fun r => s.testBit r) r)) (nI (dt_sm (fun r => rs (8 * t + r)) (fun r => s.testBit r) r)) (nI r)) (fun _ _ => True) 8 () trivial ?_ ?_
    · intro m _ _
      refine br_t (nI_le (a := 8) (b := 8) (Nat.le_refl _) (by decide)) ?_
      rw [es]
      refine pk_eq (po t) 5 (fun p5 => pk_eq (s &&& (s - 1)) 0 (fun z => ?_) (fun z => ⟨hit, ?_⟩)) (fun p5 => pk_eq (po t) 0 (fun p0 => ?_) (fun p0 => pk_eq (po t) 1 (fun p1 => ?_) (fun p1 => pk_eq (po t) 2 (fun p2 => ?_) (fun p2 => pk_eq (po t) 3 (fun p3 => ?_) (fun p3 => ?_)))))
      · rw [if_pos p5, if_pos (eal.mp z)] at h
        rw [dt_oM_p hf0]; exact h
      · rw [if_pos p5, if_neg (fun y => z (eal.mpr y))] at h
        rw [nI_clamp (by omega)]; exact h
      · rw [if_neg p5, if_pos p0] at h
        rw [dt_oM_p hf0]; exact h
      · rw [if_neg p5, if_neg p0, if_pos p1] at h; exact h
      · rw [if_neg p5, if_neg p0, if_neg p1, if_pos p2] at h; exact h
      · rw [if_neg p5, if_neg p0, if_neg p1, if_neg p2, if_pos p3] at h
        rw [dt_oM_p hm0]; exact h
      · rw [if_neg p5, if_neg p0, if_neg p1, if_neg p2, if_neg p3] at h
        refine pk_le (dt_sm (fun r => rs (8 * t + r)) (fun r => s.testBit r) 8) 7 (fun y => ?_) (fun y => ?_)
        · rw [if_neg (by omega)] at h; exact h
        · rw [if_pos y] at h; exact h
    · intro m r _ hr _ ih
      refine br_f (nI_ge (b := 8) hr (by decide)) (br_c (fun z => ?_) (fun z => ?_))
      · rw [dt_bit1 (by omega) (by omega)] at z
        have hx := hrs r
        dsimp only at hx
        have h1 := dt_fs_le (F := fun r => s.testBit r) hrs r
        have h2 := dt_mn_le (F := fun r => s.testBit r) hrs r
        have h3 := dt_mx_le (F := fun r => s.testBit r) hrs r
        have ih' := ih () trivial
        have k1 : dt_fs (fun r => rs (8 * t + r)) (fun r => s.testBit r) (r + 1) = if dt_fs (fun r => rs (8 * t + r)) (fun r => s.testBit r) r = 0 ∧ s.testBit r = true then rs (8 * t + r) + 1 else dt_fs (fun r => rs (8 * t + r)) (fun r => s.testBit r) r := rfl
        have k2 : dt_ls (fun r => rs (8 * t + r)) (fun r => s.testBit r) (r + 1) = if s.testBit r = true then rs (8 * t + r) else dt_ls (fun r => rs (8 * t + r)) (fun r => s.testBit r) r := rfl
        have k3 : dt_mn (fun r => rs (8 * t + r)) (fun r => s.testBit r) (r + 1) = if s.testBit r = true ∧ rs (8 * t + r) < dt_mn (fun r => rs (8 * t + r)) (fun r => s.testBit r) r then rs (8 * t + r) else dt_mn (fun r => rs (8 * t + r)) (fun r => s.testBit r) r := rfl
        have k4 : dt_mx (fun r => rs (8 * t + r)) (fun r => s.testBit r) (r + 1) = if s.testBit r = true ∧ dt_mx (fun r => rs (8 * t + r)) (fun r => s.testBit r) r ≤ rs (8 * t + r) then rs (8 * t + r) + 1 else dt_mx (fun r => rs (8 * t + r)) (fun r => s.testBit r) r := rfl
        have k5 : dt_sm (fun r => rs (8 * t + r)) (fun r => s.testBit r) (r + 1) = if s.testBit r = true then dt_sm (fun r => rs (8 * t + r)) (fun r => s.testBit r) r + rs (8 * t + r) else dt_sm (fun r => rs (8 * t + r)) (fun r => s.testBit r) r := rfl
        rw [if_pos z] at k2 k5
        rw [k2, k5] at ih'
        generalize dt_fs (fun r => rs (8 * t + r)) (fun r => s.testBit r) (r + 1) = f' at k1 ih'
        generalize dt_mn (fun r => rs (8 * t + r)) (fun r => s.testBit r) (r + 1) = mn' at k3 ih'
        generalize dt_mx (fun r => rs (8 * t + r)) (fun r => s.testBit r) (r + 1) = mx' at k4 ih'
        generalize dt_fs (fun r => rs (8 * t + r)) (fun r => s.testBit r) r = f at k1 h1 ⊢
        generalize dt_mn (fun r => rs (8 * t + r)) (fun r => s.testBit r) r = mn at k3 h2 ⊢
        generalize dt_mx (fun r => rs (8 * t + r)) (fun r => s.testBit r) r = mx at k4 h3 ⊢
        generalize dt_sm (fun r => rs (8 * t + r)) (fun r => s.testBit r) r = sm at ih' ⊢
        rw [dt_8, nI_clamp (by omega)]
        refine ⟨vp_in_nI (by omega) (by decide), nm_r (show dt_A rs (8 * t + r) = nI (rs (8 * t + r)) from rfl) ?_⟩
        generalize rs (8 * t + r) = x at hx k1 k3 k4 ih' ⊢
        have f92 : ∀ x4 x6 : Int32, x4 = dt_oM f' → x6 = nI mn' → wY_result_92 post (wY_result_37 post (nI t) (nI s) (nI (po t)) (nI T) ky (dt_A cd) (dt_A po) (dt_A df) (dt_A nr) (dt_A st) (dt_A rs) va tg m) (nI t) (nI s) (nI (po t)) x4 (nI x) x6 (dt_oM mx) (nI sm) (nI r) (nI x) (nI T) ky (dt_A cd) (dt_A po) (dt_A df) (dt_A nr) (dt_A st) (dt_A rs) va tg := by
          intro x4 x6 h4 h6
          subst h4 h6
          unfold wY_result_92
          refine br_c (fun y => nm_r (nI_add sm x) (nm_r (nI_1 r) ?_)) (fun y => nm_r (nI_add sm x) (nm_r (nI_1 r) ?_))
          · rw [dt_oM_le hx h3] at y
            rw [if_neg (fun q => absurd q.2 (by omega))] at k4
            rw [k4] at ih'; exact ih'
          · rw [dt_oM_le hx h3] at y
            rw [if_pos ⟨z, by omega⟩] at k4
            rw [k4, dt_oM_s] at ih'; exact ih'
        have f77 : ∀ x4 : Int32, x4 = dt_oM f' → wY_result_77 post (wY_result_37 post (nI t) (nI s) (nI (po t)) (nI T) ky (dt_A cd) (dt_A po) (dt_A df) (dt_A nr) (dt_A st) (dt_A rs) va tg m) (nI t) (nI s) (nI (po t)) x4 (nI mn) (dt_oM mx) (nI sm) (nI r) (nI x) (nI T) ky (dt_A cd) (dt_A po) (dt_A df) (dt_A nr) (dt_A st) (dt_A rs) va tg := by
          intro x4 h4
          unfold wY_result_77
          refine pk_le mn x (fun y => f92 _ _ h4 ?_) (fun y => f92 _ _ h4 ?_)
          · rw [k3, if_neg (fun q => absurd q.2 (by omega))]
          · rw [k3, if_pos ⟨z, y⟩]
        refine br_c (fun y => f77 _ ?_) (fun y => f77 _ ?_)
        · by_cases q : f = 0
          · subst q; exact absurd y (by decide)
          · rw [k1, if_neg (fun v => q v.1)]
        · by_cases q : f = 0
          · rw [k1, if_pos ⟨q, z⟩, dt_oM_s]
          · rw [dt_oM_p q] at y
            exact absurd (nI_pos' (by omega)) y
      · rw [dt_bit1 (by omega) (by omega)] at z
        have hf := dt_nt z
        have ih' := ih () trivial
        rw [dt_fs_s hf, dt_ls_s hf, dt_mn_s hf, dt_mx_s hf, dt_sm_s hf] at ih'
        exact nm_r (nI_1 r) ih'
theorem dt_ycomb {post : Int32 → Prop} {t q : Nat} {x : Nat → Nat} (ht : t < 5) (hc : cd t < 1000) (hq : q < 512) (hcl : ∀ c, c < dt_wd (cd t) → cd t / 10 ^ c % 10 < 8) (hx : ∀ c, c < dt_wd (cd t) → x c < 8 ∧ va (512 * (cd t / 10 ^ c % 10) + q) = nI (x c)) (h : post (nI (dt_cb x (dt_wd (cd t))))) : wpY_combination post (nI T, ky, dt_A cd, dt_A po, dt_A df, dt_A nr, dt_A st, dt_A rs, va, tg) (nI t) (nI q) := by
  have hit : vp_in (nI t) 5 := vp_in_nI ht (by decide)
  have hw := (dt_wd3 (cd t)).2
  unfold wpY_combination
  dsimp only
  rw [nI_clamp (by omega)]
  refine ⟨hit, nm_r (show dt_A cd t = nI (cd t) from rfl) ?_⟩
  refine loop_0 (fun m c (s : Nat) => wY_combination_13 post (nI t) (nI q) (nI T) ky (dt_A cd) (dt_A po) (dt_A df) (dt_A nr) (dt_A st) (dt_A rs) va tg m (nI s) (nI (dt_cb x c)) (nI c)) (fun c s => s = cd t / 10 ^ c) (dt_wd (cd t)) (cd t) (by rw [Nat.pow_zero, Nat.div_one]) ?_ ?_
  · intro m s hs
    rw [wY_combination_13]
    refine dt_width ht hc ?_
    exact br_t (nI_le (Nat.le_refl _) (by omega)) h
  · intro m c s hcw hs ih
    rw [wY_combination_13]
    refine dt_width ht hc ?_
    refine br_f (nI_ge hcw (by omega)) ?_
    have hs1 : s < 1000 := by rw [hs]; exact Nat.lt_of_le_of_lt (Nat.div_le_self _ _) hc
    have e1 : nI s - nI s / 10 * 10 = nI (s % 10) := pk_rem (d := 10) (by omega) (by decide) (by decide)
    have e2 : nI s / 10 = nI (s / 10) := pk_div (d := 10) (by omega) (by decide) (by decide)
    have h8 := hcl c hcw
    have hxc := hx c hcw
    have hlt := dt_cb_lt (x := x) (w := c) (fun c' hc' => (hx c' (by omega)).1)
    rw [← hs] at h8 hxc
    have hp := dt_8p (c := c) (by omega)
    rw [e1, dt_m512, nI_add, nI_clamp (by omega), hxc.2, e2, dt_m3, dt_shl (x c) (by omega) (by rw [dt_p8]; exact Nat.lt_of_le_of_lt (Nat.mul_le_mul (show x c ≤ 8 from by omega) hp) (by decide)), dt_or, dt_cb_or hlt]
    refine ⟨by decide, vp_in_nI (by omega) (by decide), nm_e ⟨by decide, nm_e (nm_r (nI_1 c) (ih (s / 10) ?_))⟩⟩
    rw [hs, Nat.div_div_eq_div_mul, Nat.pow_succ]
def dt_VA (va : Nat → Int32) (V : Nat → Nat → Nat) : Prop := ∀ v q, v < 8 → q < 512 → va (512 * v + q) = nI (V v q)
end
end
section
/-! the reference: all values -/
section
variable {ky : Int32} {cc co va tg : Nat → Int32} {cd po df nr st rs : Nat → Nat} {T : Nat}
theorem dt_yT {t : Nat} {x : Nat → Nat} (hx : ∀ c, c < dt_wd (cd t) → x c < 8) : dt_res (po t) (df t) (fun r => rs (8 * t + r)) (fun r => (dt_set (dt_G (nr t) (dt_wd (cd t)) (fun r => st (8 * t + r)) (fun c => dt_cb x (dt_wd (cd t)) / 8 ^ c % 8)) (nr t)).testBit r) = dt_T cd po df nr st rs t x := by
  rw [dt_G_set, dt_G_ext (fun c hc => dt_cb_at hx c hc)]
  rfl
theorem dt_ywork {post : SY → Prop} (hT : T ≤ 5) (B : dt_BD po df nr st rs) (TF : dt_TF T cc co cd) (hky : ky ≠ 0 → dt_VA va (dt_V cd po df nr st rs T)) (h : ∀ ky' va', ky' ≠ 0 → dt_VA va' (dt_V cd po df nr st rs T) → post (nI T, ky', dt_A cd, dt_A po, dt_A df, dt_A nr, dt_A st, dt_A rs, va', tg)) : wpY_workOut post (nI T, ky, dt_A cd, dt_A po, dt_A df, dt_A nr, dt_A st, dt_A rs, va, tg) := by
  refine br_c (fun hz => ?_) (fun hz => h ky va hz (hky hz))
  -- the tables
  have tabs : ∀ va1 : Nat → Int32, dt_VA va1 (dt_V cd po df nr st rs 0) → ∃ n73 : Nat, wY_workOut_73 post (nI T) 1 n73 0 (dt_A cd) (dt_A po) (dt_A df) (dt_A nr) (dt_A st) (dt_A rs) va1 tg := by
    intro va1 h1
    refine loop_0 (fun m t s => wY_workOut_73 post (nI T) 1 m (nI t) (dt_A cd) (dt_A po) (dt_A df) (dt_A nr) (dt_A st) (dt_A rs) s tg) (fun t s => dt_VA s (dt_V cd po df nr st rs t)) T va1 h1 ?_ ?_
    · intro m s hs
      exact br_t (nI_le (Nat.le_refl _) (by omega)) (h 1 s (by decide) hs)
    · intro m t s ht hs ih
      refine br_f (nI_ge ht (by omega)) ?_
      obtain ⟨hcd, _, _, hcl⟩ := TF t ht
      have hstep : ∀ v q, dt_V cd po df nr st rs (t + 1) v q = if v = 3 + t then dt_T cd po df nr st rs t (fun c => dt_V cd po df nr st rs t (cd t / 10 ^ c % 10) q) else dt_V cd po df nr st rs t v q := fun v q => rfl
      refine loop_0 (fun n83 q s => wY_workOut_83 post (wY_workOut_73 post (nI T) 1 m) (nI t) (nI T) 1 n83 (nI q) (dt_A cd) (dt_A po) (dt_A df) (dt_A nr) (dt_A st) (dt_A rs) s tg) (fun q s => (∀ v q', v < 8 → q' < 512 → v ≠ 3 + t → s (512 * v + q') = nI (dt_V cd po df nr st rs t v q')) ∧ (∀ q', q' < q → s (512 * (3 + t) + q') = nI (dt_V cd po df nr st rs (t + 1) (3 + t) q'))) 512 s ⟨fun v q' hv hq _ => hs v q' hv hq, fun q' z => absurd z (Nat.not_lt_zero _)⟩ ?_ ?_
      · intro n83 s2 h2
        refine br_t (nI_le (a := 512) (b := 512) (Nat.le_refl _) (by decide)) (nm_r (nI_1 t) (ih s2 (fun v q hv hq => ?_)))
        by_cases e : v = 3 + t
        · rw [e]; exact h2.2 q hq
        · rw [hstep, if_neg e]; exact h2.1 v q hv hq e
      · intro n83 q s2 hq h2 ih2
        refine br_f (nI_ge (b := 512) hq (by decide)) ?_
        have hx : ∀ c, c < dt_wd (cd t) → dt_V cd po df nr st rs t (cd t / 10 ^ c % 10) q < 8 := fun c _ => dt_V_lt B _ _ _
        refine dt_ycomb (x := fun c => dt_V cd po df nr st rs t (cd t / 10 ^ c % 10) q) (by omega) hcd hq (fun c hc => by have := hcl c hc; omega) (fun c hc => ⟨hx c hc, h2.1 _ q (by have := hcl c hc; omega) hq (by have := hcl c hc; omega)⟩) ?_
        have hk : dt_cb (fun c => dt_V cd po df nr st rs t (cd t / 10 ^ c % 10) q) (dt_wd (cd t)) < 512 := Nat.lt_of_lt_of_le (dt_cb_lt hx) (dt_8w (dt_wd3 _).2)
        refine dt_yfire B (by omega) hcd hk ?_
        refine dt_yres B (by omega) (show dt_set _ _ < 2 ^ 8 from dt_set_lt' (B.2.2.1 t)) ?_
        rw [dt_yT hx]
        have e : (512 : Int32) * (3 + nI t) + nI q = nI (512 * (3 + t) + q) := by
          rw [show (3 : Int32) + nI t = nI (3 + t) from nI_add 3 t, dt_m512, nI_add]
        rw [e, nI_clamp (by omega)]
        refine ⟨vp_in_nI (by omega) (by decide), nm_e (nm_r (nI_1 q) (ih2 _ ⟨fun v q' hv hq' hne => ?_, fun q' hq' => ?_⟩))⟩
        · rw [pk_un (by omega)]; exact h2.1 v q' hv hq' hne
        · by_cases e2 : q' = q
          · rw [e2, pk_us, hstep, if_pos rfl]
          · rw [pk_un (by omega)]; exact h2.2 q' (by omega)
  refine loop_0 (fun m v s => wY_workOut_15 post (nI T) 1 m (nI v) (dt_A cd) (dt_A po) (dt_A df) (dt_A nr) (dt_A st) (dt_A rs) s tg) (fun v s => ∀ v' q, v' < v → q < 512 → s (512 * v' + q) = nI (dt_V cd po df nr st rs 0 v' q)) 8 va (fun v' q z => absurd z (Nat.not_lt_zero _)) ?_ ?_
  · intro m s hs
    exact br_t (nI_le (a := 8) (b := 8) (Nat.le_refl _) (by decide)) (tabs s hs)
  · intro m v s hv hs ih
    refine br_f (nI_ge (b := 8) hv (by decide)) ?_
    refine loop_0 (fun n23 q s => wY_workOut_23 post (wY_workOut_15 post (nI T) 1 m) (nI v) (nI T) 1 n23 (nI q) (dt_A cd) (dt_A po) (dt_A df) (dt_A nr) (dt_A st) (dt_A rs) s tg) (fun q s => (∀ v' q', v' < v → q' < 512 → s (512 * v' + q') = nI (dt_V cd po df nr st rs 0 v' q')) ∧ (∀ q', q' < q → s (512 * v + q') = nI (dt_V cd po df nr st rs 0 v q'))) 512 s ⟨hs, fun q' z => absurd z (Nat.not_lt_zero _)⟩ ?_ ?_
    · intro n23 s2 h2
      refine br_t (nI_le (a := 512) (b := 512) (Nat.le_refl _) (by decide)) (nm_r (nI_1 v) (ih s2 (fun v' q hv' hq => ?_)))
      by_cases e : v' = v
      · rw [e]; exact h2.2 q hq
      · exact h2.1 v' q (by omega) hq
    · intro n23 q s2 hq h2 ih2
      refine br_f (nI_ge (b := 512) hq (by decide)) ?_
      have go : ∀ x : Nat, x = dt_V cd po df nr st rs 0 v q → wY_workOut_23 post (wY_workOut_15 post (nI T) 1 m) (nI v) (nI T) 1 n23 (nI (q + 1)) (dt_A cd) (dt_A po) (dt_A df) (dt_A nr) (dt_A st) (dt_A rs) (upd s2 (512 * v + q) (nI x)) tg := by
        intro x hx
        refine ih2 _ ⟨fun v' q' hv' hq' => ?_, fun q' hq' => ?_⟩
        · rw [pk_un (by omega)]; exact h2.1 v' q' hv' hq'
        · by_cases e2 : q' = q
          · rw [e2, pk_us, hx]
          · rw [pk_un (by omega)]; exact h2.2 q' (by omega)
      have hi : vp_in (nI (512 * v + q)) 4096 := vp_in_nI (by omega) (by decide)
      rw [dt_m512, nI_add, nI_clamp (by omega)]
      refine pk_le 3 v (fun e => ⟨hi, nm_e (nm_r (nI_1 q) (go 0 ?_))⟩) (fun e => ?_)
      · exact (if_neg (by omega)).symm
      · rw [dt_m3, dt_shr (by omega) (by omega), dt_p8, dt_and7 _ (Nat.lt_of_le_of_lt (Nat.div_le_self _ _) (by omega))]
        exact ⟨hi, nm_e (nm_r (nI_1 q) (go _ (if_pos e).symm))⟩
end
end
section
/-! the component: the loops of the questions -/
/-! ===== ones in a long ===== -/
def dt_pf : Nat → Nat → Nat
  | 0, _ => 0
  | k + 1, n => n % 2 + dt_pf k (n / 2)
theorem dt_pf_low : ∀ k n, n < 2 ^ k → n ≠ 0 → dt_pf k (n &&& (n - 1)) + 1 = dt_pf k n := by
  intro k
  induction k with
  | zero => intro n h h0; rw [Nat.pow_zero] at h; omega
  | succ k ih =>
    intro n h h0
    show (n &&& (n - 1)) % 2 + dt_pf k ((n &&& (n - 1)) / 2) + 1 = n % 2 + dt_pf k (n / 2)
    have hm : (n &&& (n - 1)) % 2 = 0 := by
      rw [← Nat.and_one_is_mod, Nat.and_assoc, Nat.and_one_is_mod]
      rcases Nat.mod_two_eq_zero_or_one n with e | e
      · rw [Nat.and_comm, show (n - 1) % 2 = 1 from by omega, Nat.and_comm, Nat.and_one_is_mod, e]
      · rw [show (n - 1) % 2 = 0 from by omega, Nat.and_zero]
    rw [hm, Nat.and_div_two, Nat.zero_add]
    rw [Nat.pow_succ] at h
    rcases Nat.mod_two_eq_zero_or_one n with e | e
    · rw [show (n - 1) / 2 = n / 2 - 1 from by omega, ih (n / 2) (by omega) (by omega), e, Nat.zero_add]
    · rw [show (n - 1) / 2 = n / 2 from by omega, Nat.and_self, e]; omega
theorem dt_cn_front (f : Nat → Bool) (n : Nat) : dt_cn f (n + 1) = (if f 0 = true then 1 else 0) + dt_cn (fun i => f (i + 1)) n := by
  rw [show n + 1 = 1 + n from Nat.add_comm _ _, dt_cn_add]
  have e1 : dt_cn f 1 = if f 0 = true then 1 else 0 := rfl
  rw [e1]
  congr 1
  exact dt_cn_ext (fun i _ => by rw [Nat.add_comm])
theorem dt_pf_cn : ∀ k n, dt_cn (fun i => n.testBit i) k = dt_pf k n := by
  intro k
  induction k with
  | zero => intro n; rfl
  | succ k ih =>
    intro n
    rw [dt_cn_front]
    show _ = n % 2 + dt_pf k (n / 2)
    rw [← ih (n / 2), dt_cn_ext (fun i _ => Nat.testBit_succ n i)]
    congr 1
    rw [Nat.testBit_zero]
    rcases Nat.mod_two_eq_zero_or_one n with e | e
    · rw [e]; rfl
    · rw [e]; rfl
theorem dt_ones_low (l : Int64) (h : l ≠ 0) : dt_cn (dt_lb (l &&& (l - 1))) 64 + 1 = dt_cn (dt_lb l) 64 := by
  have hn : l.toBitVec.toNat < 2 ^ 64 := l.toBitVec.isLt
  have h0 : l.toBitVec.toNat ≠ 0 := fun z => h (Int64.toBitVec_inj.mp (BitVec.eq_of_toNat_eq z))
  have e1 : dt_lb l = fun i => l.toBitVec.toNat.testBit i := rfl
  have e2 : dt_lb (l &&& (l - 1)) = fun i => (l.toBitVec.toNat &&& (l.toBitVec.toNat - 1)).testBit i := by
    funext i
    unfold dt_lb BitVec.getLsbD
    rw [Int64.toBitVec_and, BitVec.toNat_and, Int64.toBitVec_sub, BitVec.toNat_sub]
    have e3 : (2 ^ 64 - (1 : Int64).toBitVec.toNat + l.toBitVec.toNat) % 2 ^ 64 = l.toBitVec.toNat - 1 := by
      rw [show (1 : Int64).toBitVec.toNat = 1 from rfl]
      omega
    rw [e3]
  rw [e1, e2, dt_pf_cn, dt_pf_cn]
  exact dt_pf_low 64 _ hn h0
section
variable {tc kn : Int32} {cc co po df rc so ro : Nat → Int32} {pl fi re ke rr tw : Nat → Int64}
theorem dt_ones {post : Int32 → Prop} {x : Int64} (h : post (nI (dt_cn (dt_lb x) 64))) : wpX_onesIn post (tc, kn, cc, co, po, df, rc, so, ro, pl, fi, re, ke, rr, tw) x := by
  refine loop_m (fun n (s : Nat × Int64) => wX_onesIn_5 post tc kn cc co po df rc so ro pl fi re ke rr tw n (nI s.1) s.2) (fun s => s.1 + dt_cn (dt_lb s.2) 64 = dt_cn (dt_lb x) 64) (fun s => dt_cn (dt_lb s.2) 64) ?_ (0, x) (Nat.zero_add _)
  intro n s hs ih
  obtain ⟨s1, s2⟩ := s
  dsimp only at hs ih ⊢
  refine br_c (fun hz => ?_) (fun hz => nm_e (nm_r (nI_1 s1) (ih (s1 + 1, s2 &&& (s2 - 1)) ?_ ?_)))
  · rw [hz, dt_cn0.mpr (fun i _ => dt_lb_0 i), Nat.add_zero] at hs
    rw [hs]; exact h
  · have := dt_ones_low s2 hz
    dsimp only; omega
  · have := dt_ones_low s2 hz
    dsimp only; omega
/-! ===== fires ===== -/
theorem dt_xfires {post : Int32 → SX → Prop} {t n q : Nat} {F : Nat → Bool} (ht : t < 5) (hrc : rc t = nI n) (hn : n ≤ 8) (hq : q < 512) (hF : ∀ r, r < n → dt_bb fi r q = F r) (h : post (nI (dt_set F n)) (tc, kn, cc, co, po, df, rc, so, ro, pl, fi, re, ke, rr, tw)) : ∃ n37 : Nat, wX_fires_37 post (nI t) (nI q) tc kn cc co po df rc so ro pl fi re ke rr tw n37 0 0 := by
  have hit : vp_in (nI t) 5 := vp_in_nI ht (by decide)
  refine loop_0 (fun m r (s : Nat) => wX_fires_37 post (nI t) (nI q) tc kn cc co po df rc so ro pl fi re ke rr tw m (nI s) (nI r)) (fun r s => s = dt_set F r) n 0 rfl ?_ ?_
  · intro m s hs
    subst hs
    refine ⟨hit, ?_⟩
    rw [nI_clamp (by omega), hrc]
    exact br_t (nI_le (Nat.le_refl _) (by omega)) h
  · intro m r s hr hs ih
    refine ⟨hit, ?_⟩
    rw [nI_clamp (by omega), hrc]
    refine br_f (nI_ge hr (by omega)) ?_
    have es : dt_set F (r + 1) = if F r = true then dt_set F r ||| 2 ^ r else dt_set F r := rfl
    rw [dt_m8]
    refine dt_isBitF (by omega) hq (fun hb => ?_) (fun hb => ?_)
    · rw [hF r hr] at hb
      rw [if_neg (by rw [hb]; decide)] at es
      exact br_t rfl (nm_r (nI_1 r) (ih s (hs.trans es.symm)))
    · rw [hF r hr] at hb
      rw [if_pos hb] at es
      exact br_f (by decide) (nm_r (dt_or1 s (by omega)) (nm_r (nI_1 r) (ih _ (by rw [es, hs]))))
/-! ===== gaps ===== -/
theorem dt_xgaps {post : Int32 → SX → Prop} {t n w : Nat} {F : Nat → Nat → Bool} (ht : t < 5) (hrc : rc t = nI n) (hn : n ≤ 8) (hcc : cc t = nI w) (hw : 1 ≤ w ∧ w ≤ 3) (hF : ∀ r q, r < n → q < 512 → dt_bb fi r q = F q r) (h : post (nI (dt_cn (fun q => !(dt_any (F q) n)) 512 / 8 ^ (3 - w))) (tc, kn, cc, co, po, df, rc, so, ro, pl, fi, re, ke, rr, tw)) : ∃ n21 : Nat, wX_gaps_21 post (nI t) tc kn cc co po df rc so ro pl fi re ke rr tw n21 0 0 := by
  have hit : vp_in (nI t) 5 := vp_in_nI ht (by decide)
  refine loop_0 (fun m i (s : Nat) => wX_gaps_21 post (nI t) tc kn cc co po df rc so ro pl fi re ke rr tw m (nI s) (nI i)) (fun i s => s = dt_cn (fun q => !(dt_any (F q) n)) (64 * i)) 8 0 rfl ?_ ?_
  · intro m s hs
    refine br_t (nI_le (a := 8) (b := 8) (Nat.le_refl _) (by decide)) ?_
    have hs' : s = dt_cn (fun q => !(dt_any (F q) n)) 512 := hs
    rw [← hs'] at h
    have hle : s ≤ 512 := by rw [hs']; exact dt_cn_le _ _
    rw [nI_clamp (by omega), hcc]
    refine ⟨hit, pk_eq w 3 (fun e => ?_) (fun e => ⟨hit, pk_eq w 2 (fun e2 => ⟨by decide, ?_⟩) (fun e2 => ⟨by decide, ?_⟩)⟩)⟩
    · subst e
      rw [show s / 8 ^ (3 - 3) = s from Nat.div_one s] at h
      exact h
    · subst e2
      rw [show nI s / 8 = nI (s / 8) from pk_div (d := 8) (by omega) (by decide) (by decide)]
      exact h
    · have e3 : w = 1 := by omega
      subst e3
      rw [show nI s / 64 = nI (s / 64) from pk_div (d := 64) (by omega) (by decide) (by decide)]
      exact h
  · intro m i s hi hs ih
    refine br_f (nI_ge (b := 8) hi (by decide)) ?_
    refine loop_0 (fun n33 r (x : Int64) => wX_gaps_33 post (wX_gaps_21 post (nI t) tc kn cc co po df rc so ro pl fi re ke rr tw m) (nI t) (nI s) (nI i) tc kn cc co po df rc so ro pl fi re ke rr tw n33 x (nI r)) (fun r x => ∀ j, j < 64 → dt_lb x j = dt_any (F (64 * i + j)) r) n 0 (fun j _ => dt_lb_0 j) ?_ ?_
    · intro n33 x hx
      refine ⟨hit, ?_⟩
      rw [nI_clamp (by omega), hrc]
      refine br_t (nI_le (Nat.le_refl _) (by omega)) ?_
      refine dt_ones (nm_r (nI_add s _) (nm_r (nI_1 i) (ih _ ?_)))
      rw [show 64 * (i + 1) = 64 * i + 64 from by omega, dt_cn_add, hs]
      congr 1
      exact dt_cn_ext (fun j hj => by rw [dt_lb_not _ hj, hx j hj])
    · intro n33 r x hr hx ih2
      refine ⟨hit, ?_⟩
      rw [nI_clamp (by omega), hrc]
      refine br_f (nI_ge hr (by omega)) ?_
      rw [dt_8, nI_clamp (by omega)]
      refine ⟨vp_in_nI (by omega) (by decide), nm_e (nm_r (nI_1 r) (ih2 _ (fun j hj => ?_)))⟩
      rw [dt_lb_or, hx j hj, dt_bb_eq rfl hj, hF r _ hr (by omega), dt_any_s]
/-! ===== meet, overlaps, unreached ===== -/
theorem dt_meet {post : Int32 → Prop} {r s : Nat} (hr : r < 8) (hs : s < 8) (h0 : dt_any (fun q => dt_bb fi r q && dt_bb fi s q) 512 = false → post 0) (h1 : dt_any (fun q => dt_bb fi r q && dt_bb fi s q) 512 = true → post 1) : wpX_meet post (tc, kn, cc, co, po, df, rc, so, ro, pl, fi, re, ke, rr, tw) (nI r) (nI s) := by
  refine loop_0 (fun m w (_ : Unit) => wX_meet_2 post (nI r) (nI s) tc kn cc co po df rc so ro pl fi re ke rr tw m (nI w)) (fun w _ => ∀ q, q < 512 → q / 64 < w → (dt_bb fi r q && dt_bb fi s q) = false) 8 () (fun q _ z => absurd z (Nat.not_lt_zero _)) ?_ ?_
  · intro m _ hh
    exact br_t (nI_le (a := 8) (b := 8) (Nat.le_refl _) (by decide)) (h0 (dt_any_false.mpr (fun q hq => hh q hq (by omega))))
  · intro m w _ hw hh ih
    refine br_f (nI_ge (b := 8) hw (by decide)) ?_
    rw [dt_8, dt_8, nI_clamp (n := 8 * r + w) (by omega), nI_clamp (n := 8 * s + w) (by omega)]
    have hb : ∀ i, i < 64 → dt_lb (fi (8 * r + w) &&& fi (8 * s + w)) i = (dt_bb fi r (64 * w + i) && dt_bb fi s (64 * w + i)) := fun i hi => by
      rw [dt_lb_and, dt_bb_eq rfl hi, dt_bb_eq rfl hi]
    refine ⟨vp_in_nI (by omega) (by decide), vp_in_nI (by omega) (by decide), br_c (fun hz => nm_r (nI_1 w) (ih () (fun q hq hqw => ?_))) (fun hz => h1 ?_)⟩
    · by_cases e : q / 64 = w
      · have := hb (q % 64) (Nat.mod_lt _ (by decide))
        rw [hz, dt_lb_0, show 64 * w + q % 64 = q from by omega] at this
        exact this.symm
      · exact hh q hq (by omega)
    · apply dt_nf
      intro z
      refine hz (dt_lb_z.mpr (fun i hi => ?_))
      rw [hb i hi]
      exact (dt_any_false.mp z) (64 * w + i) (by omega)
def dt_pr (M : Nat → Nat → Bool) : Nat → Nat
  | 0 => 0
  | r + 1 => dt_pr M r + dt_cn (fun q => M r q) r
theorem dt_xoverlaps {post : Int32 → SX → Prop} {t n : Nat} {M : Nat → Nat → Bool} (ht : t < 5) (hrc : rc t = nI n) (hn : n ≤ 8) (hM : ∀ r s, r < n → s < n → dt_any (fun q => dt_bb fi r q && dt_bb fi s q) 512 = M r s) (h : post (nI (dt_pr M n)) (tc, kn, cc, co, po, df, rc, so, ro, pl, fi, re, ke, rr, tw)) : ∃ n21 : Nat, wX_overlaps_21 post (nI t) tc kn cc co po df rc so ro pl fi re ke rr tw n21 0 0 := by
  have hit : vp_in (nI t) 5 := vp_in_nI ht (by decide)
  refine loop_0 (fun m r (s : Nat) => wX_overlaps_21 post (nI t) tc kn cc co po df rc so ro pl fi re ke rr tw m (nI s) (nI r)) (fun r s => s = dt_pr M r) n 0 rfl ?_ ?_
  · intro m s hs
    subst hs
    refine ⟨hit, ?_⟩
    rw [nI_clamp (by omega), hrc]
    exact br_t (nI_le (Nat.le_refl _) (by omega)) h
  · intro m r s hr hs ih
    refine ⟨hit, ?_⟩
    rw [nI_clamp (by omega), hrc]
    refine br_f (nI_ge hr (by omega)) ?_
    refine loop_0 (fun n34 q (x : Nat) => wX_overlaps_34 post (wX_overlaps_21 post (nI t) tc kn cc co po df rc so ro pl fi re ke rr tw m) (nI t) (nI r) tc kn cc co po df rc so ro pl fi re ke rr tw n34 (nI x) (nI q)) (fun q x => x = s + dt_cn (fun q => M r q) q) r s rfl ?_ ?_
    · intro n34 x hx
      refine br_t (nI_le (Nat.le_refl _) (by omega)) (nm_r (nI_1 r) (ih x ?_))
      rw [hx, hs]; rfl
    · intro n34 q x hq hx ih2
      refine br_f (nI_ge hq (by omega)) ?_
      have ec : dt_cn (fun q => M r q) (q + 1) = if M r q = true then dt_cn (fun q => M r q) q + 1 else dt_cn (fun q => M r q) q := rfl
      refine dt_meet (by omega) (by omega) (fun hz => ?_) (fun hz => ?_)
      · rw [hM r q hr (by omega)] at hz
        rw [if_neg (by rw [hz]; decide)] at ec
        exact br_t rfl (nm_r (nI_1 q) (ih2 x (by rw [ec]; exact hx)))
      · rw [hM r q hr (by omega)] at hz
        rw [if_pos hz] at ec
        exact br_f (by decide) (nm_r (nI_1 x) (nm_r (nI_1 q) (ih2 (x + 1) (by rw [ec, hx]; rfl))))
theorem dt_xunreached {post : Int32 → SX → Prop} {t n : Nat} {M : Nat → Bool} (ht : t < 5) (hrc : rc t = nI n) (hn : n ≤ 8) (hM : ∀ r, r < n → dt_any (fun q => dt_bb fi r q && dt_bb fi r q) 512 = M r) (h : post (nI (dt_set (fun r => !(M r)) n)) (tc, kn, cc, co, po, df, rc, so, ro, pl, fi, re, ke, rr, tw)) : ∃ n25 : Nat, wX_unreached_25 post (nI t) tc kn cc co po df rc so ro pl fi re ke rr tw n25 0 0 := by
  have hit : vp_in (nI t) 5 := vp_in_nI ht (by decide)
  refine loop_0 (fun m r (s : Nat) => wX_unreached_25 post (nI t) tc kn cc co po df rc so ro pl fi re ke rr tw m (nI s) (nI r)) (fun r s => s = dt_set (fun r => !(M r)) r) n 0 rfl ?_ ?_
  · intro m s hs
    subst hs
    refine ⟨hit, ?_⟩
    rw [nI_clamp (by omega), hrc]
    exact br_t (nI_le (Nat.le_refl _) (by omega)) h
  · intro m r s hr hs ih
    refine ⟨hit, ?_⟩
    rw [nI_clamp (by omega), hrc]
    refine br_f (nI_ge hr (by omega)) ?_
    have es : dt_set (fun r => !(M r)) (r + 1) = if (!(M r)) = true then dt_set (fun r => !(M r)) r ||| 2 ^ r else dt_set (fun r => !(M r)) r := rfl
    refine dt_meet (by omega) (by omega) (fun hz => ?_) (fun hz => ?_)
    · rw [hM r hr] at hz
      rw [if_pos (by rw [hz]; rfl)] at es
      exact br_t rfl (nm_r (dt_or1 s (by omega)) (nm_r (nI_1 r) (ih _ (by rw [es, hs]))))
    · rw [hM r hr] at hz
      rw [if_neg (by rw [hz]; decide)] at es
      exact br_f (by decide) (nm_r (nI_1 r) (ih s (hs.trans es.symm)))
/-! ===== count, first, possible ===== -/
theorem dt_xcount {post : Int32 → SX → Prop} {v x : Nat} {V : Nat → Nat} (hv : v < 8) (hx : x < 8) (hV : ∀ q, q < 512 → V q < 8) (hp : ∀ b q, b < 3 → q < 512 → dt_bb pl (3 * v + b) q = (V q).testBit b) (h : post (nI (dt_cn (fun q => decide (V q = x)) 512)) (tc, kn, cc, co, po, df, rc, so, ro, pl, fi, re, ke, rr, tw)) : ∃ n29 : Nat, wX_count_29 post (nI v) (nI x) tc kn cc co po df rc so ro pl fi re ke rr tw n29 0 0 := by
  refine loop_0 (fun m w (s : Nat) => wX_count_29 post (nI v) (nI x) tc kn cc co po df rc so ro pl fi re ke rr tw m (nI s) (nI w)) (fun w s => s = dt_cn (fun q => decide (V q = x)) (64 * w)) 8 0 rfl ?_ ?_
  · intro m s hs
    have hs' : s = dt_cn (fun q => decide (V q = x)) 512 := hs
    rw [← hs'] at h
    exact br_t (nI_le (a := 8) (b := 8) (Nat.le_refl _) (by decide)) h
  · intro m w s hw hs ih
    refine br_f (nI_ge (b := 8) hw (by decide)) ?_
    rw [dt_m24]
    refine dt_agree hv hw hx hV hp (fun r hr => ?_)
    refine dt_ones (nm_r (nI_add s _) (nm_r (nI_1 w) (ih _ ?_)))
    rw [show 64 * (w + 1) = 64 * w + 64 from by omega, dt_cn_add, hs]
    congr 1
    exact dt_cn_ext (fun j hj => hr j hj)
theorem dt_xfirst {post : Int32 → SX → Prop} {v x : Nat} {V : Nat → Nat} (hv : v < 8) (hx : x < 8) (hV : ∀ q, q < 512 → V q < 8) (hp : ∀ b q, b < 3 → q < 512 → dt_bb pl (3 * v + b) q = (V q).testBit b) (h1 : ∀ q, q < 512 → V q = x → (∀ q', q' < q → V q' ≠ x) → post (nI q) (tc, kn, cc, co, po, df, rc, so, ro, pl, fi, re, ke, rr, tw)) (h2 : (∀ q, q < 512 → V q ≠ x) → post (-3) (tc, kn, cc, co, po, df, rc, so, ro, pl, fi, re, ke, rr, tw)) : ∃ n26 : Nat, wX_first_26 post (nI v) (nI x) tc kn cc co po df rc so ro pl fi re ke rr tw n26 0 := by
  refine loop_0 (fun m q (_ : Unit) => wX_first_26 post (nI v) (nI x) tc kn cc co po df rc so ro pl fi re ke rr tw m (nI q)) (fun q _ => ∀ q', q' < q → V q' ≠ x) 512 () (fun q' z => absurd z (Nat.not_lt_zero _)) ?_ ?_
  · intro m _ hs
    exact br_t (nI_le (a := 512) (b := 512) (Nat.le_refl _) (by decide)) (h2 hs)
  · intro m q _ hq hs ih
    refine br_f (nI_ge (b := 512) hq (by decide)) ?_
    refine dt_valueAt hv hq (hV q hq) (fun b hb => hp b q hb hq) ?_
    have h8 := hV q hq
    refine pk_eq (V q) x (fun e => h1 q hq e hs) (fun e => nm_r (nI_1 q) (ih () (fun q' hq' => ?_)))
    by_cases c : q' = q
    · rw [c]; exact e
    · exact hs q' (by omega)
theorem dt_xpossible {post : Int32 → SX → Prop} {v : Nat} {V : Nat → Nat} (hv : v < 8) (hV : ∀ q, q < 512 → V q < 8) (hp : ∀ b q, b < 3 → q < 512 → dt_bb pl (3 * v + b) q = (V q).testBit b) (h : post (nI (dt_set (fun x => dt_any (fun q => decide (V q = x)) 512) 8)) (tc, kn, cc, co, po, df, rc, so, ro, pl, fi, re, ke, rr, tw)) : ∃ n18 : Nat, wX_possible_18 post (nI v) tc kn cc co po df rc so ro pl fi re ke rr tw n18 0 0 := by
  refine loop_0 (fun m x (s : Nat) => wX_possible_18 post (nI v) tc kn cc co po df rc so ro pl fi re ke rr tw m (nI s) (nI x)) (fun x s => s = dt_set (fun x => dt_any (fun q => decide (V q = x)) 512) x) 8 0 rfl ?_ ?_
  · intro m s hs
    subst hs
    exact br_t (nI_le (a := 8) (b := 8) (Nat.le_refl _) (by decide)) h
  · intro m x s hx hs ih
    refine br_f (nI_ge (b := 8) hx (by decide)) ?_
    have es : dt_set (fun x => dt_any (fun q => decide (V q = x)) 512) (x + 1) = if dt_any (fun q => decide (V q = x)) 512 = true then dt_set (fun x => dt_any (fun q => decide (V q = x)) 512) x ||| 2 ^ x else dt_set (fun x => dt_any (fun q => decide (V q = x)) 512) x := rfl
    refine loop_0 (fun n27 w (y : Nat) => wX_possible_27 post (wX_possible_18 post (nI v) tc kn cc co po df rc so ro pl fi re ke rr tw m) (nI v) (nI x) tc kn cc co po df rc so ro pl fi re ke rr tw n27 (nI y) (nI w)) (fun w y => ((∀ q, q < 512 → q / 64 < w → V q ≠ x) ∧ y = s) ∨ ((∃ q, q < 512 ∧ V q = x) ∧ y = s ||| 2 ^ x)) 8 s (Or.inl ⟨fun q _ z => absurd z (Nat.not_lt_zero _), rfl⟩) ?_ ?_
    · intro n27 y hy
      refine br_t (nI_le (a := 8) (b := 8) (Nat.le_refl _) (by decide)) (nm_r (nI_1 x) (ih y ?_))
      rcases hy with ⟨h1, h2⟩ | ⟨⟨q, hq, e⟩, h2⟩
      · rw [es, if_neg (by rw [dt_any_false.mpr (fun q hq => decide_eq_false (h1 q hq (by omega)))]; decide), h2, hs]
      · rw [es, if_pos (dt_any_iff.mpr ⟨q, hq, decide_eq_true e⟩), h2, hs]
    · intro n27 w y hw hy ih2
      refine br_f (nI_ge (b := 8) hw (by decide)) ?_
      rw [dt_m24]
      refine dt_agree hv hw hx hV hp (fun r hr => br_c (fun hz => nm_r (nI_1 w) (ih2 y ?_)) (fun hz => nm_r (dt_or1 y (by omega)) (nm_r (nI_1 w) (ih2 _ ?_))))
      · rcases hy with ⟨h1, h2⟩ | hy
        · refine Or.inl ⟨fun q hq hqw => ?_, h2⟩
          by_cases c : q / 64 = w
          · have := hr (q % 64) (Nat.mod_lt _ (by decide))
            rw [hz, dt_lb_0, show 64 * w + q % 64 = q from by omega] at this
            exact of_decide_eq_false this.symm
          · exact h1 q hq (by omega)
        · exact Or.inr hy
      · have hex : ∃ q, q < 512 ∧ V q = x := by
          apply Classical.byContradiction
          intro z
          refine hz (dt_lb_z.mpr (fun i hi => ?_))
          rw [hr i hi]
          exact decide_eq_false (fun e => z ⟨64 * w + i, by omega, e⟩)
        refine Or.inr ⟨hex, ?_⟩
        rcases hy with ⟨_, h2⟩ | ⟨_, h2⟩
        · rw [h2]
        · rw [h2, Nat.or_assoc, Nat.or_self]
end
end
section
/-! the component: needless, depends, rising, same, the constructor -/
theorem dt_all_mono {f : Nat → Bool} {k m : Nat} (h : k ≤ m) (hf : dt_all f k = false) : dt_all f m = false := by
  apply dt_nt
  intro z
  have : dt_all f k = true := dt_all_iff.mpr (fun i hi => dt_all_iff.mp z i (by omega))
  rw [hf] at this
  exact (nomatch this)
theorem dt_k3 {k : Nat} (hk : k < 9) (x : Int32) : ((24 : Int32) * (nI k / 3)) + (8 * (nI k - nI k / 3 * 3)) + x = nI (8 * k) + x := by
  have e1 : nI k - nI k / 3 * 3 = nI (k % 3) := pk_rem (d := 3) (by omega) (by decide) (by decide)
  have e2 : nI k / 3 = nI (k / 3) := pk_div (d := 3) (by omega) (by decide) (by decide)
  rw [e1, e2, dt_m24, dt_m8, nI_add]
  exact congrArg (fun y => y + x) (congrArg nI (by omega))
/-! ===== what bits of a case say ===== -/
theorem dt_tb6 {w i k : Nat} (hi : i < 64) : (64 * w + i).testBit k = if k < 6 then i.testBit k else w.testBit (k - 6) := Nat.testBit_two_pow_mul_add w (i := 6) hi k
theorem dt_lo64 : ∀ k, k < 6 → ∀ i, i < 64 → i.testBit k = false → i + 2 ^ k < 64 := by decide +kernel
theorem dt_hi8 : ∀ k, k < 3 → ∀ w, w < 8 → (w.testBit k = false → w ||| 2 ^ k = w + 2 ^ k ∧ w + 2 ^ k < 8) ∧ (w.testBit k = true → w ||| 2 ^ k = w) := by decide +kernel
section
variable {tc kn : Int32} {cc co po df rc so ro : Nat → Int32} {pl fi re ke rr tw : Nat → Int64}
theorem dt_changes {post : Int32 → Prop} {j k : Nat} (hj : j < 24) (hk : k < 9) (hin : ∀ j' q, j' < 9 → q < 512 → dt_bb pl j' q = q.testBit j') (h0 : (∀ q, q < 512 → q.testBit k = false → dt_bb pl j q = dt_bb pl j (q + 2 ^ k)) → post 0) (h1 : (∃ q, q < 512 ∧ q.testBit k = false ∧ dt_bb pl j q ≠ dt_bb pl j (q + 2 ^ k)) → post 1) : wpX_changes post (tc, kn, cc, co, po, df, rc, so, ro, pl, fi, re, ke, rr, tw) (nI (8 * j)) (nI k) := by
  refine loop_0 (fun m w (_ : Unit) => wX_changes_2 post (nI (8 * j)) (nI k) tc kn cc co po df rc so ro pl fi re ke rr tw m (nI w)) (fun w _ => ∀ q, q < 512 → q / 64 < w → q.testBit k = false → dt_bb pl j q = dt_bb pl j (q + 2 ^ k)) 8 () (fun q _ z => absurd z (Nat.not_lt_zero _)) ?_ ?_
  · intro m _ hs
    exact br_t (nI_le (a := 8) (b := 8) (Nat.le_refl _) (by decide)) (h0 (fun q hq => hs q hq (by omega)))
  · intro m w _ hw hs ih
    refine br_f (nI_ge (b := 8) hw (by decide)) ?_
    -- the end of a word, for any word 'there' and mask
    have fin : ∀ z bits : Int64, (∀ i, i < 64 → dt_lb bits i = true → (64 * w + i).testBit k = false ∧ dt_lb z i = dt_bb pl j (64 * w + i + 2 ^ k) ∨ dt_lb (pl (8 * j + w)) i = dt_lb z i) → (∀ i, i < 64 → (64 * w + i).testBit k = false → dt_lb bits i = true ∧ dt_lb z i = dt_bb pl j (64 * w + i + 2 ^ k)) → wX_changes_96 post (wX_changes_2 post (nI (8 * j)) (nI k) tc kn cc co po df rc so ro pl fi re ke rr tw m) (nI (8 * j)) (nI k) (nI w) (pl (8 * j + w)) bits z tc kn cc co po df rc so ro pl fi re ke rr tw := by
      intro z bits hA hB
      unfold wX_changes_96
      refine br_c (fun hz => nm_r (nI_1 w) (ih () (fun q hq hqw hb => ?_))) (fun hz => h1 ?_)
      · by_cases e : q / 64 = w
        · have eq : 64 * w + q % 64 = q := by omega
          have hm : q % 64 < 64 := Nat.mod_lt _ (by decide)
          obtain ⟨b1, b2⟩ := hB (q % 64) hm (by rw [eq]; exact hb)
          have hzi : dt_lb ((pl (8 * j + w) ^^^ z) &&& bits) (q % 64) = false := by rw [hz, dt_lb_0]
          rw [dt_lb_and, dt_lb_xor, b1, b2, dt_bb_eq rfl hm, eq, Bool.and_true] at hzi
          revert hzi
          cases dt_bb pl j q <;> cases dt_bb pl j (q + 2 ^ k) <;> simp
        · exact hs q hq (by omega) hb
      · apply Classical.byContradiction
        intro hne
        refine hz (dt_lb_z.mpr (fun i hi => ?_))
        rw [dt_lb_and, dt_lb_xor]
        apply dt_nt
        intro ht
        rw [Bool.and_eq_true] at ht
        rcases hA i hi ht.2 with ⟨a1, a2⟩ | a
        · refine hne ⟨64 * w + i, by omega, a1, fun z2 => ?_⟩
          have h5 := ht.1
          rw [a2, ← z2, dt_bb_eq rfl hi, Bool.xor_self] at h5
          exact (nomatch h5)
        · have h5 := ht.1
          rw [a, Bool.xor_self] at h5
          exact (nomatch h5)
    rw [nI_add, nI_clamp (n := 8 * j + w) (by omega)]
    refine ⟨vp_in_nI (by omega) (by decide), nm_e (pk_le 6 k (fun c => ?_) (fun c => ⟨by decide, by decide, ?_⟩))⟩
    · unfold wX_changes_54
      refine pk_le 6 k (fun c2 => pk_le 6 k (fun c3 => ?_) (fun c3 => absurd c3 (by omega))) (fun c2 => absurd c2 (by omega))
      unfold wX_changes_92
      have hw3 := dt_hi8 (k - 6) (by omega) w hw
      have hor : w ||| 2 ^ (k - 6) < 8 := Nat.or_lt_two_pow (n := 3) hw (Nat.pow_lt_pow_right (by decide) (by omega))
      rw [show nI k - 6 = nI (k - 6) from pk_sub (b := 6) c, dt_or1 w (by omega), nI_add, nI_clamp (n := 8 * j + (w ||| 2 ^ (k - 6))) (by omega)]
      have hp : 2 ^ k = 64 * 2 ^ (k - 6) := by
        rw [show (64 : Nat) = 2 ^ 6 from rfl, ← Nat.pow_add]
        exact congrArg (fun e => 2 ^ e) (by omega)
      refine ⟨vp_in_nI (by omega) (by decide), fin _ _ (fun i hi _ => ?_) (fun i hi hb => ?_)⟩
      · cases e : w.testBit (k - 6) with
        | true => right; rw [hw3.2 e]
        | false =>
          left
          refine ⟨by rw [dt_tb6 hi, if_neg (by omega)]; exact e, ?_⟩
          rw [dt_bb_eq rfl hi, (hw3.1 e).1, hp]
          exact congrArg (dt_bb pl j) (by omega)
      · rw [dt_tb6 hi, if_neg (by omega)] at hb
        refine ⟨dt_lb_m1 i hi, ?_⟩
        rw [dt_bb_eq rfl hi, (hw3.1 hb).1, hp]
        exact congrArg (dt_bb pl j) (by omega)
    · rw [dt_k3 hk, nI_add, nI_clamp (n := 8 * k + w) (by omega)]
      refine ⟨vp_in_nI (by omega) (by decide), ?_⟩
      unfold wX_changes_54
      refine pk_le 6 k (fun c2 => absurd c2 (by omega)) (fun c2 => ?_)
      have h64 : 2 ^ k < 64 := (by decide : ∀ k, k < 6 → 2 ^ k < 64) k c
      rw [dt_shl1 (by omega)]
      have hz : ∀ i, i < 64 → (64 * w + i).testBit k = false → dt_lb ((pl (8 * j + w)).toUInt64 >>> ((nI (2 ^ k)).toInt64.toUInt64 &&& Int64.toUInt64 63)).toInt64 i = dt_bb pl j (64 * w + i + 2 ^ k) := by
        intro i hi hb
        rw [dt_tb6 hi, if_pos c] at hb
        have := dt_lo64 k c i hi hb
        rw [dt_lb_ushr _ h64, dt_bb_eq rfl (by omega)]
        exact congrArg (dt_bb pl j) (by omega)
      have hbits : ∀ i, i < 64 → dt_lb (pl (8 * k + w) ^^^ (-1)) i = !((64 * w + i).testBit k) := by
        intro i hi
        rw [dt_lb_not _ hi, dt_bb_eq rfl hi, hin k _ hk (by omega)]
      refine fin _ _ (fun i hi hb => Or.inl ?_) (fun i hi hb => ⟨by rw [hbits i hi, hb]; rfl, hz i hi hb⟩)
      rw [hbits i hi] at hb
      have hb2 : (64 * w + i).testBit k = false := by
        cases e : (64 * w + i).testBit k with
        | false => rfl
        | true => rw [e] at hb; exact (nomatch hb)
      exact ⟨hb2, hz i hi hb2⟩
/-- does plane j change with bit k -/
def dt_chg (pl : Nat → Int64) (j k : Nat) : Bool := dt_any (fun q => !(q.testBit k) && (dt_bb pl j q != dt_bb pl j (q + 2 ^ k))) 512
theorem dt_changes' {post : Int32 → Prop} {j k : Nat} (hj : j < 24) (hk : k < 9) (hin : ∀ j' q, j' < 9 → q < 512 → dt_bb pl j' q = q.testBit j') (h0 : dt_chg pl j k = false → post 0) (h1 : dt_chg pl j k = true → post 1) : wpX_changes post (tc, kn, cc, co, po, df, rc, so, ro, pl, fi, re, ke, rr, tw) (nI (8 * j)) (nI k) := by
  refine dt_changes hj hk hin (fun h => h0 (dt_any_false.mpr (fun q hq => ?_))) (fun h => h1 ?_)
  · cases e : q.testBit k with
    | true => rfl
    | false => rw [h q hq e]; simp
  · obtain ⟨q, hq, e, hne⟩ := h
    refine dt_any_iff.mpr ⟨q, hq, ?_⟩
    rw [e]
    simpa using hne
theorem dt_xdepends {post : Int32 → SX → Prop} {v : Nat} (hv : v < 8) (hin : ∀ j' q, j' < 9 → q < 512 → dt_bb pl j' q = q.testBit j') (h : post (nI (dt_set (fun i => dt_any (fun k => decide (k / 3 = i) && dt_any (fun b => dt_chg pl (3 * v + b) k) 3) 9) 3)) (tc, kn, cc, co, po, df, rc, so, ro, pl, fi, re, ke, rr, tw)) : ∃ n18 : Nat, wX_depends_18 post (nI v) tc kn cc co po df rc so ro pl fi re ke rr tw n18 0 0 := by
  refine loop_0 (fun m k (s : Nat) => wX_depends_18 post (nI v) tc kn cc co po df rc so ro pl fi re ke rr tw m (nI s) (nI k)) (fun k s => s = dt_set (fun i => dt_any (fun k => decide (k / 3 = i) && dt_any (fun b => dt_chg pl (3 * v + b) k) 3) k) 3) 9 0 (dt_set0.mpr (fun _ _ => rfl)).symm ?_ ?_
  · intro m s hs
    subst hs
    exact br_t (nI_le (a := 9) (b := 9) (Nat.le_refl _) (by decide)) h
  · intro m k s hk hs ih
    refine br_f (nI_ge (b := 9) hk (by decide)) ?_
    refine loop_0 (fun n27 b (y : Nat) => wX_depends_27 post (wX_depends_18 post (nI v) tc kn cc co po df rc so ro pl fi re ke rr tw m) (nI v) (nI k) tc kn cc co po df rc so ro pl fi re ke rr tw n27 (nI y) (nI b)) (fun b y => y = if dt_any (fun b => dt_chg pl (3 * v + b) k) b = true then s ||| 2 ^ (k / 3) else s) 3 s rfl ?_ ?_
    · intro n27 y hy
      refine br_t (nI_le (a := 3) (b := 3) (Nat.le_refl _) (by decide)) (nm_r (nI_1 k) (ih y ?_))
      rw [hy]
      apply Nat.eq_of_testBit_eq
      intro i
      rw [dt_set_bit, dt_any_s _ k]
      by_cases e : dt_any (fun b => dt_chg pl (3 * v + b) k) 3 = true
      · rw [if_pos e, e, Bool.and_true, Nat.testBit_or, Nat.testBit_two_pow, hs, dt_set_bit]
        by_cases c : k / 3 = i
        · rw [decide_eq_true c, decide_eq_true (show i < 3 from by omega)]; simp
        · rw [decide_eq_false c]; simp
      · rw [if_neg e, dt_nt e, Bool.and_false, Bool.or_false, hs, dt_set_bit]
    · intro n27 b y hb hy ih2
      refine br_f (nI_ge (b := 3) hb (by decide)) ?_
      have e : (24 : Int32) * nI v + 8 * nI b = nI (8 * (3 * v + b)) := by
        rw [dt_m24, dt_m8, nI_add]
        exact congrArg nI (by omega)
      rw [e]
      refine dt_changes' (by omega) hk hin (fun hz => ?_) (fun hz => ?_)
      · refine br_t rfl (nm_r (nI_1 b) (ih2 y ?_))
        rw [hy, dt_any_s, hz, Bool.or_false]
      · refine br_f (by decide) ⟨by decide, ?_⟩
        rw [show nI k / 3 = nI (k / 3) from pk_div (d := 3) (by omega) (by decide) (by decide)]
        refine nm_r (dt_or1 y (by omega)) (nm_r (nI_1 b) (ih2 _ ?_))
        rw [dt_any_s, hz, Bool.or_true, if_pos rfl, hy]
        by_cases c : dt_any (fun b => dt_chg pl (3 * v + b) k) b = true
        · rw [if_pos c, Nat.or_assoc, Nat.or_self]
        · rw [if_neg c]
theorem dt_d7 {i q : Nat} (hi : i < 3) (hq : q < 512) (h : q / 8 ^ i % 8 < 7) : q + 8 ^ i < 512 := by
  have h3 : i = 0 ∨ i = 1 ∨ i = 2 := by omega
  rcases h3 with e | e | e <;> subst e <;> omega
theorem dt_xrising {post : Int32 → SX → Prop} {v i : Nat} {V : Nat → Nat} (hv : v < 8) (hi : i < 3) (hV : ∀ q, q < 512 → V q < 8) (hp : ∀ b q, b < 3 → q < 512 → dt_bb pl (3 * v + b) q = (V q).testBit b) (h1 : (∀ q, q < 512 → q / 8 ^ i % 8 < 7 → V q ≤ V (q + 8 ^ i)) → post 1 (tc, kn, cc, co, po, df, rc, so, ro, pl, fi, re, ke, rr, tw)) (h0 : (∃ q, q < 512 ∧ q / 8 ^ i % 8 < 7 ∧ ¬ V q ≤ V (q + 8 ^ i)) → post 0 (tc, kn, cc, co, po, df, rc, so, ro, pl, fi, re, ke, rr, tw)) : ∃ n32 : Nat, wX_rising_32 post (nI v) (nI i) (nI (8 ^ i)) tc kn cc co po df rc so ro pl fi re ke rr tw n32 0 := by
  have hp8 := dt_8p (c := i) hi
  refine loop_0 (fun m q (_ : Unit) => wX_rising_32 post (nI v) (nI i) (nI (8 ^ i)) tc kn cc co po df rc so ro pl fi re ke rr tw m (nI q)) (fun q _ => ∀ q', q' < q → q' / 8 ^ i % 8 < 7 → V q' ≤ V (q' + 8 ^ i)) 512 () (fun q' z => absurd z (Nat.not_lt_zero _)) ?_ ?_
  · intro m _ hs
    exact br_t (nI_le (a := 512) (b := 512) (Nat.le_refl _) (by decide)) (h1 hs)
  · intro m q _ hq hs ih
    refine br_f (nI_ge (b := 512) hq (by decide)) ?_
    rw [dt_m3, dt_shr (by omega) (by omega), dt_p8, dt_and7 _ (Nat.lt_of_le_of_lt (Nat.div_le_self _ _) (by omega))]
    refine pk_le 7 (q / 8 ^ i % 8) (fun c => nm_r (nI_1 q) (ih () (fun q' hq' hd => ?_))) (fun c => ?_)
    · by_cases e : q' = q
      · rw [e] at hd; omega
      · exact hs q' (by omega) hd
    · have h512 := dt_d7 hi hq c
      refine dt_valueAt hv hq (hV q hq) (fun b hb => hp b q hb hq) ?_
      rw [nI_add]
      refine dt_valueAt hv h512 (hV _ h512) (fun b hb => hp b _ hb h512) ?_
      have a1 := hV q hq
      have a2 := hV _ h512
      refine pk_le (V q) (V (q + 8 ^ i)) (fun c2 => nm_r (nI_1 q) (ih () (fun q' hq' hd => ?_))) (fun c2 => h0 ⟨q, hq, c, by omega⟩)
      by_cases e : q' = q
      · rw [e]; exact c2
      · exact hs q' (by omega) hd
theorem dt_xsame {post : Int32 → SX → Prop} {v w : Nat} (hv : v < 8) (hw : w < 8) (h1 : (∀ k, k < 24 → pl (24 * v + k) = pl (24 * w + k)) → post 1 (tc, kn, cc, co, po, df, rc, so, ro, pl, fi, re, ke, rr, tw)) (h0 : (∃ k, k < 24 ∧ pl (24 * v + k) ≠ pl (24 * w + k)) → post 0 (tc, kn, cc, co, po, df, rc, so, ro, pl, fi, re, ke, rr, tw)) : ∃ n24 : Nat, wX_same_24 post (nI v) (nI w) tc kn cc co po df rc so ro pl fi re ke rr tw n24 0 := by
  refine loop_0 (fun m k (_ : Unit) => wX_same_24 post (nI v) (nI w) tc kn cc co po df rc so ro pl fi re ke rr tw m (nI k)) (fun k _ => ∀ k', k' < k → pl (24 * v + k') = pl (24 * w + k')) 24 () (fun q' z => absurd z (Nat.not_lt_zero _)) ?_ ?_
  · intro m _ hs
    exact br_t (nI_le (a := 24) (b := 24) (Nat.le_refl _) (by decide)) (h1 hs)
  · intro m k _ hk hs ih
    refine br_f (nI_ge (b := 24) hk (by decide)) ?_
    rw [dt_m24, dt_m24, nI_add, nI_add, nI_clamp (n := 24 * v + k) (by omega), nI_clamp (n := 24 * w + k) (by omega)]
    refine ⟨vp_in_nI (by omega) (by decide), vp_in_nI (by omega) (by decide), br_c (fun z => nm_r (nI_1 k) (ih () (fun k' hk' => ?_))) (fun z => h0 ⟨k, hk, z⟩)⟩
    by_cases e : k' = k
    · rw [e]; exact z
    · exact hs k' (by omega)
/-- needless, behind isTable -/
theorem dt_xneed {post : Int32 → SX → Prop} {t n w p d : Nat} {st rs : Nat → Nat} (ht : t < 5) (hrc : rc t = nI n) (hn : n ≤ 8) (hcc : cc t = nI w) (hw : w ≤ 3) (hso : ∀ r, r < n → so (8 * t + r) = nI (st r) ∧ st r < 2 ^ 24) (hin : ∀ v b q, v < 3 → b < 3 → q < 512 → dt_bb pl (3 * v + b) q = (q / 8 ^ v % 8).testBit b)
    (hpo : po t = nI p) (hp5 : p ≤ 5) (hdf : df t = nI d) (hd : d < 8) (hro : ∀ r, r < n → ro (8 * t + r) = nI (rs r)) (hrs : ∀ r, rs r < 8)
    (h : ∀ fi' re' ke' rr' tw', post (nI (dt_set (fun r => dt_all (fun q => dt_res p d rs (dt_G n w st (fun c => q / 8 ^ c % 8)) == dt_res p d rs (fun x => !(x == r) && dt_G n w st (fun c => q / 8 ^ c % 8) x)) 512) n)) (tc, kn, cc, co, po, df, rc, so, ro, pl, fi', re', ke', rr', tw')) : wpX_findResult (fun u => match u with | (tc, kn, cc, co, po, df, rc, so, ro, pl, fi, re, ke, rr, tw) => ∃ n19 : Nat, wX_needless_19 post (nI t) tc kn n19 0 cc co po df rc so ro pl fi re ke rr tw) (tc, kn, cc, co, po, df, rc, so, ro, pl, fi, re, ke, rr, tw) (nI t) 1 (-1) := by
  have hit : vp_in (nI t) 5 := vp_in_nI ht (by decide)
  have fr : ∀ (lf : Int32) (L : Nat → Bool) (post' : SX → Prop) (fi re ke rr tw : Nat → Int64), (∀ r, r < 8 → (nI r = lf ↔ L r = true)) → (∀ fi' re' rr' tw', (∀ b q, b < 3 → q < 512 → dt_bb re' b q = (dt_res p d rs (fun r => !(L r) && dt_G n w st (fun c => q / 8 ^ c % 8) r)).testBit b) → post' (tc, kn, cc, co, po, df, rc, so, ro, pl, fi', re', ke, rr', tw')) → wpX_findResult post' (tc, kn, cc, co, po, df, rc, so, ro, pl, fi, re, ke, rr, tw) (nI t) 1 lf := by
    intro lf L post' fi re ke rr tw hL h2
    exact dt_findResult (cl := fun c => c) (VV := fun c q => q / 8 ^ c % 8) ht hrc hn hcc hw hso (fun c hc => ⟨by omega, Or.inr ⟨by decide, rfl⟩⟩) hL (fun c q _ _ => Nat.mod_lt _ (by decide)) (fun c hc b q hb hq => hin c b q (by omega) hb hq) hpo hp5 hdf hd hro hrs h2
  refine fr (-1) (fun _ => false) _ fi re ke rr tw dt_Lm1 (fun fi1 re1 rr1 tw1 h1 => ?_)
  dsimp only at h1 ⊢
  have hR : ∀ b q, b < 3 → q < 512 → dt_bb re1 b q = (dt_res p d rs (dt_G n w st (fun c => q / 8 ^ c % 8))).testBit b := fun b q hb hq => h1 b q hb hq
  refine loop_0 (fun m k s => wX_needless_19 post (nI t) tc kn m (nI k) cc co po df rc so ro pl fi1 re1 s rr1 tw1) (fun k s => ∀ k', k' < k → s k' = re1 k') 24 ke (fun k' z => absurd z (Nat.not_lt_zero _)) ?_ ?_
  · intro m ke1 hke
    refine br_t (nI_le (a := 24) (b := 24) (Nat.le_refl _) (by decide)) ?_
    have hK : ∀ b q, b < 3 → q < 512 → dt_bb ke1 b q = (dt_res p d rs (dt_G n w st (fun c => q / 8 ^ c % 8))).testBit b := by
      intro b q hb hq
      rw [← hR b q hb hq]
      unfold dt_bb
      rw [hke _ (by omega)]
    refine loop_0 (fun n47 r (s : Nat × (Nat → Int64) × (Nat → Int64) × (Nat → Int64) × (Nat → Int64)) => wX_needless_47 post (nI t) n47 (nI s.1) (nI r) tc kn cc co po df rc so ro pl s.2.1 s.2.2.1 ke1 s.2.2.2.1 s.2.2.2.2) (fun r s => s.1 = dt_set (fun r => dt_all (fun q => dt_res p d rs (dt_G n w st (fun c => q / 8 ^ c % 8)) == dt_res p d rs (fun x => !(x == r) && dt_G n w st (fun c => q / 8 ^ c % 8) x)) 512) r) n (0, fi1, re1, rr1, tw1) rfl ?_ ?_
    · intro n47 s hs
      obtain ⟨s1, f2, r2, rr2, t2⟩ := s
      dsimp only at hs ⊢
      subst hs
      refine ⟨hit, ?_⟩
      rw [nI_clamp (by omega), hrc]
      exact br_t (nI_le (Nat.le_refl _) (by omega)) (h _ _ _ _ _)
    · intro n47 r s hr hs ih
      obtain ⟨s1, f2, r2, rr2, t2⟩ := s
      dsimp only at hs ih ⊢
      refine ⟨hit, ?_⟩
      rw [nI_clamp (by omega), hrc]
      refine br_f (nI_ge hr (by omega)) ?_
      refine fr (nI r) (fun x => x == r) _ f2 r2 ke1 rr2 t2 (fun x hx => ?_) (fun f3 r3 rr3 t3 h3 => ?_)
      · rw [nI_eq (by omega) (by omega), beq_iff_eq]
      · dsimp only at h3 ⊢
        -- the words are equal as the values are
        have hE : dt_all (fun k => decide (ke1 k = r3 k)) 24 = dt_all (fun q => dt_res p d rs (dt_G n w st (fun c => q / 8 ^ c % 8)) == dt_res p d rs (fun x => !(x == r) && dt_G n w st (fun c => q / 8 ^ c % 8) x)) 512 := by
          apply Bool.eq_iff_iff.mpr
          rw [dt_all_iff, dt_all_iff]
          constructor
          · intro hw2 q hq
            rw [beq_iff_eq]
            have l1 : dt_res p d rs (dt_G n w st (fun c => q / 8 ^ c % 8)) < 2 ^ 3 := dt_res_lt hrs hd
            have l2 : dt_res p d rs (fun x => !(x == r) && dt_G n w st (fun c => q / 8 ^ c % 8) x) < 2 ^ 3 := dt_res_lt hrs hd
            rw [← dt_set_of l1, ← dt_set_of l2]
            apply dt_set_ext
            intro b hb
            rw [← hK b q hb hq, ← h3 b q hb hq]
            unfold dt_bb
            rw [of_decide_eq_true (hw2 (8 * b + q / 64) (by omega))]
          · intro hv k hk
            apply decide_eq_true
            apply dt_lb_ext
            intro i hi
            have hq : 64 * (k % 8) + i < 512 := by omega
            rw [dt_bb_eq (j := k / 8) (w := k % 8) (by omega) hi, dt_bb_eq (j := k / 8) (w := k % 8) (by omega) hi, hK _ _ (by omega) hq, h3 _ _ (by omega) hq, beq_iff_eq.mp (hv _ hq)]
        have es : dt_set (fun r => dt_all (fun q => dt_res p d rs (dt_G n w st (fun c => q / 8 ^ c % 8)) == dt_res p d rs (fun x => !(x == r) && dt_G n w st (fun c => q / 8 ^ c % 8) x)) 512) (r + 1) = if dt_all (fun q => dt_res p d rs (dt_G n w st (fun c => q / 8 ^ c % 8)) == dt_res p d rs (fun x => !(x == r) && dt_G n w st (fun c => q / 8 ^ c % 8) x)) 512 = true then dt_set (fun r => dt_all (fun q => dt_res p d rs (dt_G n w st (fun c => q / 8 ^ c % 8)) == dt_res p d rs (fun x => !(x == r) && dt_G n w st (fun c => q / 8 ^ c % 8) x)) 512) r ||| 2 ^ r else dt_set (fun r => dt_all (fun q => dt_res p d rs (dt_G n w st (fun c => q / 8 ^ c % 8)) == dt_res p d rs (fun x => !(x == r) && dt_G n w st (fun c => q / 8 ^ c % 8) x)) 512) r := rfl
        rw [← hE, ← hs] at es
        have c113 : ∀ f : Int32, f = (if dt_all (fun k => decide (ke1 k = r3 k)) 24 = true then 1 else 0) → wX_needless_113 post (wX_needless_47 post (nI t) n47) (nI t) (nI s1) (nI r) f tc kn cc co po df rc so ro pl f3 r3 ke1 rr3 t3 := by
          intro f hf
          unfold wX_needless_113
          by_cases z : dt_all (fun k => decide (ke1 k = r3 k)) 24 = true
          · rw [if_pos z] at hf es
            subst hf
            exact br_f (by decide) (nm_r (dt_or1 s1 (by omega)) (nm_r (nI_1 r) (ih (s1 ||| 2 ^ r, f3, r3, rr3, t3) es.symm)))
          · rw [if_neg z] at hf es
            subst hf
            exact br_t rfl (nm_r (nI_1 r) (ih (s1, f3, r3, rr3, t3) es.symm))
        refine loop_0 (fun n70 k (f : Int32) => wX_needless_70 post (wX_needless_47 post (nI t) n47) (nI t) (nI s1) (nI r) tc kn cc co po df rc so ro pl f3 r3 ke1 rr3 t3 n70 f (nI k)) (fun k f => f = if dt_all (fun k => decide (ke1 k = r3 k)) k = true then 1 else 0) 24 1 rfl ?_ ?_
        · intro n70 f hf
          exact br_t (nI_le (a := 24) (b := 24) (Nat.le_refl _) (by decide)) (c113 f hf)
        · intro n70 k f hk hf ih2
          refine br_f (nI_ge (b := 24) hk (by decide)) ?_
          by_cases z : dt_all (fun k => decide (ke1 k = r3 k)) k = true
          · rw [if_pos z] at hf
            subst hf
            refine br_f (by decide) ?_
            have hi : vp_in (nI k) 24 := vp_in_nI hk (by decide)
            rw [nI_clamp (by omega)]
            refine ⟨hi, hi, br_c (fun e => nm_r (nI_1 k) (ih2 1 ?_)) (fun e => nm_r (nI_1 k) (ih2 0 ?_))⟩
            · rw [dt_all_s, z, decide_eq_true e]; rfl
            · rw [dt_all_s, z, decide_eq_false e]; rfl
          · rw [if_neg z] at hf
            refine br_t hf (c113 f ?_)
            rw [hf, dt_all_mono (by omega) (dt_nt z)]; rfl
  · intro m k s hk hs ih
    have hi : vp_in (nI k) 24 := vp_in_nI hk (by decide)
    refine br_f (nI_ge (b := 24) hk (by decide)) ⟨hi, hi, ?_⟩
    rw [nI_clamp (by omega)]
    refine nm_e (nm_r (nI_1 k) (ih _ (fun k' hk' => ?_)))
    by_cases e : k' = k
    · rw [e, pk_uLs]
    · rw [pk_uLn e]; exact hs k' (by omega)
end
/-! ===== the constructor ===== -/
theorem dt_xinit {post : SX → Prop} (h : ∀ pl : Nat → Int64, (∀ j q, j < 9 → q < 512 → dt_bb pl j q = q.testBit j) → post (0, 0, (fun _ => 0), (fun _ => 0), (fun _ => 0), (fun _ => 0), (fun _ => 0), (fun _ => 0), (fun _ => 0), pl, (fun _ => 0), (fun _ => 0), (fun _ => 0), (fun _ => 0), (fun _ => 0))) : wpX_init post := by
  refine loop_0 (fun m a s => wX_init_107 post 0 0 m (nI a) (fun _ => 0) (fun _ => 0) (fun _ => 0) (fun _ => 0) (fun _ => 0) (fun _ => 0) (fun _ => 0) s (fun _ => 0) (fun _ => 0) (fun _ => 0) (fun _ => 0) (fun _ => 0)) (fun a s => ∀ j q, j < 9 → q < 512 → dt_bb s j q = (decide (q < a) && q.testBit j)) 512 (fun _ => 0) (fun j q _ _ => by rw [decide_eq_false (Nat.not_lt_zero _)]; exact dt_lb_0 _) ?_ ?_
  · intro m s hs
    refine br_t (nI_le (a := 512) (b := 512) (Nat.le_refl _) (by decide)) (h s (fun j q hj hq => ?_))
    rw [hs j q hj hq, decide_eq_true hq, Bool.true_and]
  · intro m a s ha hs ih
    refine br_f (nI_ge (b := 512) ha (by decide)) ?_
    refine loop_0 (fun n116 k s => wX_init_116 post (wX_init_107 post 0 0 m) (nI a) 0 0 n116 (nI k) (fun _ => 0) (fun _ => 0) (fun _ => 0) (fun _ => 0) (fun _ => 0) (fun _ => 0) (fun _ => 0) s (fun _ => 0) (fun _ => 0) (fun _ => 0) (fun _ => 0) (fun _ => 0)) (fun k s => ∀ j q, j < 9 → q < 512 → dt_bb s j q = ((decide (q < a) || (decide (q = a) && decide (j < k))) && q.testBit j)) 9 s (fun j q hj hq => by rw [hs j q hj hq, decide_eq_false (Nat.not_lt_zero j)]; simp) ?_ ?_
    · intro n116 s2 h2
      refine br_t (nI_le (a := 9) (b := 9) (Nat.le_refl _) (by decide)) (nm_r (nI_1 a) (ih s2 (fun j q hj hq => ?_)))
      rw [h2 j q hj hq, decide_eq_true hj, Bool.and_true, ← Bool.decide_or]
      exact congrArg (fun z => z && q.testBit j) (decide_eq_decide.mpr (by omega))
    · intro n116 k s2 hk h2 ih2
      refine br_f (nI_ge (b := 9) hk (by decide)) ?_
      refine br_c (fun hz => nm_r (nI_1 k) (ih2 s2 (fun j q hj hq => ?_))) (fun hz => ⟨by decide, by decide, ?_⟩)
      · rw [dt_bit (by omega) (by omega)] at hz
        rw [h2 j q hj hq]
        by_cases e : q = a ∧ j = k
        · rw [e.1, e.2, hz, Bool.and_false, Bool.and_false]
        · by_cases e2 : q = a
          · rw [show decide (j < k + 1) = decide (j < k) from decide_eq_decide.mpr (by omega)]
          · rw [decide_eq_false e2, Bool.false_and, Bool.false_and]
      · rw [dt_bit (by omega) (by omega)] at hz
        have hi : vp_in (nI (8 * k + a / 64)) 192 := vp_in_nI (by omega) (by decide)
        rw [dt_k3 hk, dt_s6 (by omega), nI_add, nI_clamp (by omega), dt_a63 (by omega)]
        refine ⟨hi, hi, nm_e (nm_r (nI_1 k) (ih2 _ (fun j q hj hq => ?_)))⟩
        rw [dt_bb_upd (j0 := k) (w := a / 64) _ _ _ rfl (by omega) hq]
        by_cases e : j = k ∧ q / 64 = a / 64
        · have hm : q % 64 < 64 := Nat.mod_lt _ (by decide)
          rw [if_pos e, dt_lb_or, dt_lb_shl (by omega) hm, dt_bb_eq rfl hm, show 64 * (a / 64) + q % 64 = q from by omega, h2 k q hk hq, e.1, decide_eq_false (Nat.lt_irrefl k), decide_eq_true (Nat.lt_succ_self k)]
          by_cases e2 : q = a
          · rw [e2, dt_nf hz]; simp
          · rw [decide_eq_false e2, decide_eq_false (show ¬ q % 64 = a % 64 from by omega)]; simp
        · rw [if_neg e, h2 j q hj hq]
          by_cases e2 : q = a
          · rw [show decide (j < k + 1) = decide (j < k) from decide_eq_decide.mpr (by
              have : j ≠ k := fun z => e ⟨z, by rw [e2]⟩
              omega)]
          · rw [decide_eq_false e2, Bool.false_and, Bool.false_and]
end
section
/-! the reference: the loops of the questions -/
def dt_K (cd nr st : Nat → Nat) (t k : Nat) : Nat → Bool := dt_G (nr t) (dt_wd (cd t)) (fun r => st (8 * t + r)) (fun c => k / 8 ^ c % 8)
theorem dt_K_cut {cd nr st : Nat → Nat} {t k r : Nat} (h : nr t ≤ r) : dt_K cd nr st t k r = false := by
  unfold dt_K dt_G
  rw [decide_eq_false (by omega), Bool.false_and]
theorem dt_K_set {cd nr st : Nat → Nat} {t k : Nat} : (fun r => (dt_set (dt_K cd nr st t k) (nr t)).testBit r) = dt_K cd nr st t k := dt_G_set
theorem dt_bt (x : Nat) {i : Nat} (hi : i < 32) : bt (nI x) i = x.testBit i := by
  show (BitVec.ofNat 32 x).getLsbD i = _
  rw [BitVec.getLsbD_ofNat, decide_eq_true hi, Bool.true_and]
theorem dt_andn {a s c : Nat} (h : ∀ i, i < 32 → c.testBit i = (a.testBit i && !(s.testBit i))) : nI a &&& (nI s ^^^ (-1)) = nI c := by
  apply b_ext
  intro i hi
  rw [b_and, b_xor, dt_bt a hi, dt_bt s hi, dt_bt c hi, b_m1 i hi, h i hi, Bool.xor_true]
/-- the case with digit i set to y -/
def dt_ot (i a y : Nat) : Nat := a - a / 8 ^ i % 8 * 8 ^ i + y * 8 ^ i
theorem dt_ot1 : ∀ i, i < 3 → ∀ a, a < 512 → nI a &&& (nI (7 * 2 ^ (3 * i)) ^^^ (-1)) = nI (a - a / 8 ^ i % 8 * 8 ^ i) := by decide +kernel
theorem dt_ot2 : ∀ i, i < 3 → ∀ a, a < 512 → ∀ y, y < 8 → (a - a / 8 ^ i % 8 * 8 ^ i) ||| (y * 2 ^ (3 * i)) = dt_ot i a y := by decide +kernel
theorem dt_ot3 {i a y : Nat} (hi : i < 3) (ha : a < 512) (hy : y < 8) : dt_ot i a y < 512 := by
  unfold dt_ot
  have h3 : i = 0 ∨ i = 1 ∨ i = 2 := by omega
  rcases h3 with e | e | e <;> subst e <;> omega
theorem dt_dif : ∀ a, a < 8 → ∀ b, b < 8 → ((nI a - nI b = 0 ↔ a = b) ∧ (0 ≤ nI a - nI b ↔ b ≤ a)) := by decide +kernel
section
variable {ky : Int32} {cc co va tg : Nat → Int32} {cd po df nr st rs : Nat → Nat} {T : Nat}
theorem dt_ycbs {post : Int32 → Prop} {t : Nat} (ht : t < 5) (hc : cd t < 1000) (h : post (nI (8 ^ dt_wd (cd t)))) : wpY_combinations post (nI T, ky, dt_A cd, dt_A po, dt_A df, dt_A nr, dt_A st, dt_A rs, va, tg) (nI t) := by
  unfold wpY_combinations
  dsimp only
  refine dt_width ht hc ?_
  have hw := (dt_wd3 (cd t)).2
  rw [dt_m3, dt_shl1 (by omega), dt_p8]
  exact h
theorem dt_ygaps {post : Int32 → Prop} {t : Nat} (B : dt_BD po df nr st rs) (ht : t < 5) (hc : cd t < 1000) (h : post (nI (dt_cn (fun k => !(dt_any (dt_K cd nr st t k) (nr t))) (8 ^ dt_wd (cd t))))) : ∃ n14 : Nat, wY_gaps_14 post (nI t) (nI T) ky (dt_A cd) (dt_A po) (dt_A df) (dt_A nr) (dt_A st) (dt_A rs) va tg n14 0 0 := by
  have h8 := dt_8w (dt_wd3 (cd t)).2
  refine loop_0 (fun m k (s : Nat) => wY_gaps_14 post (nI t) (nI T) ky (dt_A cd) (dt_A po) (dt_A df) (dt_A nr) (dt_A st) (dt_A rs) va tg m (nI s) (nI k)) (fun k s => s = dt_cn (fun k => !(dt_any (dt_K cd nr st t k) (nr t))) k) (8 ^ dt_wd (cd t)) 0 rfl ?_ ?_
  · intro m s hs
    subst hs
    rw [wY_gaps_14]
    refine dt_ycbs ht hc ?_
    exact br_t (nI_le (Nat.le_refl _) (by omega)) h
  · intro m k s hk hs ih
    rw [wY_gaps_14]
    refine dt_ycbs ht hc ?_
    refine br_f (nI_ge hk (by omega)) ?_
    refine dt_yfire B ht hc (by omega) ?_
    have hl : dt_set (dt_K cd nr st t k) (nr t) < 2 ^ 8 := dt_set_lt' (B.2.2.1 t)
    have ec : dt_cn (fun k => !(dt_any (dt_K cd nr st t k) (nr t))) (k + 1) = if (!(dt_any (dt_K cd nr st t k) (nr t))) = true then dt_cn (fun k => !(dt_any (dt_K cd nr st t k) (nr t))) k + 1 else dt_cn (fun k => !(dt_any (dt_K cd nr st t k) (nr t))) k := rfl
    refine pk_eq (dt_set (dt_K cd nr st t k) (nr t)) 0 (fun e => ?_) (fun e => ?_)
    · rw [if_pos (by rw [dt_any_false.mpr (dt_set0.mp e)]; rfl)] at ec
      exact nm_r (nI_1 s) (nm_r (nI_1 k) (ih (s + 1) (by rw [ec, hs])))
    · have z : dt_any (dt_K cd nr st t k) (nr t) = true := dt_nf (fun z => e (dt_set0.mpr (dt_any_false.mp z)))
      rw [if_neg (by rw [z]; decide)] at ec
      exact nm_r (nI_1 k) (ih s (by rw [ec, hs]))
theorem dt_ynote {post : SY → Prop} {s : Nat} (hs : s < 256) (h : ∀ tg', (∀ j, j < 64 → tg' j = if (s.testBit (j / 8) && s.testBit (j % 8)) = true then 1 else tg j) → post (nI T, ky, dt_A cd, dt_A po, dt_A df, dt_A nr, dt_A st, dt_A rs, va, tg')) : wpY_note post (nI T, ky, dt_A cd, dt_A po, dt_A df, dt_A nr, dt_A st, dt_A rs, va, tg) (nI s) := by
  refine loop_0 (fun m j g => wY_note_2 post (nI s) (nI T) ky m (nI j) (dt_A cd) (dt_A po) (dt_A df) (dt_A nr) (dt_A st) (dt_A rs) va g) (fun j g => ∀ i, g i = if i < j ∧ (s.testBit (i / 8) && s.testBit (i % 8)) = true then 1 else tg i) 64 tg (fun i => (if_neg (fun z => absurd z.1 (Nat.not_lt_zero _))).symm) ?_ ?_
  · intro m g hg
    refine br_t (nI_le (a := 64) (b := 64) (Nat.le_refl _) (by decide)) (h g (fun j hj => ?_))
    rw [hg j]
    by_cases c : (s.testBit (j / 8) && s.testBit (j % 8)) = true
    · rw [if_pos ⟨hj, c⟩, if_pos c]
    · rw [if_neg (fun z => c z.2), if_neg c]
  · intro m j g hj hg ih
    have e1 : nI j - nI j / 8 * 8 = nI (j % 8) := pk_rem (d := 8) (by omega) (by decide) (by decide)
    have e2 : nI j / 8 = nI (j / 8) := pk_div (d := 8) (by omega) (by decide) (by decide)
    have l1 : s / 2 ^ (j / 8) < 2 ^ 31 := Nat.lt_of_le_of_lt (Nat.div_le_self _ _) (by omega)
    have l2 : s / 2 ^ (j % 8) < 2 ^ 31 := Nat.lt_of_le_of_lt (Nat.div_le_self _ _) (by omega)
    have e3 : ((nI (s / 2 ^ (j / 8)) &&& nI (s / 2 ^ (j % 8))) &&& 1) = 1 ↔ (s.testBit (j / 8) && s.testBit (j % 8)) = true := by
      rw [nx_and, pk_andN (Nat.lt_of_le_of_lt Nat.and_le_left (by omega)) 1 (by decide), show (1 : Int32) = nI 1 from rfl, nI_eq (by omega) (by omega)]
      have e4 : (s / 2 ^ (j / 8) &&& s / 2 ^ (j % 8)).testBit 0 = (s.testBit (j / 8) && s.testBit (j % 8)) := by
        rw [Nat.testBit_and, Nat.testBit_div_two_pow, Nat.testBit_div_two_pow, Nat.zero_add, Nat.zero_add]
      rw [← e4, Nat.testBit_zero, decide_eq_true_eq]
    refine br_f (nI_ge (b := 64) hj (by decide)) ?_
    rw [e1, e2, dt_shr (by omega) (by omega), dt_shr (by omega) (by omega), nI_clamp (by omega)]
    refine ⟨by decide, by decide, br_c (fun z => ⟨vp_in_nI hj (by decide), nm_e (nm_r (nI_1 j) (ih _ (fun i => ?_)))⟩) (fun z => nm_r (nI_1 j) (ih g (fun i => ?_)))⟩
    · rw [e3] at z
      by_cases c : i = j
      · rw [c, pk_us, if_pos ⟨by omega, z⟩]; rfl
      · rw [pk_un c, hg i]
        by_cases d : i < j
        · by_cases f : (s.testBit (i / 8) && s.testBit (i % 8)) = true
          · rw [if_pos ⟨d, f⟩, if_pos ⟨by omega, f⟩]
          · rw [if_neg (fun y => f y.2), if_neg (fun y => f y.2)]
        · rw [if_neg (fun y => d y.1), if_neg (fun y => absurd y.1 (by omega))]
    · rw [e3] at z
      rw [hg i]
      by_cases c : i = j
      · rw [c, if_neg (fun y => z y.2), if_neg (fun y => z y.2)]
      · by_cases d : i < j
        · by_cases f : (s.testBit (i / 8) && s.testBit (i % 8)) = true
          · rw [if_pos ⟨d, f⟩, if_pos ⟨by omega, f⟩]
          · rw [if_neg (fun y => f y.2), if_neg (fun y => f y.2)]
        · rw [if_neg (fun y => d y.1), if_neg (fun y => absurd y.1 (by omega))]
theorem dt_yover {post : Int32 → SY → Prop} {t : Nat} (B : dt_BD po df nr st rs) (ht : t < 5) (hc : cd t < 1000) (h : ∀ tg', post (nI (dt_cn (fun j => decide (j / 8 < j % 8) && dt_any (fun k => dt_K cd nr st t k (j / 8) && dt_K cd nr st t k (j % 8)) (8 ^ dt_wd (cd t))) 64)) (nI T, ky, dt_A cd, dt_A po, dt_A df, dt_A nr, dt_A st, dt_A rs, va, tg')) : ∃ n12 : Nat, wY_overlaps_12 post (nI t) (nI T) ky n12 0 (dt_A cd) (dt_A po) (dt_A df) (dt_A nr) (dt_A st) (dt_A rs) va tg := by
  have h8 := dt_8w (dt_wd3 (cd t)).2
  have last : ∀ g : Nat → Int32, (∀ j, j < 64 → g j = if dt_any (fun k => dt_K cd nr st t k (j / 8) && dt_K cd nr st t k (j % 8)) (8 ^ dt_wd (cd t)) = true then 1 else 0) → ∃ n64 : Nat, wY_overlaps_64 post (nI T) ky (dt_A cd) (dt_A po) (dt_A df) (dt_A nr) (dt_A st) (dt_A rs) va g n64 0 0 := by
    intro g hg
    refine loop_0 (fun m j (s : Nat) => wY_overlaps_64 post (nI T) ky (dt_A cd) (dt_A po) (dt_A df) (dt_A nr) (dt_A st) (dt_A rs) va g m (nI s) (nI j)) (fun j s => s = dt_cn (fun j => decide (j / 8 < j % 8) && dt_any (fun k => dt_K cd nr st t k (j / 8) && dt_K cd nr st t k (j % 8)) (8 ^ dt_wd (cd t))) j) 64 0 rfl ?_ ?_
    · intro m s hs
      subst hs
      exact br_t (nI_le (a := 64) (b := 64) (Nat.le_refl _) (by decide)) (h g)
    · intro m j s hj hs ih
      have e1 : nI j - nI j / 8 * 8 = nI (j % 8) := pk_rem (d := 8) (by omega) (by decide) (by decide)
      have e2 : nI j / 8 = nI (j / 8) := pk_div (d := 8) (by omega) (by decide) (by decide)
      have ec : dt_cn (fun j => decide (j / 8 < j % 8) && dt_any (fun k => dt_K cd nr st t k (j / 8) && dt_K cd nr st t k (j % 8)) (8 ^ dt_wd (cd t))) (j + 1) = if (decide (j / 8 < j % 8) && dt_any (fun k => dt_K cd nr st t k (j / 8) && dt_K cd nr st t k (j % 8)) (8 ^ dt_wd (cd t))) = true then dt_cn (fun j => decide (j / 8 < j % 8) && dt_any (fun k => dt_K cd nr st t k (j / 8) && dt_K cd nr st t k (j % 8)) (8 ^ dt_wd (cd t))) j + 1 else dt_cn (fun j => decide (j / 8 < j % 8) && dt_any (fun k => dt_K cd nr st t k (j / 8) && dt_K cd nr st t k (j % 8)) (8 ^ dt_wd (cd t))) j := rfl
      rw [← hs] at ec
      refine br_f (nI_ge (b := 64) hj (by decide)) ?_
      rw [e1, e2, nI_clamp (by omega), hg j hj]
      refine ⟨by decide, by decide, pk_le (j % 8) (j / 8) (fun c => ?_) (fun c => ⟨vp_in_nI hj (by decide), ?_⟩)⟩
      · rw [decide_eq_false (show ¬ j / 8 < j % 8 from by omega), Bool.false_and, if_neg (by decide)] at ec
        exact nm_r (nI_1 j) (ih s ec.symm)
      · rw [decide_eq_true c, Bool.true_and] at ec
        by_cases z : dt_any (fun k => dt_K cd nr st t k (j / 8) && dt_K cd nr st t k (j % 8)) (8 ^ dt_wd (cd t)) = true
        · rw [if_pos z] at ec ⊢
          exact br_f (by decide) (nm_r (nI_1 s) (nm_r (nI_1 j) (ih (s + 1) ec.symm)))
        · rw [if_neg z] at ec ⊢
          exact br_t rfl (nm_r (nI_1 j) (ih s ec.symm))
  have mid : ∀ g : Nat → Int32, (∀ j, j < 64 → g j = 0) → ∃ n33 : Nat, wY_overlaps_33 post (nI t) n33 0 (nI T) ky (dt_A cd) (dt_A po) (dt_A df) (dt_A nr) (dt_A st) (dt_A rs) va g := by
    intro g hg
    refine loop_0 (fun m k g => wY_overlaps_33 post (nI t) m (nI k) (nI T) ky (dt_A cd) (dt_A po) (dt_A df) (dt_A nr) (dt_A st) (dt_A rs) va g) (fun k g => ∀ j, j < 64 → g j = if dt_any (fun k => dt_K cd nr st t k (j / 8) && dt_K cd nr st t k (j % 8)) k = true then 1 else 0) (8 ^ dt_wd (cd t)) g (fun j hj => hg j hj) ?_ ?_
    · intro m g1 h1
      rw [wY_overlaps_33]
      refine dt_ycbs ht hc ?_
      exact br_t (nI_le (Nat.le_refl _) (by omega)) (last g1 h1)
    · intro m k g1 hk h1 ih
      rw [wY_overlaps_33]
      refine dt_ycbs ht hc ?_
      refine br_f (nI_ge hk (by omega)) ?_
      refine dt_yfire B ht hc (by omega) ?_
      refine dt_ynote (show dt_set (dt_K cd nr st t k) (nr t) < 2 ^ 8 from dt_set_lt' (B.2.2.1 t)) (fun g2 h2 => nm_r (nI_1 k) (ih g2 (fun j hj => ?_)))
      have eK : ∀ r, (dt_set (dt_G (nr t) (dt_wd (cd t)) (fun r => st (8 * t + r)) (fun c => k / 8 ^ c % 8)) (nr t)).testBit r = dt_K cd nr st t k r := fun r => congrFun dt_K_set r
      rw [h2 j hj, eK, eK, dt_any_s, h1 j hj]
      cases dt_any (fun k => dt_K cd nr st t k (j / 8) && dt_K cd nr st t k (j % 8)) k <;> cases (dt_K cd nr st t k (j / 8) && dt_K cd nr st t k (j % 8)) <;> rfl
  refine loop_0 (fun m j g => wY_overlaps_12 post (nI t) (nI T) ky m (nI j) (dt_A cd) (dt_A po) (dt_A df) (dt_A nr) (dt_A st) (dt_A rs) va g) (fun j g => ∀ i, i < j → g i = 0) 64 tg (fun i z => absurd z (Nat.not_lt_zero _)) ?_ ?_
  · intro m g hg
    exact br_t (nI_le (a := 64) (b := 64) (Nat.le_refl _) (by decide)) (mid g hg)
  · intro m j g hj hg ih
    refine br_f (nI_ge (b := 64) hj (by decide)) ⟨vp_in_nI hj (by decide), ?_⟩
    rw [nI_clamp (by omega)]
    refine nm_e (nm_r (nI_1 j) (ih _ (fun i hi => ?_)))
    by_cases c : i = j
    · rw [c, pk_us]; rfl
    · rw [pk_un c]; exact hg i (by omega)
theorem dt_yneed {post : Int32 → Prop} {t : Nat} (B : dt_BD po df nr st rs) (ht : t < 5) (hc : cd t < 1000) (h : post (nI (dt_set (fun r => dt_all (fun k => !(dt_K cd nr st t k r) || (dt_res (po t) (df t) (fun r => rs (8 * t + r)) (fun x => !(x == r) && dt_K cd nr st t k x) == dt_res (po t) (df t) (fun r => rs (8 * t + r)) (dt_K cd nr st t k))) (8 ^ dt_wd (cd t))) (nr t)))) : ∃ n23 : Nat, wY_needless_23 post (nI t) (nI T) ky (dt_A cd) (dt_A po) (dt_A df) (dt_A nr) (dt_A st) (dt_A rs) va tg n23 (nI (2 ^ nr t - 1)) 0 := by
  have h8 := dt_8w (dt_wd3 (cd t)).2
  have hn := B.2.2.1 t
  have hit : vp_in (nI t) 5 := vp_in_nI ht (by decide)
  have hrs : ∀ r, (fun r => rs (8 * t + r)) r < 8 := fun r => B.2.2.2.2 _
  have hd := B.2.1 t
  refine loop_0 (fun m k (s : Nat) => wY_needless_23 post (nI t) (nI T) ky (dt_A cd) (dt_A po) (dt_A df) (dt_A nr) (dt_A st) (dt_A rs) va tg m (nI s) (nI k)) (fun k s => s = dt_set (fun r => dt_all (fun k => !(dt_K cd nr st t k r) || (dt_res (po t) (df t) (fun r => rs (8 * t + r)) (fun x => !(x == r) && dt_K cd nr st t k x) == dt_res (po t) (df t) (fun r => rs (8 * t + r)) (dt_K cd nr st t k))) k) (nr t)) (8 ^ dt_wd (cd t)) (2 ^ nr t - 1) ?_ ?_ ?_
  · apply Nat.eq_of_testBit_eq
    intro i
    rw [Nat.testBit_two_pow_sub_one, dt_set_bit]
    exact (Bool.and_true _).symm
  · intro m s hs
    subst hs
    rw [wY_needless_23]
    refine dt_ycbs ht hc ?_
    exact br_t (nI_le (Nat.le_refl _) (by omega)) h
  · intro m k s hk hs ih
    rw [wY_needless_23]
    refine dt_ycbs ht hc ?_
    refine br_f (nI_ge hk (by omega)) ?_
    refine dt_yfire B ht hc (by omega) ?_
    have hl : dt_set (dt_K cd nr st t k) (nr t) < 2 ^ 8 := dt_set_lt' hn
    refine dt_yres B ht hl ?_
    rw [show (fun r => (dt_set (dt_G (nr t) (dt_wd (cd t)) (fun r => st (8 * t + r)) (fun c => k / 8 ^ c % 8)) (nr t)).testBit r) = dt_K cd nr st t k from dt_K_set]
    have hl2 := dt_res_lt (F := dt_K cd nr st t k) hrs (p := po t) hd
    have eK : ∀ r, (dt_set (dt_K cd nr st t k) (nr t)).testBit r = dt_K cd nr st t k r := fun r => congrFun dt_K_set r
    refine loop_0 (fun n52 r (y : Nat) => wY_needless_52 post (wY_needless_23 post (nI t) (nI T) ky (dt_A cd) (dt_A po) (dt_A df) (dt_A nr) (dt_A st) (dt_A rs) va tg m) (nI t) (nI k) (nI (dt_set (dt_K cd nr st t k) (nr t))) (nI (dt_res (po t) (df t) (fun r => rs (8 * t + r)) (dt_K cd nr st t k))) (nI T) ky (dt_A cd) (dt_A po) (dt_A df) (dt_A nr) (dt_A st) (dt_A rs) va tg n52 (nI y) (nI r)) (fun r y => y < 256 ∧ ∀ i, y.testBit i = (s.testBit i && (decide (r ≤ i) || (!(dt_K cd nr st t k i) || (dt_res (po t) (df t) (fun r => rs (8 * t + r)) (fun x => !(x == i) && dt_K cd nr st t k x) == dt_res (po t) (df t) (fun r => rs (8 * t + r)) (dt_K cd nr st t k)))))) (nr t) s ⟨by rw [hs]; exact dt_set_lt' hn, fun i => by rw [decide_eq_true (Nat.zero_le i), Bool.true_or, Bool.and_true]⟩ ?_ ?_
    · intro n52 y hy
      refine ⟨hit, ?_⟩
      rw [nI_clamp (by omega), show dt_A nr t = nI (nr t) from rfl]
      refine br_t (nI_le (Nat.le_refl _) (by omega)) (nm_r (nI_1 k) (ih y ?_))
      apply Nat.eq_of_testBit_eq
      intro i
      rw [hy.2 i, dt_set_bit, dt_all_s, hs, dt_set_bit]
      by_cases c : i < nr t
      · rw [decide_eq_true c, decide_eq_false (show ¬ nr t ≤ i from by omega), Bool.true_and, Bool.true_and, Bool.false_or]
      · rw [decide_eq_false c, Bool.false_and, Bool.false_and, Bool.false_and]
    · intro n52 r y hr hy ih2
      refine ⟨hit, ?_⟩
      rw [nI_clamp (by omega), show dt_A nr t = nI (nr t) from rfl]
      refine br_f (nI_ge hr (by omega)) ?_
      -- bits behind r keep
      have keep : (dt_K cd nr st t k r = false ∨ dt_res (po t) (df t) (fun r => rs (8 * t + r)) (fun x => !(x == r) && dt_K cd nr st t k x) = dt_res (po t) (df t) (fun r => rs (8 * t + r)) (dt_K cd nr st t k)) → ∀ i, y.testBit i = (s.testBit i && (decide (r + 1 ≤ i) || (!(dt_K cd nr st t k i) || (dt_res (po t) (df t) (fun r => rs (8 * t + r)) (fun x => !(x == i) && dt_K cd nr st t k x) == dt_res (po t) (df t) (fun r => rs (8 * t + r)) (dt_K cd nr st t k))))) := by
        intro hor i
        rw [hy.2 i]
        by_cases c : i = r
        · subst c
          rcases hor with g | g
          · rw [g]; simp
          · rw [g]; simp
        · rw [show decide (r + 1 ≤ i) = decide (r ≤ i) from decide_eq_decide.mpr (by omega)]
      refine br_c (fun z => ?_) (fun z => ?_)
      · rw [dt_bit1 (by omega) (by omega), eK] at z
        rw [dt_shl1 (by omega), dt_andn (a := dt_set (dt_K cd nr st t k) (nr t)) (s := 2 ^ r) (c := dt_set (fun x => !(x == r) && dt_K cd nr st t k x) (nr t)) (fun i hi => ?_)]
        · refine dt_yres B ht (show dt_set _ _ < 2 ^ 8 from dt_set_lt' hn) ?_
          have eF : (fun i => (dt_set (fun x => !(x == r) && dt_K cd nr st t k x) (nr t)).testBit i) = fun x => !(x == r) && dt_K cd nr st t k x := by
            funext i
            rw [dt_set_bit]
            by_cases c : i < nr t
            · rw [decide_eq_true c, Bool.true_and]
            · rw [decide_eq_false c, dt_K_cut (by omega)]; simp
          rw [eF]
          have hl3 := dt_res_lt (F := fun x => !(x == r) && dt_K cd nr st t k x) hrs (p := po t) hd
          refine pk_eq (dt_res (po t) (df t) (fun r => rs (8 * t + r)) (fun x => !(x == r) && dt_K cd nr st t k x)) (dt_res (po t) (df t) (fun r => rs (8 * t + r)) (dt_K cd nr st t k)) (fun e => ?_) (fun e => ?_)
          · exact nm_r (nI_1 r) (ih2 y ⟨hy.1, keep (Or.inr e)⟩)
          · have hb : ∀ i, (dt_set (fun i => y.testBit i && !(i == r)) 8).testBit i = (y.testBit i && !(i == r)) := by
              intro i
              rw [dt_set_bit]
              by_cases c : i < 8
              · rw [decide_eq_true c, Bool.true_and]
              · rw [Nat.testBit_lt_two_pow (Nat.lt_of_lt_of_le hy.1 (show 2 ^ 8 ≤ 2 ^ i from Nat.pow_le_pow_right (by decide) (by omega)))]; simp
            refine nm_r (dt_andn (c := dt_set (fun i => y.testBit i && !(i == r)) 8) (fun i hi => ?_)) (nm_r (nI_1 r) (ih2 _ ⟨dt_set_lt, fun i => ?_⟩))
            · rw [hb i, Nat.testBit_two_pow]
              congr 2
              by_cases c : r = i
              · rw [decide_eq_true c, c]; simp
              · rw [decide_eq_false c, beq_false_of_ne (fun z => c z.symm)]
            · rw [hb i, hy.2 i]
              by_cases c : i = r
              · subst c
                rw [decide_eq_false (show ¬ i + 1 ≤ i from by omega), z, beq_false_of_ne e]; simp
              · rw [beq_false_of_ne c, show decide (r + 1 ≤ i) = decide (r ≤ i) from decide_eq_decide.mpr (by omega)]; simp
        · rw [dt_set_bit, dt_set_bit, Nat.testBit_two_pow]
          by_cases c : r = i
          · subst c; simp
          · rw [decide_eq_false c, beq_false_of_ne (fun z => c z.symm)]; simp
      · rw [dt_bit1 (by omega) (by omega), eK] at z
        exact nm_r (nI_1 r) (ih2 y ⟨hy.1, keep (Or.inl (dt_nt z))⟩)
end
end
section
/-! the reference: fires, unreached, count, first, possible, changes, depends, same -/
theorem dt_cb_K {n w : Nat} {st x : Nat → Nat} (hx : ∀ c, c < w → x c < 8) : dt_set (dt_G n w st (fun c => dt_cb x w / 8 ^ c % 8)) n = dt_set (dt_G n w st x) n := by
  rw [dt_G_ext (fun c hc => dt_cb_at hx c hc)]
section
variable {ky : Int32} {cc co va tg : Nat → Int32} {cd po df nr st rs : Nat → Nat} {T : Nat}
/-- where rule r of table t fires, by the values of all variables -/
def dt_FV (cd po df nr st rs : Nat → Nat) (T t q : Nat) : Nat → Bool := dt_G (nr t) (dt_wd (cd t)) (fun r => st (8 * t + r)) (fun c => dt_V cd po df nr st rs T (cd t / 10 ^ c % 10) q)
theorem dt_yfires {post : Int32 → SY → Prop} {t q : Nat} (hT : T ≤ 5) (B : dt_BD po df nr st rs) (TF : dt_TF T cc co cd) (hky : ky ≠ 0 → dt_VA va (dt_V cd po df nr st rs T)) (ht : t < T) (hq : q < 512) (h : ∀ ky' va', ky' ≠ 0 → dt_VA va' (dt_V cd po df nr st rs T) → post (nI (dt_set (dt_FV cd po df nr st rs T t q) (nr t))) (nI T, ky', dt_A cd, dt_A po, dt_A df, dt_A nr, dt_A st, dt_A rs, va', tg)) : wpY_fires post (nI T, ky, dt_A cd, dt_A po, dt_A df, dt_A nr, dt_A st, dt_A rs, va, tg) (nI t) (nI q) := by
  unfold wpY_fires
  dsimp only
  refine dt_yTab hT (fun z => absurd ⟨t, ht, rfl⟩ z) (fun _ _ _ => ?_)
  refine br_f (by decide) ?_
  refine dt_inn (fun z => ?_) (fun _ _ => br_f (by decide) ?_)
  · rcases z with z | z
    · exact absurd z (nI_pos (by omega))
    · exact absurd z (nI_nlt (a := 511) (by omega) (by decide))
  · refine dt_ywork hT B TF hky (fun ky' va' h1 h2 => ?_)
    obtain ⟨hcd, _, _, hcl⟩ := TF t ht
    have hx : ∀ c, c < dt_wd (cd t) → dt_V cd po df nr st rs T (cd t / 10 ^ c % 10) q < 8 := fun c _ => dt_V_lt B _ _ _
    refine dt_ycomb (x := fun c => dt_V cd po df nr st rs T (cd t / 10 ^ c % 10) q) (by omega) hcd hq (fun c hc => by have := hcl c hc; omega) (fun c hc => ⟨hx c hc, h2 _ q (by have := hcl c hc; omega) hq⟩) ?_
    have hk : dt_cb (fun c => dt_V cd po df nr st rs T (cd t / 10 ^ c % 10) q) (dt_wd (cd t)) < 512 := Nat.lt_of_lt_of_le (dt_cb_lt hx) (dt_8w (dt_wd3 _).2)
    refine dt_yfire B (by omega) hcd hk ?_
    rw [dt_cb_K hx]
    exact h ky' va' h1 h2
theorem dt_yunr {post : Int32 → SY → Prop} {t : Nat} (hT : T ≤ 5) (B : dt_BD po df nr st rs) (TF : dt_TF T cc co cd) (hky : ky ≠ 0 → dt_VA va (dt_V cd po df nr st rs T)) (ht : t < T) (h : ∀ ky' va', (ky' ≠ 0 → dt_VA va' (dt_V cd po df nr st rs T)) → post (nI (dt_set (fun r => dt_all (fun q => !(dt_FV cd po df nr st rs T t q r)) 512) (nr t))) (nI T, ky', dt_A cd, dt_A po, dt_A df, dt_A nr, dt_A st, dt_A rs, va', tg)) : ∃ n23 : Nat, wY_unreached_23 post (nI t) n23 (nI (2 ^ nr t - 1)) 0 (nI T) ky (dt_A cd) (dt_A po) (dt_A df) (dt_A nr) (dt_A st) (dt_A rs) va tg := by
  refine loop_0 (fun m q (s : Nat × Int32 × (Nat → Int32)) => wY_unreached_23 post (nI t) m (nI s.1) (nI q) (nI T) s.2.1 (dt_A cd) (dt_A po) (dt_A df) (dt_A nr) (dt_A st) (dt_A rs) s.2.2 tg) (fun q s => s.1 = dt_set (fun r => dt_all (fun q => !(dt_FV cd po df nr st rs T t q r)) q) (nr t) ∧ (s.2.1 ≠ 0 → dt_VA s.2.2 (dt_V cd po df nr st rs T))) 512 (2 ^ nr t - 1, ky, va) ⟨?_, hky⟩ ?_ ?_
  · apply Nat.eq_of_testBit_eq
    intro i
    rw [Nat.testBit_two_pow_sub_one, dt_set_bit]
    exact (Bool.and_true _).symm
  · intro m s hs
    obtain ⟨s1, k1, v1⟩ := s
    dsimp only at hs ⊢
    rw [hs.1]
    exact br_t (nI_le (a := 512) (b := 512) (Nat.le_refl _) (by decide)) (h k1 v1 hs.2)
  · intro m q s hq hs ih
    obtain ⟨s1, k1, v1⟩ := s
    dsimp only at hs ih ⊢
    refine br_f (nI_ge (b := 512) hq (by decide)) ?_
    refine dt_yfires hT B TF hs.2 ht hq (fun k2 v2 h1 h2 => ?_)
    refine nm_r (dt_andn (c := dt_set (fun r => dt_all (fun q => !(dt_FV cd po df nr st rs T t q r)) (q + 1)) (nr t)) (fun i hi => ?_)) (nm_r (nI_1 q) (ih (_, k2, v2) ⟨rfl, fun _ => h2⟩))
    rw [dt_set_bit, dt_set_bit, hs.1, dt_set_bit, dt_all_s]
    by_cases c : i < nr t
    · rw [decide_eq_true c]; simp
    · rw [decide_eq_false c]; simp
theorem dt_ycount {post : Int32 → SY → Prop} {v x : Nat} {V : Nat → Nat} (hv : v < 8) (hx : x < 8) (hV : ∀ q, q < 512 → V q < 8 ∧ va (512 * v + q) = nI (V q)) (h : post (nI (dt_cn (fun q => decide (V q = x)) 512)) (nI T, ky, dt_A cd, dt_A po, dt_A df, dt_A nr, dt_A st, dt_A rs, va, tg)) : ∃ n33 : Nat, wY_count_33 post (nI v) (nI x) (nI T) ky (dt_A cd) (dt_A po) (dt_A df) (dt_A nr) (dt_A st) (dt_A rs) va tg n33 0 0 := by
  refine loop_0 (fun m q (s : Nat) => wY_count_33 post (nI v) (nI x) (nI T) ky (dt_A cd) (dt_A po) (dt_A df) (dt_A nr) (dt_A st) (dt_A rs) va tg m (nI s) (nI q)) (fun q s => s = dt_cn (fun q => decide (V q = x)) q) 512 0 rfl ?_ ?_
  · intro m s hs
    subst hs
    exact br_t (nI_le (a := 512) (b := 512) (Nat.le_refl _) (by decide)) h
  · intro m q s hq hs ih
    refine br_f (nI_ge (b := 512) hq (by decide)) ?_
    have h8 := (hV q hq).1
    have ec : dt_cn (fun q => decide (V q = x)) (q + 1) = if decide (V q = x) = true then dt_cn (fun q => decide (V q = x)) q + 1 else dt_cn (fun q => decide (V q = x)) q := rfl
    rw [dt_m512, nI_add, nI_clamp (by omega), (hV q hq).2]
    refine ⟨vp_in_nI (by omega) (by decide), pk_eq (V q) x (fun e => ?_) (fun e => ?_)⟩
    · rw [if_pos (decide_eq_true e)] at ec
      exact nm_r (nI_1 s) (nm_r (nI_1 q) (ih (s + 1) (by rw [ec, hs])))
    · rw [if_neg (by rw [decide_eq_false e]; decide)] at ec
      exact nm_r (nI_1 q) (ih s (by rw [ec, hs]))
theorem dt_yfirst {post : Int32 → SY → Prop} {v x : Nat} {V : Nat → Nat} (hv : v < 8) (hx : x < 8) (hV : ∀ q, q < 512 → V q < 8 ∧ va (512 * v + q) = nI (V q)) (h1 : ∀ q, q < 512 → V q = x → (∀ q', q' < q → V q' ≠ x) → post (nI q) (nI T, ky, dt_A cd, dt_A po, dt_A df, dt_A nr, dt_A st, dt_A rs, va, tg)) (h2 : (∀ q, q < 512 → V q ≠ x) → post (-3) (nI T, ky, dt_A cd, dt_A po, dt_A df, dt_A nr, dt_A st, dt_A rs, va, tg)) : ∃ n30 : Nat, wY_first_30 post (nI v) (nI x) (nI T) ky (dt_A cd) (dt_A po) (dt_A df) (dt_A nr) (dt_A st) (dt_A rs) va tg n30 0 := by
  refine loop_0 (fun m q (_ : Unit) => wY_first_30 post (nI v) (nI x) (nI T) ky (dt_A cd) (dt_A po) (dt_A df) (dt_A nr) (dt_A st) (dt_A rs) va tg m (nI q)) (fun q _ => ∀ q', q' < q → V q' ≠ x) 512 () (fun q' z => absurd z (Nat.not_lt_zero _)) ?_ ?_
  · intro m _ hs
    exact br_t (nI_le (a := 512) (b := 512) (Nat.le_refl _) (by decide)) (h2 hs)
  · intro m q _ hq hs ih
    refine br_f (nI_ge (b := 512) hq (by decide)) ?_
    have h8 := (hV q hq).1
    rw [dt_m512, nI_add, nI_clamp (by omega), (hV q hq).2]
    refine ⟨vp_in_nI (by omega) (by decide), pk_eq (V q) x (fun e => h1 q hq e hs) (fun e => nm_r (nI_1 q) (ih () (fun q' hq' => ?_)))⟩
    by_cases c : q' = q
    · rw [c]; exact e
    · exact hs q' (by omega)
theorem dt_yposs {post : Int32 → SY → Prop} {v : Nat} {V : Nat → Nat} (hv : v < 8) (hV : ∀ q, q < 512 → V q < 8 ∧ va (512 * v + q) = nI (V q)) (h : post (nI (dt_set (fun x => dt_any (fun q => decide (V q = x)) 512) 8)) (nI T, ky, dt_A cd, dt_A po, dt_A df, dt_A nr, dt_A st, dt_A rs, va, tg)) : ∃ n21 : Nat, wY_possible_21 post (nI v) (nI T) ky (dt_A cd) (dt_A po) (dt_A df) (dt_A nr) (dt_A st) (dt_A rs) va tg n21 0 0 := by
  refine loop_0 (fun m q (s : Nat) => wY_possible_21 post (nI v) (nI T) ky (dt_A cd) (dt_A po) (dt_A df) (dt_A nr) (dt_A st) (dt_A rs) va tg m (nI s) (nI q)) (fun q s => s = dt_set (fun x => dt_any (fun q => decide (V q = x)) q) 8) 512 0 (dt_set0.mpr (fun _ _ => rfl)).symm ?_ ?_
  · intro m s hs
    subst hs
    exact br_t (nI_le (a := 512) (b := 512) (Nat.le_refl _) (by decide)) h
  · intro m q s hq hs ih
    refine br_f (nI_ge (b := 512) hq (by decide)) ?_
    have h8 := (hV q hq).1
    rw [dt_m512, nI_add, nI_clamp (by omega), (hV q hq).2]
    refine ⟨vp_in_nI (by omega) (by decide), nm_r (dt_or1 s (by omega)) (nm_r (nI_1 q) (ih _ ?_))⟩
    apply Nat.eq_of_testBit_eq
    intro i
    rw [Nat.testBit_or, Nat.testBit_two_pow, hs, dt_set_bit, dt_set_bit, dt_any_s]
    by_cases c : V q = i
    · rw [decide_eq_true c, decide_eq_true (show i < 8 from by omega)]; simp
    · rw [decide_eq_false c]; simp
theorem dt_ychg {post : Int32 → Prop} {v i : Nat} {sm : Int32} {V : Nat → Nat} {P : Nat → Nat → Prop} (hv : v < 8) (hi : i < 3) (hV : ∀ q, q < 512 → V q < 8 ∧ va (512 * v + q) = nI (V q)) (hP : (sm = 0 ∧ ∀ a b, P a b ↔ a ≠ b) ∨ (sm ≠ 0 ∧ ∀ a b, P a b ↔ a < b)) (h0 : (∀ a y, a < 512 → y < 8 → a / 8 ^ i % 8 < y → ¬ P (V (dt_ot i a y)) (V a)) → post 0) (h1 : (∃ a y, a < 512 ∧ y < 8 ∧ a / 8 ^ i % 8 < y ∧ P (V (dt_ot i a y)) (V a)) → post 1) : wpY_changes post (nI T, ky, dt_A cd, dt_A po, dt_A df, dt_A nr, dt_A st, dt_A rs, va, tg) (nI v) (nI i) sm := by
  refine loop_0 (fun m k (_ : Unit) => wY_changes_3 post (nI v) (nI i) sm (nI T) ky (dt_A cd) (dt_A po) (dt_A df) (dt_A nr) (dt_A st) (dt_A rs) va tg m (nI k)) (fun k _ => ∀ a y, a < 512 → y < 8 → 512 * y + a < k → a / 8 ^ i % 8 < y → ¬ P (V (dt_ot i a y)) (V a)) 4096 () (fun a y _ _ z => absurd z (Nat.not_lt_zero _)) ?_ ?_
  · intro m _ hs
    exact br_t (nI_le (a := 4096) (b := 4096) (Nat.le_refl _) (by decide)) (h0 (fun a y ha hy => hs a y ha hy (by omega)))
  · intro m k _ hk hs ih
    refine br_f (nI_ge (b := 4096) hk (by decide)) ?_
    have ha : k % 512 < 512 := Nat.mod_lt _ (by decide)
    have hy : k / 512 < 8 := by omega
    have hot := dt_ot3 hi ha hy
    have e1 : nI k - nI k / 512 * 512 = nI (k % 512) := pk_rem (d := 512) (by omega) (by decide) (by decide)
    have e2 : nI k / 512 = nI (k / 512) := pk_div (d := 512) (by omega) (by decide) (by decide)
    have hp8 := dt_8p (c := i) hi
    have e3 : (nI (k % 512) >>> ((3 * nI i) &&& 31)) &&& 7 = nI (k % 512 / 8 ^ i % 8) := by
      rw [dt_m3, dt_shr (by omega) (by omega), dt_p8, dt_and7 _ (Nat.lt_of_le_of_lt (Nat.div_le_self _ _) (by omega))]
    have e4 : (nI (k % 512) &&& (((7 : Int32) <<< ((3 * nI i) &&& 31)) ^^^ (-1))) ||| (nI (k / 512) <<< ((3 * nI i) &&& 31)) = nI (dt_ot i (k % 512) (k / 512)) := by
      rw [dt_m3, show (7 : Int32) = nI 7 from rfl, dt_shl 7 (by omega) (by rw [dt_p8]; omega), dt_shl (k / 512) (by omega) (by rw [dt_p8]; exact Nat.lt_of_le_of_lt (Nat.mul_le_mul (show k / 512 ≤ 8 from by omega) hp8) (by decide)), dt_ot1 i hi _ ha, dt_or, dt_ot2 i hi _ ha _ hy]
    have next : (k % 512 / 8 ^ i % 8 < k / 512 → ¬ P (V (dt_ot i (k % 512) (k / 512))) (V (k % 512))) → wY_changes_3 post (nI v) (nI i) sm (nI T) ky (dt_A cd) (dt_A po) (dt_A df) (dt_A nr) (dt_A st) (dt_A rs) va tg m (nI (k + 1)) := by
      intro hn
      refine ih () (fun a y ha2 hy2 hk2 hd => ?_)
      by_cases c : 512 * y + a = k
      · have ea : a = k % 512 := by omega
        have ey : y = k / 512 := by omega
        rw [ea, ey] at hd ⊢
        exact hn hd
      · exact hs a y ha2 hy2 (by omega) hd
    refine ⟨by decide, nm_r e1 (nm_r e3 ⟨by decide, nm_r e2 (nm_r e4 ?_)⟩)⟩
    obtain ⟨va8, ea⟩ := hV _ ha
    obtain ⟨vo8, eo⟩ := hV _ hot
    rw [dt_m512, nI_add, nI_add, nI_clamp (n := 512 * v + dt_ot i (k % 512) (k / 512)) (by omega), nI_clamp (n := 512 * v + k % 512) (by omega), ea, eo]
    refine ⟨vp_in_nI (by omega) (by decide), vp_in_nI (by omega) (by decide), nm_e ?_⟩
    have hdf := dt_dif _ vo8 _ va8
    have hd8 : k % 512 / 8 ^ i % 8 < 8 := Nat.mod_lt _ (by decide)
    refine pk_le (k / 512) (k % 512 / 8 ^ i % 8) (fun c => nm_r (nI_1 k) (next (fun z => absurd z (by omega)))) (fun c => ?_)
    rcases hP with ⟨hsm, hPP⟩ | ⟨hsm, hPP⟩
    · refine br_t hsm (br_c (fun z => nm_r (nI_1 k) (next (fun _ y => ?_))) (fun z => h1 ⟨k % 512, k / 512, ha, hy, c, (hPP _ _).mpr (fun y => z (hdf.1.mpr y))⟩))
      exact (hPP _ _).mp y (hdf.1.mp z)
    · refine br_f hsm (br_c (fun z => nm_r (nI_1 k) (next (fun _ y => ?_))) (fun z => h1 ⟨k % 512, k / 512, ha, hy, c, (hPP _ _).mpr (Nat.lt_of_not_le (fun y => z (hdf.2.mpr y)))⟩))
      exact absurd ((hPP _ _).mp y) (Nat.not_lt.mpr (hdf.2.mp z))
theorem dt_ydep {post : Int32 → SY → Prop} {v : Nat} {V : Nat → Nat} {C : Nat → Bool} (hv : v < 8) (hV : ∀ q, q < 512 → V q < 8 ∧ va (512 * v + q) = nI (V q)) (hC : ∀ i, i < 3 → (C i = true ↔ ∃ a y, a < 512 ∧ y < 8 ∧ a / 8 ^ i % 8 < y ∧ V (dt_ot i a y) ≠ V a)) (h : post (nI (dt_set C 3)) (nI T, ky, dt_A cd, dt_A po, dt_A df, dt_A nr, dt_A st, dt_A rs, va, tg)) : ∃ n21 : Nat, wY_depends_21 post (nI v) (nI T) ky (dt_A cd) (dt_A po) (dt_A df) (dt_A nr) (dt_A st) (dt_A rs) va tg n21 0 0 := by
  refine loop_0 (fun m i (s : Nat) => wY_depends_21 post (nI v) (nI T) ky (dt_A cd) (dt_A po) (dt_A df) (dt_A nr) (dt_A st) (dt_A rs) va tg m (nI s) (nI i)) (fun i s => s = dt_set C i) 3 0 rfl ?_ ?_
  · intro m s hs
    subst hs
    exact br_t (nI_le (a := 3) (b := 3) (Nat.le_refl _) (by decide)) h
  · intro m i s hi hs ih
    refine br_f (nI_ge (b := 3) hi (by decide)) ?_
    have es : dt_set C (i + 1) = if C i = true then dt_set C i ||| 2 ^ i else dt_set C i := rfl
    refine dt_ychg (P := fun a b => a ≠ b) hv hi hV (Or.inl ⟨rfl, fun _ _ => Iff.rfl⟩) (fun z => ?_) (fun z => ?_)
    · have hf : ¬ C i = true := fun y => by
        obtain ⟨a, y, ha, hy, hd, hne⟩ := (hC i hi).mp y
        exact z a y ha hy hd hne
      rw [if_neg hf] at es
      exact br_t rfl (nm_r (nI_1 i) (ih s (hs.trans es.symm)))
    · rw [if_pos ((hC i hi).mpr z)] at es
      exact br_f (by decide) (nm_r (dt_or1 s (by omega)) (nm_r (nI_1 i) (ih _ (by rw [es, hs]))))
theorem dt_ysame {post : Int32 → SY → Prop} {v w : Nat} {V W : Nat → Nat} (hv : v < 8) (hw : w < 8) (hV : ∀ q, q < 512 → V q < 8 ∧ va (512 * v + q) = nI (V q)) (hW : ∀ q, q < 512 → W q < 8 ∧ va (512 * w + q) = nI (W q)) (h1 : (∀ q, q < 512 → V q = W q) → post 1 (nI T, ky, dt_A cd, dt_A po, dt_A df, dt_A nr, dt_A st, dt_A rs, va, tg)) (h0 : (∃ q, q < 512 ∧ V q ≠ W q) → post 0 (nI T, ky, dt_A cd, dt_A po, dt_A df, dt_A nr, dt_A st, dt_A rs, va, tg)) : ∃ n30 : Nat, wY_same_30 post (nI v) (nI w) (nI T) ky (dt_A cd) (dt_A po) (dt_A df) (dt_A nr) (dt_A st) (dt_A rs) va tg n30 0 := by
  refine loop_0 (fun m q (_ : Unit) => wY_same_30 post (nI v) (nI w) (nI T) ky (dt_A cd) (dt_A po) (dt_A df) (dt_A nr) (dt_A st) (dt_A rs) va tg m (nI q)) (fun q _ => ∀ q', q' < q → V q' = W q') 512 () (fun q' z => absurd z (Nat.not_lt_zero _)) ?_ ?_
  · intro m _ hs
    exact br_t (nI_le (a := 512) (b := 512) (Nat.le_refl _) (by decide)) (h1 hs)
  · intro m q _ hq hs ih
    refine br_f (nI_ge (b := 512) hq (by decide)) ?_
    have h8 := (hV q hq).1
    have h9 := (hW q hq).1
    rw [dt_m512, dt_m512, nI_add, nI_add, nI_clamp (n := 512 * v + q) (by omega), nI_clamp (n := 512 * w + q) (by omega), (hV q hq).2, (hW q hq).2]
    refine ⟨vp_in_nI (by omega) (by decide), vp_in_nI (by omega) (by decide), pk_eq (V q) (W q) (fun e => nm_r (nI_1 q) (ih () (fun q' hq' => ?_))) (fun e => h0 ⟨q, hq, e⟩)⟩
    by_cases c : q' = q
    · rw [c]; exact e
    · exact hs q' (by omega)
end
end
section
/-! the two answers are one: plain laws -/
theorem dt_dig {w c q : Nat} (hw : w ≤ 3) (hc : c < w) : q % 8 ^ w / 8 ^ c % 8 = q / 8 ^ c % 8 := by
  have h : (w = 1 ∧ c = 0) ∨ (w = 2 ∧ c = 0) ∨ (w = 2 ∧ c = 1) ∨ (w = 3 ∧ c = 0) ∨ (w = 3 ∧ c = 1) ∨ (w = 3 ∧ c = 2) := by omega
  rcases h with ⟨a, b⟩ | ⟨a, b⟩ | ⟨a, b⟩ | ⟨a, b⟩ | ⟨a, b⟩ | ⟨a, b⟩ <;> subst a <;> subst b <;> omega
theorem dt_K_per {cd nr st : Nat → Nat} {t : Nat} (q : Nat) : dt_K cd nr st t q = dt_K cd nr st t (q % 8 ^ dt_wd (cd t)) := by
  unfold dt_K
  exact dt_G_ext (fun c hc => (dt_dig (dt_wd3 _).2 hc).symm)
theorem dt_512 {w : Nat} (hw : w ≤ 3) : 8 ^ w * 8 ^ (3 - w) = 512 := by
  rw [← Nat.pow_add, show w + (3 - w) = 3 from by omega]
theorem dt_gaps_eq {cd nr st : Nat → Nat} {t n : Nat} : dt_cn (fun q => !(dt_any (dt_K cd nr st t q) n)) 512 / 8 ^ (3 - dt_wd (cd t)) = dt_cn (fun k => !(dt_any (dt_K cd nr st t k) n)) (8 ^ dt_wd (cd t)) := by
  have hw := (dt_wd3 (cd t)).2
  have e : dt_cn (fun q => !(dt_any (dt_K cd nr st t q) n)) 512 = 8 ^ (3 - dt_wd (cd t)) * dt_cn (fun k => !(dt_any (dt_K cd nr st t k) n)) (8 ^ dt_wd (cd t)) := by
    rw [← dt_cn_per, dt_512 hw]
    exact dt_cn_ext (fun q _ => by rw [dt_K_per q])
  rw [e, Nat.mul_div_cancel_left _ (Nat.pow_pos (by decide))]
theorem dt_any_per (g : Nat → Bool) {m k N : Nat} (hm : 0 < m) (hk : 0 < k) (hN : m * k = N) : dt_any (fun q => g (q % m)) N = dt_any g m := by
  apply Bool.eq_iff_iff.mpr
  rw [dt_any_iff, dt_any_iff]
  constructor
  · intro h
    obtain ⟨i, _, e⟩ := h
    exact ⟨i % m, Nat.mod_lt _ hm, e⟩
  · intro h
    obtain ⟨i, hi, e⟩ := h
    refine ⟨i, ?_, by rw [Nat.mod_eq_of_lt hi]; exact e⟩
    rw [← hN]
    exact Nat.lt_of_lt_of_le hi (Nat.le_mul_of_pos_right m hk)
theorem dt_all_per (g : Nat → Bool) {m k N : Nat} (hm : 0 < m) (hk : 0 < k) (hN : m * k = N) : dt_all (fun q => g (q % m)) N = dt_all g m := by
  apply Bool.eq_iff_iff.mpr
  rw [dt_all_iff, dt_all_iff]
  constructor
  · intro h i hi
    have := h i (by rw [← hN]; exact Nat.lt_of_lt_of_le hi (Nat.le_mul_of_pos_right m hk))
    rw [Nat.mod_eq_of_lt hi] at this
    exact this
  · exact fun h i _ => h _ (Nat.mod_lt _ hm)
/-! ===== pairs: rule by rule, or row by row ===== -/
def dt_su (g : Nat → Nat) : Nat → Nat
  | 0 => 0
  | k + 1 => dt_su g k + g k
theorem dt_su_ext {f g : Nat → Nat} : ∀ {n : Nat}, (∀ i, i < n → f i = g i) → dt_su f n = dt_su g n := by
  intro n
  induction n with
  | zero => intro _; rfl
  | succ n ih =>
    intro h
    show dt_su f n + f n = dt_su g n + g n
    rw [ih (fun i hi => h i (by omega)), h n (by omega)]
theorem dt_su_blk (f : Nat → Bool) (m : Nat) : ∀ a, dt_cn f (m * a) = dt_su (fun a => dt_cn (fun b => f (m * a + b)) m) a := by
  intro a
  induction a with
  | zero => rfl
  | succ a ih =>
    rw [Nat.mul_succ, dt_cn_add, ih]
    rfl
theorem dt_su_add (g : Nat → Nat) (p : Nat → Bool) : ∀ n, dt_su (fun a => if p a = true then g a + 1 else g a) n = dt_su g n + dt_cn p n := by
  intro n
  induction n with
  | zero => rfl
  | succ n ih =>
    show dt_su (fun a => if p a = true then g a + 1 else g a) n + (if p n = true then g n + 1 else g n) = dt_su g n + g n + (if p n = true then dt_cn p n + 1 else dt_cn p n)
    rw [ih]
    by_cases h : p n = true
    · rw [if_pos h, if_pos h]; omega
    · rw [if_neg h, if_neg h]; omega
theorem dt_pairs (M : Nat → Nat → Bool) : ∀ n, dt_pr M n = dt_su (fun a => dt_cn (fun b => decide (a < b) && M b a) n) n := by
  intro n
  induction n with
  | zero => rfl
  | succ n ih =>
    show dt_pr M n + dt_cn (fun q => M n q) n = dt_su (fun a => dt_cn (fun b => decide (a < b) && M b a) (n + 1)) n + dt_cn (fun b => decide (n < b) && M b n) (n + 1)
    have e0 : dt_cn (fun b => decide (n < b) && M b n) (n + 1) = 0 := dt_cn0.mpr (fun i hi => by rw [decide_eq_false (by omega), Bool.false_and])
    have e1 : dt_su (fun a => dt_cn (fun b => decide (a < b) && M b a) (n + 1)) n = dt_su (fun a => if M n a = true then dt_cn (fun b => decide (a < b) && M b a) n + 1 else dt_cn (fun b => decide (a < b) && M b a) n) n := by
      apply dt_su_ext
      intro a ha
      show (if (decide (a < n) && M n a) = true then _ else _) = _
      rw [decide_eq_true ha, Bool.true_and]
    rw [e0, e1, dt_su_add, ih]
    rfl
theorem dt_pr_cut {M : Nat → Nat → Bool} {n : Nat} (h : ∀ r q, n ≤ r → M r q = false) : ∀ k, dt_pr M (n + k) = dt_pr M n := by
  intro k
  induction k with
  | zero => rfl
  | succ k ih =>
    show dt_pr M (n + k) + dt_cn (fun q => M (n + k) q) (n + k) = dt_pr M n
    rw [ih, dt_cn0.mpr (fun i _ => h _ i (by omega))]
    rfl
theorem dt_pr_ext {M N : Nat → Nat → Bool} : ∀ {n : Nat}, (∀ r q, r < n → q < r → M r q = N r q) → dt_pr M n = dt_pr N n := by
  intro n
  induction n with
  | zero => intro _; rfl
  | succ n ih =>
    intro h
    show dt_pr M n + dt_cn (fun q => M n q) n = dt_pr N n + dt_cn (fun q => N n q) n
    rw [ih (fun r q hr hq => h r q (by omega) hq), dt_cn_ext (fun q hq => h n q (by omega) hq)]
theorem dt_over_eq {cd nr st : Nat → Nat} {t : Nat} (hn : nr t ≤ 8) : dt_pr (fun r s => dt_any (fun q => dt_K cd nr st t q r && dt_K cd nr st t q s) 512) (nr t) = dt_cn (fun j => decide (j / 8 < j % 8) && dt_any (fun k => dt_K cd nr st t k (j / 8) && dt_K cd nr st t k (j % 8)) (8 ^ dt_wd (cd t))) 64 := by
  have hw := (dt_wd3 (cd t)).2
  have e1 : dt_pr (fun r s => dt_any (fun q => dt_K cd nr st t q r && dt_K cd nr st t q s) 512) (nr t) = dt_pr (fun r s => dt_any (fun k => dt_K cd nr st t k s && dt_K cd nr st t k r) (8 ^ dt_wd (cd t))) (nr t) := by
    apply dt_pr_ext
    intro r s _ _
    rw [← dt_any_per (fun k => dt_K cd nr st t k s && dt_K cd nr st t k r) (Nat.pow_pos (by decide)) (Nat.pow_pos (by decide)) (dt_512 hw)]
    congr 1
    funext q
    rw [dt_K_per q, Bool.and_comm]
  have e2 := dt_pr_cut (M := fun r s => dt_any (fun k => dt_K cd nr st t k s && dt_K cd nr st t k r) (8 ^ dt_wd (cd t))) (n := nr t) (fun r q hr => dt_any_false.mpr (fun k _ => by rw [dt_K_cut hr, Bool.and_false])) (8 - nr t)
  rw [show nr t + (8 - nr t) = 8 from by omega] at e2
  rw [e1, ← e2, dt_pairs, show 64 = 8 * 8 from rfl, dt_su_blk]
  apply dt_su_ext
  intro a ha
  apply dt_cn_ext
  intro b hb
  rw [show (8 * a + b) / 8 = a from by omega, show (8 * a + b) % 8 = b from by omega]
theorem dt_need_eq {cd nr st rs : Nat → Nat} {t p d : Nat} : dt_set (fun r => dt_all (fun q => dt_res p d rs (dt_K cd nr st t q) == dt_res p d rs (fun x => !(x == r) && dt_K cd nr st t q x)) 512) (nr t) = dt_set (fun r => dt_all (fun k => !(dt_K cd nr st t k r) || (dt_res p d rs (fun x => !(x == r) && dt_K cd nr st t k x) == dt_res p d rs (dt_K cd nr st t k))) (8 ^ dt_wd (cd t))) (nr t) := by
  have hw := (dt_wd3 (cd t)).2
  apply dt_set_ext
  intro r hr
  rw [← dt_all_per (fun k => !(dt_K cd nr st t k r) || (dt_res p d rs (fun x => !(x == r) && dt_K cd nr st t k x) == dt_res p d rs (dt_K cd nr st t k))) (Nat.pow_pos (by decide)) (Nat.pow_pos (by decide)) (dt_512 hw)]
  congr 1
  funext q
  rw [← dt_K_per q]
  cases h : dt_K cd nr st t q r with
  | true =>
    rw [Bool.not_true, Bool.false_or]
    apply Bool.eq_iff_iff.mpr
    rw [beq_iff_eq, beq_iff_eq]
    exact ⟨Eq.symm, Eq.symm⟩
  | false =>
    have e : (fun x => !(x == r) && dt_K cd nr st t q x) = dt_K cd nr st t q := by
      funext x
      by_cases c : x = r
      · subst c; rw [h]; simp
      · rw [beq_false_of_ne c]; simp
    rw [e]; simp
theorem dt_unr_eq {f : Nat → Bool} {n : Nat} : (!(dt_any f n)) = dt_all (fun q => !(f q)) n := by
  apply Bool.eq_iff_iff.mpr
  rw [dt_all_iff, Bool.not_eq_true', dt_any_false]
  constructor
  · intro h i hi
    rw [h i hi]; rfl
  · intro h i hi
    have := h i hi
    revert this
    cases f i <;> simp
/-! ===== one digit of a case ===== -/
theorem dt_ot_dig {i a d : Nat} (hi : i < 3) (ha : a < 512) (hd : d < 8) : dt_ot i a d / 8 ^ i % 8 = d := by
  unfold dt_ot
  have h3 : i = 0 ∨ i = 1 ∨ i = 2 := by omega
  rcases h3 with e | e | e <;> subst e <;> omega
theorem dt_ot_self {i a : Nat} (hi : i < 3) : dt_ot i a (a / 8 ^ i % 8) = a := by
  unfold dt_ot
  have h3 : i = 0 ∨ i = 1 ∨ i = 2 := by omega
  rcases h3 with e | e | e <;> subst e <;> omega
theorem dt_ot_add (i a d e : Nat) : dt_ot i a (d + e) = dt_ot i a d + e * 8 ^ i := by
  unfold dt_ot
  rw [Nat.add_mul, Nat.add_assoc]
theorem dt_tb3 (x i : Nat) {j : Nat} (hj : j < 3) : x.testBit (3 * i + j) = (x / 8 ^ i % 8).testBit j := by
  rw [← dt_p8, show (8 : Nat) = 2 ^ 3 from rfl, Nat.testBit_mod_two_pow, Nat.testBit_div_two_pow, decide_eq_true hj, Bool.true_and, Nat.add_comm]
theorem dt_bit8 : ∀ d, d < 8 → ∀ j, j < 3 → d.testBit j = false → d + 2 ^ j < 8 := by decide +kernel
theorem dt_pw3 (i j : Nat) : 2 ^ (3 * i + j) = 2 ^ j * 8 ^ i := by rw [Nat.pow_add, dt_p8, Nat.mul_comm]
theorem dt_bit9 : ∀ k, k < 9 → ∀ q, q < 512 → q.testBit k = false → q + 2 ^ k < 512 := by decide +kernel
theorem dt_const8 {f : Nat → Nat} (h : ∀ d j, d < 8 → j < 3 → d.testBit j = false → f d = f (d + 2 ^ j)) : ∀ d, d < 8 → f d = f 0 := by
  have a1 : f 0 = f 1 := h 0 0 (by decide) (by decide) (by decide)
  have a2 : f 0 = f 2 := h 0 1 (by decide) (by decide) (by decide)
  have a4 : f 0 = f 4 := h 0 2 (by decide) (by decide) (by decide)
  have a3 : f 2 = f 3 := h 2 0 (by decide) (by decide) (by decide)
  have a5 : f 4 = f 5 := h 4 0 (by decide) (by decide) (by decide)
  have a6 : f 4 = f 6 := h 4 1 (by decide) (by decide) (by decide)
  have a7 : f 6 = f 7 := h 6 0 (by decide) (by decide) (by decide)
  intro d hd
  have hc : d = 0 ∨ d = 1 ∨ d = 2 ∨ d = 3 ∨ d = 4 ∨ d = 5 ∨ d = 6 ∨ d = 7 := by omega
  rcases hc with e | e | e | e | e | e | e | e <;> subst e <;> omega
theorem dt_chg_iff {pl : Nat → Int64} {v k : Nat} {V : Nat → Nat} (hV : ∀ q, q < 512 → V q < 8) (hp : ∀ b q, b < 3 → q < 512 → dt_bb pl (3 * v + b) q = (V q).testBit b) (hk : k < 9) : dt_any (fun b => dt_chg pl (3 * v + b) k) 3 = true ↔ ∃ q, q < 512 ∧ q.testBit k = false ∧ V q ≠ V (q + 2 ^ k) := by
  rw [dt_any_iff]
  constructor
  · intro h
    obtain ⟨b, hb, hc⟩ := h
    obtain ⟨q, hq, e⟩ := dt_any_iff.mp hc
    rw [Bool.and_eq_true] at e
    have hf : q.testBit k = false := by
      have := e.1
      revert this
      cases q.testBit k <;> simp
    refine ⟨q, hq, hf, fun z => ?_⟩
    have h2 := e.2
    rw [hp b q hb hq, hp b _ hb (dt_bit9 k hk q hq hf), z] at h2
    simp at h2
  · intro h
    obtain ⟨q, hq, hf, hne⟩ := h
    apply Classical.byContradiction
    intro hno
    apply hne
    have hq2 := dt_bit9 k hk q hq hf
    rw [← dt_set_of (show V q < 2 ^ 3 from hV q hq), ← dt_set_of (show V (q + 2 ^ k) < 2 ^ 3 from hV _ hq2)]
    apply dt_set_ext
    intro b hb
    rw [← hp b q hb hq, ← hp b _ hb hq2]
    apply Classical.byContradiction
    intro hd
    refine hno ⟨b, hb, dt_any_iff.mpr ⟨q, hq, ?_⟩⟩
    rw [hf]
    simpa using hd
theorem dt_dep_eq {pl : Nat → Int64} {v i : Nat} {V : Nat → Nat} (hV : ∀ q, q < 512 → V q < 8) (hp : ∀ b q, b < 3 → q < 512 → dt_bb pl (3 * v + b) q = (V q).testBit b) (hi : i < 3) : dt_any (fun k => decide (k / 3 = i) && dt_any (fun b => dt_chg pl (3 * v + b) k) 3) 9 = true ↔ ∃ a y, a < 512 ∧ y < 8 ∧ a / 8 ^ i % 8 < y ∧ V (dt_ot i a y) ≠ V a := by
  rw [dt_any_iff]
  constructor
  · intro h
    obtain ⟨k, hk, e⟩ := h
    rw [Bool.and_eq_true, decide_eq_true_eq] at e
    obtain ⟨q, hq, hf, hne⟩ := (dt_chg_iff hV hp hk).mp e.2
    obtain ⟨j, hj, rfl⟩ : ∃ j, j < 3 ∧ k = 3 * i + j := ⟨k % 3, Nat.mod_lt _ (by decide), by omega⟩
    have hf2 := hf
    rw [dt_tb3 q i hj] at hf2
    have hd : q / 8 ^ i % 8 < 8 := Nat.mod_lt _ (by decide)
    have h8 := dt_bit8 _ hd j hj hf2
    refine ⟨q, q / 8 ^ i % 8 + 2 ^ j, hq, h8, Nat.lt_add_of_pos_right (Nat.pow_pos (by decide)), fun z => hne ?_⟩
    rw [dt_ot_add, dt_ot_self hi, ← dt_pw3] at z
    exact z.symm
  · intro h
    obtain ⟨a, y, ha, hy, _, hne⟩ := h
    apply Classical.byContradiction
    intro hno
    apply hne
    have hc := dt_const8 (f := fun d => V (dt_ot i a d)) (fun d j hd hj hf => by
      apply Classical.byContradiction
      intro hdiff
      refine hno ⟨3 * i + j, by omega, ?_⟩
      rw [decide_eq_true (show (3 * i + j) / 3 = i from by omega), Bool.true_and]
      refine (dt_chg_iff hV hp (by omega)).mpr ⟨dt_ot i a d, dt_ot3 hi ha hd, ?_, ?_⟩
      · rw [dt_tb3 _ i hj, dt_ot_dig hi ha hd]; exact hf
      · rw [dt_pw3, ← dt_ot_add]; exact hdiff)
    have hd : a / 8 ^ i % 8 < 8 := Nat.mod_lt _ (by decide)
    have e1 := hc y hy
    have e2 := hc _ hd
    rw [dt_ot_self hi] at e2
    rw [e1, e2]
theorem dt_rise {V : Nat → Nat} {i : Nat} (hi : i < 3) (h : ∀ q, q < 512 → q / 8 ^ i % 8 < 7 → V q ≤ V (q + 8 ^ i)) {a y : Nat} (ha : a < 512) (hy : y < 8) (hd : a / 8 ^ i % 8 < y) : V a ≤ V (dt_ot i a y) := by
  have key : ∀ e, a / 8 ^ i % 8 + e < 8 → V a ≤ V (dt_ot i a (a / 8 ^ i % 8 + e)) := by
    intro e
    induction e with
    | zero => intro _; rw [Nat.add_zero, dt_ot_self hi]; exact Nat.le_refl _
    | succ e ih =>
      intro he
      have h1 := ih (by omega)
      have h2 := h (dt_ot i a (a / 8 ^ i % 8 + e)) (dt_ot3 hi ha (by omega)) (by rw [dt_ot_dig hi ha (by omega)]; omega)
      have e3 : dt_ot i a (a / 8 ^ i % 8 + (e + 1)) = dt_ot i a (a / 8 ^ i % 8 + e) + 8 ^ i := by
        rw [← Nat.add_assoc, dt_ot_add i a (a / 8 ^ i % 8 + e) 1, Nat.one_mul]
      rw [e3]
      exact Nat.le_trans h1 h2
  have := key (y - a / 8 ^ i % 8) (by omega)
  rw [show a / 8 ^ i % 8 + (y - a / 8 ^ i % 8) = y from by omega] at this
  exact this
theorem dt_rise' {V : Nat → Nat} {i q : Nat} (hi : i < 3) : dt_ot i q (q / 8 ^ i % 8 + 1) = q + 8 ^ i := by
  rw [dt_ot_add, dt_ot_self hi, Nat.one_mul]
theorem dt_same_eq {pl : Nat → Int64} {v w : Nat} {V W : Nat → Nat} (hV : ∀ q, q < 512 → V q < 8) (hW : ∀ q, q < 512 → W q < 8) (hp : ∀ b q, b < 3 → q < 512 → dt_bb pl (3 * v + b) q = (V q).testBit b) (hq : ∀ b q, b < 3 → q < 512 → dt_bb pl (3 * w + b) q = (W q).testBit b) : (∀ k, k < 24 → pl (24 * v + k) = pl (24 * w + k)) ↔ ∀ q, q < 512 → V q = W q := by
  constructor
  · intro h q hq5
    rw [← dt_set_of (show V q < 2 ^ 3 from hV q hq5), ← dt_set_of (show W q < 2 ^ 3 from hW q hq5)]
    apply dt_set_ext
    intro b hb
    rw [← hp b q hb hq5, ← hq b q hb hq5]
    unfold dt_bb
    have := h (8 * b + q / 64) (by omega)
    rw [show 8 * (3 * v + b) + q / 64 = 24 * v + (8 * b + q / 64) from by omega, show 8 * (3 * w + b) + q / 64 = 24 * w + (8 * b + q / 64) from by omega, this]
  · intro h k hk
    apply dt_lb_ext
    intro i hi
    have h5 : 64 * (k % 8) + i < 512 := by omega
    rw [dt_bb_eq (j := 3 * v + k / 8) (w := k % 8) (by omega) hi, dt_bb_eq (j := 3 * w + k / 8) (w := k % 8) (by omega) hi, hp _ _ (by omega) h5, hq _ _ (by omega) h5, h _ h5]
end
section
/-! the relation -/
def dt_IN (pl : Nat → Int64) : Prop := ∀ j q, j < 9 → q < 512 → dt_bb pl j q = q.testBit j
def dt_I (T : Nat) (kn ky : Int32) (cd po df nr st rs : Nat → Nat) (cc co va : Nat → Int32) (pl : Nat → Int64) : Prop :=
  T ≤ 5 ∧ dt_BD po df nr st rs ∧ dt_TF T cc co cd ∧ dt_IN pl ∧ (kn ≠ 0 → dt_PL pl (dt_V cd po df nr st rs T) 8) ∧ (ky ≠ 0 → dt_VA va (dt_V cd po df nr st rs T))
/-- the same tables on both sides; planes and values, where they are known, are those of the tables -/
def i_Rel (k : Nat) (u : SX) (v : SY) : Prop := ∃ (T : Nat) (kn ky : Int32) (cd po df nr st rs : Nat → Nat) (cc co va tg : Nat → Int32) (pl fi re ke rr tw : Nat → Int64), (u = (nI T, kn, cc, co, dt_A po, dt_A df, dt_A nr, dt_A st, dt_A rs, pl, fi, re, ke, rr, tw) ∧ v = (nI T, ky, dt_A cd, dt_A po, dt_A df, dt_A nr, dt_A st, dt_A rs, va, tg)) ∧ dt_I T kn ky cd po df nr st rs cc co va pl
theorem i_up {k : Nat} {u : SX} {v : SY} (h : i_Rel k u v) : i_Rel (k + 4) u v := h
theorem dt_el {k : Nat} {u : SX} {v : SY} {P : SX → SY → Prop} (h : ∀ (T : Nat) (kn ky : Int32) (cd po df nr st rs : Nat → Nat) (cc co va tg : Nat → Int32) (pl fi re ke rr tw : Nat → Int64), dt_I T kn ky cd po df nr st rs cc co va pl → P (nI T, kn, cc, co, dt_A po, dt_A df, dt_A nr, dt_A st, dt_A rs, pl, fi, re, ke, rr, tw) (nI T, ky, dt_A cd, dt_A po, dt_A df, dt_A nr, dt_A st, dt_A rs, va, tg)) (I : i_Rel k u v) : P u v := by
  obtain ⟨T, kn, ky, cd, po, df, nr, st, rs, cc, co, va, tg, pl, fi, re, ke, rr, tw, ⟨hu, hv⟩, hI⟩ := I
  rw [hu, hv]
  exact h T kn ky cd po df nr st rs cc co va tg pl fi re ke rr tw hI
theorem dt_mk {k T : Nat} {kn ky : Int32} {cd po df nr st rs : Nat → Nat} {cc co va tg : Nat → Int32} {pl fi re ke rr tw : Nat → Int64} (hI : dt_I T kn ky cd po df nr st rs cc co va pl) : i_Rel k (nI T, kn, cc, co, dt_A po, dt_A df, dt_A nr, dt_A st, dt_A rs, pl, fi, re, ke, rr, tw) (nI T, ky, dt_A cd, dt_A po, dt_A df, dt_A nr, dt_A st, dt_A rs, va, tg) :=
  ⟨T, kn, ky, cd, po, df, nr, st, rs, cc, co, va, tg, pl, fi, re, ke, rr, tw, ⟨rfl, rfl⟩, hI⟩
theorem dt_IN_pl {pl : Nat → Int64} {T : Nat} {cd po df nr st rs : Nat → Nat} (h : dt_IN pl) : dt_PL pl (dt_V cd po df nr st rs T) 3 := by
  intro v b q hv hb hq
  rw [h (3 * v + b) q (by omega) hq, dt_V_in hv, dt_tb3 q v hb]
theorem dt_IN_of {pl : Nat → Int64} {T : Nat} {cd po df nr st rs : Nat → Nat} (h : dt_PL pl (dt_V cd po df nr st rs T) 8) : dt_IN pl := by
  intro j q hj hq
  have e := h (j / 3) (j % 3) q (by omega) (by omega) hq
  rw [show 3 * (j / 3) + j % 3 = j from by omega, dt_V_in (by omega), ← dt_tb3 q (j / 3) (by omega), show 3 * (j / 3) + j % 3 = j from by omega] at e
  exact e
theorem dt_IN_in {pl : Nat → Int64} (h : dt_IN pl) : ∀ v b q, v < 3 → b < 3 → q < 512 → dt_bb pl (3 * v + b) q = (q / 8 ^ v % 8).testBit b := by
  intro v b q hv hb hq
  rw [h (3 * v + b) q (by omega) hq, dt_tb3 q v hb]
/-! ===== ranges ===== -/
theorem dt_b2 {x : Int32} {A B : Prop} (n : Nat) (hn : n < 2 ^ 31) (hA : (¬ ∃ j, j < n ∧ x = nI j) → A) (hB : ∀ j, j < n → x = nI j → B) : (x < 0 → A) ∧ (¬ x < 0 → ((x < nI n → B) ∧ (¬ x < nI n → A))) := by
  refine br_c (fun z => hA (fun y => ?_)) (fun z => br_c (fun y => ?_) (fun y => hA (fun w => ?_)))
  · obtain ⟨j, hj, rfl⟩ := y
    exact nI_pos (by omega) z
  · obtain ⟨j, hj, rfl⟩ := nI_of z
    rw [nI_ltI hj hn] at y
    exact hB j y rfl
  · obtain ⟨j, hj, rfl⟩ := w
    exact y (nI_lt hj hn)
theorem dt_b3 {x : Int32} {A B : Prop} (n : Nat) (hn : n < 2 ^ 31) (hA : (¬ ∃ j, j ≤ n ∧ x = nI j) → A) (hB : ∀ j, j ≤ n → x = nI j → B) : (x < 0 → A) ∧ (¬ x < 0 → ((x ≤ nI n → B) ∧ (¬ x ≤ nI n → A))) := by
  refine br_c (fun z => hA (fun y => ?_)) (fun z => br_c (fun y => ?_) (fun y => hA (fun w => ?_)))
  · obtain ⟨j, hj, rfl⟩ := y
    exact nI_pos (by omega) z
  · obtain ⟨j, hj, rfl⟩ := nI_of z
    rw [nI_leI hj hn] at y
    exact hB j y rfl
  · obtain ⟨j, hj, rfl⟩ := w
    exact y (nI_le hj hn)
theorem dt_b4 {x : Int32} {A B : Prop} (n : Nat) (hn : n < 2 ^ 31) (hA : (¬ ∃ j, j ≤ n ∧ x = nI j) → A) (hB : ∀ j, j ≤ n → x = nI j → B) : (x < 0 → A) ∧ (¬ x < 0 → ((nI n < x → A) ∧ (¬ nI n < x → B))) := by
  refine br_c (fun z => hA (fun y => ?_)) (fun z => br_c (fun y => hA (fun w => ?_)) (fun y => ?_))
  · obtain ⟨j, hj, rfl⟩ := y
    exact nI_pos (by omega) z
  · obtain ⟨j, hj, rfl⟩ := w
    rw [nI_ltI hn (by omega)] at y
    omega
  · obtain ⟨j, hj, rfl⟩ := nI_of z
    rw [nI_ltI hn hj] at y
    exact hB j (by omega) rfl
theorem dt_yin {post : Int32 → Prop} {v : SY} {x : Int32} (n : Nat) (hn : n < 2 ^ 31) (h0 : (¬ ∃ j, j ≤ n ∧ x = nI j) → post 0) (h1 : ∀ j, j ≤ n → x = nI j → post 1) : wpY_in post v x 0 (nI n) := by
  obtain ⟨_, _, _, _, _, _, _, _, _, _⟩ := v
  exact dt_b4 n hn h0 h1
theorem dt_inj {a b : Nat} (ha : a < 2 ^ 31) (hb : b < 2 ^ 31) (h : nI a = nI b) : a = b := (nI_eq ha hb).mp h
section
variable {kn : Int32} {cc co po df rc so ro : Nat → Int32} {pl fi re ke rr tw : Nat → Int64}
theorem dt_xTab {post : Int32 → Prop} {p : Int32} {T : Nat} (hT : T ≤ 5) (h0 : (¬ ∃ t, t < T ∧ p = nI t) → post 0) (h1 : ∀ t, t < T → p = nI t → post 1) : wpX_isTable post (nI T, kn, cc, co, po, df, rc, so, ro, pl, fi, re, ke, rr, tw) p := by
  refine br_c (fun z => h0 (fun y => ?_)) (fun z => br_c (fun y => h0 (fun w => ?_)) (fun y => ?_))
  · obtain ⟨j, hj, rfl⟩ := y
    exact nI_pos (by omega) z
  · obtain ⟨j, hj, rfl⟩ := w
    rw [nI_leI (by omega) (by omega)] at y
    omega
  · obtain ⟨j, hj, rfl⟩ := nI_of z
    rw [nI_leI (by omega) hj] at y
    exact h1 j (by omega) rfl
theorem dt_xVar {post : Int32 → Prop} {p tc : Int32} (h0 : (¬ ∃ j, j ≤ 7 ∧ p = nI j) → post 0) (h1 : ∀ j, j ≤ 7 → p = nI j → post 1) : wpX_isVariable post (tc, kn, cc, co, po, df, rc, so, ro, pl, fi, re, ke, rr, tw) p := dt_b4 7 (by decide) h0 h1
end
/-! ===== stores of naturals ===== -/
def dt_un (f : Nat → Nat) (k x : Nat) : Nat → Nat := fun j => if j = k then x else f j
theorem dt_un_s {f : Nat → Nat} {k x : Nat} : dt_un f k x k = x := if_pos rfl
theorem dt_un_n {f : Nat → Nat} {k x j : Nat} (h : j ≠ k) : dt_un f k x j = f j := if_neg h
theorem dt_upA (f : Nat → Nat) (k x : Nat) : upd (dt_A f) k (nI x) = dt_A (dt_un f k x) := by
  funext j
  show (if j = k then nI x else nI (f j)) = nI (if j = k then x else f j)
  by_cases h : j = k
  · rw [if_pos h, if_pos h]
  · rw [if_neg h, if_neg h]
theorem dt_byte0 : vp_nar .byte 0 = nI 0 := by rw [vp_nar_byte]; decide
theorem dt_BD_po {po df nr st rs : Nat → Nat} {k x : Nat} (B : dt_BD po df nr st rs) (h : x ≤ 5) : dt_BD (dt_un po k x) df nr st rs :=
  ⟨fun j => by unfold dt_un; split; exact h; exact B.1 j, B.2⟩
theorem dt_BD_df {po df nr st rs : Nat → Nat} {k x : Nat} (B : dt_BD po df nr st rs) (h : x < 8) : dt_BD po (dt_un df k x) nr st rs :=
  ⟨B.1, fun j => by unfold dt_un; split; exact h; exact B.2.1 j, B.2.2⟩
theorem dt_BD_nr {po df nr st rs : Nat → Nat} {k x : Nat} (B : dt_BD po df nr st rs) (h : x ≤ 8) : dt_BD po df (dt_un nr k x) st rs :=
  ⟨B.1, B.2.1, fun j => by unfold dt_un; split; exact h; exact B.2.2.1 j, B.2.2.2⟩
theorem dt_BD_st {po df nr st rs : Nat → Nat} {k x : Nat} (B : dt_BD po df nr st rs) (h : x < 2 ^ 24) : dt_BD po df nr (dt_un st k x) rs :=
  ⟨B.1, B.2.1, B.2.2.1, fun j => by unfold dt_un; split; exact h; exact B.2.2.2.1 j, B.2.2.2.2⟩
theorem dt_BD_rs {po df nr st rs : Nat → Nat} {k x : Nat} (B : dt_BD po df nr st rs) (h : x < 8) : dt_BD po df nr st (dt_un rs k x) :=
  ⟨B.1, B.2.1, B.2.2.1, B.2.2.2.1, fun j => by unfold dt_un; split; exact h; exact B.2.2.2.2 j⟩
theorem i_vc0 : wpX_init (fun u => wpY_init (fun v => i_Rel 0 u v)) := by
  refine dt_xinit (fun pl hpl => ?_)
  refine ⟨0, 0, 0, fun _ => 0, fun _ => 0, fun _ => 0, fun _ => 0, fun _ => 0, fun _ => 0, fun _ => 0, fun _ => 0, fun _ => 0, fun _ => 0, pl, fun _ => 0, fun _ => 0, fun _ => 0, fun _ => 0, fun _ => 0, ⟨rfl, rfl⟩, ?_⟩
  exact ⟨by decide, ⟨fun _ => show 0 ≤ 5 from by decide, fun _ => show 0 < 8 from by decide, fun _ => show 0 ≤ 8 from by decide, fun _ => show 0 < 2 ^ 24 from by decide, fun _ => show 0 < 8 from by decide⟩, fun t ht => absurd ht (Nat.not_lt_zero t), hpl, fun z => absurd rfl z, fun z => absurd rfl z⟩
end
section
/-! making tables -/
def dt_fit (T c : Nat) : Prop := c % 10 < 3 + T ∧ ((c / 10 % 10 = 9 ∧ c / 100 = 9) ∨ (c / 10 % 10 ≠ 9 ∧ c / 10 % 10 < 3 + T ∧ c / 10 % 10 ≠ c % 10 ∧ (c / 100 = 9 ∨ (c / 100 < 3 + T ∧ c / 100 ≠ c % 10 ∧ c / 100 ≠ c / 10 % 10))))
theorem dt_c1 {c : Nat} (h : c < 1000) : nI c - nI c / 10 * 10 = nI (c % 10) := pk_rem (d := 10) (by omega) (by decide) (by decide)
theorem dt_c10 {c : Nat} (h : c < 1000) : nI c / 10 = nI (c / 10) := pk_div (d := 10) (by omega) (by decide) (by decide)
theorem dt_c2 {c : Nat} (h : c < 1000) : nI c / 10 - nI c / 10 / 10 * 10 = nI (c / 10 % 10) := by
  rw [dt_c10 h]
  exact dt_c1 (by omega)
theorem dt_c3 {c : Nat} (h : c < 1000) : nI c / 100 = nI (c / 100) := pk_div (d := 100) (by omega) (by decide) (by decide)
theorem dt_3T (T : Nat) : (3 : Int32) + nI T = nI (3 + T) := nI_add 3 T
section
variable {kn ky : Int32} {cc co va tg : Nat → Int32} {pl fi re ke rr tw : Nat → Int64} {cd po df nr st rs : Nat → Nat} {T : Nat}
theorem dt_colFit {post : Int32 → Prop} {c : Nat} (hT : T < 5) (hc : c < 1000) (h1 : dt_fit T c → post 1) (h0 : ¬ dt_fit T c → post 0) : wpX_columnsFit post (nI T, kn, cc, co, dt_A po, dt_A df, dt_A nr, dt_A st, dt_A rs, pl, fi, re, ke, rr, tw) (nI (c % 10)) (nI (c / 10 % 10)) (nI (c / 100)) := by
  unfold dt_fit at h1 h0
  refine nm_r (dt_3T T) (pk_lt (c % 10) (3 + T) (fun a => pk_eq (c / 10 % 10) 9 (fun b => pk_eq (c / 100) 9 (fun d => h1 (by omega)) (fun d => h0 (by omega))) (fun b => pk_le (3 + T) (c / 10 % 10) (fun d => h0 (by omega)) (fun d => pk_eq (c / 10 % 10) (c % 10) (fun e => h0 (by omega)) (fun e => pk_eq (c / 100) 9 (fun f => h1 (by omega)) (fun f => pk_le (3 + T) (c / 100) (fun g => h0 (by omega)) (fun g => pk_eq (c / 100) (c % 10) (fun i => h0 (by omega)) (fun i => pk_eq (c / 100) (c / 10 % 10) (fun j => h0 (by omega)) (fun j => h1 (by omega))))))))) (fun a => h0 (by omega)))
/-- the arguments of table() in their ranges -/
def dt_rg (p0 p1 p2 : Int32) : Prop := ∃ c p d, (c ≤ 999 ∧ p0 = nI c) ∧ (p ≤ 5 ∧ p1 = nI p) ∧ (d ≤ 7 ∧ p2 = nI d)
theorem dt_xtbl_bad {post : Int32 → SX → Prop} {p0 p1 p2 : Int32} (hT : T < 5) (hr : ¬ dt_rg p0 p1 p2) (h : post (-1) (nI T, kn, cc, co, dt_A po, dt_A df, dt_A nr, dt_A st, dt_A rs, pl, fi, re, ke, rr, tw)) : wpX_table post (nI T, kn, cc, co, dt_A po, dt_A df, dt_A nr, dt_A st, dt_A rs, pl, fi, re, ke, rr, tw) p0 p1 p2 := by
  refine br_t (nI_lt (b := 5) hT (by decide)) ?_
  refine dt_b4 999 (by decide) (fun _ => h) (fun c hc e0 => ?_)
  refine dt_b4 5 (by decide) (fun _ => h) (fun p hp e1 => ?_)
  exact dt_b3 7 (by decide) (fun _ => h) (fun d hd e2 => absurd ⟨c, p, d, ⟨hc, e0⟩, ⟨hp, e1⟩, ⟨hd, e2⟩⟩ hr)
theorem dt_xtbl {post : Int32 → SX → Prop} {c p d : Nat} (hT : T < 5) (hc : c ≤ 999) (hp : p ≤ 5) (hd : d ≤ 7) (h0 : ¬ dt_fit T c → post (-1) (nI T, kn, cc, co, dt_A po, dt_A df, dt_A nr, dt_A st, dt_A rs, pl, fi, re, ke, rr, tw)) (h1 : dt_fit T c → post (nI T) (nI (T + 1), 0, upd cc T (nI (dt_wd c)), upd (upd (upd co (3 * T) (nI (c % 10))) (3 * T + 1) (nI (c / 10 % 10))) (3 * T + 2) (nI (c / 100)), dt_A (dt_un po T p), dt_A (dt_un df T d), dt_A (dt_un nr T 0), dt_A st, dt_A rs, pl, fi, re, ke, rr, tw)) : wpX_table post (nI T, kn, cc, co, dt_A po, dt_A df, dt_A nr, dt_A st, dt_A rs, pl, fi, re, ke, rr, tw) (nI c) (nI p) (nI d) := by
  refine br_t (nI_lt (b := 5) hT (by decide)) ?_
  refine br_f (nI_pos (by omega)) (br_f (nI_nlt (a := 999) hc (by decide)) (br_f (nI_pos (by omega)) (br_f (nI_nlt (a := 5) hp (by decide)) (br_f (nI_pos (by omega)) (br_t (nI_le (b := 7) hd (by decide)) ?_)))))
  refine ⟨by decide, nm_r (dt_c1 (by omega)) ⟨by decide, by decide, nm_r (dt_c2 (by omega)) ⟨by decide, nm_r (dt_c3 (by omega)) ?_⟩⟩⟩
  refine dt_colFit hT (by omega) (fun hf => br_f (by decide) ?_) (fun hf => br_t rfl (h0 hf))
  have h2 := h1 hf
  unfold dt_fit at hf
  refine nm_r (nI_1 T) ?_
  have e0 : (3 : Int32) * nI T + 1 = nI (3 * T + 1) := by rw [dt_m3, nI_1]
  have e1 : (3 : Int32) * nI T + 2 = nI (3 * T + 2) := by
    rw [dt_m3]
    exact nI_add (3 * T) 2
  rw [e0, e1, dt_m3, nI_clamp (n := 3 * T) (by omega), nI_clamp (n := 3 * T + 1) (by omega), nI_clamp (n := 3 * T + 2) (by omega), dt_byte (n := c % 10) (by omega), dt_byte (n := c / 10 % 10) (by omega), dt_byte (n := c / 100) (by omega)]
  have hi : vp_in (nI T) 5 := vp_in_nI hT (by decide)
  have fin : ∀ z : Nat, z = dt_wd c → wX_table_164 post (nI p) (nI d) (nI T) (nI z) (nI T) (nI (T + 1)) kn cc (upd (upd (upd co (3 * T) (nI (c % 10))) (3 * T + 1) (nI (c / 10 % 10))) (3 * T + 2) (nI (c / 100))) (dt_A po) (dt_A df) (dt_A nr) (dt_A st) (dt_A rs) pl fi re ke rr tw := by
    intro z hz
    have hz3 := (dt_wd3 c).2
    unfold wX_table_164
    rw [nI_clamp (n := T) (by omega), dt_byte (n := z) (by omega), dt_byte (n := p) (by omega), dt_byte (n := d) (by omega), dt_byte0, dt_upA, dt_upA, dt_upA, hz]
    exact ⟨hi, nm_e ⟨hi, nm_e ⟨hi, nm_e ⟨hi, nm_e h2⟩⟩⟩⟩
  refine ⟨vp_in_nI (by omega) (by decide), nm_e ⟨vp_in_nI (by omega) (by decide), nm_e ⟨vp_in_nI (by omega) (by decide), nm_e ?_⟩⟩⟩
  unfold dt_wd at fin
  refine pk_eq (c / 10 % 10) 9 (fun a => fin 1 ?_) (fun a => pk_eq (c / 100) 9 (fun b => fin 2 ?_) (fun b => fin 3 ?_))
  · rw [if_neg (by omega), if_neg (by omega)]
  · rw [if_neg (by omega), if_pos a]
  · rw [if_pos b]
theorem dt_ytbl_bad {post : Int32 → SY → Prop} {p0 p1 p2 : Int32} (hT : T < 5) (hr : ¬ dt_rg p0 p1 p2) (h : post (-1) (nI T, ky, dt_A cd, dt_A po, dt_A df, dt_A nr, dt_A st, dt_A rs, va, tg)) : wpY_table post (nI T, ky, dt_A cd, dt_A po, dt_A df, dt_A nr, dt_A st, dt_A rs, va, tg) p0 p1 p2 := by
  have f135 : ∀ c : Nat, c ≤ 999 → p0 = nI c → wY_table_135 post p0 p1 p2 (nI T) ky (dt_A cd) (dt_A po) (dt_A df) (dt_A nr) (dt_A st) (dt_A rs) va tg := by
    intro c hc e0
    unfold wY_table_135
    refine dt_yin 5 (by decide) (fun _ => br_t rfl h) (fun p hp e1 => br_f (by decide) ?_)
    exact dt_yin 7 (by decide) (fun _ => br_t rfl h) (fun d hd e2 => absurd ⟨c, p, d, ⟨hc, e0⟩, ⟨hp, e1⟩, ⟨hd, e2⟩⟩ hr)
  refine br_f (fun z => absurd ((nI_eq (b := 5) (by omega) (by decide)).mp z) (by omega)) ?_
  refine dt_yin 999 (by decide) (fun _ => br_t rfl h) (fun c hc e0 => br_f (by decide) ?_)
  have f119 : ∀ x5 x6 : Int32, wY_table_119 post p0 p1 p2 x5 x6 (nI T) ky (dt_A cd) (dt_A po) (dt_A df) (dt_A nr) (dt_A st) (dt_A rs) va tg := by
    intro x5 x6
    unfold wY_table_119
    exact br_c (fun _ => f135 c hc e0) (fun _ => br_c (fun _ => h) (fun _ => f135 c hc e0))
  have f91 : ∀ x4 x5 x6 : Int32, wY_table_91 post p0 p1 p2 x4 x5 x6 (nI T) ky (dt_A cd) (dt_A po) (dt_A df) (dt_A nr) (dt_A st) (dt_A rs) va tg := by
    intro x4 x5 x6
    unfold wY_table_91
    exact br_c (fun _ => h) (fun _ => br_c (fun _ => h) (fun _ => br_c (fun _ => br_c (fun _ => f119 x5 x6) (fun _ => h)) (fun _ => f119 x5 x6)))
  have f75 : ∀ x4 x5 x6 x7 : Int32, wY_table_75 post p0 p1 p2 x4 x5 x6 x7 (nI T) ky (dt_A cd) (dt_A po) (dt_A df) (dt_A nr) (dt_A st) (dt_A rs) va tg := by
    intro x4 x5 x6 x7
    unfold wY_table_75
    exact br_c (fun _ => f91 x4 x5 x6) (fun _ => br_c (fun _ => f91 x4 x5 x6) (fun _ => h))
  exact ⟨by decide, nm_e ⟨by decide, by decide, nm_e ⟨by decide, nm_e (nm_e (br_c (fun _ => h) (fun _ => br_c (fun _ => f75 _ _ _ _) (fun _ => br_c (fun _ => h) (fun _ => f75 _ _ _ _)))))⟩⟩⟩
theorem dt_ytbl {post : Int32 → SY → Prop} {c p d : Nat} (hT : T < 5) (hc : c ≤ 999) (hp : p ≤ 5) (hd : d ≤ 7) (h0 : ¬ dt_fit T c → post (-1) (nI T, ky, dt_A cd, dt_A po, dt_A df, dt_A nr, dt_A st, dt_A rs, va, tg)) (h1 : dt_fit T c → post (nI T) (nI (T + 1), 0, dt_A (dt_un cd T c), dt_A (dt_un po T p), dt_A (dt_un df T d), dt_A (dt_un nr T 0), dt_A st, dt_A rs, va, tg)) : wpY_table post (nI T, ky, dt_A cd, dt_A po, dt_A df, dt_A nr, dt_A st, dt_A rs, va, tg) (nI c) (nI p) (nI d) := by
  have hi : vp_in (nI T) 5 := vp_in_nI hT (by decide)
  have f135 : dt_fit T c → wY_table_135 post (nI c) (nI p) (nI d) (nI T) ky (dt_A cd) (dt_A po) (dt_A df) (dt_A nr) (dt_A st) (dt_A rs) va tg := by
    intro hf
    unfold wY_table_135
    refine dt_yin 5 (by decide) (fun z => absurd ⟨p, hp, rfl⟩ z) (fun _ _ _ => br_f (by decide) ?_)
    refine dt_yin 7 (by decide) (fun z => absurd ⟨d, hd, rfl⟩ z) (fun _ _ _ => br_f (by decide) ?_)
    rw [nI_clamp (by omega), dt_upA, dt_upA, dt_upA, show upd (dt_A nr) T 0 = dt_A (dt_un nr T 0) from dt_upA nr T 0]
    refine ⟨hi, nm_e ⟨hi, nm_e ⟨hi, nm_e ⟨hi, nm_e (nm_r (nI_1 T) ?_)⟩⟩⟩⟩
    rw [nI_pred]
    exact h1 hf
  unfold dt_fit at h0 f135
  refine br_f (fun z => absurd ((nI_eq (b := 5) (by omega) (by decide)).mp z) (by omega)) ?_
  refine dt_yin 999 (by decide) (fun z => absurd ⟨c, hc, rfl⟩ z) (fun _ _ _ => br_f (by decide) ?_)
  have f119 : c % 10 < 3 + T → (c / 10 % 10 = 9 ∨ c / 10 % 10 < 3 + T) → (c / 100 = 9 ∨ c / 100 < 3 + T) → c % 10 ≠ c / 10 % 10 → c % 10 ≠ c / 100 → (c / 10 % 10 = c / 100 → c / 10 % 10 = 9) → wY_table_119 post (nI c) (nI p) (nI d) (nI (c / 10 % 10)) (nI (c / 100)) (nI T) ky (dt_A cd) (dt_A po) (dt_A df) (dt_A nr) (dt_A st) (dt_A rs) va tg := by
    intro a1 a2 a3 a4 a5 a6
    unfold wY_table_119
    exact pk_eq (c / 100) 9 (fun e => f135 (by omega)) (fun e => pk_eq (c / 10 % 10) 9 (fun f => h0 (by omega)) (fun f => f135 (by omega)))
  have f91 : c % 10 < 3 + T → (c / 10 % 10 = 9 ∨ c / 10 % 10 < 3 + T) → (c / 100 = 9 ∨ c / 100 < 3 + T) → wY_table_91 post (nI c) (nI p) (nI d) (nI (c % 10)) (nI (c / 10 % 10)) (nI (c / 100)) (nI T) ky (dt_A cd) (dt_A po) (dt_A df) (dt_A nr) (dt_A st) (dt_A rs) va tg := by
    intro a1 a2 a3
    unfold wY_table_91
    exact pk_eq (c % 10) (c / 10 % 10) (fun e => h0 (by omega)) (fun e => pk_eq (c % 10) (c / 100) (fun f => h0 (by omega)) (fun f => pk_eq (c / 10 % 10) (c / 100) (fun g => pk_eq (c / 10 % 10) 9 (fun i => f119 a1 a2 a3 e f (fun _ => i)) (fun i => h0 (by omega))) (fun g => f119 a1 a2 a3 e f (fun z => absurd z g))))
  have f75 : c % 10 < 3 + T → (c / 10 % 10 = 9 ∨ c / 10 % 10 < 3 + T) → wY_table_75 post (nI c) (nI p) (nI d) (nI (c % 10)) (nI (c / 10 % 10)) (nI (c / 100)) (nI (3 + T)) (nI T) ky (dt_A cd) (dt_A po) (dt_A df) (dt_A nr) (dt_A st) (dt_A rs) va tg := by
    intro a1 a2
    unfold wY_table_75
    exact pk_eq (c / 100) 9 (fun e => f91 a1 a2 (Or.inl e)) (fun e => pk_lt (c / 100) (3 + T) (fun f => f91 a1 a2 (Or.inr f)) (fun f => h0 (by omega)))
  exact ⟨by decide, nm_r (dt_c1 (by omega)) ⟨by decide, by decide, nm_r (dt_c2 (by omega)) ⟨by decide, nm_r (dt_c3 (by omega)) (nm_r (dt_3T T) (pk_le (3 + T) (c % 10) (fun a => h0 (by omega)) (fun a => pk_eq (c / 10 % 10) 9 (fun b => f75 a (Or.inl b)) (fun b => pk_le (3 + T) (c / 10 % 10) (fun e => h0 (by omega)) (fun e => f75 a (Or.inr e))))))⟩⟩⟩
/-- a new table -/
theorem dt_TF_new {c : Nat} (hT : T < 5) (hc : c ≤ 999) (hf : dt_fit T c) (TF : dt_TF T cc co cd) : dt_TF (T + 1) (upd cc T (nI (dt_wd c))) (upd (upd (upd co (3 * T) (nI (c % 10))) (3 * T + 1) (nI (c / 10 % 10))) (3 * T + 2) (nI (c / 100))) (dt_un cd T c) := by
  intro t ht
  by_cases e : t = T
  · subst e
    rw [dt_un_s, pk_us]
    unfold dt_fit at hf
    refine ⟨by omega, rfl, fun i hi => ?_, fun i hi => ?_⟩
    · have h3 : i = 0 ∨ i = 1 ∨ i = 2 := by omega
      rcases h3 with e | e | e <;> subst e
      · rw [pk_un (by omega), pk_un (by omega), Nat.add_zero, pk_us, Nat.pow_zero, Nat.div_one]
      · rw [pk_un (by omega), pk_us, Nat.pow_one]
      · rw [pk_us]
        exact congrArg nI (by omega)
    · have h3 : i = 0 ∨ i = 1 ∨ i = 2 := by have := (dt_wd3 c).2; omega
      unfold dt_wd at hi
      rcases h3 with e | e | e <;> subst e
      · rw [Nat.pow_zero, Nat.div_one]; omega
      · rw [Nat.pow_one]
        by_cases z : c / 100 ≠ 9
        · omega
        · rw [if_neg z] at hi
          by_cases y : c / 10 % 10 ≠ 9
          · omega
          · rw [if_neg y] at hi; omega
      · have z : c / 100 ≠ 9 := by
          intro z
          rw [if_neg (fun y => y z)] at hi
          by_cases y : c / 10 % 10 ≠ 9
          · rw [if_pos y] at hi; omega
          · rw [if_neg y] at hi; omega
        omega
  · obtain ⟨h1, h2, h3, h4⟩ := TF t (by omega)
    rw [dt_un_n e, pk_un e]
    refine ⟨h1, h2, fun i hi => ?_, h4⟩
    rw [pk_un (by omega), pk_un (by omega), pk_un (by omega)]
    exact h3 i hi
end
theorem i_vc_table {k : Nat} {u : SX} {v : SY} (I : i_Rel k u v) (hk : k + 4 ≤ 2048) (v1 : Int32) (v2 : Int32) (v3 : Int32) : wpX_table (fun r u' => wpY_table (fun r' v' => r' = r ∧ i_Rel (k + 4) u' v') v v1 v2 v3) u v1 v2 v3 := by
  refine dt_el (P := fun u v => wpX_table (fun r u' => wpY_table (fun r' v' => r' = r ∧ i_Rel (k + 4) u' v') v v1 v2 v3) u v1 v2 v3) ?_ I
  intro T kn ky cd po df nr st rs cc co va tg pl fi re ke rr tw hI
  obtain ⟨hT, B, TF, hin, hkn, hky⟩ := hI
  by_cases h5 : T = 5
  · subst h5
    exact br_f (by decide) (br_t rfl ⟨rfl, dt_mk ⟨hT, B, TF, hin, hkn, hky⟩⟩)
  · have hT5 : T < 5 := by omega
    by_cases hr : dt_rg v1 v2 v3
    · obtain ⟨c, p, d, ⟨hc, rfl⟩, ⟨hp, rfl⟩, ⟨hd, rfl⟩⟩ := hr
      refine dt_xtbl hT5 hc hp hd (fun hf => ?_) (fun hf => ?_)
      · exact dt_ytbl hT5 hc hp hd (fun _ => ⟨rfl, dt_mk ⟨hT, B, TF, hin, hkn, hky⟩⟩) (fun z => absurd z hf)
      · refine dt_ytbl hT5 hc hp hd (fun z => absurd hf z) (fun _ => ⟨rfl, dt_mk ⟨by omega, ?_, dt_TF_new hT5 hc hf TF, hin, fun z => absurd rfl z, fun z => absurd rfl z⟩⟩)
        exact dt_BD_nr (dt_BD_df (dt_BD_po B hp) (by omega)) (by omega)
    · exact dt_xtbl_bad hT5 hr (dt_ytbl_bad hT5 hr ⟨rfl, dt_mk ⟨hT, B, TF, hin, hkn, hky⟩⟩)
theorem i_vc_rule {k : Nat} {u : SX} {v : SY} (I : i_Rel k u v) (hk : k + 4 ≤ 2048) (v1 : Int32) (v2 : Int32) (v3 : Int32) : wpX_rule (fun r u' => wpY_rule (fun r' v' => r' = r ∧ i_Rel (k + 4) u' v') v v1 v2 v3) u v1 v2 v3 := by
  refine dt_el (P := fun u v => wpX_rule (fun r u' => wpY_rule (fun r' v' => r' = r ∧ i_Rel (k + 4) u' v') v v1 v2 v3) u v1 v2 v3) ?_ I
  intro T kn ky cd po df nr st rs cc co va tg pl fi re ke rr tw hI
  obtain ⟨hT, B, TF, hin, hkn, hky⟩ := hI
  have same : i_Rel (k + 4) (nI T, kn, cc, co, dt_A po, dt_A df, dt_A nr, dt_A st, dt_A rs, pl, fi, re, ke, rr, tw) (nI T, ky, dt_A cd, dt_A po, dt_A df, dt_A nr, dt_A st, dt_A rs, va, tg) := dt_mk ⟨hT, B, TF, hin, hkn, hky⟩
  unfold wpX_rule
  dsimp only
  refine dt_xTab hT (fun hno => br_t rfl ?_) (fun t ht e => br_f (by decide) ?_)
  · unfold wpY_rule
    dsimp only
    exact dt_yTab hT (fun _ => br_t rfl ⟨rfl, same⟩) (fun t ht e => absurd ⟨t, ht, e⟩ hno)
  · subst e
    have hit : vp_in (nI t) 5 := vp_in_nI (by omega) (by decide)
    have hn := B.2.2.1 t
    have ea : dt_A nr t = nI (nr t) := rfl
    rw [nI_clamp (by omega), ea]
    refine ⟨hit, pk_lt (nr t) 8 (fun h8 => ?_) (fun h8 => ?_)⟩
    · -- the reference behind its first two tests
      have yg : ∀ P : Int32 → SY → Prop, wpY_in (fun r_15 => (r_15 = 0 → P (-1) (nI T, ky, dt_A cd, dt_A po, dt_A df, dt_A nr, dt_A st, dt_A rs, va, tg)) ∧ (¬ r_15 = 0 → wpY_in (fun r_27 => (r_27 = 0 → P (-1) (nI T, ky, dt_A cd, dt_A po, dt_A df, dt_A nr, dt_A st, dt_A rs, va, tg)) ∧ (¬ r_27 = 0 → (∀ s d, s ≤ 16777215 → d ≤ 7 → v2 = nI s → v3 = nI d → P (nI (nr t + 1)) (nI T, 0, dt_A cd, dt_A po, dt_A df, dt_A (dt_un nr t (nr t + 1)), dt_A (dt_un st (8 * t + nr t) s), dt_A (dt_un rs (8 * t + nr t) d), va, tg)))) (nI T, ky, dt_A cd, dt_A po, dt_A df, dt_A nr, dt_A st, dt_A rs, va, tg) v3 0 7)) (nI T, ky, dt_A cd, dt_A po, dt_A df, dt_A nr, dt_A st, dt_A rs, va, tg) v2 0 16777215 → wpY_rule P (nI T, ky, dt_A cd, dt_A po, dt_A df, dt_A nr, dt_A st, dt_A rs, va, tg) (nI t) v2 v3 := by
        intro P hP
        unfold wpY_rule
        dsimp only
        refine dt_yTab hT (fun z => absurd ⟨t, ht, rfl⟩ z) (fun _ _ _ => br_f (by decide) ?_)
        rw [nI_clamp (by omega), ea]
        refine ⟨hit, pk_eq (nr t) 8 (fun z => absurd z (by omega)) (fun _ => ?_)⟩
        have hP1 := hP
        unfold wpY_in at hP1 ⊢
        dsimp only at hP1 ⊢
        refine br_c (fun z => br_t rfl ((hP1.1 z).1 rfl)) (fun z => br_c (fun y => br_t rfl (((hP1.2 z).1 y).1 rfl)) (fun y => br_f (by decide) ?_))
        have hP2 := ((hP1.2 z).2 y).2 (by decide)
        refine br_c (fun z2 => br_t rfl ((hP2.1 z2).1 rfl)) (fun z2 => br_c (fun y2 => br_t rfl (((hP2.2 z2).1 y2).1 rfl)) (fun y2 => br_f (by decide) ?_))
        have hP3 := ((hP2.2 z2).2 y2).2 (by decide)
        obtain ⟨s, hs, es⟩ := nI_of2 (M := 16777215) (n := 16777215) (by decide) z (Int32.not_lt.mp y)
        obtain ⟨d, hd, ed⟩ := nI_of2 (M := 7) (n := 7) (by decide) z2 (Int32.not_lt.mp y2)
        have hfin := hP3 s d hs hd es ed
        subst es ed
        have hi40 : vp_in (nI (8 * t + nr t)) 40 := vp_in_nI (by omega) (by decide)
        rw [dt_8, nI_clamp (n := 8 * t + nr t) (by omega), dt_upA, dt_upA, nI_1, dt_upA]
        refine ⟨hit, hi40, nm_e ⟨hit, hi40, nm_e ⟨hit, hit, nm_e ⟨hit, ?_⟩⟩⟩⟩
        rw [show dt_A (dt_un nr t (nr t + 1)) t = nI (nr t + 1) from congrArg nI dt_un_s]
        exact hfin
      have bad : (¬ ∃ s, s ≤ 16777215 ∧ v2 = nI s) ∨ (¬ ∃ d, d ≤ 7 ∧ v3 = nI d) → wpY_rule (fun r' v' => r' = -1 ∧ i_Rel (k + 4) (nI T, kn, cc, co, dt_A po, dt_A df, dt_A nr, dt_A st, dt_A rs, pl, fi, re, ke, rr, tw) v') (nI T, ky, dt_A cd, dt_A po, dt_A df, dt_A nr, dt_A st, dt_A rs, va, tg) (nI t) v2 v3 := by
        intro hb
        refine yg _ (dt_yin 16777215 (by decide) (fun _ => br_t rfl ⟨rfl, same⟩) (fun s hs es => br_f (by decide) (dt_yin 7 (by decide) (fun _ => br_t rfl ⟨rfl, same⟩) (fun d hd ed => ?_))))
        rcases hb with hb | hb
        · exact absurd ⟨s, hs, es⟩ hb
        · exact absurd ⟨d, hd, ed⟩ hb
      refine dt_b4 16777215 (by decide) (fun hno => bad (Or.inl hno)) (fun s hs es => ?_)
      refine dt_b3 7 (by decide) (fun hno => bad (Or.inr hno)) (fun d hd ed => ?_)
      subst es ed
      have hi40 : vp_in (nI (8 * t + nr t)) 40 := vp_in_nI (by omega) (by decide)
      refine ⟨hit, nm_r (dt_8 t (nr t)) ?_⟩
      rw [nI_clamp (n := 8 * t + nr t) (by omega), dt_upA, dt_byte (n := d) (by omega), dt_upA, nI_1, dt_byte (n := nr t + 1) (by omega), dt_upA]
      refine ⟨hi40, nm_e ⟨hi40, nm_e ⟨hit, hit, nm_e ⟨hit, ?_⟩⟩⟩⟩
      rw [show dt_A (dt_un nr t (nr t + 1)) t = nI (nr t + 1) from congrArg nI dt_un_s]
      refine yg _ (dt_yin 16777215 (by decide) (fun z => absurd ⟨s, hs, rfl⟩ z) (fun _ _ _ => br_f (by decide) (dt_yin 7 (by decide) (fun z => absurd ⟨d, hd, rfl⟩ z) (fun _ _ _ => br_f (by decide) (fun s2 d2 hs2 hd2 es2 ed2 => ?_)))))
      have e1 : s = s2 := dt_inj (by omega) (by omega) es2
      have e2 : d = d2 := dt_inj (by omega) (by omega) ed2
      subst e1 e2
      exact ⟨rfl, dt_mk ⟨hT, dt_BD_nr (dt_BD_rs (dt_BD_st B (by omega)) (by omega)) (by omega), TF, hin, fun z => absurd rfl z, fun z => absurd rfl z⟩⟩
    · unfold wpY_rule
      dsimp only
      refine dt_yTab hT (fun z => absurd ⟨t, ht, rfl⟩ z) (fun _ _ _ => br_f (by decide) ?_)
      rw [nI_clamp (by omega), ea]
      exact ⟨hit, pk_eq (nr t) 8 (fun _ => ⟨rfl, same⟩) (fun z => absurd (show nr t = 8 from by omega) z)⟩
theorem i_vc_unrule {k : Nat} {u : SX} {v : SY} (I : i_Rel k u v) (hk : k + 4 ≤ 2048) (v1 : Int32) : wpX_unrule (fun r u' => wpY_unrule (fun r' v' => r' = r ∧ i_Rel (k + 4) u' v') v v1) u v1 := by
  refine dt_el (P := fun u v => wpX_unrule (fun r u' => wpY_unrule (fun r' v' => r' = r ∧ i_Rel (k + 4) u' v') v v1) u v1) ?_ I
  intro T kn ky cd po df nr st rs cc co va tg pl fi re ke rr tw hI
  obtain ⟨hT, B, TF, hin, hkn, hky⟩ := hI
  have same : i_Rel (k + 4) (nI T, kn, cc, co, dt_A po, dt_A df, dt_A nr, dt_A st, dt_A rs, pl, fi, re, ke, rr, tw) (nI T, ky, dt_A cd, dt_A po, dt_A df, dt_A nr, dt_A st, dt_A rs, va, tg) := dt_mk ⟨hT, B, TF, hin, hkn, hky⟩
  unfold wpX_unrule
  dsimp only
  refine dt_xTab hT (fun hno => br_t rfl ?_) (fun t ht e => br_f (by decide) ?_)
  · unfold wpY_unrule
    dsimp only
    exact dt_yTab hT (fun _ => br_t rfl ⟨rfl, same⟩) (fun t ht e => absurd ⟨t, ht, e⟩ hno)
  · subst e
    have hit : vp_in (nI t) 5 := vp_in_nI (by omega) (by decide)
    have hn := B.2.2.1 t
    have ea : dt_A nr t = nI (nr t) := rfl
    rw [nI_clamp (by omega), ea]
    refine ⟨hit, pk_eq (nr t) 0 (fun h8 => ?_) (fun h8 => ?_)⟩
    · unfold wpY_unrule
      dsimp only
      refine dt_yTab hT (fun z => absurd ⟨t, ht, rfl⟩ z) (fun _ _ _ => br_f (by decide) ?_)
      rw [nI_clamp (by omega), ea]
      exact ⟨hit, pk_eq (nr t) 0 (fun _ => ⟨rfl, same⟩) (fun z => absurd h8 z)⟩
    · have es : nI (nr t) - 1 = nI (nr t - 1) := pk_sub (b := 1) (by omega)
      rw [es, dt_byte (n := nr t - 1) (by omega), dt_upA]
      refine ⟨hit, hit, nm_e ⟨hit, ?_⟩⟩
      rw [show dt_A (dt_un nr t (nr t - 1)) t = nI (nr t - 1) from congrArg nI dt_un_s]
      unfold wpY_unrule
      dsimp only
      refine dt_yTab hT (fun z => absurd ⟨t, ht, rfl⟩ z) (fun _ _ _ => br_f (by decide) ?_)
      rw [nI_clamp (by omega), ea]
      refine ⟨hit, pk_eq (nr t) 0 (fun z => absurd z h8) (fun _ => ?_)⟩
      rw [es, dt_upA]
      refine ⟨hit, hit, nm_e ⟨hit, ?_⟩⟩
      rw [show dt_A (dt_un nr t (nr t - 1)) t = nI (nr t - 1) from congrArg nI dt_un_s]
      exact ⟨rfl, dt_mk ⟨hT, dt_BD_nr B (by omega), TF, hin, fun z => absurd rfl z, fun z => absurd rfl z⟩⟩
theorem i_vc_drop {k : Nat} {u : SX} {v : SY} (I : i_Rel k u v) (hk : k + 4 ≤ 2048) : wpX_drop (fun r u' => wpY_drop (fun r' v' => r' = r ∧ i_Rel (k + 4) u' v') v) u := by
  refine dt_el (P := fun u v => wpX_drop (fun r u' => wpY_drop (fun r' v' => r' = r ∧ i_Rel (k + 4) u' v') v) u) ?_ I
  intro T kn ky cd po df nr st rs cc co va tg pl fi re ke rr tw hI
  obtain ⟨hT, B, TF, hin, hkn, hky⟩ := hI
  refine pk_eq T 0 (fun e => ?_) (fun e => ?_)
  · exact pk_eq T 0 (fun _ => ⟨rfl, dt_mk ⟨hT, B, TF, hin, hkn, hky⟩⟩) (fun z => absurd e z)
  · have es : nI T - 1 = nI (T - 1) := pk_sub (b := 1) (by omega)
    refine nm_r es (pk_eq T 0 (fun z => absurd z e) (fun _ => nm_r es ⟨rfl, dt_mk ⟨by omega, B, fun t ht => TF t (by omega), hin, fun z => absurd rfl z, fun z => absurd rfl z⟩⟩))
end
section
/-! the questions about tables -/
section
variable {kn ky : Int32} {cc co va tg : Nat → Int32} {pl fi re ke rr tw : Nat → Int64} {cd po df nr st rs : Nat → Nat} {T : Nat}
theorem dt_ffself {post : SX → Prop} {t : Nat} (hT : T ≤ 5) (B : dt_BD po df nr st rs) (TF : dt_TF T cc co cd) (hin : dt_IN pl) (ht : t < T) (h : ∀ fi', (∀ r q, r < nr t → q < 512 → dt_bb fi' r q = dt_K cd nr st t q r) → post (nI T, kn, cc, co, dt_A po, dt_A df, dt_A nr, dt_A st, dt_A rs, pl, fi', re, ke, rr, tw)) : wpX_findFiring post (nI T, kn, cc, co, dt_A po, dt_A df, dt_A nr, dt_A st, dt_A rs, pl, fi, re, ke, rr, tw) (nI t) 1 (-1) := by
  obtain ⟨hcd, hcc, hco, hcl⟩ := TF t ht
  have hw := (dt_wd3 (cd t)).2
  refine dt_findFiring (n := nr t) (w := dt_wd (cd t)) (st := fun r => st (8 * t + r)) (cl := fun c => c) (VV := fun c q => q / 8 ^ c % 8) (L := fun _ => false) (by omega) rfl (B.2.2.1 t) hcc hw (fun r hr => ⟨rfl, B.2.2.2.1 _⟩) (fun c hc => ⟨by omega, Or.inr ⟨by decide, rfl⟩⟩) dt_Lm1 (fun c q _ _ => Nat.mod_lt _ (by decide)) (fun c hc b q hb hq => dt_IN_in hin c b q (by omega) hb hq) (fun fi' hf => h fi' (fun r q hr hq => ?_))
  rw [hf r q hr hq]
  unfold dt_K dt_G
  rw [decide_eq_true hr]
  rfl
theorem dt_ffall {post : SX → Prop} {t : Nat} (hT : T ≤ 5) (B : dt_BD po df nr st rs) (TF : dt_TF T cc co cd) (hpl : dt_PL pl (dt_V cd po df nr st rs T) 8) (ht : t < T) (h : ∀ fi', (∀ r q, r < nr t → q < 512 → dt_bb fi' r q = dt_FV cd po df nr st rs T t q r) → post (nI T, kn, cc, co, dt_A po, dt_A df, dt_A nr, dt_A st, dt_A rs, pl, fi', re, ke, rr, tw)) : wpX_findFiring post (nI T, kn, cc, co, dt_A po, dt_A df, dt_A nr, dt_A st, dt_A rs, pl, fi, re, ke, rr, tw) (nI t) 0 (-1) := by
  obtain ⟨hcd, hcc, hco, hcl⟩ := TF t ht
  have hw := (dt_wd3 (cd t)).2
  refine dt_findFiring (n := nr t) (w := dt_wd (cd t)) (st := fun r => st (8 * t + r)) (cl := fun c => cd t / 10 ^ c % 10) (VV := fun c q => dt_V cd po df nr st rs T (cd t / 10 ^ c % 10) q) (L := fun _ => false) (by omega) rfl (B.2.2.1 t) hcc hw (fun r hr => ⟨rfl, B.2.2.2.1 _⟩) (fun c hc => ⟨by have := hcl c hc; omega, Or.inl ⟨rfl, hco c (by omega)⟩⟩) dt_Lm1 (fun c q _ _ => dt_V_lt B _ _ _) (fun c hc b q hb hq => hpl _ b q (by have := hcl c hc; omega) hb hq) (fun fi' hf => h fi' (fun r q hr hq => ?_))
  rw [hf r q hr hq]
  unfold dt_FV dt_G
  rw [decide_eq_true hr]
  rfl
theorem dt_m1s {n : Nat} (h : n ≤ 8) : ((1 : Int32) <<< (nI n &&& 31)) - 1 = nI (2 ^ n - 1) := by
  rw [dt_shl1 (by omega)]
  exact pk_sub (b := 1) (Nat.pow_pos (by decide))
end
theorem i_vc_fires {k : Nat} {u : SX} {v : SY} (I : i_Rel k u v) (hk : k + 4 ≤ 2048) (v1 : Int32) (v2 : Int32) : wpX_fires (fun r u' => wpY_fires (fun r' v' => r' = r ∧ i_Rel (k + 4) u' v') v v1 v2) u v1 v2 := by
  refine dt_el (P := fun u v => wpX_fires (fun r u' => wpY_fires (fun r' v' => r' = r ∧ i_Rel (k + 4) u' v') v v1 v2) u v1 v2) ?_ I
  intro T kn ky cd po df nr st rs cc co va tg pl fi re ke rr tw hI
  obtain ⟨hT, B, TF, hin, hkn, hky⟩ := hI
  have same : i_Rel (k + 4) (nI T, kn, cc, co, dt_A po, dt_A df, dt_A nr, dt_A st, dt_A rs, pl, fi, re, ke, rr, tw) (nI T, ky, dt_A cd, dt_A po, dt_A df, dt_A nr, dt_A st, dt_A rs, va, tg) := dt_mk ⟨hT, B, TF, hin, hkn, hky⟩
  have bad : (¬ ∃ t, t < T ∧ v1 = nI t) ∨ (¬ ∃ q, q < 512 ∧ v2 = nI q) → wpY_fires (fun r' v' => r' = -1 ∧ i_Rel (k + 4) (nI T, kn, cc, co, dt_A po, dt_A df, dt_A nr, dt_A st, dt_A rs, pl, fi, re, ke, rr, tw) v') (nI T, ky, dt_A cd, dt_A po, dt_A df, dt_A nr, dt_A st, dt_A rs, va, tg) v1 v2 := by
    intro hb
    unfold wpY_fires
    dsimp only
    refine dt_yTab hT (fun _ => br_t rfl ⟨rfl, same⟩) (fun t ht e => br_f (by decide) ?_)
    refine dt_yin 511 (by decide) (fun _ => br_t rfl ⟨rfl, same⟩) (fun q hq e2 => ?_)
    rcases hb with hb | hb
    · exact absurd ⟨t, ht, e⟩ hb
    · exact absurd ⟨q, by omega, e2⟩ hb
  unfold wpX_fires
  dsimp only
  refine dt_xTab hT (fun hno => br_t rfl (bad (Or.inl hno))) (fun t ht e => br_f (by decide) ?_)
  refine dt_b2 512 (by decide) (fun hno => bad (Or.inr hno)) (fun q hq e2 => ?_)
  subst e e2
  refine dt_findAll hT B TF (dt_IN_pl hin) hkn (fun kn' pl' fi' re' rr' tw' h1 h2 => ?_)
  refine dt_ffall hT B TF h2 ht (fun fi2 hf => ?_)
  refine dt_xfires (n := nr t) (F := dt_FV cd po df nr st rs T t q) (by omega) rfl (B.2.2.1 t) hq (fun r hr => hf r q hr hq) ?_
  exact dt_yfires hT B TF hky ht hq (fun ky' va' h3 h4 => ⟨rfl, dt_mk ⟨hT, B, TF, dt_IN_of h2, fun _ => h2, fun _ => h4⟩⟩)
theorem i_vc_gaps {k : Nat} {u : SX} {v : SY} (I : i_Rel k u v) (hk : k + 4 ≤ 2048) (v1 : Int32) : wpX_gaps (fun r u' => wpY_gaps (fun r' => r' = r ∧ i_Rel (k + 4) u' v) v v1) u v1 := by
  refine dt_el (P := fun u v => wpX_gaps (fun r u' => wpY_gaps (fun r' => r' = r ∧ i_Rel (k + 4) u' v) v v1) u v1) ?_ I
  intro T kn ky cd po df nr st rs cc co va tg pl fi re ke rr tw hI
  obtain ⟨hT, B, TF, hin, hkn, hky⟩ := hI
  unfold wpX_gaps
  dsimp only
  refine dt_xTab hT (fun hno => br_t rfl ?_) (fun t ht e => br_f (by decide) ?_)
  · unfold wpY_gaps
    dsimp only
    exact dt_yTab hT (fun _ => br_t rfl ⟨rfl, dt_mk ⟨hT, B, TF, hin, hkn, hky⟩⟩) (fun t ht e => absurd ⟨t, ht, e⟩ hno)
  · subst e
    refine dt_ffself hT B TF hin ht (fun fi2 hf => ?_)
    obtain ⟨hcd, hcc, _, _⟩ := TF t ht
    refine dt_xgaps (n := nr t) (w := dt_wd (cd t)) (F := dt_K cd nr st t) (by omega) rfl (B.2.2.1 t) hcc (dt_wd3 _) hf ?_
    unfold wpY_gaps
    dsimp only
    refine dt_yTab hT (fun z => absurd ⟨t, ht, rfl⟩ z) (fun _ _ _ => br_f (by decide) ?_)
    refine dt_ygaps B (by omega) hcd ⟨?_, dt_mk ⟨hT, B, TF, hin, hkn, hky⟩⟩
    rw [dt_gaps_eq]
theorem i_vc_overlaps {k : Nat} {u : SX} {v : SY} (I : i_Rel k u v) (hk : k + 4 ≤ 2048) (v1 : Int32) : wpX_overlaps (fun r u' => wpY_overlaps (fun r' v' => r' = r ∧ i_Rel (k + 4) u' v') v v1) u v1 := by
  refine dt_el (P := fun u v => wpX_overlaps (fun r u' => wpY_overlaps (fun r' v' => r' = r ∧ i_Rel (k + 4) u' v') v v1) u v1) ?_ I
  intro T kn ky cd po df nr st rs cc co va tg pl fi re ke rr tw hI
  obtain ⟨hT, B, TF, hin, hkn, hky⟩ := hI
  unfold wpX_overlaps
  dsimp only
  refine dt_xTab hT (fun hno => br_t rfl ?_) (fun t ht e => br_f (by decide) ?_)
  · unfold wpY_overlaps
    dsimp only
    exact dt_yTab hT (fun _ => br_t rfl ⟨rfl, dt_mk ⟨hT, B, TF, hin, hkn, hky⟩⟩) (fun t ht e => absurd ⟨t, ht, e⟩ hno)
  · subst e
    refine dt_ffself hT B TF hin ht (fun fi2 hf => ?_)
    obtain ⟨hcd, hcc, _, _⟩ := TF t ht
    have hn := B.2.2.1 t
    refine dt_xoverlaps (n := nr t) (M := fun r s => dt_any (fun q => dt_K cd nr st t q r && dt_K cd nr st t q s) 512) (by omega) rfl hn (fun r s hr hs => ?_) ?_
    · apply Bool.eq_iff_iff.mpr
      rw [dt_any_iff, dt_any_iff]
      constructor
      · intro h
        obtain ⟨q, hq, e⟩ := h
        rw [hf r q hr hq, hf s q hs hq] at e
        exact ⟨q, hq, e⟩
      · intro h
        obtain ⟨q, hq, e⟩ := h
        refine ⟨q, hq, ?_⟩
        rw [hf r q hr hq, hf s q hs hq]
        exact e
    · unfold wpY_overlaps
      dsimp only
      refine dt_yTab hT (fun z => absurd ⟨t, ht, rfl⟩ z) (fun _ _ _ => br_f (by decide) ?_)
      refine dt_yover B (by omega) hcd (fun tg' => ⟨?_, dt_mk ⟨hT, B, TF, hin, hkn, hky⟩⟩)
      rw [dt_over_eq hn]
theorem i_vc_needless {k : Nat} {u : SX} {v : SY} (I : i_Rel k u v) (hk : k + 4 ≤ 2048) (v1 : Int32) : wpX_needless (fun r u' => wpY_needless (fun r' => r' = r ∧ i_Rel (k + 4) u' v) v v1) u v1 := by
  refine dt_el (P := fun u v => wpX_needless (fun r u' => wpY_needless (fun r' => r' = r ∧ i_Rel (k + 4) u' v) v v1) u v1) ?_ I
  intro T kn ky cd po df nr st rs cc co va tg pl fi re ke rr tw hI
  obtain ⟨hT, B, TF, hin, hkn, hky⟩ := hI
  unfold wpX_needless
  dsimp only
  refine dt_xTab hT (fun hno => br_t rfl ?_) (fun t ht e => br_f (by decide) ?_)
  · unfold wpY_needless
    dsimp only
    exact dt_yTab hT (fun _ => br_t rfl ⟨rfl, dt_mk ⟨hT, B, TF, hin, hkn, hky⟩⟩) (fun t ht e => absurd ⟨t, ht, e⟩ hno)
  · subst e
    obtain ⟨hcd, hcc, _, _⟩ := TF t ht
    have hn := B.2.2.1 t
    refine dt_xneed (n := nr t) (w := dt_wd (cd t)) (p := po t) (d := df t) (st := fun r => st (8 * t + r)) (rs := fun r => rs (8 * t + r)) (by omega) rfl hn hcc (dt_wd3 _).2 (fun r hr => ⟨rfl, B.2.2.2.1 _⟩) (dt_IN_in hin) rfl (B.1 t) rfl (B.2.1 t) (fun r _ => rfl) (fun r => B.2.2.2.2 _) (fun fi' re' ke' rr' tw' => ?_)
    unfold wpY_needless
    dsimp only
    refine dt_yTab hT (fun z => absurd ⟨t, ht, rfl⟩ z) (fun _ _ _ => br_f (by decide) ?_)
    rw [nI_clamp (by omega), show dt_A nr t = nI (nr t) from rfl]
    refine ⟨vp_in_nI (by omega) (by decide), nm_r (dt_m1s hn) ?_⟩
    refine dt_yneed B (by omega) hcd ⟨?_, dt_mk ⟨hT, B, TF, hin, hkn, hky⟩⟩
    exact congrArg nI (dt_need_eq (cd := cd) (nr := nr) (st := st) (rs := fun r => rs (8 * t + r)) (t := t) (p := po t) (d := df t)).symm
theorem i_vc_unreached {k : Nat} {u : SX} {v : SY} (I : i_Rel k u v) (hk : k + 4 ≤ 2048) (v1 : Int32) : wpX_unreached (fun r u' => wpY_unreached (fun r' v' => r' = r ∧ i_Rel (k + 4) u' v') v v1) u v1 := by
  refine dt_el (P := fun u v => wpX_unreached (fun r u' => wpY_unreached (fun r' v' => r' = r ∧ i_Rel (k + 4) u' v') v v1) u v1) ?_ I
  intro T kn ky cd po df nr st rs cc co va tg pl fi re ke rr tw hI
  obtain ⟨hT, B, TF, hin, hkn, hky⟩ := hI
  unfold wpX_unreached
  dsimp only
  refine dt_xTab hT (fun hno => br_t rfl ?_) (fun t ht e => br_f (by decide) ?_)
  · unfold wpY_unreached
    dsimp only
    exact dt_yTab hT (fun _ => br_t rfl ⟨rfl, dt_mk ⟨hT, B, TF, hin, hkn, hky⟩⟩) (fun t ht e => absurd ⟨t, ht, e⟩ hno)
  · subst e
    have hn := B.2.2.1 t
    refine dt_findAll hT B TF (dt_IN_pl hin) hkn (fun kn' pl' fi' re' rr' tw' h1 h2 => ?_)
    refine dt_ffall hT B TF h2 ht (fun fi2 hf => ?_)
    refine dt_xunreached (n := nr t) (M := fun r => dt_any (fun q => dt_FV cd po df nr st rs T t q r) 512) (by omega) rfl hn (fun r hr => ?_) ?_
    · apply Bool.eq_iff_iff.mpr
      rw [dt_any_iff, dt_any_iff]
      constructor
      · intro h
        obtain ⟨q, hq, e⟩ := h
        rw [hf r q hr hq, Bool.and_self] at e
        exact ⟨q, hq, e⟩
      · intro h
        obtain ⟨q, hq, e⟩ := h
        refine ⟨q, hq, ?_⟩
        rw [hf r q hr hq, Bool.and_self]
        exact e
    · unfold wpY_unreached
      dsimp only
      refine dt_yTab hT (fun z => absurd ⟨t, ht, rfl⟩ z) (fun _ _ _ => br_f (by decide) ?_)
      rw [nI_clamp (by omega), show dt_A nr t = nI (nr t) from rfl]
      refine ⟨vp_in_nI (by omega) (by decide), nm_r (dt_m1s hn) ?_⟩
      refine dt_yunr hT B TF hky ht (fun ky' va' h4 => ⟨congrArg nI (dt_set_ext (fun r _ => dt_unr_eq.symm)), dt_mk ⟨hT, B, TF, dt_IN_of h2, fun _ => h2, h4⟩⟩)
end
section
/-! the questions about variables -/
theorem i_vc_value {k : Nat} {u : SX} {v : SY} (I : i_Rel k u v) (hk : k + 4 ≤ 2048) (v1 : Int32) (v2 : Int32) : wpX_value (fun r u' => wpY_value (fun r' v' => r' = r ∧ i_Rel (k + 4) u' v') v v1 v2) u v1 v2 := by
  refine dt_el (P := fun u v => wpX_value (fun r u' => wpY_value (fun r' v' => r' = r ∧ i_Rel (k + 4) u' v') v v1 v2) u v1 v2) ?_ I
  intro T kn ky cd po df nr st rs cc co va tg pl fi re ke rr tw hI
  obtain ⟨hT, B, TF, hin, hkn, hky⟩ := hI
  have same : i_Rel (k + 4) (nI T, kn, cc, co, dt_A po, dt_A df, dt_A nr, dt_A st, dt_A rs, pl, fi, re, ke, rr, tw) (nI T, ky, dt_A cd, dt_A po, dt_A df, dt_A nr, dt_A st, dt_A rs, va, tg) := dt_mk ⟨hT, B, TF, hin, hkn, hky⟩
  have bad : (¬ ∃ a, a ≤ 7 ∧ v1 = nI a) ∨ (¬ ∃ q, q < 512 ∧ v2 = nI q) → wpY_value (fun r' v' => r' = -1 ∧ i_Rel (k + 4) (nI T, kn, cc, co, dt_A po, dt_A df, dt_A nr, dt_A st, dt_A rs, pl, fi, re, ke, rr, tw) v') (nI T, ky, dt_A cd, dt_A po, dt_A df, dt_A nr, dt_A st, dt_A rs, va, tg) v1 v2 := by
    intro hb
    unfold wpY_value
    dsimp only
    refine dt_yin 7 (by decide) (fun _ => br_t rfl ⟨rfl, same⟩) (fun a ha e => br_f (by decide) ?_)
    refine dt_yin 511 (by decide) (fun _ => br_t rfl ⟨rfl, same⟩) (fun q hq e2 => ?_)
    rcases hb with hb | hb
    · exact absurd ⟨a, ha, e⟩ hb
    · exact absurd ⟨q, by omega, e2⟩ hb
  unfold wpX_value
  dsimp only
  refine dt_xVar (fun hno => br_t rfl (bad (Or.inl hno))) (fun a ha e => br_f (by decide) ?_)
  refine dt_b2 512 (by decide) (fun hno => bad (Or.inr hno)) (fun q hq e2 => ?_)
  subst e e2
  refine dt_findAll hT B TF (dt_IN_pl hin) hkn (fun kn' pl' fi' re' rr' tw' h1 h2 => ?_)
  refine dt_valueAt (V := dt_V cd po df nr st rs T a q) (by omega) hq (dt_V_lt B _ _ _) (fun b hb => h2 a b q (by omega) hb hq) ?_
  unfold wpY_value
  dsimp only
  refine dt_yin 7 (by decide) (fun z => absurd ⟨a, ha, rfl⟩ z) (fun _ _ _ => br_f (by decide) ?_)
  refine dt_yin 511 (by decide) (fun z => absurd ⟨q, by omega, rfl⟩ z) (fun _ _ _ => br_f (by decide) ?_)
  refine dt_ywork hT B TF hky (fun ky' va' h3 h4 => ?_)
  dsimp only
  rw [dt_m512, nI_add, nI_clamp (by omega), h4 a q (by omega) hq]
  exact ⟨vp_in_nI (by omega) (by decide), rfl, dt_mk ⟨hT, B, TF, dt_IN_of h2, fun _ => h2, fun _ => h4⟩⟩
theorem i_vc_count {k : Nat} {u : SX} {v : SY} (I : i_Rel k u v) (hk : k + 4 ≤ 2048) (v1 : Int32) (v2 : Int32) : wpX_count (fun r u' => wpY_count (fun r' v' => r' = r ∧ i_Rel (k + 4) u' v') v v1 v2) u v1 v2 := by
  refine dt_el (P := fun u v => wpX_count (fun r u' => wpY_count (fun r' v' => r' = r ∧ i_Rel (k + 4) u' v') v v1 v2) u v1 v2) ?_ I
  intro T kn ky cd po df nr st rs cc co va tg pl fi re ke rr tw hI
  obtain ⟨hT, B, TF, hin, hkn, hky⟩ := hI
  have same : i_Rel (k + 4) (nI T, kn, cc, co, dt_A po, dt_A df, dt_A nr, dt_A st, dt_A rs, pl, fi, re, ke, rr, tw) (nI T, ky, dt_A cd, dt_A po, dt_A df, dt_A nr, dt_A st, dt_A rs, va, tg) := dt_mk ⟨hT, B, TF, hin, hkn, hky⟩
  have bad : (¬ ∃ a, a ≤ 7 ∧ v1 = nI a) ∨ (¬ ∃ q, q ≤ 7 ∧ v2 = nI q) → wpY_count (fun r' v' => r' = -1 ∧ i_Rel (k + 4) (nI T, kn, cc, co, dt_A po, dt_A df, dt_A nr, dt_A st, dt_A rs, pl, fi, re, ke, rr, tw) v') (nI T, ky, dt_A cd, dt_A po, dt_A df, dt_A nr, dt_A st, dt_A rs, va, tg) v1 v2 := by
    intro hb
    unfold wpY_count
    dsimp only
    refine dt_yin 7 (by decide) (fun _ => br_t rfl ⟨rfl, same⟩) (fun a ha e => br_f (by decide) ?_)
    refine dt_yin 7 (by decide) (fun _ => br_t rfl ⟨rfl, same⟩) (fun q hq e2 => ?_)
    rcases hb with hb | hb
    · exact absurd ⟨a, ha, e⟩ hb
    · exact absurd ⟨q, hq, e2⟩ hb
  unfold wpX_count
  dsimp only
  refine dt_xVar (fun hno => br_t rfl (bad (Or.inl hno))) (fun a ha e => br_f (by decide) ?_)
  refine dt_b3 7 (by decide) (fun hno => bad (Or.inr hno)) (fun x hx e2 => ?_)
  subst e e2
  refine dt_findAll hT B TF (dt_IN_pl hin) hkn (fun kn' pl' fi' re' rr' tw' h1 h2 => ?_)
  refine dt_xcount (V := fun q => dt_V cd po df nr st rs T a q) (by omega) (by omega) (fun q _ => dt_V_lt B _ _ _) (fun b q hb hq => h2 a b q (by omega) hb hq) ?_
  unfold wpY_count
  dsimp only
  refine dt_yin 7 (by decide) (fun z => absurd ⟨a, ha, rfl⟩ z) (fun _ _ _ => br_f (by decide) ?_)
  refine dt_yin 7 (by decide) (fun z => absurd ⟨x, hx, rfl⟩ z) (fun _ _ _ => br_f (by decide) ?_)
  refine dt_ywork hT B TF hky (fun ky' va' h3 h4 => ?_)
  exact dt_ycount (V := fun q => dt_V cd po df nr st rs T a q) (by omega) (by omega) (fun q hq => ⟨dt_V_lt B _ _ _, h4 a q (by omega) hq⟩) ⟨rfl, dt_mk ⟨hT, B, TF, dt_IN_of h2, fun _ => h2, fun _ => h4⟩⟩
theorem i_vc_first {k : Nat} {u : SX} {v : SY} (I : i_Rel k u v) (hk : k + 4 ≤ 2048) (v1 : Int32) (v2 : Int32) : wpX_first (fun r u' => wpY_first (fun r' v' => r' = r ∧ i_Rel (k + 4) u' v') v v1 v2) u v1 v2 := by
  refine dt_el (P := fun u v => wpX_first (fun r u' => wpY_first (fun r' v' => r' = r ∧ i_Rel (k + 4) u' v') v v1 v2) u v1 v2) ?_ I
  intro T kn ky cd po df nr st rs cc co va tg pl fi re ke rr tw hI
  obtain ⟨hT, B, TF, hin, hkn, hky⟩ := hI
  have same : i_Rel (k + 4) (nI T, kn, cc, co, dt_A po, dt_A df, dt_A nr, dt_A st, dt_A rs, pl, fi, re, ke, rr, tw) (nI T, ky, dt_A cd, dt_A po, dt_A df, dt_A nr, dt_A st, dt_A rs, va, tg) := dt_mk ⟨hT, B, TF, hin, hkn, hky⟩
  have bad : (¬ ∃ a, a ≤ 7 ∧ v1 = nI a) ∨ (¬ ∃ q, q ≤ 7 ∧ v2 = nI q) → wpY_first (fun r' v' => r' = -1 ∧ i_Rel (k + 4) (nI T, kn, cc, co, dt_A po, dt_A df, dt_A nr, dt_A st, dt_A rs, pl, fi, re, ke, rr, tw) v') (nI T, ky, dt_A cd, dt_A po, dt_A df, dt_A nr, dt_A st, dt_A rs, va, tg) v1 v2 := by
    intro hb
    unfold wpY_first
    dsimp only
    refine dt_yin 7 (by decide) (fun _ => br_t rfl ⟨rfl, same⟩) (fun a ha e => br_f (by decide) ?_)
    refine dt_yin 7 (by decide) (fun _ => br_t rfl ⟨rfl, same⟩) (fun q hq e2 => ?_)
    rcases hb with hb | hb
    · exact absurd ⟨a, ha, e⟩ hb
    · exact absurd ⟨q, hq, e2⟩ hb
  unfold wpX_first
  dsimp only
  refine dt_xVar (fun hno => br_t rfl (bad (Or.inl hno))) (fun a ha e => br_f (by decide) ?_)
  refine dt_b3 7 (by decide) (fun hno => bad (Or.inr hno)) (fun x hx e2 => ?_)
  subst e e2
  refine dt_findAll hT B TF (dt_IN_pl hin) hkn (fun kn' pl' fi' re' rr' tw' h1 h2 => ?_)
  have yg : ∀ P : Int32 → SY → Prop, (∀ ky' va', ky' ≠ 0 → dt_VA va' (dt_V cd po df nr st rs T) → ∃ n30 : Nat, wY_first_30 P (nI a) (nI x) (nI T) ky' (dt_A cd) (dt_A po) (dt_A df) (dt_A nr) (dt_A st) (dt_A rs) va' tg n30 0) → wpY_first P (nI T, ky, dt_A cd, dt_A po, dt_A df, dt_A nr, dt_A st, dt_A rs, va, tg) (nI a) (nI x) := by
    intro P hP
    unfold wpY_first
    dsimp only
    refine dt_yin 7 (by decide) (fun z => absurd ⟨a, ha, rfl⟩ z) (fun _ _ _ => br_f (by decide) ?_)
    refine dt_yin 7 (by decide) (fun z => absurd ⟨x, hx, rfl⟩ z) (fun _ _ _ => br_f (by decide) ?_)
    exact dt_ywork hT B TF hky (fun ky' va' h3 h4 => hP ky' va' h3 h4)
  refine dt_xfirst (V := fun q => dt_V cd po df nr st rs T a q) (by omega) (by omega) (fun q _ => dt_V_lt B _ _ _) (fun b q hb hq => h2 a b q (by omega) hb hq) (fun q hq e hl => ?_) (fun hno => ?_)
  · refine yg _ (fun ky' va' h3 h4 => dt_yfirst (V := fun q => dt_V cd po df nr st rs T a q) (by omega) (by omega) (fun q hq => ⟨dt_V_lt B _ _ _, h4 a q (by omega) hq⟩) (fun q2 hq2 e2 hl2 => ⟨?_, dt_mk ⟨hT, B, TF, dt_IN_of h2, fun _ => h2, fun _ => h4⟩⟩) (fun z => absurd e (z q hq)))
    rcases Nat.lt_trichotomy q q2 with c | c | c
    · exact absurd e (hl2 q c)
    · rw [c]
    · exact absurd e2 (hl q2 c)
  · exact yg _ (fun ky' va' h3 h4 => dt_yfirst (V := fun q => dt_V cd po df nr st rs T a q) (by omega) (by omega) (fun q hq => ⟨dt_V_lt B _ _ _, h4 a q (by omega) hq⟩) (fun q2 hq2 e2 _ => absurd e2 (hno q2 hq2)) (fun _ => ⟨rfl, dt_mk ⟨hT, B, TF, dt_IN_of h2, fun _ => h2, fun _ => h4⟩⟩))
theorem i_vc_possible {k : Nat} {u : SX} {v : SY} (I : i_Rel k u v) (hk : k + 4 ≤ 2048) (v1 : Int32) : wpX_possible (fun r u' => wpY_possible (fun r' v' => r' = r ∧ i_Rel (k + 4) u' v') v v1) u v1 := by
  refine dt_el (P := fun u v => wpX_possible (fun r u' => wpY_possible (fun r' v' => r' = r ∧ i_Rel (k + 4) u' v') v v1) u v1) ?_ I
  intro T kn ky cd po df nr st rs cc co va tg pl fi re ke rr tw hI
  obtain ⟨hT, B, TF, hin, hkn, hky⟩ := hI
  unfold wpX_possible
  dsimp only
  refine dt_xVar (fun hno => br_t rfl ?_) (fun a ha e => br_f (by decide) ?_)
  · unfold wpY_possible
    dsimp only
    exact dt_yin 7 (by decide) (fun _ => br_t rfl ⟨rfl, dt_mk ⟨hT, B, TF, hin, hkn, hky⟩⟩) (fun a ha e => absurd ⟨a, ha, e⟩ hno)
  · subst e
    refine dt_findAll hT B TF (dt_IN_pl hin) hkn (fun kn' pl' fi' re' rr' tw' h1 h2 => ?_)
    refine dt_xpossible (V := fun q => dt_V cd po df nr st rs T a q) (by omega) (fun q _ => dt_V_lt B _ _ _) (fun b q hb hq => h2 a b q (by omega) hb hq) ?_
    unfold wpY_possible
    dsimp only
    refine dt_yin 7 (by decide) (fun z => absurd ⟨a, ha, rfl⟩ z) (fun _ _ _ => br_f (by decide) ?_)
    refine dt_ywork hT B TF hky (fun ky' va' h3 h4 => ?_)
    exact dt_yposs (V := fun q => dt_V cd po df nr st rs T a q) (by omega) (fun q hq => ⟨dt_V_lt B _ _ _, h4 a q (by omega) hq⟩) ⟨rfl, dt_mk ⟨hT, B, TF, dt_IN_of h2, fun _ => h2, fun _ => h4⟩⟩
theorem i_vc_depends {k : Nat} {u : SX} {v : SY} (I : i_Rel k u v) (hk : k + 4 ≤ 2048) (v1 : Int32) : wpX_depends (fun r u' => wpY_depends (fun r' v' => r' = r ∧ i_Rel (k + 4) u' v') v v1) u v1 := by
  refine dt_el (P := fun u v => wpX_depends (fun r u' => wpY_depends (fun r' v' => r' = r ∧ i_Rel (k + 4) u' v') v v1) u v1) ?_ I
  intro T kn ky cd po df nr st rs cc co va tg pl fi re ke rr tw hI
  obtain ⟨hT, B, TF, hin, hkn, hky⟩ := hI
  unfold wpX_depends
  dsimp only
  refine dt_xVar (fun hno => br_t rfl ?_) (fun a ha e => br_f (by decide) ?_)
  · unfold wpY_depends
    dsimp only
    exact dt_yin 7 (by decide) (fun _ => br_t rfl ⟨rfl, dt_mk ⟨hT, B, TF, hin, hkn, hky⟩⟩) (fun a ha e => absurd ⟨a, ha, e⟩ hno)
  · subst e
    refine dt_findAll hT B TF (dt_IN_pl hin) hkn (fun kn' pl' fi' re' rr' tw' h1 h2 => ?_)
    refine dt_xdepends (v := a) (by omega) (dt_IN_of h2) ?_
    unfold wpY_depends
    dsimp only
    refine dt_yin 7 (by decide) (fun z => absurd ⟨a, ha, rfl⟩ z) (fun _ _ _ => br_f (by decide) ?_)
    refine dt_ywork hT B TF hky (fun ky' va' h3 h4 => ?_)
    exact dt_ydep (V := fun q => dt_V cd po df nr st rs T a q) (C := fun i => dt_any (fun k => decide (k / 3 = i) && dt_any (fun b => dt_chg pl' (3 * a + b) k) 3) 9) (by omega) (fun q hq => ⟨dt_V_lt B _ _ _, h4 a q (by omega) hq⟩) (fun i hi => dt_dep_eq (fun q _ => dt_V_lt B _ _ _) (fun b q hb hq => h2 a b q (by omega) hb hq) hi) ⟨rfl, dt_mk ⟨hT, B, TF, dt_IN_of h2, fun _ => h2, fun _ => h4⟩⟩
theorem i_vc_rising {k : Nat} {u : SX} {v : SY} (I : i_Rel k u v) (hk : k + 4 ≤ 2048) (v1 : Int32) (v2 : Int32) : wpX_rising (fun r u' => wpY_rising (fun r' v' => r' = r ∧ i_Rel (k + 4) u' v') v v1 v2) u v1 v2 := by
  refine dt_el (P := fun u v => wpX_rising (fun r u' => wpY_rising (fun r' v' => r' = r ∧ i_Rel (k + 4) u' v') v v1 v2) u v1 v2) ?_ I
  intro T kn ky cd po df nr st rs cc co va tg pl fi re ke rr tw hI
  obtain ⟨hT, B, TF, hin, hkn, hky⟩ := hI
  have same : i_Rel (k + 4) (nI T, kn, cc, co, dt_A po, dt_A df, dt_A nr, dt_A st, dt_A rs, pl, fi, re, ke, rr, tw) (nI T, ky, dt_A cd, dt_A po, dt_A df, dt_A nr, dt_A st, dt_A rs, va, tg) := dt_mk ⟨hT, B, TF, hin, hkn, hky⟩
  have bad : (¬ ∃ a, a ≤ 7 ∧ v1 = nI a) ∨ (¬ ∃ q, q ≤ 2 ∧ v2 = nI q) → wpY_rising (fun r' v' => r' = 0 ∧ i_Rel (k + 4) (nI T, kn, cc, co, dt_A po, dt_A df, dt_A nr, dt_A st, dt_A rs, pl, fi, re, ke, rr, tw) v') (nI T, ky, dt_A cd, dt_A po, dt_A df, dt_A nr, dt_A st, dt_A rs, va, tg) v1 v2 := by
    intro hb
    unfold wpY_rising
    dsimp only
    refine dt_yin 7 (by decide) (fun _ => br_t rfl ⟨rfl, same⟩) (fun a ha e => br_f (by decide) ?_)
    refine dt_yin 2 (by decide) (fun _ => br_t rfl ⟨rfl, same⟩) (fun q hq e2 => ?_)
    rcases hb with hb | hb
    · exact absurd ⟨a, ha, e⟩ hb
    · exact absurd ⟨q, hq, e2⟩ hb
  unfold wpX_rising
  dsimp only
  refine dt_xVar (fun hno => br_t rfl (bad (Or.inl hno))) (fun a ha e => br_f (by decide) ?_)
  refine dt_b3 2 (by decide) (fun hno => bad (Or.inr hno)) (fun i hi e2 => ?_)
  subst e e2
  refine dt_findAll hT B TF (dt_IN_pl hin) hkn (fun kn' pl' fi' re' rr' tw' h1 h2 => ?_)
  have e8 : (1 : Int32) <<< ((3 * nI i) &&& 31) = nI (8 ^ i) := by rw [dt_m3, dt_shl1 (by omega), dt_p8]
  refine nm_r e8 ?_
  have yg : ∀ P : Int32 → SY → Prop, (∀ ky' va', ky' ≠ 0 → dt_VA va' (dt_V cd po df nr st rs T) → wpY_changes (fun r => (r = 0 → P 1 (nI T, ky', dt_A cd, dt_A po, dt_A df, dt_A nr, dt_A st, dt_A rs, va', tg)) ∧ (¬ r = 0 → P 0 (nI T, ky', dt_A cd, dt_A po, dt_A df, dt_A nr, dt_A st, dt_A rs, va', tg))) (nI T, ky', dt_A cd, dt_A po, dt_A df, dt_A nr, dt_A st, dt_A rs, va', tg) (nI a) (nI i) 1) → wpY_rising P (nI T, ky, dt_A cd, dt_A po, dt_A df, dt_A nr, dt_A st, dt_A rs, va, tg) (nI a) (nI i) := by
    intro P hP
    unfold wpY_rising
    dsimp only
    refine dt_yin 7 (by decide) (fun z => absurd ⟨a, ha, rfl⟩ z) (fun _ _ _ => br_f (by decide) ?_)
    refine dt_yin 2 (by decide) (fun z => absurd ⟨i, hi, rfl⟩ z) (fun _ _ _ => br_f (by decide) ?_)
    exact dt_ywork hT B TF hky (fun ky' va' h3 h4 => hP ky' va' h3 h4)
  refine dt_xrising (V := fun q => dt_V cd po df nr st rs T a q) (by omega) (by omega) (fun q _ => dt_V_lt B _ _ _) (fun b q hb hq => h2 a b q (by omega) hb hq) (fun hall => ?_) (fun hex => ?_)
  · refine yg _ (fun ky' va' h3 h4 => dt_ychg (V := fun q => dt_V cd po df nr st rs T a q) (P := fun a b => a < b) (by omega) (by omega) (fun q hq => ⟨dt_V_lt B _ _ _, h4 a q (by omega) hq⟩) (Or.inr ⟨by decide, fun _ _ => Iff.rfl⟩) (fun _ => br_t rfl ⟨rfl, dt_mk ⟨hT, B, TF, dt_IN_of h2, fun _ => h2, fun _ => h4⟩⟩) (fun hx => ?_))
    obtain ⟨b, y, hb, hy, hd, hlt⟩ := hx
    have := dt_rise (V := fun q => dt_V cd po df nr st rs T a q) (by omega) hall hb hy hd
    omega
  · refine yg _ (fun ky' va' h3 h4 => dt_ychg (V := fun q => dt_V cd po df nr st rs T a q) (P := fun a b => a < b) (by omega) (by omega) (fun q hq => ⟨dt_V_lt B _ _ _, h4 a q (by omega) hq⟩) (Or.inr ⟨by decide, fun _ _ => Iff.rfl⟩) (fun hn => ?_) (fun _ => br_f (by decide) ⟨rfl, dt_mk ⟨hT, B, TF, dt_IN_of h2, fun _ => h2, fun _ => h4⟩⟩))
    obtain ⟨q, hq, hd, hlt⟩ := hex
    have := hn q (q / 8 ^ i % 8 + 1) hq (by omega) (by omega)
    rw [dt_rise' (V := fun q => dt_V cd po df nr st rs T a q) (by omega)] at this
    exact absurd (Nat.lt_of_not_le hlt) this
theorem i_vc_same {k : Nat} {u : SX} {v : SY} (I : i_Rel k u v) (hk : k + 4 ≤ 2048) (v1 : Int32) (v2 : Int32) : wpX_same (fun r u' => wpY_same (fun r' v' => r' = r ∧ i_Rel (k + 4) u' v') v v1 v2) u v1 v2 := by
  refine dt_el (P := fun u v => wpX_same (fun r u' => wpY_same (fun r' v' => r' = r ∧ i_Rel (k + 4) u' v') v v1 v2) u v1 v2) ?_ I
  intro T kn ky cd po df nr st rs cc co va tg pl fi re ke rr tw hI
  obtain ⟨hT, B, TF, hin, hkn, hky⟩ := hI
  have same : i_Rel (k + 4) (nI T, kn, cc, co, dt_A po, dt_A df, dt_A nr, dt_A st, dt_A rs, pl, fi, re, ke, rr, tw) (nI T, ky, dt_A cd, dt_A po, dt_A df, dt_A nr, dt_A st, dt_A rs, va, tg) := dt_mk ⟨hT, B, TF, hin, hkn, hky⟩
  have bad : (¬ ∃ a, a ≤ 7 ∧ v1 = nI a) ∨ (¬ ∃ q, q ≤ 7 ∧ v2 = nI q) → wpY_same (fun r' v' => r' = 0 ∧ i_Rel (k + 4) (nI T, kn, cc, co, dt_A po, dt_A df, dt_A nr, dt_A st, dt_A rs, pl, fi, re, ke, rr, tw) v') (nI T, ky, dt_A cd, dt_A po, dt_A df, dt_A nr, dt_A st, dt_A rs, va, tg) v1 v2 := by
    intro hb
    unfold wpY_same
    dsimp only
    refine dt_yin 7 (by decide) (fun _ => br_t rfl ⟨rfl, same⟩) (fun a ha e => br_f (by decide) ?_)
    refine dt_yin 7 (by decide) (fun _ => br_t rfl ⟨rfl, same⟩) (fun q hq e2 => ?_)
    rcases hb with hb | hb
    · exact absurd ⟨a, ha, e⟩ hb
    · exact absurd ⟨q, hq, e2⟩ hb
  unfold wpX_same
  dsimp only
  refine dt_xVar (fun hno => br_t rfl (bad (Or.inl hno))) (fun a ha e => br_f (by decide) ?_)
  refine dt_xVar (fun hno => br_t rfl (bad (Or.inr hno))) (fun c hc e2 => br_f (by decide) ?_)
  subst e e2
  refine dt_findAll hT B TF (dt_IN_pl hin) hkn (fun kn' pl' fi' re' rr' tw' h1 h2 => ?_)
  have yg : ∀ P : Int32 → SY → Prop, (∀ ky' va', ky' ≠ 0 → dt_VA va' (dt_V cd po df nr st rs T) → ∃ n30 : Nat, wY_same_30 P (nI a) (nI c) (nI T) ky' (dt_A cd) (dt_A po) (dt_A df) (dt_A nr) (dt_A st) (dt_A rs) va' tg n30 0) → wpY_same P (nI T, ky, dt_A cd, dt_A po, dt_A df, dt_A nr, dt_A st, dt_A rs, va, tg) (nI a) (nI c) := by
    intro P hP
    unfold wpY_same
    dsimp only
    refine dt_yin 7 (by decide) (fun z => absurd ⟨a, ha, rfl⟩ z) (fun _ _ _ => br_f (by decide) ?_)
    refine dt_yin 7 (by decide) (fun z => absurd ⟨c, hc, rfl⟩ z) (fun _ _ _ => br_f (by decide) ?_)
    exact dt_ywork hT B TF hky (fun ky' va' h3 h4 => hP ky' va' h3 h4)
  have eqv := dt_same_eq (pl := pl') (v := a) (w := c) (V := fun q => dt_V cd po df nr st rs T a q) (W := fun q => dt_V cd po df nr st rs T c q) (fun q _ => dt_V_lt B _ _ _) (fun q _ => dt_V_lt B _ _ _) (fun b q hb hq => h2 a b q (by omega) hb hq) (fun b q hb hq => h2 c b q (by omega) hb hq)
  refine dt_xsame (v := a) (w := c) (by omega) (by omega) (fun hall => ?_) (fun hex => ?_)
  · refine yg _ (fun ky' va' h3 h4 => dt_ysame (V := fun q => dt_V cd po df nr st rs T a q) (W := fun q => dt_V cd po df nr st rs T c q) (by omega) (by omega) (fun q hq => ⟨dt_V_lt B _ _ _, h4 a q (by omega) hq⟩) (fun q hq => ⟨dt_V_lt B _ _ _, h4 c q (by omega) hq⟩) (fun _ => ⟨rfl, dt_mk ⟨hT, B, TF, dt_IN_of h2, fun _ => h2, fun _ => h4⟩⟩) (fun hx => ?_))
    obtain ⟨q, hq, hne⟩ := hx
    exact absurd (eqv.mp hall q hq) hne
  · refine yg _ (fun ky' va' h3 h4 => dt_ysame (V := fun q => dt_V cd po df nr st rs T a q) (W := fun q => dt_V cd po df nr st rs T c q) (by omega) (by omega) (fun q hq => ⟨dt_V_lt B _ _ _, h4 a q (by omega) hq⟩) (fun q hq => ⟨dt_V_lt B _ _ _, h4 c q (by omega) hq⟩) (fun hall => ?_) (fun _ => ⟨rfl, dt_mk ⟨hT, B, TF, dt_IN_of h2, fun _ => h2, fun _ => h4⟩⟩))
    obtain ⟨j, hj, hne⟩ := hex
    exact absurd (eqv.mpr hall j hj) hne
end
