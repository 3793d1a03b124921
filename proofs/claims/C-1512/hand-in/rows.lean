section
/-! pure rows to paste: stores, nI and lN arithmetic, masks, shifts, narrowing, branches by naturals (pk_le, pk_lt, pk_eq), loops (lp1 .. lp16: the measure of the state; rp1 ..: recursion), negatives. Take what you need -/
theorem pk_us {f : Nat → Int32} {k : Nat} {x : Int32} : upd f k x k = x := if_pos rfl
theorem pk_un {f : Nat → Int32} {k j : Nat} {x : Int32} (h : j ≠ k) : upd f k x j = f j := if_neg h
theorem pk_uLs {f : Nat → Int64} {k : Nat} {x : Int64} : vp_updL f k x k = x := if_pos rfl
theorem pk_uLn {f : Nat → Int64} {k j : Nat} {x : Int64} (h : j ≠ k) : vp_updL f k x j = f j := if_neg h
theorem pk_sub {a b : Nat} (h : b ≤ a) : nI a - nI b = nI (a - b) := by
  obtain ⟨c, rfl⟩ : ∃ c, a = c + b := ⟨a - b, by omega⟩
  rw [← nI_add, Int32.add_sub_cancel, Nat.add_sub_cancel]
theorem pk_m1 (n : Nat) : nI (n + 1) + (-1) = nI n := by
  rw [← nI_1, Int32.add_assoc, show (1 : Int32) + (-1) = 0 from rfl, Int32.add_zero]
theorem pk_mul (a b : Nat) : nI a * nI b = nI (a * b) := (Int32.ofNat_mul a b).symm
theorem pk_div {a d : Nat} (ha : a < 2 ^ 31) (h0 : 0 < d) (hd : d < 2 ^ 31) : nI a / nI d = nI (a / d) := by
  apply Int32.toInt_inj.mp
  rw [lg_idiv_nonneg (by rw [nI_toInt ha]; omega) (by rw [nI_toInt hd]; omega), nI_toInt ha, nI_toInt hd, nI_toInt (Nat.lt_of_le_of_lt (Nat.div_le_self a d) ha)]
  first | rfl | exact (Int.natCast_ediv _ _).symm
theorem pk_rem {a d : Nat} (ha : a < 2 ^ 31) (h0 : 0 < d) (hd : d < 2 ^ 31) : nI a - nI a / nI d * nI d = nI (a % d) := by
  rw [pk_div ha h0 hd, pk_mul, pk_sub (Nat.div_mul_le_self a d)]
  exact congrArg nI (by have := Nat.div_add_mod' a d; omega)
theorem pk_sub_toInt {a b : Nat} (ha : a < 2 ^ 30) (hb : b < 2 ^ 30) : (nI a - nI b).toInt = (a : Int) - b := by
  rw [Int32.toInt_sub, nI_toInt (by omega), nI_toInt (by omega)]
  exact Int.bmod_eq_of_le (by omega) (by omega)
theorem pk_sneg {a b : Nat} (hb : b < 2 ^ 30) (h : a < b) : nI a - nI b < 0 := by
  rw [Int32.lt_iff_toInt_lt, pk_sub_toInt (by omega) hb, show (0 : Int32).toInt = 0 from by decide]
  omega
theorem pk_ix (x : Int32) {n : Nat} (hn : n < 2 ^ 31) : x < 0 ∨ nI n ≤ x ∨ ∃ j : Nat, j < n ∧ x = nI j := by
  by_cases h : x < 0
  · exact Or.inl h
  · obtain ⟨j, hj, rfl⟩ := nI_of h
    by_cases h2 : j < n
    · exact Or.inr (Or.inr ⟨j, h2, rfl⟩)
    · exact Or.inr (Or.inl (nI_le (by omega) hj))
theorem pk_le {x y : Int32} {A B : Prop} (a b : Nat) (f : a ≤ b → A) (g : b < a → B) (hx : x = nI a := by rfl) (hy : y = nI b := by rfl) (ha : a < 2 ^ 31 := by omega) (hb : b < 2 ^ 31 := by omega) : (x ≤ y → A) ∧ (¬ x ≤ y → B) := by
  subst hx hy
  rw [nI_leI ha hb]
  exact ⟨f, fun z => g (by omega)⟩
theorem pk_lt {x y : Int32} {A B : Prop} (a b : Nat) (f : a < b → A) (g : b ≤ a → B) (hx : x = nI a := by rfl) (hy : y = nI b := by rfl) (ha : a < 2 ^ 31 := by omega) (hb : b < 2 ^ 31 := by omega) : (x < y → A) ∧ (¬ x < y → B) := by
  subst hx hy
  rw [nI_ltI ha hb]
  exact ⟨f, fun z => g (by omega)⟩
theorem pk_eq {x y : Int32} {A B : Prop} (a b : Nat) (f : a = b → A) (g : a ≠ b → B) (hx : x = nI a := by rfl) (hy : y = nI b := by rfl) (ha : a < 2 ^ 31 := by omega) (hb : b < 2 ^ 31 := by omega) : (x = y → A) ∧ (¬ x = y → B) := by
  subst hx hy
  rw [nI_eq ha hb]
  exact ⟨f, g⟩
theorem pk_in {x : Int32} (n N : Nat) (h : n < N) (hx : x = nI n := by rfl) (hN : N < 2 ^ 31 := by omega) : vp_in x N := by
  subst hx
  exact vp_in_nI h hN
theorem pk_cl {x : Int32} (n : Nat) (hx : x = nI n := by rfl) (h : n < 2 ^ 31 := by omega) : x.toNatClampNeg = n := by
  subst hx
  exact nI_clamp h
theorem pk_tn {n : Nat} (h : n < 2 ^ 32) : (nI n).toBitVec.toNat = n := Nat.mod_eq_of_lt h
theorem pk_and (x : Int32) {m : Int32} (k : Nat) (hm : m.toBitVec.toNat = 2 ^ k - 1) : x &&& m = nI (x.toBitVec.toNat % 2 ^ k) := by
  apply Int32.toBitVec_inj.mp
  apply BitVec.eq_of_toNat_eq
  rw [Int32.toBitVec_and, BitVec.toNat_and, hm, Nat.and_two_pow_sub_one_eq_mod]
  show _ = (BitVec.ofNat 32 _).toNat
  rw [BitVec.toNat_ofNat]
  exact (Nat.mod_eq_of_lt (Nat.lt_of_le_of_lt (Nat.mod_le _ _) x.toBitVec.isLt)).symm
theorem pk_andN {n : Nat} (h : n < 2 ^ 32) {m : Int32} (k : Nat) (hm : m.toBitVec.toNat = 2 ^ k - 1) : nI n &&& m = nI (n % 2 ^ k) := by
  rw [pk_and _ k hm, pk_tn h]
theorem pk_andE (x : Int32) {m : Int32} (k : Nat) (hm : m.toBitVec.toNat = 2 ^ k - 1) : ∃ j : Nat, j < 2 ^ k ∧ x &&& m = nI j := ⟨_, Nat.mod_lt _ (Nat.two_pow_pos k), pk_and x k hm⟩
theorem pk_andIn (x : Int32) {m : Int32} (k : Nat) (hm : m.toBitVec.toNat = 2 ^ k - 1) (hk : k ≤ 30) : vp_in (x &&& m) (2 ^ k) := by
  obtain ⟨j, hj, e⟩ := pk_andE x k hm
  rw [e]
  exact vp_in_nI hj (Nat.lt_of_le_of_lt (Nat.pow_le_pow_right (by decide) hk) (by decide))
theorem pk_shl (a s : Int32) (k : Nat) (hs : (s.toBitVec.smod 32).toNat = k) : (a <<< s).toBitVec.toNat = a.toBitVec.toNat * 2 ^ k % 2 ^ 32 := by
  show (a.toBitVec <<< (s.toBitVec.smod 32).toNat).toNat = _
  rw [hs, BitVec.toNat_shiftLeft, Nat.shiftLeft_eq]
theorem pk_shlN {n : Nat} (s : Int32) (k : Nat) (hs : (s.toBitVec.smod 32).toNat = k) (h : n * 2 ^ k < 2 ^ 32) : nI n <<< s = nI (n * 2 ^ k) := by
  apply Int32.toBitVec_inj.mp
  apply BitVec.eq_of_toNat_eq
  have hn : n < 2 ^ 32 := Nat.lt_of_le_of_lt (Nat.le_mul_of_pos_right n (Nat.two_pow_pos k)) h
  rw [pk_shl _ _ k hs, pk_tn hn, pk_tn h, Nat.mod_eq_of_lt h]
theorem pk_shr (a s : Int32) (k : Nat) (hs : (s.toBitVec.smod 32).toNat = k) : (a >>> s).toInt = a.toInt >>> k := by
  show (a.toBitVec.sshiftRight (s.toBitVec.smod 32).toNat).toInt = _
  rw [hs, BitVec.toInt_sshiftRight]
  rfl
theorem pk_shrN {n : Nat} (h : n < 2 ^ 31) (s : Int32) (k : Nat) (hs : (s.toBitVec.smod 32).toNat = k) : nI n >>> s = nI (n / 2 ^ k) := by
  apply Int32.toInt_inj.mp
  have h2 : n / 2 ^ k ≤ n := Nat.div_le_self _ _
  rw [pk_shr _ _ k hs, nI_toInt h, nI_toInt (by omega), Int.shiftRight_eq_div_pow]
  rfl
theorem pk_ushr (x s : Int32) (k : Nat) (hs : ((s.toUInt32 &&& Int32.toUInt32 31).toBitVec % 32).toNat = k) : (x.toUInt32 >>> (s.toUInt32 &&& Int32.toUInt32 31)).toInt32.toBitVec.toNat = x.toBitVec.toNat / 2 ^ k := by
  have e : (x.toUInt32 >>> (s.toUInt32 &&& Int32.toUInt32 31)).toInt32.toBitVec = x.toBitVec >>> k := by
    rw [← hs]
    exact UInt32.toBitVec_shiftRight _ _
  rw [e, BitVec.toNat_ushiftRight, Nat.shiftRight_eq_div_pow]
theorem pk_ushrN {n : Nat} (hn : n < 2 ^ 32) (s : Int32) (k : Nat) (hs : ((s.toUInt32 &&& Int32.toUInt32 31).toBitVec % 32).toNat = k) : ((nI n).toUInt32 >>> (s.toUInt32 &&& Int32.toUInt32 31)).toInt32 = nI (n / 2 ^ k) := by
  apply Int32.toBitVec_inj.mp
  apply BitVec.eq_of_toNat_eq
  rw [pk_ushr _ s k hs, pk_tn hn, pk_tn (Nat.lt_of_le_of_lt (Nat.div_le_self _ _) hn)]
theorem pk_nb (z : Int32) : narrow .byte (.int z.toInt8.toInt32) = .int z.toInt8.toInt32 := congrArg Value.int (by simp)
theorem pk_ns (z : Int32) : narrow .short (.int z.toInt16.toInt32) = .int z.toInt16.toInt32 := congrArg Value.int (by simp)
theorem pk_fb (r : Int32) : fits .byte (.int r.toInt8.toInt32) = true := by
  have ⟨a, b⟩ := lg_i2b_range r
  have h1 : (-128 : Int32).toInt = -128 := by decide
  have h2 : (127 : Int32).toInt = 127 := by decide
  simp only [fits, Bool.and_eq_true, decide_eq_true_eq, Int32.le_iff_toInt_le, h1, h2]
  omega
theorem pk_fs (r : Int32) : fits .short (.int r.toInt16.toInt32) = true := by
  have ⟨a, b⟩ := lg_i2s_range r
  have h1 : (-32768 : Int32).toInt = -32768 := by decide
  have h2 : (32767 : Int32).toInt = 32767 := by decide
  simp only [fits, Bool.and_eq_true, decide_eq_true_eq, Int32.le_iff_toInt_le, h1, h2]
  omega
theorem pk_charN {q : Nat} (hq : q < 65536) : narrow .char (.int (nI q)) = .int (nI q) ∧ fits .char (.int (nI q)) = true := by
  constructor
  · have e : (nI q).toUInt32.toUInt16.toUInt32.toInt32 = nI q := by
      apply Int32.toBitVec_inj.mp
      apply BitVec.eq_of_toNat_eq
      show (nI q).toUInt32.toUInt16.toUInt32.toNat = q % 2 ^ 32
      rw [UInt16.toNat_toUInt32, UInt32.toNat_toUInt16, show (nI q).toUInt32.toNat = q % 2 ^ 32 from rfl]
      omega
    exact congrArg Value.int e
  · have a : (0 : Int32) ≤ nI q := nI_pos' (by omega)
    have b : nI q ≤ 65535 := nI_le (b := 65535) (by omega) (by decide)
    show (decide ((0 : Int32) ≤ nI q) && decide (nI q ≤ 65535)) = true
    rw [decide_eq_true a, decide_eq_true b]
    rfl
theorem pk_char (x : Int32) : (x.toUInt32 % 65536).toInt32 = nI (x.toBitVec.toNat % 65536) := by
  apply Int32.toBitVec_inj.mp
  apply BitVec.eq_of_toNat_eq
  rw [pk_tn (by omega)]
  show (x.toUInt32 % 65536).toNat = _
  rw [UInt32.toNat_mod]
  rfl
theorem pk_nc (x : Int32) : narrow .char (.int (x.toUInt32 % 65536).toInt32) = .int (x.toUInt32 % 65536).toInt32 := by
  rw [pk_char]
  exact (pk_charN (Nat.mod_lt _ (by decide))).1
theorem pk_fc (x : Int32) : fits .char (.int (x.toUInt32 % 65536).toInt32) = true := by
  rw [pk_char]
  exact (pk_charN (Nat.mod_lt _ (by decide))).2
theorem pk_vb (z : Int32) : vp_nar .byte z.toInt8.toInt32 = z.toInt8.toInt32 := by rw [vp_nar_byte]; simp
theorem pk_vs (z : Int32) : vp_nar .short z.toInt16.toInt32 = z.toInt16.toInt32 := by rw [vp_nar_short]; simp
theorem pk_vc (z : Int32) : vp_nar .char (z.toUInt32 % 65536).toInt32 = (z.toUInt32 % 65536).toInt32 := Value.int.inj (pk_nc z)
theorem pk_lT {n : Nat} (h : n < 2 ^ 63) : (lN n).toInt = (n : Int) := lg_ofNat_toInt h
theorem pk_lLT {a b : Nat} (ha : a < 2 ^ 63) (hb : b < 2 ^ 63) : lN a < lN b ↔ a < b := by
  rw [Int64.lt_iff_toInt_lt, pk_lT ha, pk_lT hb]; omega
theorem pk_lLE {a b : Nat} (ha : a < 2 ^ 63) (hb : b < 2 ^ 63) : lN a ≤ lN b ↔ a ≤ b := by
  rw [Int64.le_iff_toInt_le, pk_lT ha, pk_lT hb]; omega
theorem pk_lEQ {a b : Nat} (ha : a < 2 ^ 63) (hb : b < 2 ^ 63) : lN a = lN b ↔ a = b := by
  rw [← Int64.toInt_inj, pk_lT ha, pk_lT hb]; omega
theorem pk_lOf {x : Int64} (h : ¬ x < 0) : ∃ k : Nat, k < 2 ^ 63 ∧ x = lN k := by
  rw [Int64.lt_iff_toInt_lt] at h
  have h0 : (0 : Int64).toInt = 0 := by decide
  have hx := Int64.toInt_lt x
  refine ⟨x.toInt.toNat, by omega, Int64.toInt_inj.mp ?_⟩
  rw [pk_lT (by omega)]
  omega
theorem pk_lDiv {a b : Nat} (ha : a < 2 ^ 63) (h0 : 0 < b) (hb : b < 2 ^ 63) : lN a / lN b = lN (a / b) := by
  apply Int64.toInt_inj.mp
  rw [lg_ldiv_nonneg (by rw [pk_lT ha]; omega) (by rw [pk_lT hb]; omega), pk_lT ha, pk_lT hb, pk_lT (Nat.lt_of_le_of_lt (Nat.div_le_self a b) ha)]
  rfl
theorem pk_lRem {a b : Nat} (ha : a < 2 ^ 63) (h0 : 0 < b) (hb : b < 2 ^ 63) : lN a - lN a / lN b * lN b = lN (a % b) := by
  rw [pk_lDiv ha h0 hb, lN_mul, lN_sub (Nat.div_mul_le_self a b)]
  exact congrArg lN (by have := Nat.div_add_mod' a b; omega)
theorem pk_loop {σ : Type} (W : Nat → Nat → σ → Prop) (I : Nat → σ → Prop) (e i0 : Nat) (s : σ) (hi : i0 ≤ e) (h0 : I i0 s) (hx : ∀ n s, I e s → W (n + 1) e s)
    (hs : ∀ n i s, i < e → I i s → (∀ s', I (i + 1) s' → W n (i + 1) s') → W (n + 1) i s) : ∃ n, W n i0 s :=
  ⟨e + 1, loop_i W I e hx hs (e + 1) i0 s hi (by omega) h0⟩
theorem pk_loopD {σ : Type} (W : Nat → Nat → σ → Prop) (I : Nat → σ → Prop) (hx : ∀ n s, I 0 s → W (n + 1) 0 s)
    (hs : ∀ n i s, I (i + 1) s → (∀ s', I i s' → W n i s') → W (n + 1) (i + 1) s) : ∀ (e : Nat) (s : σ), I e s → W (e + 1) e s := by
  intro e
  induction e with
  | zero => exact fun s h => hx 0 s h
  | succ e ih => exact fun s h => hs (e + 1) e s h (fun s' h' => ih s' h')
theorem lp1 {A1 : Type} (W : Nat → A1 → Prop) (I : A1 → Prop) (μ : A1 → Nat) (hs : ∀ (n : Nat) (a1 : A1), I a1 → (∀ (b1 : A1), I b1 → μ b1 < μ a1 → W n b1) → W (n + 1) a1) (a1 : A1) (h : I a1) : ∃ n, W n a1 :=
  loop_m (σ := A1) (fun n s => W n s) (fun s => I s) (fun s => μ s) (fun n s hI hk => hs n s hI (fun b1 h9 hm => hk b1 h9 hm)) a1 h
theorem lp2 {A1 A2 : Type} (W : Nat → A1 → A2 → Prop) (I : A1 → A2 → Prop) (μ : A1 → A2 → Nat) (hs : ∀ (n : Nat) (a1 : A1) (a2 : A2), I a1 a2 → (∀ (b1 : A1) (b2 : A2), I b1 b2 → μ b1 b2 < μ a1 a2 → W n b1 b2) → W (n + 1) a1 a2) (a1 : A1) (a2 : A2) (h : I a1 a2) : ∃ n, W n a1 a2 :=
  loop_m (σ := A1 × A2) (fun n s => W n s.1 s.2) (fun s => I s.1 s.2) (fun s => μ s.1 s.2) (fun n s hI hk => hs n s.1 s.2 hI (fun b1 b2 h9 hm => hk (b1, b2) h9 hm)) (a1, a2) h
theorem lp3 {A1 A2 A3 : Type} (W : Nat → A1 → A2 → A3 → Prop) (I : A1 → A2 → A3 → Prop) (μ : A1 → A2 → A3 → Nat) (hs : ∀ (n : Nat) (a1 : A1) (a2 : A2) (a3 : A3), I a1 a2 a3 → (∀ (b1 : A1) (b2 : A2) (b3 : A3), I b1 b2 b3 → μ b1 b2 b3 < μ a1 a2 a3 → W n b1 b2 b3) → W (n + 1) a1 a2 a3) (a1 : A1) (a2 : A2) (a3 : A3) (h : I a1 a2 a3) : ∃ n, W n a1 a2 a3 :=
  loop_m (σ := A1 × A2 × A3) (fun n s => W n s.1 s.2.1 s.2.2) (fun s => I s.1 s.2.1 s.2.2) (fun s => μ s.1 s.2.1 s.2.2) (fun n s hI hk => hs n s.1 s.2.1 s.2.2 hI (fun b1 b2 b3 h9 hm => hk (b1, b2, b3) h9 hm)) (a1, a2, a3) h
theorem lp4 {A1 A2 A3 A4 : Type} (W : Nat → A1 → A2 → A3 → A4 → Prop) (I : A1 → A2 → A3 → A4 → Prop) (μ : A1 → A2 → A3 → A4 → Nat) (hs : ∀ (n : Nat) (a1 : A1) (a2 : A2) (a3 : A3) (a4 : A4), I a1 a2 a3 a4 → (∀ (b1 : A1) (b2 : A2) (b3 : A3) (b4 : A4), I b1 b2 b3 b4 → μ b1 b2 b3 b4 < μ a1 a2 a3 a4 → W n b1 b2 b3 b4) → W (n + 1) a1 a2 a3 a4) (a1 : A1) (a2 : A2) (a3 : A3) (a4 : A4) (h : I a1 a2 a3 a4) : ∃ n, W n a1 a2 a3 a4 :=
  loop_m (σ := A1 × A2 × A3 × A4) (fun n s => W n s.1 s.2.1 s.2.2.1 s.2.2.2) (fun s => I s.1 s.2.1 s.2.2.1 s.2.2.2) (fun s => μ s.1 s.2.1 s.2.2.1 s.2.2.2) (fun n s hI hk => hs n s.1 s.2.1 s.2.2.1 s.2.2.2 hI (fun b1 b2 b3 b4 h9 hm => hk (b1, b2, b3, b4) h9 hm)) (a1, a2, a3, a4) h
theorem lp5 {A1 A2 A3 A4 A5 : Type} (W : Nat → A1 → A2 → A3 → A4 → A5 → Prop) (I : A1 → A2 → A3 → A4 → A5 → Prop) (μ : A1 → A2 → A3 → A4 → A5 → Nat) (hs : ∀ (n : Nat) (a1 : A1) (a2 : A2) (a3 : A3) (a4 : A4) (a5 : A5), I a1 a2 a3 a4 a5 → (∀ (b1 : A1) (b2 : A2) (b3 : A3) (b4 : A4) (b5 : A5), I b1 b2 b3 b4 b5 → μ b1 b2 b3 b4 b5 < μ a1 a2 a3 a4 a5 → W n b1 b2 b3 b4 b5) → W (n + 1) a1 a2 a3 a4 a5) (a1 : A1) (a2 : A2) (a3 : A3) (a4 : A4) (a5 : A5) (h : I a1 a2 a3 a4 a5) : ∃ n, W n a1 a2 a3 a4 a5 :=
  loop_m (σ := A1 × A2 × A3 × A4 × A5) (fun n s => W n s.1 s.2.1 s.2.2.1 s.2.2.2.1 s.2.2.2.2) (fun s => I s.1 s.2.1 s.2.2.1 s.2.2.2.1 s.2.2.2.2) (fun s => μ s.1 s.2.1 s.2.2.1 s.2.2.2.1 s.2.2.2.2) (fun n s hI hk => hs n s.1 s.2.1 s.2.2.1 s.2.2.2.1 s.2.2.2.2 hI (fun b1 b2 b3 b4 b5 h9 hm => hk (b1, b2, b3, b4, b5) h9 hm)) (a1, a2, a3, a4, a5) h
theorem lp6 {A1 A2 A3 A4 A5 A6 : Type} (W : Nat → A1 → A2 → A3 → A4 → A5 → A6 → Prop) (I : A1 → A2 → A3 → A4 → A5 → A6 → Prop) (μ : A1 → A2 → A3 → A4 → A5 → A6 → Nat) (hs : ∀ (n : Nat) (a1 : A1) (a2 : A2) (a3 : A3) (a4 : A4) (a5 : A5) (a6 : A6), I a1 a2 a3 a4 a5 a6 → (∀ (b1 : A1) (b2 : A2) (b3 : A3) (b4 : A4) (b5 : A5) (b6 : A6), I b1 b2 b3 b4 b5 b6 → μ b1 b2 b3 b4 b5 b6 < μ a1 a2 a3 a4 a5 a6 → W n b1 b2 b3 b4 b5 b6) → W (n + 1) a1 a2 a3 a4 a5 a6) (a1 : A1) (a2 : A2) (a3 : A3) (a4 : A4) (a5 : A5) (a6 : A6) (h : I a1 a2 a3 a4 a5 a6) : ∃ n, W n a1 a2 a3 a4 a5 a6 :=
  loop_m (σ := A1 × A2 × A3 × A4 × A5 × A6) (fun n s => W n s.1 s.2.1 s.2.2.1 s.2.2.2.1 s.2.2.2.2.1 s.2.2.2.2.2) (fun s => I s.1 s.2.1 s.2.2.1 s.2.2.2.1 s.2.2.2.2.1 s.2.2.2.2.2) (fun s => μ s.1 s.2.1 s.2.2.1 s.2.2.2.1 s.2.2.2.2.1 s.2.2.2.2.2) (fun n s hI hk => hs n s.1 s.2.1 s.2.2.1 s.2.2.2.1 s.2.2.2.2.1 s.2.2.2.2.2 hI (fun b1 b2 b3 b4 b5 b6 h9 hm => hk (b1, b2, b3, b4, b5, b6) h9 hm)) (a1, a2, a3, a4, a5, a6) h
theorem lp7 {A1 A2 A3 A4 A5 A6 A7 : Type} (W : Nat → A1 → A2 → A3 → A4 → A5 → A6 → A7 → Prop) (I : A1 → A2 → A3 → A4 → A5 → A6 → A7 → Prop) (μ : A1 → A2 → A3 → A4 → A5 → A6 → A7 → Nat) (hs : ∀ (n : Nat) (a1 : A1) (a2 : A2) (a3 : A3) (a4 : A4) (a5 : A5) (a6 : A6) (a7 : A7), I a1 a2 a3 a4 a5 a6 a7 → (∀ (b1 : A1) (b2 : A2) (b3 : A3) (b4 : A4) (b5 : A5) (b6 : A6) (b7 : A7), I b1 b2 b3 b4 b5 b6 b7 → μ b1 b2 b3 b4 b5 b6 b7 < μ a1 a2 a3 a4 a5 a6 a7 → W n b1 b2 b3 b4 b5 b6 b7) → W (n + 1) a1 a2 a3 a4 a5 a6 a7) (a1 : A1) (a2 : A2) (a3 : A3) (a4 : A4) (a5 : A5) (a6 : A6) (a7 : A7) (h : I a1 a2 a3 a4 a5 a6 a7) : ∃ n, W n a1 a2 a3 a4 a5 a6 a7 :=
  loop_m (σ := A1 × A2 × A3 × A4 × A5 × A6 × A7) (fun n s => W n s.1 s.2.1 s.2.2.1 s.2.2.2.1 s.2.2.2.2.1 s.2.2.2.2.2.1 s.2.2.2.2.2.2) (fun s => I s.1 s.2.1 s.2.2.1 s.2.2.2.1 s.2.2.2.2.1 s.2.2.2.2.2.1 s.2.2.2.2.2.2) (fun s => μ s.1 s.2.1 s.2.2.1 s.2.2.2.1 s.2.2.2.2.1 s.2.2.2.2.2.1 s.2.2.2.2.2.2) (fun n s hI hk => hs n s.1 s.2.1 s.2.2.1 s.2.2.2.1 s.2.2.2.2.1 s.2.2.2.2.2.1 s.2.2.2.2.2.2 hI (fun b1 b2 b3 b4 b5 b6 b7 h9 hm => hk (b1, b2, b3, b4, b5, b6, b7) h9 hm)) (a1, a2, a3, a4, a5, a6, a7) h
theorem lp8 {A1 A2 A3 A4 A5 A6 A7 A8 : Type} (W : Nat → A1 → A2 → A3 → A4 → A5 → A6 → A7 → A8 → Prop) (I : A1 → A2 → A3 → A4 → A5 → A6 → A7 → A8 → Prop) (μ : A1 → A2 → A3 → A4 → A5 → A6 → A7 → A8 → Nat) (hs : ∀ (n : Nat) (a1 : A1) (a2 : A2) (a3 : A3) (a4 : A4) (a5 : A5) (a6 : A6) (a7 : A7) (a8 : A8), I a1 a2 a3 a4 a5 a6 a7 a8 → (∀ (b1 : A1) (b2 : A2) (b3 : A3) (b4 : A4) (b5 : A5) (b6 : A6) (b7 : A7) (b8 : A8), I b1 b2 b3 b4 b5 b6 b7 b8 → μ b1 b2 b3 b4 b5 b6 b7 b8 < μ a1 a2 a3 a4 a5 a6 a7 a8 → W n b1 b2 b3 b4 b5 b6 b7 b8) → W (n + 1) a1 a2 a3 a4 a5 a6 a7 a8) (a1 : A1) (a2 : A2) (a3 : A3) (a4 : A4) (a5 : A5) (a6 : A6) (a7 : A7) (a8 : A8) (h : I a1 a2 a3 a4 a5 a6 a7 a8) : ∃ n, W n a1 a2 a3 a4 a5 a6 a7 a8 :=
  loop_m (σ := A1 × A2 × A3 × A4 × A5 × A6 × A7 × A8) (fun n s => W n s.1 s.2.1 s.2.2.1 s.2.2.2.1 s.2.2.2.2.1 s.2.2.2.2.2.1 s.2.2.2.2.2.2.1 s.2.2.2.2.2.2.2) (fun s => I s.1 s.2.1 s.2.2.1 s.2.2.2.1 s.2.2.2.2.1 s.2.2.2.2.2.1 s.2.2.2.2.2.2.1 s.2.2.2.2.2.2.2) (fun s => μ s.1 s.2.1 s.2.2.1 s.2.2.2.1 s.2.2.2.2.1 s.2.2.2.2.2.1 s.2.2.2.2.2.2.1 s.2.2.2.2.2.2.2) (fun n s hI hk => hs n s.1 s.2.1 s.2.2.1 s.2.2.2.1 s.2.2.2.2.1 s.2.2.2.2.2.1 s.2.2.2.2.2.2.1 s.2.2.2.2.2.2.2 hI (fun b1 b2 b3 b4 b5 b6 b7 b8 h9 hm => hk (b1, b2, b3, b4, b5, b6, b7, b8) h9 hm)) (a1, a2, a3, a4, a5, a6, a7, a8) h
theorem lp9 {A1 A2 A3 A4 A5 A6 A7 A8 A9 : Type} (W : Nat → A1 → A2 → A3 → A4 → A5 → A6 → A7 → A8 → A9 → Prop) (I : A1 → A2 → A3 → A4 → A5 → A6 → A7 → A8 → A9 → Prop) (μ : A1 → A2 → A3 → A4 → A5 → A6 → A7 → A8 → A9 → Nat) (hs : ∀ (n : Nat) (a1 : A1) (a2 : A2) (a3 : A3) (a4 : A4) (a5 : A5) (a6 : A6) (a7 : A7) (a8 : A8) (a9 : A9), I a1 a2 a3 a4 a5 a6 a7 a8 a9 → (∀ (b1 : A1) (b2 : A2) (b3 : A3) (b4 : A4) (b5 : A5) (b6 : A6) (b7 : A7) (b8 : A8) (b9 : A9), I b1 b2 b3 b4 b5 b6 b7 b8 b9 → μ b1 b2 b3 b4 b5 b6 b7 b8 b9 < μ a1 a2 a3 a4 a5 a6 a7 a8 a9 → W n b1 b2 b3 b4 b5 b6 b7 b8 b9) → W (n + 1) a1 a2 a3 a4 a5 a6 a7 a8 a9) (a1 : A1) (a2 : A2) (a3 : A3) (a4 : A4) (a5 : A5) (a6 : A6) (a7 : A7) (a8 : A8) (a9 : A9) (h : I a1 a2 a3 a4 a5 a6 a7 a8 a9) : ∃ n, W n a1 a2 a3 a4 a5 a6 a7 a8 a9 :=
  loop_m (σ := A1 × A2 × A3 × A4 × A5 × A6 × A7 × A8 × A9) (fun n s => W n s.1 s.2.1 s.2.2.1 s.2.2.2.1 s.2.2.2.2.1 s.2.2.2.2.2.1 s.2.2.2.2.2.2.1 s.2.2.2.2.2.2.2.1 s.2.2.2.2.2.2.2.2) (fun s => I s.1 s.2.1 s.2.2.1 s.2.2.2.1 s.2.2.2.2.1 s.2.2.2.2.2.1 s.2.2.2.2.2.2.1 s.2.2.2.2.2.2.2.1 s.2.2.2.2.2.2.2.2) (fun s => μ s.1 s.2.1 s.2.2.1 s.2.2.2.1 s.2.2.2.2.1 s.2.2.2.2.2.1 s.2.2.2.2.2.2.1 s.2.2.2.2.2.2.2.1 s.2.2.2.2.2.2.2.2) (fun n s hI hk => hs n s.1 s.2.1 s.2.2.1 s.2.2.2.1 s.2.2.2.2.1 s.2.2.2.2.2.1 s.2.2.2.2.2.2.1 s.2.2.2.2.2.2.2.1 s.2.2.2.2.2.2.2.2 hI (fun b1 b2 b3 b4 b5 b6 b7 b8 b9 h9 hm => hk (b1, b2, b3, b4, b5, b6, b7, b8, b9) h9 hm)) (a1, a2, a3, a4, a5, a6, a7, a8, a9) h
theorem lp10 {A1 A2 A3 A4 A5 A6 A7 A8 A9 A10 : Type} (W : Nat → A1 → A2 → A3 → A4 → A5 → A6 → A7 → A8 → A9 → A10 → Prop) (I : A1 → A2 → A3 → A4 → A5 → A6 → A7 → A8 → A9 → A10 → Prop) (μ : A1 → A2 → A3 → A4 → A5 → A6 → A7 → A8 → A9 → A10 → Nat) (hs : ∀ (n : Nat) (a1 : A1) (a2 : A2) (a3 : A3) (a4 : A4) (a5 : A5) (a6 : A6) (a7 : A7) (a8 : A8) (a9 : A9) (a10 : A10), I a1 a2 a3 a4 a5 a6 a7 a8 a9 a10 → (∀ (b1 : A1) (b2 : A2) (b3 : A3) (b4 : A4) (b5 : A5) (b6 : A6) (b7 : A7) (b8 : A8) (b9 : A9) (b10 : A10), I b1 b2 b3 b4 b5 b6 b7 b8 b9 b10 → μ b1 b2 b3 b4 b5 b6 b7 b8 b9 b10 < μ a1 a2 a3 a4 a5 a6 a7 a8 a9 a10 → W n b1 b2 b3 b4 b5 b6 b7 b8 b9 b10) → W (n + 1) a1 a2 a3 a4 a5 a6 a7 a8 a9 a10) (a1 : A1) (a2 : A2) (a3 : A3) (a4 : A4) (a5 : A5) (a6 : A6) (a7 : A7) (a8 : A8) (a9 : A9) (a10 : A10) (h : I a1 a2 a3 a4 a5 a6 a7 a8 a9 a10) : ∃ n, W n a1 a2 a3 a4 a5 a6 a7 a8 a9 a10 :=
  loop_m (σ := A1 × A2 × A3 × A4 × A5 × A6 × A7 × A8 × A9 × A10) (fun n s => W n s.1 s.2.1 s.2.2.1 s.2.2.2.1 s.2.2.2.2.1 s.2.2.2.2.2.1 s.2.2.2.2.2.2.1 s.2.2.2.2.2.2.2.1 s.2.2.2.2.2.2.2.2.1 s.2.2.2.2.2.2.2.2.2) (fun s => I s.1 s.2.1 s.2.2.1 s.2.2.2.1 s.2.2.2.2.1 s.2.2.2.2.2.1 s.2.2.2.2.2.2.1 s.2.2.2.2.2.2.2.1 s.2.2.2.2.2.2.2.2.1 s.2.2.2.2.2.2.2.2.2) (fun s => μ s.1 s.2.1 s.2.2.1 s.2.2.2.1 s.2.2.2.2.1 s.2.2.2.2.2.1 s.2.2.2.2.2.2.1 s.2.2.2.2.2.2.2.1 s.2.2.2.2.2.2.2.2.1 s.2.2.2.2.2.2.2.2.2) (fun n s hI hk => hs n s.1 s.2.1 s.2.2.1 s.2.2.2.1 s.2.2.2.2.1 s.2.2.2.2.2.1 s.2.2.2.2.2.2.1 s.2.2.2.2.2.2.2.1 s.2.2.2.2.2.2.2.2.1 s.2.2.2.2.2.2.2.2.2 hI (fun b1 b2 b3 b4 b5 b6 b7 b8 b9 b10 h9 hm => hk (b1, b2, b3, b4, b5, b6, b7, b8, b9, b10) h9 hm)) (a1, a2, a3, a4, a5, a6, a7, a8, a9, a10) h
theorem lp11 {A1 A2 A3 A4 A5 A6 A7 A8 A9 A10 A11 : Type} (W : Nat → A1 → A2 → A3 → A4 → A5 → A6 → A7 → A8 → A9 → A10 → A11 → Prop) (I : A1 → A2 → A3 → A4 → A5 → A6 → A7 → A8 → A9 → A10 → A11 → Prop) (μ : A1 → A2 → A3 → A4 → A5 → A6 → A7 → A8 → A9 → A10 → A11 → Nat) (hs : ∀ (n : Nat) (a1 : A1) (a2 : A2) (a3 : A3) (a4 : A4) (a5 : A5) (a6 : A6) (a7 : A7) (a8 : A8) (a9 : A9) (a10 : A10) (a11 : A11), I a1 a2 a3 a4 a5 a6 a7 a8 a9 a10 a11 → (∀ (b1 : A1) (b2 : A2) (b3 : A3) (b4 : A4) (b5 : A5) (b6 : A6) (b7 : A7) (b8 : A8) (b9 : A9) (b10 : A10) (b11 : A11), I b1 b2 b3 b4 b5 b6 b7 b8 b9 b10 b11 → μ b1 b2 b3 b4 b5 b6 b7 b8 b9 b10 b11 < μ a1 a2 a3 a4 a5 a6 a7 a8 a9 a10 a11 → W n b1 b2 b3 b4 b5 b6 b7 b8 b9 b10 b11) → W (n + 1) a1 a2 a3 a4 a5 a6 a7 a8 a9 a10 a11) (a1 : A1) (a2 : A2) (a3 : A3) (a4 : A4) (a5 : A5) (a6 : A6) (a7 : A7) (a8 : A8) (a9 : A9) (a10 : A10) (a11 : A11) (h : I a1 a2 a3 a4 a5 a6 a7 a8 a9 a10 a11) : ∃ n, W n a1 a2 a3 a4 a5 a6 a7 a8 a9 a10 a11 :=
  loop_m (σ := A1 × A2 × A3 × A4 × A5 × A6 × A7 × A8 × A9 × A10 × A11) (fun n s => W n s.1 s.2.1 s.2.2.1 s.2.2.2.1 s.2.2.2.2.1 s.2.2.2.2.2.1 s.2.2.2.2.2.2.1 s.2.2.2.2.2.2.2.1 s.2.2.2.2.2.2.2.2.1 s.2.2.2.2.2.2.2.2.2.1 s.2.2.2.2.2.2.2.2.2.2) (fun s => I s.1 s.2.1 s.2.2.1 s.2.2.2.1 s.2.2.2.2.1 s.2.2.2.2.2.1 s.2.2.2.2.2.2.1 s.2.2.2.2.2.2.2.1 s.2.2.2.2.2.2.2.2.1 s.2.2.2.2.2.2.2.2.2.1 s.2.2.2.2.2.2.2.2.2.2) (fun s => μ s.1 s.2.1 s.2.2.1 s.2.2.2.1 s.2.2.2.2.1 s.2.2.2.2.2.1 s.2.2.2.2.2.2.1 s.2.2.2.2.2.2.2.1 s.2.2.2.2.2.2.2.2.1 s.2.2.2.2.2.2.2.2.2.1 s.2.2.2.2.2.2.2.2.2.2) (fun n s hI hk => hs n s.1 s.2.1 s.2.2.1 s.2.2.2.1 s.2.2.2.2.1 s.2.2.2.2.2.1 s.2.2.2.2.2.2.1 s.2.2.2.2.2.2.2.1 s.2.2.2.2.2.2.2.2.1 s.2.2.2.2.2.2.2.2.2.1 s.2.2.2.2.2.2.2.2.2.2 hI (fun b1 b2 b3 b4 b5 b6 b7 b8 b9 b10 b11 h9 hm => hk (b1, b2, b3, b4, b5, b6, b7, b8, b9, b10, b11) h9 hm)) (a1, a2, a3, a4, a5, a6, a7, a8, a9, a10, a11) h
theorem lp12 {A1 A2 A3 A4 A5 A6 A7 A8 A9 A10 A11 A12 : Type} (W : Nat → A1 → A2 → A3 → A4 → A5 → A6 → A7 → A8 → A9 → A10 → A11 → A12 → Prop) (I : A1 → A2 → A3 → A4 → A5 → A6 → A7 → A8 → A9 → A10 → A11 → A12 → Prop) (μ : A1 → A2 → A3 → A4 → A5 → A6 → A7 → A8 → A9 → A10 → A11 → A12 → Nat) (hs : ∀ (n : Nat) (a1 : A1) (a2 : A2) (a3 : A3) (a4 : A4) (a5 : A5) (a6 : A6) (a7 : A7) (a8 : A8) (a9 : A9) (a10 : A10) (a11 : A11) (a12 : A12), I a1 a2 a3 a4 a5 a6 a7 a8 a9 a10 a11 a12 → (∀ (b1 : A1) (b2 : A2) (b3 : A3) (b4 : A4) (b5 : A5) (b6 : A6) (b7 : A7) (b8 : A8) (b9 : A9) (b10 : A10) (b11 : A11) (b12 : A12), I b1 b2 b3 b4 b5 b6 b7 b8 b9 b10 b11 b12 → μ b1 b2 b3 b4 b5 b6 b7 b8 b9 b10 b11 b12 < μ a1 a2 a3 a4 a5 a6 a7 a8 a9 a10 a11 a12 → W n b1 b2 b3 b4 b5 b6 b7 b8 b9 b10 b11 b12) → W (n + 1) a1 a2 a3 a4 a5 a6 a7 a8 a9 a10 a11 a12) (a1 : A1) (a2 : A2) (a3 : A3) (a4 : A4) (a5 : A5) (a6 : A6) (a7 : A7) (a8 : A8) (a9 : A9) (a10 : A10) (a11 : A11) (a12 : A12) (h : I a1 a2 a3 a4 a5 a6 a7 a8 a9 a10 a11 a12) : ∃ n, W n a1 a2 a3 a4 a5 a6 a7 a8 a9 a10 a11 a12 :=
  loop_m (σ := A1 × A2 × A3 × A4 × A5 × A6 × A7 × A8 × A9 × A10 × A11 × A12) (fun n s => W n s.1 s.2.1 s.2.2.1 s.2.2.2.1 s.2.2.2.2.1 s.2.2.2.2.2.1 s.2.2.2.2.2.2.1 s.2.2.2.2.2.2.2.1 s.2.2.2.2.2.2.2.2.1 s.2.2.2.2.2.2.2.2.2.1 s.2.2.2.2.2.2.2.2.2.2.1 s.2.2.2.2.2.2.2.2.2.2.2) (fun s => I s.1 s.2.1 s.2.2.1 s.2.2.2.1 s.2.2.2.2.1 s.2.2.2.2.2.1 s.2.2.2.2.2.2.1 s.2.2.2.2.2.2.2.1 s.2.2.2.2.2.2.2.2.1 s.2.2.2.2.2.2.2.2.2.1 s.2.2.2.2.2.2.2.2.2.2.1 s.2.2.2.2.2.2.2.2.2.2.2) (fun s => μ s.1 s.2.1 s.2.2.1 s.2.2.2.1 s.2.2.2.2.1 s.2.2.2.2.2.1 s.2.2.2.2.2.2.1 s.2.2.2.2.2.2.2.1 s.2.2.2.2.2.2.2.2.1 s.2.2.2.2.2.2.2.2.2.1 s.2.2.2.2.2.2.2.2.2.2.1 s.2.2.2.2.2.2.2.2.2.2.2) (fun n s hI hk => hs n s.1 s.2.1 s.2.2.1 s.2.2.2.1 s.2.2.2.2.1 s.2.2.2.2.2.1 s.2.2.2.2.2.2.1 s.2.2.2.2.2.2.2.1 s.2.2.2.2.2.2.2.2.1 s.2.2.2.2.2.2.2.2.2.1 s.2.2.2.2.2.2.2.2.2.2.1 s.2.2.2.2.2.2.2.2.2.2.2 hI (fun b1 b2 b3 b4 b5 b6 b7 b8 b9 b10 b11 b12 h9 hm => hk (b1, b2, b3, b4, b5, b6, b7, b8, b9, b10, b11, b12) h9 hm)) (a1, a2, a3, a4, a5, a6, a7, a8, a9, a10, a11, a12) h
theorem lp13 {A1 A2 A3 A4 A5 A6 A7 A8 A9 A10 A11 A12 A13 : Type} (W : Nat → A1 → A2 → A3 → A4 → A5 → A6 → A7 → A8 → A9 → A10 → A11 → A12 → A13 → Prop) (I : A1 → A2 → A3 → A4 → A5 → A6 → A7 → A8 → A9 → A10 → A11 → A12 → A13 → Prop) (μ : A1 → A2 → A3 → A4 → A5 → A6 → A7 → A8 → A9 → A10 → A11 → A12 → A13 → Nat) (hs : ∀ (n : Nat) (a1 : A1) (a2 : A2) (a3 : A3) (a4 : A4) (a5 : A5) (a6 : A6) (a7 : A7) (a8 : A8) (a9 : A9) (a10 : A10) (a11 : A11) (a12 : A12) (a13 : A13), I a1 a2 a3 a4 a5 a6 a7 a8 a9 a10 a11 a12 a13 → (∀ (b1 : A1) (b2 : A2) (b3 : A3) (b4 : A4) (b5 : A5) (b6 : A6) (b7 : A7) (b8 : A8) (b9 : A9) (b10 : A10) (b11 : A11) (b12 : A12) (b13 : A13), I b1 b2 b3 b4 b5 b6 b7 b8 b9 b10 b11 b12 b13 → μ b1 b2 b3 b4 b5 b6 b7 b8 b9 b10 b11 b12 b13 < μ a1 a2 a3 a4 a5 a6 a7 a8 a9 a10 a11 a12 a13 → W n b1 b2 b3 b4 b5 b6 b7 b8 b9 b10 b11 b12 b13) → W (n + 1) a1 a2 a3 a4 a5 a6 a7 a8 a9 a10 a11 a12 a13) (a1 : A1) (a2 : A2) (a3 : A3) (a4 : A4) (a5 : A5) (a6 : A6) (a7 : A7) (a8 : A8) (a9 : A9) (a10 : A10) (a11 : A11) (a12 : A12) (a13 : A13) (h : I a1 a2 a3 a4 a5 a6 a7 a8 a9 a10 a11 a12 a13) : ∃ n, W n a1 a2 a3 a4 a5 a6 a7 a8 a9 a10 a11 a12 a13 :=
  loop_m (σ := A1 × A2 × A3 × A4 × A5 × A6 × A7 × A8 × A9 × A10 × A11 × A12 × A13) (fun n s => W n s.1 s.2.1 s.2.2.1 s.2.2.2.1 s.2.2.2.2.1 s.2.2.2.2.2.1 s.2.2.2.2.2.2.1 s.2.2.2.2.2.2.2.1 s.2.2.2.2.2.2.2.2.1 s.2.2.2.2.2.2.2.2.2.1 s.2.2.2.2.2.2.2.2.2.2.1 s.2.2.2.2.2.2.2.2.2.2.2.1 s.2.2.2.2.2.2.2.2.2.2.2.2) (fun s => I s.1 s.2.1 s.2.2.1 s.2.2.2.1 s.2.2.2.2.1 s.2.2.2.2.2.1 s.2.2.2.2.2.2.1 s.2.2.2.2.2.2.2.1 s.2.2.2.2.2.2.2.2.1 s.2.2.2.2.2.2.2.2.2.1 s.2.2.2.2.2.2.2.2.2.2.1 s.2.2.2.2.2.2.2.2.2.2.2.1 s.2.2.2.2.2.2.2.2.2.2.2.2) (fun s => μ s.1 s.2.1 s.2.2.1 s.2.2.2.1 s.2.2.2.2.1 s.2.2.2.2.2.1 s.2.2.2.2.2.2.1 s.2.2.2.2.2.2.2.1 s.2.2.2.2.2.2.2.2.1 s.2.2.2.2.2.2.2.2.2.1 s.2.2.2.2.2.2.2.2.2.2.1 s.2.2.2.2.2.2.2.2.2.2.2.1 s.2.2.2.2.2.2.2.2.2.2.2.2) (fun n s hI hk => hs n s.1 s.2.1 s.2.2.1 s.2.2.2.1 s.2.2.2.2.1 s.2.2.2.2.2.1 s.2.2.2.2.2.2.1 s.2.2.2.2.2.2.2.1 s.2.2.2.2.2.2.2.2.1 s.2.2.2.2.2.2.2.2.2.1 s.2.2.2.2.2.2.2.2.2.2.1 s.2.2.2.2.2.2.2.2.2.2.2.1 s.2.2.2.2.2.2.2.2.2.2.2.2 hI (fun b1 b2 b3 b4 b5 b6 b7 b8 b9 b10 b11 b12 b13 h9 hm => hk (b1, b2, b3, b4, b5, b6, b7, b8, b9, b10, b11, b12, b13) h9 hm)) (a1, a2, a3, a4, a5, a6, a7, a8, a9, a10, a11, a12, a13) h
theorem lp14 {A1 A2 A3 A4 A5 A6 A7 A8 A9 A10 A11 A12 A13 A14 : Type} (W : Nat → A1 → A2 → A3 → A4 → A5 → A6 → A7 → A8 → A9 → A10 → A11 → A12 → A13 → A14 → Prop) (I : A1 → A2 → A3 → A4 → A5 → A6 → A7 → A8 → A9 → A10 → A11 → A12 → A13 → A14 → Prop) (μ : A1 → A2 → A3 → A4 → A5 → A6 → A7 → A8 → A9 → A10 → A11 → A12 → A13 → A14 → Nat) (hs : ∀ (n : Nat) (a1 : A1) (a2 : A2) (a3 : A3) (a4 : A4) (a5 : A5) (a6 : A6) (a7 : A7) (a8 : A8) (a9 : A9) (a10 : A10) (a11 : A11) (a12 : A12) (a13 : A13) (a14 : A14), I a1 a2 a3 a4 a5 a6 a7 a8 a9 a10 a11 a12 a13 a14 → (∀ (b1 : A1) (b2 : A2) (b3 : A3) (b4 : A4) (b5 : A5) (b6 : A6) (b7 : A7) (b8 : A8) (b9 : A9) (b10 : A10) (b11 : A11) (b12 : A12) (b13 : A13) (b14 : A14), I b1 b2 b3 b4 b5 b6 b7 b8 b9 b10 b11 b12 b13 b14 → μ b1 b2 b3 b4 b5 b6 b7 b8 b9 b10 b11 b12 b13 b14 < μ a1 a2 a3 a4 a5 a6 a7 a8 a9 a10 a11 a12 a13 a14 → W n b1 b2 b3 b4 b5 b6 b7 b8 b9 b10 b11 b12 b13 b14) → W (n + 1) a1 a2 a3 a4 a5 a6 a7 a8 a9 a10 a11 a12 a13 a14) (a1 : A1) (a2 : A2) (a3 : A3) (a4 : A4) (a5 : A5) (a6 : A6) (a7 : A7) (a8 : A8) (a9 : A9) (a10 : A10) (a11 : A11) (a12 : A12) (a13 : A13) (a14 : A14) (h : I a1 a2 a3 a4 a5 a6 a7 a8 a9 a10 a11 a12 a13 a14) : ∃ n, W n a1 a2 a3 a4 a5 a6 a7 a8 a9 a10 a11 a12 a13 a14 :=
  loop_m (σ := A1 × A2 × A3 × A4 × A5 × A6 × A7 × A8 × A9 × A10 × A11 × A12 × A13 × A14) (fun n s => W n s.1 s.2.1 s.2.2.1 s.2.2.2.1 s.2.2.2.2.1 s.2.2.2.2.2.1 s.2.2.2.2.2.2.1 s.2.2.2.2.2.2.2.1 s.2.2.2.2.2.2.2.2.1 s.2.2.2.2.2.2.2.2.2.1 s.2.2.2.2.2.2.2.2.2.2.1 s.2.2.2.2.2.2.2.2.2.2.2.1 s.2.2.2.2.2.2.2.2.2.2.2.2.1 s.2.2.2.2.2.2.2.2.2.2.2.2.2) (fun s => I s.1 s.2.1 s.2.2.1 s.2.2.2.1 s.2.2.2.2.1 s.2.2.2.2.2.1 s.2.2.2.2.2.2.1 s.2.2.2.2.2.2.2.1 s.2.2.2.2.2.2.2.2.1 s.2.2.2.2.2.2.2.2.2.1 s.2.2.2.2.2.2.2.2.2.2.1 s.2.2.2.2.2.2.2.2.2.2.2.1 s.2.2.2.2.2.2.2.2.2.2.2.2.1 s.2.2.2.2.2.2.2.2.2.2.2.2.2) (fun s => μ s.1 s.2.1 s.2.2.1 s.2.2.2.1 s.2.2.2.2.1 s.2.2.2.2.2.1 s.2.2.2.2.2.2.1 s.2.2.2.2.2.2.2.1 s.2.2.2.2.2.2.2.2.1 s.2.2.2.2.2.2.2.2.2.1 s.2.2.2.2.2.2.2.2.2.2.1 s.2.2.2.2.2.2.2.2.2.2.2.1 s.2.2.2.2.2.2.2.2.2.2.2.2.1 s.2.2.2.2.2.2.2.2.2.2.2.2.2) (fun n s hI hk => hs n s.1 s.2.1 s.2.2.1 s.2.2.2.1 s.2.2.2.2.1 s.2.2.2.2.2.1 s.2.2.2.2.2.2.1 s.2.2.2.2.2.2.2.1 s.2.2.2.2.2.2.2.2.1 s.2.2.2.2.2.2.2.2.2.1 s.2.2.2.2.2.2.2.2.2.2.1 s.2.2.2.2.2.2.2.2.2.2.2.1 s.2.2.2.2.2.2.2.2.2.2.2.2.1 s.2.2.2.2.2.2.2.2.2.2.2.2.2 hI (fun b1 b2 b3 b4 b5 b6 b7 b8 b9 b10 b11 b12 b13 b14 h9 hm => hk (b1, b2, b3, b4, b5, b6, b7, b8, b9, b10, b11, b12, b13, b14) h9 hm)) (a1, a2, a3, a4, a5, a6, a7, a8, a9, a10, a11, a12, a13, a14) h
theorem lp15 {A1 A2 A3 A4 A5 A6 A7 A8 A9 A10 A11 A12 A13 A14 A15 : Type} (W : Nat → A1 → A2 → A3 → A4 → A5 → A6 → A7 → A8 → A9 → A10 → A11 → A12 → A13 → A14 → A15 → Prop) (I : A1 → A2 → A3 → A4 → A5 → A6 → A7 → A8 → A9 → A10 → A11 → A12 → A13 → A14 → A15 → Prop) (μ : A1 → A2 → A3 → A4 → A5 → A6 → A7 → A8 → A9 → A10 → A11 → A12 → A13 → A14 → A15 → Nat) (hs : ∀ (n : Nat) (a1 : A1) (a2 : A2) (a3 : A3) (a4 : A4) (a5 : A5) (a6 : A6) (a7 : A7) (a8 : A8) (a9 : A9) (a10 : A10) (a11 : A11) (a12 : A12) (a13 : A13) (a14 : A14) (a15 : A15), I a1 a2 a3 a4 a5 a6 a7 a8 a9 a10 a11 a12 a13 a14 a15 → (∀ (b1 : A1) (b2 : A2) (b3 : A3) (b4 : A4) (b5 : A5) (b6 : A6) (b7 : A7) (b8 : A8) (b9 : A9) (b10 : A10) (b11 : A11) (b12 : A12) (b13 : A13) (b14 : A14) (b15 : A15), I b1 b2 b3 b4 b5 b6 b7 b8 b9 b10 b11 b12 b13 b14 b15 → μ b1 b2 b3 b4 b5 b6 b7 b8 b9 b10 b11 b12 b13 b14 b15 < μ a1 a2 a3 a4 a5 a6 a7 a8 a9 a10 a11 a12 a13 a14 a15 → W n b1 b2 b3 b4 b5 b6 b7 b8 b9 b10 b11 b12 b13 b14 b15) → W (n + 1) a1 a2 a3 a4 a5 a6 a7 a8 a9 a10 a11 a12 a13 a14 a15) (a1 : A1) (a2 : A2) (a3 : A3) (a4 : A4) (a5 : A5) (a6 : A6) (a7 : A7) (a8 : A8) (a9 : A9) (a10 : A10) (a11 : A11) (a12 : A12) (a13 : A13) (a14 : A14) (a15 : A15) (h : I a1 a2 a3 a4 a5 a6 a7 a8 a9 a10 a11 a12 a13 a14 a15) : ∃ n, W n a1 a2 a3 a4 a5 a6 a7 a8 a9 a10 a11 a12 a13 a14 a15 :=
  loop_m (σ := A1 × A2 × A3 × A4 × A5 × A6 × A7 × A8 × A9 × A10 × A11 × A12 × A13 × A14 × A15) (fun n s => W n s.1 s.2.1 s.2.2.1 s.2.2.2.1 s.2.2.2.2.1 s.2.2.2.2.2.1 s.2.2.2.2.2.2.1 s.2.2.2.2.2.2.2.1 s.2.2.2.2.2.2.2.2.1 s.2.2.2.2.2.2.2.2.2.1 s.2.2.2.2.2.2.2.2.2.2.1 s.2.2.2.2.2.2.2.2.2.2.2.1 s.2.2.2.2.2.2.2.2.2.2.2.2.1 s.2.2.2.2.2.2.2.2.2.2.2.2.2.1 s.2.2.2.2.2.2.2.2.2.2.2.2.2.2) (fun s => I s.1 s.2.1 s.2.2.1 s.2.2.2.1 s.2.2.2.2.1 s.2.2.2.2.2.1 s.2.2.2.2.2.2.1 s.2.2.2.2.2.2.2.1 s.2.2.2.2.2.2.2.2.1 s.2.2.2.2.2.2.2.2.2.1 s.2.2.2.2.2.2.2.2.2.2.1 s.2.2.2.2.2.2.2.2.2.2.2.1 s.2.2.2.2.2.2.2.2.2.2.2.2.1 s.2.2.2.2.2.2.2.2.2.2.2.2.2.1 s.2.2.2.2.2.2.2.2.2.2.2.2.2.2) (fun s => μ s.1 s.2.1 s.2.2.1 s.2.2.2.1 s.2.2.2.2.1 s.2.2.2.2.2.1 s.2.2.2.2.2.2.1 s.2.2.2.2.2.2.2.1 s.2.2.2.2.2.2.2.2.1 s.2.2.2.2.2.2.2.2.2.1 s.2.2.2.2.2.2.2.2.2.2.1 s.2.2.2.2.2.2.2.2.2.2.2.1 s.2.2.2.2.2.2.2.2.2.2.2.2.1 s.2.2.2.2.2.2.2.2.2.2.2.2.2.1 s.2.2.2.2.2.2.2.2.2.2.2.2.2.2) (fun n s hI hk => hs n s.1 s.2.1 s.2.2.1 s.2.2.2.1 s.2.2.2.2.1 s.2.2.2.2.2.1 s.2.2.2.2.2.2.1 s.2.2.2.2.2.2.2.1 s.2.2.2.2.2.2.2.2.1 s.2.2.2.2.2.2.2.2.2.1 s.2.2.2.2.2.2.2.2.2.2.1 s.2.2.2.2.2.2.2.2.2.2.2.1 s.2.2.2.2.2.2.2.2.2.2.2.2.1 s.2.2.2.2.2.2.2.2.2.2.2.2.2.1 s.2.2.2.2.2.2.2.2.2.2.2.2.2.2 hI (fun b1 b2 b3 b4 b5 b6 b7 b8 b9 b10 b11 b12 b13 b14 b15 h9 hm => hk (b1, b2, b3, b4, b5, b6, b7, b8, b9, b10, b11, b12, b13, b14, b15) h9 hm)) (a1, a2, a3, a4, a5, a6, a7, a8, a9, a10, a11, a12, a13, a14, a15) h
theorem lp16 {A1 A2 A3 A4 A5 A6 A7 A8 A9 A10 A11 A12 A13 A14 A15 A16 : Type} (W : Nat → A1 → A2 → A3 → A4 → A5 → A6 → A7 → A8 → A9 → A10 → A11 → A12 → A13 → A14 → A15 → A16 → Prop) (I : A1 → A2 → A3 → A4 → A5 → A6 → A7 → A8 → A9 → A10 → A11 → A12 → A13 → A14 → A15 → A16 → Prop) (μ : A1 → A2 → A3 → A4 → A5 → A6 → A7 → A8 → A9 → A10 → A11 → A12 → A13 → A14 → A15 → A16 → Nat) (hs : ∀ (n : Nat) (a1 : A1) (a2 : A2) (a3 : A3) (a4 : A4) (a5 : A5) (a6 : A6) (a7 : A7) (a8 : A8) (a9 : A9) (a10 : A10) (a11 : A11) (a12 : A12) (a13 : A13) (a14 : A14) (a15 : A15) (a16 : A16), I a1 a2 a3 a4 a5 a6 a7 a8 a9 a10 a11 a12 a13 a14 a15 a16 → (∀ (b1 : A1) (b2 : A2) (b3 : A3) (b4 : A4) (b5 : A5) (b6 : A6) (b7 : A7) (b8 : A8) (b9 : A9) (b10 : A10) (b11 : A11) (b12 : A12) (b13 : A13) (b14 : A14) (b15 : A15) (b16 : A16), I b1 b2 b3 b4 b5 b6 b7 b8 b9 b10 b11 b12 b13 b14 b15 b16 → μ b1 b2 b3 b4 b5 b6 b7 b8 b9 b10 b11 b12 b13 b14 b15 b16 < μ a1 a2 a3 a4 a5 a6 a7 a8 a9 a10 a11 a12 a13 a14 a15 a16 → W n b1 b2 b3 b4 b5 b6 b7 b8 b9 b10 b11 b12 b13 b14 b15 b16) → W (n + 1) a1 a2 a3 a4 a5 a6 a7 a8 a9 a10 a11 a12 a13 a14 a15 a16) (a1 : A1) (a2 : A2) (a3 : A3) (a4 : A4) (a5 : A5) (a6 : A6) (a7 : A7) (a8 : A8) (a9 : A9) (a10 : A10) (a11 : A11) (a12 : A12) (a13 : A13) (a14 : A14) (a15 : A15) (a16 : A16) (h : I a1 a2 a3 a4 a5 a6 a7 a8 a9 a10 a11 a12 a13 a14 a15 a16) : ∃ n, W n a1 a2 a3 a4 a5 a6 a7 a8 a9 a10 a11 a12 a13 a14 a15 a16 :=
  loop_m (σ := A1 × A2 × A3 × A4 × A5 × A6 × A7 × A8 × A9 × A10 × A11 × A12 × A13 × A14 × A15 × A16) (fun n s => W n s.1 s.2.1 s.2.2.1 s.2.2.2.1 s.2.2.2.2.1 s.2.2.2.2.2.1 s.2.2.2.2.2.2.1 s.2.2.2.2.2.2.2.1 s.2.2.2.2.2.2.2.2.1 s.2.2.2.2.2.2.2.2.2.1 s.2.2.2.2.2.2.2.2.2.2.1 s.2.2.2.2.2.2.2.2.2.2.2.1 s.2.2.2.2.2.2.2.2.2.2.2.2.1 s.2.2.2.2.2.2.2.2.2.2.2.2.2.1 s.2.2.2.2.2.2.2.2.2.2.2.2.2.2.1 s.2.2.2.2.2.2.2.2.2.2.2.2.2.2.2) (fun s => I s.1 s.2.1 s.2.2.1 s.2.2.2.1 s.2.2.2.2.1 s.2.2.2.2.2.1 s.2.2.2.2.2.2.1 s.2.2.2.2.2.2.2.1 s.2.2.2.2.2.2.2.2.1 s.2.2.2.2.2.2.2.2.2.1 s.2.2.2.2.2.2.2.2.2.2.1 s.2.2.2.2.2.2.2.2.2.2.2.1 s.2.2.2.2.2.2.2.2.2.2.2.2.1 s.2.2.2.2.2.2.2.2.2.2.2.2.2.1 s.2.2.2.2.2.2.2.2.2.2.2.2.2.2.1 s.2.2.2.2.2.2.2.2.2.2.2.2.2.2.2) (fun s => μ s.1 s.2.1 s.2.2.1 s.2.2.2.1 s.2.2.2.2.1 s.2.2.2.2.2.1 s.2.2.2.2.2.2.1 s.2.2.2.2.2.2.2.1 s.2.2.2.2.2.2.2.2.1 s.2.2.2.2.2.2.2.2.2.1 s.2.2.2.2.2.2.2.2.2.2.1 s.2.2.2.2.2.2.2.2.2.2.2.1 s.2.2.2.2.2.2.2.2.2.2.2.2.1 s.2.2.2.2.2.2.2.2.2.2.2.2.2.1 s.2.2.2.2.2.2.2.2.2.2.2.2.2.2.1 s.2.2.2.2.2.2.2.2.2.2.2.2.2.2.2) (fun n s hI hk => hs n s.1 s.2.1 s.2.2.1 s.2.2.2.1 s.2.2.2.2.1 s.2.2.2.2.2.1 s.2.2.2.2.2.2.1 s.2.2.2.2.2.2.2.1 s.2.2.2.2.2.2.2.2.1 s.2.2.2.2.2.2.2.2.2.1 s.2.2.2.2.2.2.2.2.2.2.1 s.2.2.2.2.2.2.2.2.2.2.2.1 s.2.2.2.2.2.2.2.2.2.2.2.2.1 s.2.2.2.2.2.2.2.2.2.2.2.2.2.1 s.2.2.2.2.2.2.2.2.2.2.2.2.2.2.1 s.2.2.2.2.2.2.2.2.2.2.2.2.2.2.2 hI (fun b1 b2 b3 b4 b5 b6 b7 b8 b9 b10 b11 b12 b13 b14 b15 b16 h9 hm => hk (b1, b2, b3, b4, b5, b6, b7, b8, b9, b10, b11, b12, b13, b14, b15, b16) h9 hm)) (a1, a2, a3, a4, a5, a6, a7, a8, a9, a10, a11, a12, a13, a14, a15, a16) h
theorem pk_least (P : Nat → Prop) (h : ∃ k, P k) : ∃ k, P k ∧ ∀ j, j < k → ¬ P j := by
  obtain ⟨k, hk⟩ := h
  induction k using Nat.strongRecOn with
  | ind k ih =>
    by_cases e : ∃ j, j < k ∧ P j
    · obtain ⟨j, hj, pj⟩ := e
      exact ih j hj pj
    · exact ⟨k, hk, fun j hj pj => e ⟨j, hj, pj⟩⟩
theorem rp1 {ρ A1 : Type} (W : Nat → (ρ → Prop) → A1 → Prop) (ok : A1 → Prop) (μ : A1 → Nat) (val : A1 → ρ)
    (hs : ∀ (d : Nat) (post : ρ → Prop) (a1 : A1), ok a1 → post (val a1) → (∀ (post' : ρ → Prop) (b1 : A1), ok b1 → μ b1 < μ a1 → post' (val b1) → W d post' b1) → W (d + 1) post a1) :
    ∀ (d : Nat) (post : ρ → Prop) (a1 : A1), ok a1 → μ a1 < d → post (val a1) → W d post a1 := by
  intro d
  induction d with
  | zero => intro post a1 _ h; omega
  | succ d ih =>
    intro post a1 ho hm hp
    exact hs d post a1 ho hp (fun post' b1 ho' hm' hp' => ih post' b1 ho' (by omega) hp')
theorem rp2 {ρ A1 A2 : Type} (W : Nat → (ρ → Prop) → A1 → A2 → Prop) (ok : A1 → A2 → Prop) (μ : A1 → A2 → Nat) (val : A1 → A2 → ρ)
    (hs : ∀ (d : Nat) (post : ρ → Prop) (a1 : A1) (a2 : A2), ok a1 a2 → post (val a1 a2) → (∀ (post' : ρ → Prop) (b1 : A1) (b2 : A2), ok b1 b2 → μ b1 b2 < μ a1 a2 → post' (val b1 b2) → W d post' b1 b2) → W (d + 1) post a1 a2) :
    ∀ (d : Nat) (post : ρ → Prop) (a1 : A1) (a2 : A2), ok a1 a2 → μ a1 a2 < d → post (val a1 a2) → W d post a1 a2 := by
  intro d
  induction d with
  | zero => intro post a1 a2 _ h; omega
  | succ d ih =>
    intro post a1 a2 ho hm hp
    exact hs d post a1 a2 ho hp (fun post' b1 b2 ho' hm' hp' => ih post' b1 b2 ho' (by omega) hp')
theorem rp3 {ρ A1 A2 A3 : Type} (W : Nat → (ρ → Prop) → A1 → A2 → A3 → Prop) (ok : A1 → A2 → A3 → Prop) (μ : A1 → A2 → A3 → Nat) (val : A1 → A2 → A3 → ρ)
    (hs : ∀ (d : Nat) (post : ρ → Prop) (a1 : A1) (a2 : A2) (a3 : A3), ok a1 a2 a3 → post (val a1 a2 a3) → (∀ (post' : ρ → Prop) (b1 : A1) (b2 : A2) (b3 : A3), ok b1 b2 b3 → μ b1 b2 b3 < μ a1 a2 a3 → post' (val b1 b2 b3) → W d post' b1 b2 b3) → W (d + 1) post a1 a2 a3) :
    ∀ (d : Nat) (post : ρ → Prop) (a1 : A1) (a2 : A2) (a3 : A3), ok a1 a2 a3 → μ a1 a2 a3 < d → post (val a1 a2 a3) → W d post a1 a2 a3 := by
  intro d
  induction d with
  | zero => intro post a1 a2 a3 _ h; omega
  | succ d ih =>
    intro post a1 a2 a3 ho hm hp
    exact hs d post a1 a2 a3 ho hp (fun post' b1 b2 b3 ho' hm' hp' => ih post' b1 b2 b3 ho' (by omega) hp')
theorem rp4 {ρ A1 A2 A3 A4 : Type} (W : Nat → (ρ → Prop) → A1 → A2 → A3 → A4 → Prop) (ok : A1 → A2 → A3 → A4 → Prop) (μ : A1 → A2 → A3 → A4 → Nat) (val : A1 → A2 → A3 → A4 → ρ)
    (hs : ∀ (d : Nat) (post : ρ → Prop) (a1 : A1) (a2 : A2) (a3 : A3) (a4 : A4), ok a1 a2 a3 a4 → post (val a1 a2 a3 a4) → (∀ (post' : ρ → Prop) (b1 : A1) (b2 : A2) (b3 : A3) (b4 : A4), ok b1 b2 b3 b4 → μ b1 b2 b3 b4 < μ a1 a2 a3 a4 → post' (val b1 b2 b3 b4) → W d post' b1 b2 b3 b4) → W (d + 1) post a1 a2 a3 a4) :
    ∀ (d : Nat) (post : ρ → Prop) (a1 : A1) (a2 : A2) (a3 : A3) (a4 : A4), ok a1 a2 a3 a4 → μ a1 a2 a3 a4 < d → post (val a1 a2 a3 a4) → W d post a1 a2 a3 a4 := by
  intro d
  induction d with
  | zero => intro post a1 a2 a3 a4 _ h; omega
  | succ d ih =>
    intro post a1 a2 a3 a4 ho hm hp
    exact hs d post a1 a2 a3 a4 ho hp (fun post' b1 b2 b3 b4 ho' hm' hp' => ih post' b1 b2 b3 b4 ho' (by omega) hp')
theorem rp5 {ρ A1 A2 A3 A4 A5 : Type} (W : Nat → (ρ → Prop) → A1 → A2 → A3 → A4 → A5 → Prop) (ok : A1 → A2 → A3 → A4 → A5 → Prop) (μ : A1 → A2 → A3 → A4 → A5 → Nat) (val : A1 → A2 → A3 → A4 → A5 → ρ)
    (hs : ∀ (d : Nat) (post : ρ → Prop) (a1 : A1) (a2 : A2) (a3 : A3) (a4 : A4) (a5 : A5), ok a1 a2 a3 a4 a5 → post (val a1 a2 a3 a4 a5) → (∀ (post' : ρ → Prop) (b1 : A1) (b2 : A2) (b3 : A3) (b4 : A4) (b5 : A5), ok b1 b2 b3 b4 b5 → μ b1 b2 b3 b4 b5 < μ a1 a2 a3 a4 a5 → post' (val b1 b2 b3 b4 b5) → W d post' b1 b2 b3 b4 b5) → W (d + 1) post a1 a2 a3 a4 a5) :
    ∀ (d : Nat) (post : ρ → Prop) (a1 : A1) (a2 : A2) (a3 : A3) (a4 : A4) (a5 : A5), ok a1 a2 a3 a4 a5 → μ a1 a2 a3 a4 a5 < d → post (val a1 a2 a3 a4 a5) → W d post a1 a2 a3 a4 a5 := by
  intro d
  induction d with
  | zero => intro post a1 a2 a3 a4 a5 _ h; omega
  | succ d ih =>
    intro post a1 a2 a3 a4 a5 ho hm hp
    exact hs d post a1 a2 a3 a4 a5 ho hp (fun post' b1 b2 b3 b4 b5 ho' hm' hp' => ih post' b1 b2 b3 b4 b5 ho' (by omega) hp')
theorem rp6 {ρ A1 A2 A3 A4 A5 A6 : Type} (W : Nat → (ρ → Prop) → A1 → A2 → A3 → A4 → A5 → A6 → Prop) (ok : A1 → A2 → A3 → A4 → A5 → A6 → Prop) (μ : A1 → A2 → A3 → A4 → A5 → A6 → Nat) (val : A1 → A2 → A3 → A4 → A5 → A6 → ρ)
    (hs : ∀ (d : Nat) (post : ρ → Prop) (a1 : A1) (a2 : A2) (a3 : A3) (a4 : A4) (a5 : A5) (a6 : A6), ok a1 a2 a3 a4 a5 a6 → post (val a1 a2 a3 a4 a5 a6) → (∀ (post' : ρ → Prop) (b1 : A1) (b2 : A2) (b3 : A3) (b4 : A4) (b5 : A5) (b6 : A6), ok b1 b2 b3 b4 b5 b6 → μ b1 b2 b3 b4 b5 b6 < μ a1 a2 a3 a4 a5 a6 → post' (val b1 b2 b3 b4 b5 b6) → W d post' b1 b2 b3 b4 b5 b6) → W (d + 1) post a1 a2 a3 a4 a5 a6) :
    ∀ (d : Nat) (post : ρ → Prop) (a1 : A1) (a2 : A2) (a3 : A3) (a4 : A4) (a5 : A5) (a6 : A6), ok a1 a2 a3 a4 a5 a6 → μ a1 a2 a3 a4 a5 a6 < d → post (val a1 a2 a3 a4 a5 a6) → W d post a1 a2 a3 a4 a5 a6 := by
  intro d
  induction d with
  | zero => intro post a1 a2 a3 a4 a5 a6 _ h; omega
  | succ d ih =>
    intro post a1 a2 a3 a4 a5 a6 ho hm hp
    exact hs d post a1 a2 a3 a4 a5 a6 ho hp (fun post' b1 b2 b3 b4 b5 b6 ho' hm' hp' => ih post' b1 b2 b3 b4 b5 b6 ho' (by omega) hp')
theorem rec_p {σ ρ : Type} (W : Nat → (ρ → Prop) → σ → Prop) (ok : σ → Prop) (μ : σ → Nat) (val : σ → ρ)
    (hs : ∀ d s post, ok s → post (val s) → (∀ s' post', ok s' → μ s' < μ s → post' (val s') → W d post' s') → W (d + 1) post s) :
    ∀ d s post, ok s → μ s < d → post (val s) → W d post s := by
  intro d
  induction d with
  | zero => intro s post _ h; omega
  | succ d ih =>
    intro s post ho hm hp
    exact hs d s post ho hp (fun s' post' ho' hm' hp' => ih s' post' ho' (by omega) hp')
theorem rec_q {σ ρ : Type} (W : Nat → (ρ → Prop) → σ → Prop) (ok : σ → Prop) (μ : σ → Nat) (Q : σ → ρ → Prop)
    (hs : ∀ d s post, ok s → (∀ r, Q s r → post r) → (∀ s' post', ok s' → μ s' < μ s → (∀ r, Q s' r → post' r) → W d post' s') → W (d + 1) post s) :
    ∀ d s post, ok s → μ s < d → (∀ r, Q s r → post r) → W d post s := by
  intro d
  induction d with
  | zero => intro s post _ h; omega
  | succ d ih =>
    intro s post ho hm hp
    exact hs d s post ho hp (fun s' post' ho' hm' hp' => ih s' post' ho' (by omega) hp')
def bx_sum (f : Nat → Int32) : Nat → Int32
  | 0 => 0
  | n + 1 => bx_sum f n + f n
theorem ek_u {A : Prop} {B : Nat → Prop} {k N : Nat} (hk : k < N) (h : B k) : (some k = none → A) ∧ (∀ y : Nat, some k = some y → (y < N ∧ B y)) :=
  ⟨fun z => absurd z (Option.some_ne_none k), fun _ e => (by cases e; exact ⟨hk, h⟩)⟩
theorem ek_nu {A : Prop} {B : Nat → Prop} (h : A) : ((none : Option Nat) = none → A) ∧ (∀ y : Nat, (none : Option Nat) = some y → B y) :=
  ⟨fun _ => h, fun _ e => (by cases e)⟩
theorem ek_if {c d A B : Prop} (e : c ↔ d) (f : d → A) (g : ¬ d → B) : (c → A) ∧ (¬ c → B) :=
  ⟨fun z => f (e.mp z), fun z => g (fun y => z (e.mpr y))⟩
theorem ek_v {α : Sort _} {P : α → Prop} {a b : α} (e : a = b) (h : P b) : P a := e ▸ h
theorem co_some {x : Option Nat} {A : Prop} {B : Nat → Prop} (i : Nat) (h : B i) (hx : x = some i := by rfl) : (x = none → A) ∧ (∀ y : Nat, x = some y → B y) := by
  subst hx
  exact ⟨fun e => (nomatch e), fun y e => Option.some.inj e ▸ h⟩
theorem co_none {x : Option Nat} {A : Prop} {B : Nat → Prop} (h : A) (hx : x = none := by rfl) : (x = none → A) ∧ (∀ y : Nat, x = some y → B y) := by
  subst hx
  exact ⟨fun _ => h, fun y e => (nomatch e)⟩
theorem co_any {x : Option Nat} {A : Prop} {B : Nat → Prop} (hn : x = none → A) (hs : ∀ i : Nat, x = some i → B i) : (x = none → A) ∧ (∀ y : Nat, x = some y → B y) := ⟨hn, hs⟩
theorem co_2 {P : Nat → Prop} (h0 : P 0) (h1 : P 1) {i : Nat} (hi : i < 2) : P i :=
  match i, hi with
  | 0, _ => h0
  | 1, _ => h1
theorem co_3 {P : Nat → Prop} (h0 : P 0) (h1 : P 1) (h2 : P 2) {i : Nat} (hi : i < 3) : P i :=
  match i, hi with
  | 0, _ => h0
  | 1, _ => h1
  | 2, _ => h2
theorem co_4 {P : Nat → Prop} (h0 : P 0) (h1 : P 1) (h2 : P 2) (h3 : P 3) {i : Nat} (hi : i < 4) : P i :=
  match i, hi with
  | 0, _ => h0
  | 1, _ => h1
  | 2, _ => h2
  | 3, _ => h3
theorem co_dec {N : Nat} {P : Nat → Prop} [DecidablePred P] (h : (List.range N).all (fun i => decide (P i)) = true) {i : Nat} (hi : i < N) : P i := by
  have := List.all_eq_true.mp h i (List.mem_range.mpr hi)
  exact of_decide_eq_true this
theorem co_tab {α : Type} {l : List α} {d : α} {P : α → Prop} (h : ∀ a, a ∈ l → P a) {i : Nat} (hi : i < l.length) : P (l.getD i d) := by
  rw [List.getD_eq_getElem?_getD, List.getElem?_eq_getElem hi]
  exact h _ (List.getElem_mem hi)
theorem pk_mu {x : Int32} {L : Nat} (h0 : ¬ x < 0) (h : ¬ nI L ≤ x) (hL : L < 2 ^ 31) : ∃ j : Nat, j < L ∧ x = nI j ∧ x + 1 = nI (j + 1) ∧ x.toNatClampNeg = j ∧ L - (x + 1).toNatClampNeg < L - x.toNatClampNeg := by
  obtain ⟨j, hj, rfl⟩ := nI_of h0
  have hl : j < L := Nat.not_le.mp fun q => h (nI_le q hj)
  refine ⟨j, hl, rfl, nI_1 j, nI_clamp hj, ?_⟩
  rw [nI_1, nI_clamp (by omega), nI_clamp hj]
  omega
theorem op_s {α : Type} {r : Option α} {A : Prop} {B : α → Prop} {y : α} (h : r = some y) (b : B y) : (r = none → A) ∧ ∀ z, r = some z → B z :=
  ⟨fun e => (by rw [h] at e; cases e), fun z e => (by rw [h] at e; cases e; exact b)⟩
def l_holds {α : Type} (a : Nat → Option Nat) (LP : List Nat) (p : Nat → α) (c : Nat) (b : Nat → α) : Prop :=
  ∀ j, j < c → ∃ y, a j = some y ∧ y ∈ LP ∧ p y = b j
theorem l_holds_0 {α : Type} {a : Nat → Option Nat} {LP : List Nat} {p b : Nat → α} : l_holds a LP p 0 b := fun j h => absurd h (Nat.not_lt_zero j)
theorem l_in_new (LP : List Nat) (q : Nat) : q ∈ LP ++ [q] := List.mem_append.mpr (Or.inr (List.mem_singleton.mpr rfl))
def l_sum (b : Nat → Int32) : Nat → Int32
  | 0 => 0
  | k + 1 => l_sum b k + b k
theorem sb_shr0 (x : Int32) : x >>> ((0 : Int32) &&& 31) = x := by
  rw [show ((0 : Int32) &&& 31) = 0 by decide]
  simp
theorem sb_shl0 (x : Int32) : x <<< ((0 : Int32) &&& 31) = x := by
  rw [show ((0 : Int32) &&& 31) = 0 by decide]
  simp
theorem sb_cl0 : (0 : Int32).toNatClampNeg = 0 := by decide
theorem sb_m1 {p : Nat} (h : 0 < p) : nI p + (-1) = nI (p - 1) := by
  obtain ⟨q, rfl⟩ : ∃ q, p = q + 1 := ⟨p - 1, by omega⟩
  exact pk_m1 q
def sb_b (c : Nat) : Int32 := (nI c).toInt8.toInt32
theorem sb_byte : ∀ c, c < 256 → sb_b c &&& 255 = nI c ∧ ((nI c).toUInt32 % 65536).toInt32 = nI c ∧ nI c ≤ 255 := by decide +kernel
def sb_Fit (a : Nat → Int32) : Prop := ∀ j, fits .byte (.int (a j)) = true
def sb_Lat (t : Nat → Nat) (n : Nat) (a : Nat → Int32) : Prop := ∀ j, j < n → t j < 256 ∧ a j = sb_b (t j)
theorem sb_fitB (c : Nat) : fits .byte (.int (sb_b c)) = true := pk_fb _
theorem sb_fit0 : sb_Fit (fun _ => 0) := fun _ => by
  show fits .byte (.int 0) = true
  decide
theorem sb_fitU {a : Nat → Int32} {k : Nat} {x : Int32} (h : sb_Fit a) (hx : fits .byte (.int x) = true) : sb_Fit (upd a k x) := by
  intro j
  by_cases e : j = k
  · subst e
    rw [pk_us]
    exact hx
  · rw [pk_un e]
    exact h j
def sb_cat (t : Nat → Nat) (n : Nat) (s : Nat → Nat) : Nat → Nat := fun j => if j < n then t j else s (j - n)
theorem sb_cat_lo {t s : Nat → Nat} {n j : Nat} (h : j < n) : sb_cat t n s j = t j := if_pos h
theorem sb_cat_hi {t s : Nat → Nat} {n j : Nat} : sb_cat t n s (n + j) = s j := by
  show (if n + j < n then t (n + j) else s (n + j - n)) = s j
  rw [if_neg (by omega), Nat.add_sub_cancel_left]
theorem sb_latPut {t s : Nat → Nat} {n w : Nat} {a a' : Nat → Int32} (h : sb_Lat t n a) (hk : ∀ j, j < n → a' j = a j) (hs : ∀ i, i < w → s i < 256 ∧ a' (n + i) = sb_b (s i)) : sb_Lat (sb_cat t n s) (n + w) a' := by
  intro j hj
  by_cases e : j < n
  · rw [sb_cat_lo e, hk j e]
    exact h j e
  · obtain ⟨i, rfl⟩ : ∃ i, j = n + i := ⟨j - n, by omega⟩
    rw [sb_cat_hi]
    exact hs i (by omega)
theorem sb_latKeep {t : Nat → Nat} {n : Nat} {a a' : Nat → Int32} (h : sb_Lat t n a) (hk : ∀ j, j < n → a' j = a j) : sb_Lat t n a' := fun j hj => by
  rw [hk j hj]
  exact h j hj
def sb_cap (q m : Nat) : Nat := if q ≤ m then m else if 2 * m + 2 < q then q else 2 * m + 2
def sb_Room (q m mc ms : Nat) : Prop := q ≤ m ∨ (1 ≤ mc ∧ sb_cap q m ≤ ms ∧ sb_cap q m ≤ 65536)
theorem sb_cap_ge (q m : Nat) : q ≤ sb_cap q m := by
  unfold sb_cap
  split
  · omega
  · split <;> omega
theorem sb_cap_gem (q m : Nat) : m ≤ sb_cap q m := by
  unfold sb_cap
  split
  · omega
  · split <;> omega
theorem sb_cap_le {q m mc ms : Nat} (hm : m ≤ 65536) (hr : sb_Room q m mc ms) : sb_cap q m ≤ 65536 := by
  rcases hr with h | h
  · rw [sb_cap, if_pos h]
    exact hm
  · exact h.2.2
theorem sb_at {P : Int32 → Prop} {x y : Int32} (e : x = y) (h : P y) : P x := e ▸ h
def sb_dg (w : Nat) : Nat := if w < 10 then 1 else if w < 100 then 2 else if w < 1000 then 3 else if w < 10000 then 4 else if w < 100000 then 5 else if w < 1000000 then 6 else if w < 10000000 then 7 else if w < 100000000 then 8 else if w < 1000000000 then 9 else 10
def sb_dec (v : Nat) : Nat → Nat := fun i => 48 + v / 10 ^ (sb_dg v - 1 - i) % 10
theorem sb_dg_in (w : Nat) : 1 ≤ sb_dg w ∧ sb_dg w ≤ 10 := by
  unfold sb_dg
  constructor <;> (repeat' split) <;> omega
theorem sb_dg100 {w : Nat} (h : 100 ≤ w) (hw : w < 2 ^ 31) : sb_dg w = sb_dg (w / 100) + 2 := by
  rw [sb_dg, sb_dg, if_neg (show ¬ w < 10 by omega), if_neg (show ¬ w < 100 by omega)]
  by_cases h3 : w < 1000
  · rw [if_pos h3, if_pos (show w / 100 < 10 by omega)]
  rw [if_neg h3, if_neg (show ¬ w / 100 < 10 by omega)]
  by_cases h4 : w < 10000
  · rw [if_pos h4, if_pos (show w / 100 < 100 by omega)]
  rw [if_neg h4, if_neg (show ¬ w / 100 < 100 by omega)]
  by_cases h5 : w < 100000
  · rw [if_pos h5, if_pos (show w / 100 < 1000 by omega)]
  rw [if_neg h5, if_neg (show ¬ w / 100 < 1000 by omega)]
  by_cases h6 : w < 1000000
  · rw [if_pos h6, if_pos (show w / 100 < 10000 by omega)]
  rw [if_neg h6, if_neg (show ¬ w / 100 < 10000 by omega)]
  by_cases h7 : w < 10000000
  · rw [if_pos h7, if_pos (show w / 100 < 100000 by omega)]
  rw [if_neg h7, if_neg (show ¬ w / 100 < 100000 by omega)]
  by_cases h8 : w < 100000000
  · rw [if_pos h8, if_pos (show w / 100 < 1000000 by omega)]
  rw [if_neg h8, if_neg (show ¬ w / 100 < 1000000 by omega)]
  by_cases h9 : w < 1000000000
  · rw [if_pos h9, if_pos (show w / 100 < 10000000 by omega)]
  rw [if_neg h9, if_neg (show ¬ w / 100 < 10000000 by omega)]
  rw [if_pos (show w / 100 < 100000000 by omega)]
theorem sb_negT {w : Nat} (h : w < 2 ^ 31) : (-nI w).toInt = -(w : Int) := by
  rw [Int32.toInt_neg, nI_toInt h]
  exact Int.bmod_eq_of_le (by omega) (by omega)
theorem sb_nle {a b : Nat} (ha : a < 2 ^ 31) (hb : b < 2 ^ 31) : -nI a ≤ -nI b ↔ b ≤ a := by
  rw [Int32.le_iff_toInt_le, sb_negT ha, sb_negT hb]
  omega
theorem sb_nlt {a b : Nat} (ha : a < 2 ^ 31) (hb : b < 2 ^ 31) : -nI a < -nI b ↔ b < a := by
  rw [Int32.lt_iff_toInt_lt, sb_negT ha, sb_negT hb]
  omega
theorem sb_cmp {A B : Prop} {x : Int32} (v c : Nat) (f : c ≤ v → A) (g : v < c → B) (hv : v < 2 ^ 31) (hx : x = -nI c := by rfl) (hc : c < 2 ^ 31 := by omega) : (-nI v ≤ x → A) ∧ (¬ -nI v ≤ x → B) := by
  subst hx
  rw [sb_nle hv hc]
  exact ⟨f, fun z => g (by omega)⟩
theorem sb_ndiv {w : Nat} (hw : w < 2 ^ 31) : (-nI w) / 100 = -nI (w / 100) := by
  apply Int32.toInt_inj.mp
  have h100 : (100 : Int32).toInt = 100 := by decide
  rw [Int32.toInt_div, sb_negT hw, h100, sb_negT (by omega), Int.neg_tdiv, Int.tdiv_eq_ediv_of_nonneg (by omega), Int.bmod_eq_of_le (by omega) (by omega)]
  omega
theorem sb_nrem {w : Nat} (hw : w < 2 ^ 31) : (-nI (w / 100)) * 100 - (-nI w) = nI (w % 100) := by
  have h := pk_rem (a := w) (d := 100) hw (by decide) (by decide)
  rw [pk_div hw (by decide) (by decide)] at h
  rw [← h]
  show (-nI (w / 100)) * nI 100 - (-nI w) = nI w - nI (w / 100) * nI 100
  rw [Int32.neg_mul, Int32.sub_neg, Int32.add_comm, ← Int32.sub_eq_add_neg]
end
section
/-! rows on bits, shifts and unsigned numbers, to paste: each family out of a closed proof of our own, whole with what it rests on; each by itself clean at Lean in its own claim (generation 39, form 5). Take a family whole -/
/-! ===== Int32 by its bits: bt x i ===== -/
def bt (x : Int32) (i : Nat) : Bool := x.toBitVec.getLsbD i
theorem b_ext {x y : Int32} (h : ∀ i, i < 32 → bt x i = bt y i) : x = y := Int32.toBitVec_inj.mp (BitVec.eq_of_getLsbD_eq (fun i hi => h i hi))
theorem b_or (x y : Int32) (i : Nat) : bt (x ||| y) i = (bt x i || bt y i) := by unfold bt; rw [Int32.toBitVec_or, BitVec.getLsbD_or]
theorem b_and (x y : Int32) (i : Nat) : bt (x &&& y) i = (bt x i && bt y i) := by unfold bt; rw [Int32.toBitVec_and, BitVec.getLsbD_and]
theorem b_xor (x y : Int32) (i : Nat) : bt (x ^^^ y) i = (bt x i ^^ bt y i) := by unfold bt; rw [Int32.toBitVec_xor, BitVec.getLsbD_xor]
theorem b_big {x : Int32} {i : Nat} (h : 32 ≤ i) : bt x i = false := BitVec.getLsbD_of_ge _ _ h
theorem b_255 (i : Nat) : bt 255 i = decide (i < 8) := by
  rcases Nat.lt_or_ge i 32 with h | h
  · exact (by decide +kernel : ∀ i, i < 32 → bt 255 i = decide (i < 8)) i h
  · rw [b_big h, decide_eq_false (by omega)]
theorem b_65535 (i : Nat) : bt 65535 i = decide (i < 16) := by
  rcases Nat.lt_or_ge i 32 with h | h
  · exact (by decide +kernel : ∀ i, i < 32 → bt 65535 i = decide (i < 16)) i h
  · rw [b_big h, decide_eq_false (by omega)]
theorem b_m1 : ∀ i, i < 32 → bt (-1) i = true := by decide +kernel
theorem b_0 (i : Nat) : bt 0 i = false := BitVec.getLsbD_zero
theorem s_l : ∀ n, n < 32 → ((nI n &&& 31).toBitVec.smod 32).toNat = n := by decide +kernel
theorem s_u : ∀ n, n < 32 → (((nI n).toUInt32 &&& Int32.toUInt32 31).toBitVec % 32).toNat = n := by decide +kernel
theorem b_shl (n : Nat) (hn : n < 32) (x : Int32) {i : Nat} (hi : i < 32) : bt (x <<< (nI n &&& 31)) i = (decide (n ≤ i) && bt x (i - n)) := by
  unfold bt
  rw [Int32.toBitVec_shiftLeft]
  show (x.toBitVec <<< ((nI n &&& 31).toBitVec.smod 32).toNat).getLsbD i = _
  rw [s_l n hn, BitVec.getLsbD_shiftLeft]
  rcases Nat.lt_or_ge i n with h | h
  · simp [h, Nat.not_le.mpr h]
  · simp [hi, h, Nat.not_lt.mpr h]
theorem b_ushr (n : Nat) (hn : n < 32) (x : Int32) (i : Nat) : bt ((x.toUInt32 >>> ((nI n).toUInt32 &&& Int32.toUInt32 31)).toInt32) i = bt x (n + i) := by
  show (x.toUInt32 >>> ((nI n).toUInt32 &&& Int32.toUInt32 31)).toBitVec.getLsbD i = x.toUInt32.toBitVec.getLsbD (n + i)
  rw [UInt32.toBitVec_shiftRight]
  show (x.toUInt32.toBitVec >>> (((nI n).toUInt32 &&& Int32.toUInt32 31).toBitVec % 32).toNat).getLsbD i = _
  rw [s_u n hn, BitVec.getLsbD_ushiftRight]
theorem b_sshr (n : Nat) (hn : n < 32) (x : Int32) {i : Nat} (hi : i < 32) : bt (x >>> (nI n &&& 31)) i = if n + i < 32 then bt x (n + i) else bt x 31 := by
  unfold bt
  rw [Int32.toBitVec_shiftRight]
  show (x.toBitVec.sshiftRight ((nI n &&& 31).toBitVec.smod 32).toNat).getLsbD i = _
  rw [s_l n hn, BitVec.getLsbD_sshiftRight, BitVec.msb_eq_getLsbD_last]
  simp [hi]
theorem b_shl8 (x : Int32) {i : Nat} (hi : i < 32) : bt (x <<< ((8 : Int32) &&& 31)) i = (decide (8 ≤ i) && bt x (i - 8)) := b_shl 8 (by omega) x hi
theorem b_shl16 (x : Int32) {i : Nat} (hi : i < 32) : bt (x <<< ((16 : Int32) &&& 31)) i = (decide (16 ≤ i) && bt x (i - 16)) := b_shl 16 (by omega) x hi
theorem b_shl24 (x : Int32) {i : Nat} (hi : i < 32) : bt (x <<< ((24 : Int32) &&& 31)) i = (decide (24 ≤ i) && bt x (i - 24)) := b_shl 24 (by omega) x hi
theorem b_sshr8 (x : Int32) {i : Nat} (hi : i < 32) : bt (x >>> ((8 : Int32) &&& 31)) i = if 8 + i < 32 then bt x (8 + i) else bt x 31 := b_sshr 8 (by omega) x hi
/-! ===== nI under and, xor, >>>, one bit, 65535 ===== -/
theorem nx_and (a b : Nat) : nI a &&& nI b = nI (a &&& b) := by
  apply Int32.toBitVec_inj.1
  show BitVec.ofNat 32 a &&& BitVec.ofNat 32 b = BitVec.ofNat 32 (a &&& b)
  apply BitVec.eq_of_getLsbD_eq
  intro i hi
  simp [hi]
theorem nx_xor (a b : Nat) : nI a ^^^ nI b = nI (a ^^^ b) := by
  apply Int32.toBitVec_inj.1
  show BitVec.ofNat 32 a ^^^ BitVec.ofNat 32 b = BitVec.ofNat 32 (a ^^^ b)
  apply BitVec.eq_of_getLsbD_eq
  intro i hi
  simp [hi]
theorem nx_cnt : ∀ j : Fin 32, (UInt32.ofNat j.val &&& Int32.toUInt32 31).toNat % 32 = j.val := by decide +kernel
theorem nx_ush {k j : Nat} (hk : k < 65536) (hj : j < 32) : ((nI k).toUInt32 >>> ((nI j).toUInt32 &&& Int32.toUInt32 31)).toInt32 = nI (k >>> j) := by
  have hs : k >>> j ≤ k := by
    rw [Nat.shiftRight_eq_div_pow]
    exact Nat.div_le_self _ _
  have e2 : UInt32.ofNat k >>> (UInt32.ofNat j &&& Int32.toUInt32 31) = UInt32.ofNat (k >>> j) := by
    apply UInt32.toNat_inj.1
    have h1 : (UInt32.ofNat k).toNat = k := Nat.mod_eq_of_lt (by omega)
    have h2 : (UInt32.ofNat (k >>> j)).toNat = k >>> j := Nat.mod_eq_of_lt (by omega)
    rw [UInt32.toNat_shiftRight, nx_cnt ⟨j, hj⟩, h1, h2]
  show (UInt32.ofNat k >>> (UInt32.ofNat j &&& Int32.toUInt32 31)).toInt32 = _
  rw [e2]
  rfl
theorem nx_bit {k j : Nat} (hk : k < 65536) (hj : j < 16) : (((nI k).toUInt32 >>> ((nI j).toUInt32 &&& Int32.toUInt32 31)).toInt32 &&& 1) = 0 ↔ k.testBit j = false := by
  rw [nx_ush hk (by omega)]
  show nI (k >>> j) &&& nI 1 = 0 ↔ _
  rw [nx_and, Nat.and_one_is_mod, ← nI_0, nI_eq (by omega) (by omega), Nat.testBit_eq_decide_div_mod_eq, Nat.shiftRight_eq_div_pow, decide_eq_false_iff_not]
  generalize k / 2 ^ j = z
  omega
theorem nx_mod (k : Nat) : nI k &&& 65535 = nI (k % 65536) := by
  show nI k &&& nI 65535 = _
  rw [nx_and, show (65535 : Nat) = 2 ^ 16 - 1 from rfl, Nat.and_two_pow_sub_one_eq_mod]
theorem nx_m16 {k : Nat} (h : k < 65536) : nI k &&& 65535 = nI k := by rw [nx_mod, Nat.mod_eq_of_lt h]
theorem nx_mask (x : Int32) : ∃ k, k < 65536 ∧ x &&& 65535 = nI k := by
  have e : x = nI x.toBitVec.toNat := by
    apply Int32.toBitVec_inj.1
    show x.toBitVec = BitVec.ofNat 32 x.toBitVec.toNat
    simp
  refine ⟨x.toBitVec.toNat % 65536, Nat.mod_lt _ (by omega), ?_⟩
  rw [← nx_mod, ← e]
/-! ===== Int32 as a set of bits: test, set ===== -/
def nf_M (m : Int32) : Nat := 4294967296 - m.toBitVec.toNat
theorem nf_sh : ∀ l, l < 32 → ((1 : Int32) <<< (nI l &&& 31)).toBitVec = BitVec.twoPow 32 l := by decide +kernel
theorem nf_sl : ∀ l, l < 32 → (((nI l).toUInt32 &&& Int32.toUInt32 31).toBitVec % 32).toNat = l := by decide +kernel
theorem nf_tp : ∀ l, l < 32 → BitVec.twoPow 32 l ≠ 0#32 := by decide +kernel
theorem nf_bit (m : Int32) (l : Nat) (hl : l < 32) : ((m.toUInt32 >>> ((nI l).toUInt32 &&& Int32.toUInt32 31)).toInt32 &&& 1) = 0 ↔ (m &&& ((1 : Int32) <<< (nI l &&& 31))) = 0 := by
  have e : ((m.toUInt32 >>> ((nI l).toUInt32 &&& Int32.toUInt32 31)).toInt32).toBitVec = m.toBitVec >>> l := by
    show m.toBitVec >>> (((nI l).toUInt32 &&& Int32.toUInt32 31).toBitVec % 32) = m.toBitVec >>> l
    rw [BitVec.ushiftRight_eq', nf_sl l hl]
  rw [← Int32.toBitVec_inj, ← Int32.toBitVec_inj, Int32.toBitVec_and, Int32.toBitVec_and, nf_sh l hl, e, BitVec.and_twoPow]
  show (m.toBitVec >>> l &&& 1#32) = 0#32 ↔ _ = 0#32
  rw [BitVec.and_one_eq_setWidth_ofBool_getLsbD, BitVec.getLsbD_ushiftRight, Nat.add_zero]
  cases hb : m.toBitVec.getLsbD l
  · exact ⟨fun _ => by simp, fun _ => by decide⟩
  · exact ⟨fun z => absurd z (by decide), fun z => absurd ((if_pos rfl).symm.trans z) (nf_tp l hl)⟩
theorem nf_gr (m k : Int32) (h : m &&& k = 0) (hk : k ≠ 0) : nf_M (m ||| k) < nf_M m := by
  have hm := m.toBitVec.isLt
  have hm' := (m ||| k).toBitVec.isLt
  have h1 : m.toBitVec.toNat ≤ (m ||| k).toBitVec.toNat := by
    rw [Int32.toBitVec_or, BitVec.toNat_or]
    exact Nat.left_le_or
  have h2 : m.toBitVec.toNat ≠ (m ||| k).toBitVec.toNat := by
    intro e
    have e2 : m = m ||| k := Int32.toBitVec_inj.mp (BitVec.eq_of_toNat_eq e)
    apply hk
    apply Int32.toBitVec_inj.mp
    show k.toBitVec = 0#32
    apply BitVec.eq_of_getLsbD_eq
    intro i hi
    have a : m.toBitVec.getLsbD i = (m.toBitVec.getLsbD i || k.toBitVec.getLsbD i) := by rw [← BitVec.getLsbD_or, ← Int32.toBitVec_or, ← e2]
    have b : (m.toBitVec.getLsbD i && k.toBitVec.getLsbD i) = false := by
      rw [← BitVec.getLsbD_and, ← Int32.toBitVec_and, h]
      exact BitVec.getLsbD_zero
    rw [BitVec.getLsbD_zero]
    revert a b
    cases m.toBitVec.getLsbD i <;> cases k.toBitVec.getLsbD i <;> simp
  unfold nf_M
  omega
/-! ===== a byte read unsigned ===== -/
theorem bp_b (x : Int32) : x.toInt8.toInt32 &&& 255 = x &&& 255 := by
  apply Int32.toBitVec_inj.mp
  rw [Int32.toBitVec_and, Int32.toBitVec_and, Int8.toBitVec_toInt32, Int32.toBitVec_toInt8]
  apply BitVec.eq_of_getLsbD_eq
  intro i hi
  rw [BitVec.getLsbD_and, BitVec.getLsbD_and]
  have hm : ∀ i < 32, 8 ≤ i → (255 : Int32).toBitVec.getLsbD i = false := by decide
  rcases Nat.lt_or_ge i 8 with z | z
  · rw [BitVec.getLsbD_signExtend, BitVec.getLsbD_signExtend, if_pos z, if_pos hi]
    simp only [z, hi, decide_true, Bool.true_and]
  · rw [hm i hi z]; simp
/-! ===== the char cast and 65535 ===== -/
theorem em_w (v : Int32) : ∃ w : Nat, w < 65536 ∧ (v.toUInt32 % 65536).toInt32 = nI w ∧ v &&& 65535 = nI w := by
  have hr := lw_u16_r v
  have h0 : (0 : Int32).toInt = 0 := by decide
  obtain ⟨w, h1, h2⟩ := nI_of (x := lw_u16 v) (by rw [Int32.lt_iff_toInt_lt]; omega)
  have h3 : (v.toUInt32 % 65536).toInt32 = nI w := h2
  rw [h2, nI_toInt h1] at hr
  exact ⟨w, by omega, h3, by rw [← lg_i2c_mask, ← lg_i2c_nf, h3]⟩
/-! ===== Int64 as a set of bits: test, set, clear ===== -/
theorem ts_nf {x : Bool} (h : ¬ x = false) : x = true := by cases x <;> first | rfl | exact absurd rfl h
theorem ts_nt {x : Bool} (h : ¬ x = true) : x = false := by cases x <;> first | rfl | exact absurd rfl h
theorem ts_bit {w : Int64} {s : UInt64} {j : Nat} (hj : j < 64) (hs : s.toNat = j) : ((w.toUInt64 >>> s).toInt64 &&& 1) = 0 ↔ w.toBitVec.getLsbD j = false := by
  have e : (w.toUInt64 >>> s).toInt64.toBitVec = w.toBitVec >>> j := by
    apply BitVec.eq_of_toNat_eq
    show (w.toUInt64 >>> s).toNat = _
    rw [UInt64.toNat_shiftRight, hs, Nat.mod_eq_of_lt hj, BitVec.toNat_ushiftRight]
    rfl
  rw [← Int64.toBitVec_inj, Int64.toBitVec_and, e]
  show w.toBitVec >>> j &&& 1#64 = 0#64 ↔ _
  constructor
  · intro h
    have t := congrArg (fun x => x.getLsbD 0) h
    simpa using t
  · intro h
    apply BitVec.eq_of_getLsbD_eq
    intro i hi
    cases i with
    | zero => simp [h]
    | succ i => simp
theorem ts_or {w m : Int64} {j : Nat} (hj : j < 64) (hm : m.toBitVec = BitVec.twoPow 64 j) : (w ||| m) = w ↔ w.toBitVec.getLsbD j = true := by
  rw [← Int64.toBitVec_inj, Int64.toBitVec_or, hm]
  constructor
  · intro h
    have t := congrArg (fun x => x.getLsbD j) h
    simp only [BitVec.getLsbD_or, BitVec.getLsbD_twoPow] at t
    simpa [hj] using t.symm
  · intro h
    apply BitVec.eq_of_getLsbD_eq
    intro i hi
    rw [BitVec.getLsbD_or, BitVec.getLsbD_twoPow]
    by_cases e : j = i
    · subst e; rw [h, Bool.true_or]
    · simp [e]
theorem ts_and {w m : Int64} {j : Nat} (hj : j < 64) (hm : m.toBitVec = BitVec.twoPow 64 j) : (w &&& (m ^^^ (-1))) = w ↔ w.toBitVec.getLsbD j = false := by
  have ha : (-1 : Int64).toBitVec = BitVec.allOnes 64 := by decide
  rw [← Int64.toBitVec_inj, Int64.toBitVec_and, Int64.toBitVec_xor, hm, ha]
  constructor
  · intro h
    have t := congrArg (fun x => x.getLsbD j) h
    simp only [BitVec.getLsbD_and, BitVec.getLsbD_xor, BitVec.getLsbD_twoPow, BitVec.getLsbD_allOnes] at t
    simpa [hj] using t.symm
  · intro h
    apply BitVec.eq_of_getLsbD_eq
    intro i hi
    rw [BitVec.getLsbD_and, BitVec.getLsbD_xor, BitVec.getLsbD_twoPow, BitVec.getLsbD_allOnes]
    by_cases e : j = i
    · subst e; rw [h, Bool.false_and]
    · simp [e, hi]
/-! ===== lN n to 2^64: shifts, and, or, masks, one bit ===== -/
theorem wb_tb (n : Nat) : (lN n).toBitVec = BitVec.ofNat 64 n := rfl
theorem wb_inj {a b : Int64} (h : a.toBitVec = b.toBitVec) : a = b := Int64.toBitVec_inj.mp h
theorem wb_tn {n : Nat} (h : n < 2 ^ 64) : (lN n).toBitVec.toNat = n := by rw [wb_tb, BitVec.toNat_ofNat, Nat.mod_eq_of_lt h]
theorem wb_of (x : Int64) : ∃ n, n < 2 ^ 64 ∧ x = lN n := ⟨x.toBitVec.toNat, x.toBitVec.isLt, wb_inj (by rw [wb_tb]; simp)⟩
theorem wb_of32 (x : Int32) : ∃ n, n < 2 ^ 32 ∧ x = nI n := ⟨x.toBitVec.toNat, x.toBitVec.isLt, Int32.toBitVec_inj.mp (by show _ = BitVec.ofNat 32 _; simp)⟩
theorem wb_c : ∀ k, k < 64 → ((nI k).toInt64 &&& 63) = lN k := by decide +kernel
theorem wb_cu : ∀ k, k < 64 → ((nI k).toInt64.toUInt64 &&& Int64.toUInt64 63) = UInt64.ofNat k := by decide +kernel
theorem wb_sm : ∀ k, k < 64 → (BitVec.ofNat 64 k).smod 64 = BitVec.ofNat 64 k := by decide +kernel
theorem wb_pw {a b : Nat} (h : a ≤ b) : 2 ^ b = 2 ^ a * 2 ^ (b - a) := by rw [← Nat.pow_add]; congr 1; omega
theorem wb_lt2 {a b : Nat} (h : a < b) : 2 ^ a < 2 ^ b := Nat.pow_lt_pow_right (by decide) h
theorem wb_mod (n : Nat) : lN n = lN (n % 2 ^ 64) := wb_inj (by rw [wb_tb, wb_tb]; apply BitVec.eq_of_toNat_eq; rw [BitVec.toNat_ofNat, BitVec.toNat_ofNat, Nat.mod_mod])
theorem wb_shr {n k : Nat} (hn : n < 2 ^ 64) (hk : k < 64) : ((lN n).toUInt64 >>> ((nI k).toInt64.toUInt64 &&& Int64.toUInt64 63)).toInt64 = lN (n / 2 ^ k) := by
  rw [wb_cu k hk]
  apply wb_inj
  apply BitVec.eq_of_toNat_eq
  show ((lN n).toUInt64 >>> UInt64.ofNat k).toNat = (BitVec.ofNat 64 _).toNat
  have h1 : (UInt64.ofNat k).toNat = k := by
    show (BitVec.ofNat 64 k).toNat = k
    rw [BitVec.toNat_ofNat, Nat.mod_eq_of_lt (by omega)]
  have h2 : (lN n).toUInt64.toNat = n := wb_tn hn
  rw [UInt64.toNat_shiftRight, h1, h2, Nat.mod_eq_of_lt hk, Nat.shiftRight_eq_div_pow, BitVec.toNat_ofNat, Nat.mod_eq_of_lt (Nat.lt_of_le_of_lt (Nat.div_le_self _ _) hn)]
theorem wb_shl (n : Nat) {k : Nat} (hk : k < 64) : lN n <<< ((nI k).toInt64 &&& 63) = lN (n * 2 ^ k) := by
  rw [wb_c k hk]
  apply wb_inj
  rw [Int64.toBitVec_shiftLeft, wb_tb, wb_tb, wb_tb, wb_sm k hk]
  apply BitVec.eq_of_toNat_eq
  rw [BitVec.shiftLeft_eq', BitVec.toNat_shiftLeft, BitVec.toNat_ofNat, BitVec.toNat_ofNat, BitVec.toNat_ofNat, Nat.mod_eq_of_lt (show k < 2 ^ 64 by omega), Nat.shiftLeft_eq, Nat.mul_mod, Nat.mod_mod, ← Nat.mul_mod]
theorem wb_and {a b : Nat} (ha : a < 2 ^ 64) (hb : b < 2 ^ 64) : lN a &&& lN b = lN (a &&& b) := by
  apply wb_inj
  rw [Int64.toBitVec_and, wb_tb, wb_tb, wb_tb]
  apply BitVec.eq_of_toNat_eq
  rw [BitVec.toNat_and, BitVec.toNat_ofNat, BitVec.toNat_ofNat, BitVec.toNat_ofNat, Nat.mod_eq_of_lt ha, Nat.mod_eq_of_lt hb, Nat.mod_eq_of_lt (Nat.and_lt_two_pow _ hb)]
theorem wb_or {a b : Nat} (ha : a < 2 ^ 64) (hb : b < 2 ^ 64) : lN a ||| lN b = lN (a ||| b) := by
  apply wb_inj
  rw [Int64.toBitVec_or, wb_tb, wb_tb, wb_tb]
  apply BitVec.eq_of_toNat_eq
  rw [BitVec.toNat_or, BitVec.toNat_ofNat, BitVec.toNat_ofNat, BitVec.toNat_ofNat, Nat.mod_eq_of_lt ha, Nat.mod_eq_of_lt hb, Nat.mod_eq_of_lt (Nat.or_lt_two_pow ha hb)]
theorem wb_mask {n k : Nat} (hn : n < 2 ^ 64) (hk : k < 64) : lN n &&& lN (2 ^ k - 1) = lN (n % 2 ^ k) := by
  rw [wb_and hn (by have := wb_lt2 hk; omega), Nat.and_two_pow_sub_one_eq_mod]
theorem wb_a1 {n : Nat} (hn : n < 2 ^ 64) : lN n &&& 1 = lN (n % 2) := wb_mask (k := 1) hn (by decide)
theorem wb_bit {n k : Nat} (hn : n < 2 ^ 64) (hk : k < 64) : ((lN n).toUInt64 >>> ((nI k).toInt64.toUInt64 &&& Int64.toUInt64 63)).toInt64 &&& 1 = lN (n / 2 ^ k % 2) := by
  rw [wb_shr hn hk, wb_a1 (Nat.lt_of_le_of_lt (Nat.div_le_self _ _) hn)]
theorem wb_xor {q k : Nat} (hk : k < 63) (h : 2 ^ k ≤ q) (h2 : q < 2 ^ (k + 1)) : lN q ^^^ lN (2 ^ k) = lN (q - 2 ^ k) := by
  obtain ⟨r, rfl⟩ : ∃ r, q = 2 ^ k + r := ⟨q - 2 ^ k, by omega⟩
  have hr : r < 2 ^ k := by rw [Nat.pow_succ] at h2; omega
  have hx : (2 ^ k + r) ^^^ 2 ^ k = r := by
    apply Nat.eq_of_testBit_eq
    intro i
    rw [Nat.testBit_xor, Nat.testBit_two_pow]
    rcases Nat.lt_trichotomy i k with h | h | h
    · rw [Nat.testBit_two_pow_add_gt h]
      simp [show ¬ k = i by omega]
    · subst h
      rw [Nat.testBit_two_pow_add_eq]
      simp
    · have a1 : 2 ^ (k + 1) ≤ 2 ^ i := Nat.pow_le_pow_right (by decide) h
      rw [Nat.testBit_lt_two_pow (show 2 ^ k + r < 2 ^ i by omega), Nat.testBit_lt_two_pow (show r < 2 ^ i by omega)]
      simp [show ¬ k = i by omega]
  have b1 := wb_lt2 (show k + 1 < 64 by omega)
  have b2 := wb_lt2 (show k < 64 by omega)
  apply wb_inj
  rw [Int64.toBitVec_xor, wb_tb, wb_tb, wb_tb]
  apply BitVec.eq_of_toNat_eq
  rw [BitVec.toNat_xor, BitVec.toNat_ofNat, BitVec.toNat_ofNat, BitVec.toNat_ofNat, Nat.mod_eq_of_lt (by omega : 2 ^ k + r < 2 ^ 64), Nat.mod_eq_of_lt b2, hx, Nat.add_sub_cancel_left, Nat.mod_eq_of_lt (by omega)]
/-! ===== lN: masks, 'or' of parts that don't overlap is a sum ===== -/
theorem u_tn {n : Nat} (h : n < 2 ^ 64) : (UInt64.ofNat n).toNat = n := Nat.mod_eq_of_lt h
theorem g_and {a b c : Nat} (ha : a < 2 ^ 64) (hb : b < 2 ^ 64) (hc : a &&& b = c) : lN a &&& lN b = lN c := by
  subst hc
  have h : UInt64.ofNat a &&& UInt64.ofNat b = UInt64.ofNat (a &&& b) := UInt64.toNat_inj.mp (by rw [UInt64.toNat_and, u_tn ha, u_tn hb, u_tn (Nat.and_lt_two_pow a hb)])
  have h2 := congrArg UInt64.toInt64 h
  exact h2
theorem g_and1 {a : Nat} (ha : a < 2 ^ 64) : lN a &&& 1 = lN (a % 2) := g_and (b := 1) ha (by decide) (Nat.and_two_pow_sub_one_eq_mod a 1)
theorem g_mask {a s p : Nat} (hp : 2 ^ s = p) (hs : s < 64) (ha : a < 2 ^ 64) : lN a &&& lN (p - 1) = lN (a % p) := by
  subst hp
  have := Nat.pow_lt_pow_right (show 1 < 2 by decide) hs
  exact g_and ha (by omega) (Nat.and_two_pow_sub_one_eq_mod a s)
theorem g_or {k p a b : Nat} (hp : 2 ^ k = p) (ha : a < p) (h : b * p + a < 2 ^ 64) : lN (b * p) ||| lN a = lN (b * p + a) := by
  subst hp
  have h1 : b * 2 ^ k ||| a = b * 2 ^ k + a := by rw [← Nat.shiftLeft_eq, Nat.shiftLeft_add_eq_or_of_lt ha]
  have h3 : UInt64.ofNat (b * 2 ^ k) ||| UInt64.ofNat a = UInt64.ofNat (b * 2 ^ k + a) := UInt64.toNat_inj.mp (by rw [UInt64.toNat_or, u_tn (by omega), u_tn (by omega), u_tn h, h1])
  have h2 := congrArg UInt64.toInt64 h3
  exact h2
theorem g_or' {k p a b : Nat} (hp : 2 ^ k = p) (ha : a < p) (h : a + b * p < 2 ^ 64) : lN a ||| lN (b * p) = lN (a + b * p) := by
  rw [Int64.or_comm, g_or hp ha (by omega), Nat.add_comm]
theorem g_ushr {a k p : Nat} {y : UInt64} (hy : y = UInt64.ofNat k) (hk : k < 64) (hp : 2 ^ k = p) (ha : a < 2 ^ 64) : ((lN a).toUInt64 >>> y).toInt64 = lN (a / p) := by
  subst hy hp
  have h : UInt64.ofNat a >>> UInt64.ofNat k = UInt64.ofNat (a / 2 ^ k) := UInt64.toNat_inj.mp (by rw [UInt64.toNat_shiftRight, u_tn ha, u_tn (by omega), u_tn (Nat.lt_of_le_of_lt (Nat.div_le_self _ _) ha), Nat.mod_eq_of_lt hk, Nat.shiftRight_eq_div_pow])
  have h2 := congrArg UInt64.toInt64 h
  exact h2
theorem g_shl {a k p : Nat} {y : Int64} (hy : y.toBitVec.smod 64 = BitVec.ofNat 64 k) (hk : k < 64) (hp : 2 ^ k = p) (ha : a < 2 ^ 64) : lN a <<< y = lN (a * p) := by
  subst hp
  apply Int64.toBitVec_inj.mp
  rw [Int64.toBitVec_shiftLeft, hy]
  apply BitVec.eq_of_toNat_eq
  have hb : (lN a).toBitVec.toNat = a := Nat.mod_eq_of_lt ha
  have hk' : (BitVec.ofNat 64 k).toNat = k := Nat.mod_eq_of_lt (by omega)
  have h : ((lN a).toBitVec <<< BitVec.ofNat 64 k).toNat = (a * 2 ^ k) % 2 ^ 64 := by simp only [BitVec.shiftLeft_eq', BitVec.toNat_shiftLeft, hb, hk', Nat.shiftLeft_eq]
  exact h
/-! ===== lN to 2^62 under >> and >>> ===== -/
theorem pf_lI {a : Nat} (h : a < 2 ^ 63) : (lN a).toInt = (a : Int) := lg_ofNat_toInt h
theorem pf_shr {a d : Nat} {D : Int64} (hD : (D.toBitVec.smod 64).toNat = d) (h : a < 2 ^ 62) : lN a >>> D = lN (a / 2 ^ d) := by
  have hd : a / 2 ^ d ≤ a := Nat.div_le_self _ _
  apply Int64.toInt_inj.mp
  have e : (lN a >>> D).toInt = (lN a).toInt >>> d := by
    rw [← hD]
    exact BitVec.toInt_sshiftRight ..
  rw [e, Int.shiftRight_eq_div_pow, pf_lI (by omega), pf_lI (by omega)]
  rfl
theorem pf_ushr {a d : Nat} {D : UInt64} (hD : D.toNat % 64 = d) (h : a < 2 ^ 62) : ((lN a).toUInt64 >>> D).toInt64 = lN (a / 2 ^ d) := by
  have hd : a / 2 ^ d ≤ a := Nat.div_le_self _ _
  have e : (lN a).toUInt64 >>> D = UInt64.ofNat (a / 2 ^ d) := UInt64.toNat_inj.mp (by
    rw [UInt64.toNat_shiftRight, hD, Nat.shiftRight_eq_div_pow, UInt64.toNat_ofNat']
    show (UInt64.ofNat a).toNat / 2 ^ d = _
    rw [UInt64.toNat_ofNat', Nat.mod_eq_of_lt (by omega), Nat.mod_eq_of_lt (by omega)])
  rw [e]
  rfl
theorem pf_andw (x : Int64) : ∃ m, m < 2 ^ 32 ∧ x &&& 4294967295 = lN m := ⟨x.toBitVec.toNat % 2 ^ 32, Nat.mod_lt _ (by decide), Int64.toBitVec_inj.mp (BitVec.eq_of_toNat_eq (by
  show (x.toBitVec &&& 4294967295#64).toNat = (BitVec.ofNat 64 (x.toBitVec.toNat % 2 ^ 32)).toNat
  rw [BitVec.toNat_and, show (4294967295#64).toNat = 2 ^ 32 - 1 from by decide, Nat.and_two_pow_sub_one_eq_mod, BitVec.toNat_ofNat]
  omega))⟩
/-! ===== Int64 as an unsigned number: uN x ===== -/
def uN (x : Int64) : Nat := x.toUInt64.toNat
theorem uN_lt (x : Int64) : uN x < 18446744073709551616 := x.toUInt64.toNat_lt
theorem uN_inj {x y : Int64} (h : uN x = uN y) : x = y := congrArg UInt64.toInt64 (UInt64.toNat_inj.mp h)
theorem uN_add (x y : Int64) : uN (x + y) = (uN x + uN y) % 18446744073709551616 := by
  show (x.toUInt64 + y.toUInt64).toNat = _
  exact UInt64.toNat_add _ _
theorem uN_mul (x y : Int64) : uN (x * y) = (uN x * uN y) % 18446744073709551616 := by
  show (x.toUInt64 * y.toUInt64).toNat = _
  exact UInt64.toNat_mul _ _
theorem uN_shl (x : Int64) : uN (x <<< ((1 : Int32).toInt64 &&& 63)) = (2 * uN x) % 18446744073709551616 := by
  have h : (((1 : Int32).toInt64 &&& 63).toBitVec.smod 64).toNat = 1 := by decide
  show (x.toBitVec <<< (((1 : Int32).toInt64 &&& 63).toBitVec.smod 64).toNat).toNat = _
  rw [h, BitVec.toNat_shiftLeft, Nat.shiftLeft_eq, Nat.mul_comm]
  rfl
theorem uN_shr (x : Int64) (s : UInt64) : uN (x.toUInt64 >>> s).toInt64 = uN x / 2 ^ (s.toNat % 64) := by
  show (x.toUInt64 >>> s).toNat = _
  rw [UInt64.toNat_shiftRight, Nat.shiftRight_eq_div_pow]
  rfl
theorem uN_s32 (x : Int64) : uN (x.toUInt64 >>> ((32 : Int32).toInt64.toUInt64 &&& Int64.toUInt64 63)).toInt64 = uN x / 4294967296 := by
  have h : ((32 : Int32).toInt64.toUInt64 &&& Int64.toUInt64 63).toNat % 64 = 32 := by decide
  rw [uN_shr, h]
theorem uN_s63 (x : Int64) : uN (x.toUInt64 >>> ((63 : Int32).toInt64.toUInt64 &&& Int64.toUInt64 63)).toInt64 = uN x / 9223372036854775808 := by
  have h : ((63 : Int32).toInt64.toUInt64 &&& Int64.toUInt64 63).toNat % 64 = 63 := by decide
  rw [uN_shr, h]
theorem uN_lo (x : Int64) : uN (x &&& 4294967295) = uN x % 4294967296 := by
  show (x.toUInt64 &&& Int64.toUInt64 4294967295).toNat = _
  rw [UInt64.toNat_and]
  exact Nat.and_two_pow_sub_one_eq_mod _ 32
theorem uN_bit (x : Int64) : (x &&& 1) = 0 ↔ uN x % 2 = 0 := by
  have h : uN (x &&& 1) = uN x % 2 := by
    show (x.toUInt64 &&& Int64.toUInt64 1).toNat = _
    rw [UInt64.toNat_and]
    exact Nat.and_two_pow_sub_one_eq_mod _ 1
  rw [← h]
  exact ⟨fun z => by rw [z]; rfl, fun z => uN_inj (z.trans rfl)⟩
theorem uN_or {x y : Int64} (hy : uN y < 2) : uN ((x <<< ((1 : Int32).toInt64 &&& 63)) ||| y) = (2 * uN x) % 18446744073709551616 + uN y := by
  have h1 : uN ((x <<< ((1 : Int32).toInt64 &&& 63)) ||| y) = uN (x <<< ((1 : Int32).toInt64 &&& 63)) ||| uN y := UInt64.toNat_or _ _
  have h2 : (2 * uN x) % 18446744073709551616 = 2 ^ 1 * (uN x % 9223372036854775808) := by omega
  rw [h1, uN_shl, h2]
  exact (Nat.two_pow_add_eq_or_of_lt (i := 1) hy _).symm
theorem nat_xor {a : Nat} (h : a < 18446744073709551616) : a ^^^ 2 ^ 63 = (a + 9223372036854775808) % 18446744073709551616 := by
  have h1 : (a ^^^ 2 ^ 63) % 2 ^ 63 = a % 2 ^ 63 := by rw [Nat.xor_mod_two_pow, Nat.mod_self, Nat.xor_zero]
  have h2 : (a ^^^ 2 ^ 63) / 2 ^ 63 = (a / 2 ^ 63) ^^^ 1 := by rw [Nat.xor_div_two_pow, Nat.div_self (Nat.two_pow_pos 63)]
  have h3 : a / 2 ^ 63 = 0 ∨ a / 2 ^ 63 = 1 := by omega
  generalize a ^^^ 2 ^ 63 = t at h1 h2
  rcases h3 with h3 | h3
  · rw [h3] at h2
    have h2 : t / 2 ^ 63 = 1 := h2
    omega
  · rw [h3] at h2
    have h2 : t / 2 ^ 63 = 0 := h2
    omega
theorem uN_xor (x : Int64) : uN (x ^^^ (-9223372036854775808)) = (uN x + 9223372036854775808) % 18446744073709551616 := by
  rw [← nat_xor (uN_lt x)]
  exact UInt64.toNat_xor _ _
theorem uN_int (x : Int64) : x.toInt = if 2 * uN x < 18446744073709551616 then (uN x : Int) else (uN x : Int) - 18446744073709551616 := BitVec.toInt_eq_toNat_cond _
theorem uN_le (x y : Int64) : (x ^^^ (-9223372036854775808)) ≤ (y ^^^ (-9223372036854775808)) ↔ uN x ≤ uN y := by
  have hx := uN_lt x
  have hy := uN_lt y
  rw [Int64.le_iff_toInt_le, uN_int, uN_int, uN_xor, uN_xor]
  omega
theorem uN_sk (x : Int64) {k : Nat} (hk : k < 64) : uN (x.toUInt64 >>> ((nI k).toInt64.toUInt64 &&& Int64.toUInt64 63)).toInt64 = uN x / 2 ^ k := by
  have h : ((nI k).toInt64.toUInt64 &&& Int64.toUInt64 63).toNat % 64 = k := by
    rw [nI_l (by omega), UInt64.toNat_and]
    have e : (lN k).toUInt64.toNat = k % 2 ^ 64 := rfl
    have e2 : (Int64.toUInt64 63).toNat = 2 ^ 6 - 1 := by decide
    rw [e, e2, Nat.and_two_pow_sub_one_eq_mod]
    omega
  rw [uN_shr, h]
/-! ===== unsigned comparison by xor with the least ===== -/
theorem lN_bv (n : Nat) : (lN n).toBitVec = BitVec.ofNat 64 n := rfl
theorem lN_nat {n : Nat} (h : n < 2 ^ 64) : (lN n).toBitVec.toNat = n := by rw [lN_bv, BitVec.toNat_ofNat]; exact Nat.mod_eq_of_lt h
theorem lN_xor (a b : Nat) : lN a ^^^ lN b = lN (a ^^^ b) := by
  apply Int64.toBitVec_inj.mp; rw [Int64.toBitVec_xor, lN_bv, lN_bv, lN_bv]; apply BitVec.eq_of_getLsbD_eq; intro i hi; simp [BitVec.getLsbD_ofNat, Nat.testBit_xor, hi]
theorem lN_ti {m : Nat} (h : m < 2 ^ 64) : (lN m).toInt = if m < 2 ^ 63 then (m : Int) else (m : Int) - 2 ^ 64 := by
  have c := BitVec.toInt_eq_toNat_cond (lN m).toBitVec
  rw [lN_nat h] at c
  show (lN m).toBitVec.toInt = _
  rw [c]
  split <;> split <;> omega
theorem xor63 {x : Nat} (h : x < 2 ^ 63) : x ^^^ 2 ^ 63 = 2 ^ 63 + x := by
  apply Nat.eq_of_testBit_eq
  intro i
  rw [Nat.testBit_xor, Nat.testBit_two_pow]
  rcases Nat.lt_trichotomy i 63 with z | z | z
  · rw [Nat.testBit_two_pow_add_gt z, decide_eq_false (by omega)]; simp
  · subst z; rw [Nat.testBit_two_pow_add_eq]; simp
  · have hp : 2 ^ 64 ≤ 2 ^ i := Nat.pow_le_pow_right (by decide) z
    rw [Nat.testBit_lt_two_pow (show x < 2 ^ i by omega), Nat.testBit_lt_two_pow (show 2 ^ 63 + x < 2 ^ i by omega), decide_eq_false (by omega)]; rfl
theorem xorS {a : Nat} (h : a < 2 ^ 64) : (lN a ^^^ (-9223372036854775808)).toInt = (a : Int) - 2 ^ 63 := by
  rw [show (-9223372036854775808 : Int64) = lN (2 ^ 63) from by decide +kernel, lN_xor]
  rcases Nat.lt_or_ge a (2 ^ 63) with z | z
  · rw [xor63 z, lN_ti (by omega), if_neg (by omega)]; omega
  · obtain ⟨x, rfl⟩ : ∃ x, a = 2 ^ 63 + x := ⟨a - 2 ^ 63, by omega⟩
    rw [← xor63 (by omega), Nat.xor_assoc, Nat.xor_self, Nat.xor_zero, lN_ti (by omega), if_pos (by omega), xor63 (by omega)]; omega
theorem ultL {a b : Nat} (ha : a < 2 ^ 64) (hb : b < 2 ^ 64) : ((lN b ^^^ (-9223372036854775808)) ≤ (lN a ^^^ (-9223372036854775808))) ↔ b ≤ a := by
  rw [Int64.le_iff_toInt_le, xorS ha, xorS hb]; omega
/-! ===== Int64 masks of n low bits ===== -/
theorem cr_bits (W U M : BitVec 64) : ((W &&& U) &&& (U &&& (M ^^^ BitVec.allOnes 64))) = 0#64 ↔ (W &&& U) &&& M = W &&& U := by
  constructor
  · intro h
    apply BitVec.eq_of_getLsbD_eq
    intro i hi
    have e := congrArg (fun x => BitVec.getLsbD x i) h
    simp only [BitVec.getLsbD_and, BitVec.getLsbD_xor, BitVec.getLsbD_allOnes, BitVec.getLsbD_zero, hi, decide_true] at e ⊢
    revert e
    cases W.getLsbD i <;> cases U.getLsbD i <;> cases M.getLsbD i <;> decide
  · intro h
    apply BitVec.eq_of_getLsbD_eq
    intro i hi
    have e := congrArg (fun x => BitVec.getLsbD x i) h
    simp only [BitVec.getLsbD_and, BitVec.getLsbD_xor, BitVec.getLsbD_allOnes, BitVec.getLsbD_zero, hi, decide_true] at e ⊢
    revert e
    cases W.getLsbD i <;> cases U.getLsbD i <;> cases M.getLsbD i <;> decide
theorem cr_mask (w U m : Int64) (n : Nat) (hm : m.toBitVec.toNat = 2 ^ n - 1) : ((w &&& U) &&& (U &&& (m ^^^ (-1)))) = 0 ↔ (w &&& U).toBitVec.toNat < 2 ^ n := by
  have e0 : (-1 : Int64).toBitVec = BitVec.allOnes 64 := by decide
  have z0 : (0 : Int64).toBitVec = 0#64 := by decide
  rw [← Int64.toBitVec_inj, z0, Int64.toBitVec_and, Int64.toBitVec_and, Int64.toBitVec_and, Int64.toBitVec_xor, e0, cr_bits]
  generalize w.toBitVec &&& U.toBitVec = T
  rw [← BitVec.toNat_inj, BitVec.toNat_and, hm, Nat.and_two_pow_sub_one_eq_mod]
  constructor
  · intro h
    have t := Nat.mod_lt T.toNat (Nat.two_pow_pos n)
    rw [h] at t
    exact t
  · exact Nat.mod_eq_of_lt
theorem cr_shr (t : Int64) (x : UInt64) (n : Nat) (hx : x.toNat % 64 = n) : (t.toUInt64 >>> x).toInt64 = 0 ↔ t.toBitVec.toNat < 2 ^ n := by
  rw [← Int64.toBitVec_inj, ← BitVec.toNat_inj]
  show (t.toUInt64 >>> x).toNat = 0 ↔ t.toUInt64.toNat < 2 ^ n
  rw [UInt64.toNat_shiftRight, hx, Nat.shiftRight_eq_div_pow]
  constructor
  · intro h
    have d : t.toUInt64.toNat / 2 ^ n < 1 := by
      rw [h]
      decide
    have e := (Nat.div_lt_iff_lt_mul (Nat.two_pow_pos n)).mp d
    rw [Nat.one_mul] at e
    exact e
  · exact Nat.div_eq_of_lt
theorem cr_amt (s : Int64) : ∃ n, n < 64 ∧ s &&& 63 = lN n ∧ (s.toUInt64 &&& Int64.toUInt64 63).toNat % 64 = n := by
  have e : (s.toUInt64 &&& Int64.toUInt64 63).toNat = s.toUInt64.toNat % 2 ^ 6 := by
    rw [UInt64.toNat_and, show (Int64.toUInt64 63).toNat = 2 ^ 6 - 1 from by decide, Nat.and_two_pow_sub_one_eq_mod]
  refine ⟨s.toUInt64.toNat % 2 ^ 6, by omega, ?_, by omega⟩
  rw [← Int64.toBitVec_inj, ← BitVec.toNat_inj]
  show (s.toUInt64 &&& Int64.toUInt64 63).toNat = (BitVec.ofNat 64 (s.toUInt64.toNat % 2 ^ 6)).toNat
  rw [e, BitVec.toNat_ofNat]
  omega
end
section
/-! counting, the hash, addresses: plain rows -/
def jv_ct (p : Nat → Bool) : Nat → Nat
  | 0 => 0
  | n + 1 => jv_ct p n + (if p n = true then 1 else 0)
theorem jv_ct_t {p : Nat → Bool} {n : Nat} (h : p n = true) : jv_ct p (n + 1) = jv_ct p n + 1 := by simp [jv_ct, h]
theorem jv_ct_f {p : Nat → Bool} {n : Nat} (h : p n = false) : jv_ct p (n + 1) = jv_ct p n := by simp [jv_ct, h]
theorem jv_ct_cg {p q : Nat → Bool} : ∀ n : Nat, (∀ i, i < n → p i = q i) → jv_ct p n = jv_ct q n := by
  intro n
  induction n with
  | zero => intro _; rfl
  | succ n ih =>
    intro h
    show jv_ct p n + _ = jv_ct q n + _
    rw [ih (fun i hi => h i (by omega)), h n (by omega)]
theorem jv_ct_le (p : Nat → Bool) : ∀ n : Nat, jv_ct p n ≤ n := by
  intro n
  induction n with
  | zero => exact Nat.le_refl 0
  | succ n ih =>
    cases h : p n with
    | true => rw [jv_ct_t h]; omega
    | false => rw [jv_ct_f h]; omega
theorem jv_ct_lt {p : Nat → Bool} {a : Nat} (ha : p a = false) : ∀ n : Nat, a < n → jv_ct p n < n := by
  intro n
  induction n with
  | zero => intro h; omega
  | succ n ih =>
    intro h
    by_cases e : a = n
    · subst e; rw [jv_ct_f ha]; have := jv_ct_le p a; omega
    · have h1 := ih (by omega)
      cases h2 : p n with
      | true => rw [jv_ct_t h2]; omega
      | false => rw [jv_ct_f h2]; omega
theorem jv_ct_0 {p : Nat → Bool} : ∀ n : Nat, (∀ i, i < n → p i = false) → jv_ct p n = 0 := by
  intro n
  induction n with
  | zero => intro _; rfl
  | succ n ih =>
    intro h
    rw [jv_ct_f (h n (by omega))]; exact ih (fun i hi => h i (by omega))
theorem jv_ct_all {p : Nat → Bool} : ∀ n : Nat, (∀ i, i < n → p i = true) → jv_ct p n = n := by
  intro n
  induction n with
  | zero => intro _; rfl
  | succ n ih =>
    intro h
    rw [jv_ct_t (h n (by omega)), ih (fun i hi => h i (by omega))]
theorem jv_ct_z {p : Nat → Bool} : ∀ n : Nat, jv_ct p n = 0 → ∀ i, i < n → p i = false := by
  intro n
  induction n with
  | zero => intro _ i hi; omega
  | succ n ih =>
    intro h i hi
    cases h2 : p n with
    | true => rw [jv_ct_t h2] at h; omega
    | false =>
      rw [jv_ct_f h2] at h
      by_cases e : i = n
      · subst e; exact h2
      · exact ih h i (by omega)
theorem jv_ct_1 {p q : Nat → Bool} {a : Nat} (hp : p a = true) (hq : q a = false) (h : ∀ i, i ≠ a → p i = q i) : ∀ n : Nat, a < n → jv_ct p n = jv_ct q n + 1 := by
  intro n
  induction n with
  | zero => intro h0; omega
  | succ n ih =>
    intro ha
    by_cases e : a = n
    · subst e
      rw [jv_ct_t hp, jv_ct_f hq, jv_ct_cg (p := p) (q := q) a (fun i hi => h i (by omega))]
    · have h1 := ih (by omega)
      have h2 := h n (by omega)
      show jv_ct p n + _ = jv_ct q n + _ + 1
      rw [h2, h1, Nat.add_right_comm]
theorem jv_ct_add (p : Nat → Bool) (m : Nat) : ∀ n : Nat, jv_ct p (m + n) = jv_ct p m + jv_ct (fun i => p (m + i)) n := by
  intro n
  induction n with
  | zero => rfl
  | succ n ih =>
    show jv_ct p (m + n) + _ = jv_ct p m + (jv_ct (fun i => p (m + i)) n + _)
    rw [ih, Nat.add_assoc]
    rfl
theorem jv_ct_rx {m : Nat} {N : Nat → Nat} : ∀ (n : Nat) (p : Nat → Bool), (∀ i, i < n → N i < m) → (∀ i j, i < j → j < n → N i ≠ N j) →
    (∀ a, a < m → p a = true → ∃ i, i < n ∧ N i = a) → jv_ct p m = jv_ct (fun i => p (N i)) n := by
  intro n
  induction n with
  | zero =>
    intro p _ _ h
    show jv_ct p m = 0
    apply jv_ct_0
    intro a ha
    cases e : p a with
    | false => rfl
    | true => obtain ⟨i, hi, _⟩ := h a ha e; omega
  | succ n ih =>
    intro p hN hd h
    have key := ih (fun a => p a && decide (a ≠ N n)) (fun i hi => hN i (by omega)) (fun i j h1 h2 => hd i j h1 (by omega)) (fun a ha hp => by
      simp only [Bool.and_eq_true, decide_eq_true_eq] at hp
      obtain ⟨i, h1, h2⟩ := h a ha hp.1
      refine ⟨i, ?_, h2⟩
      by_cases e : i = n
      · subst e; exact absurd h2.symm hp.2
      · omega)
    have e2 : jv_ct (fun i => (p (N i) && decide (N i ≠ N n))) n = jv_ct (fun i => p (N i)) n := jv_ct_cg n (fun i h1 => by
      have := hd i n h1 (by omega)
      simp [this])
    have key2 : jv_ct (fun a => p a && decide (a ≠ N n)) m = jv_ct (fun i => p (N i)) n := key.trans e2
    cases e : p (N n) with
    | true =>
      rw [jv_ct_t (p := fun i => p (N i)) e, ← key2]
      exact jv_ct_1 (a := N n) e (by simp) (fun i hne => by simp [hne]) m (hN n (by omega))
    | false =>
      rw [jv_ct_f (p := fun i => p (N i)) e, ← key2]
      exact jv_ct_cg m (fun i _ => by
        by_cases e3 : i = N n
        · subst e3; simp [e]
        · simp [e3])
/-! the hash of a name -/
def jv_hs (a : Nat) : Nat := (37 * a + 11) % 64
def jv_nm (h : Nat) : Nat := (45 * (h + 53)) % 64
theorem jv_hs_lt (a : Nat) : jv_hs a < 64 := Nat.mod_lt _ (by decide)
theorem jv_nm_lt (a : Nat) : jv_nm a < 64 := Nat.mod_lt _ (by decide)
theorem jv_hs_nm : ∀ h, h < 64 → jv_hs (jv_nm h) = h := by decide +kernel
theorem jv_nm_hs : ∀ a, a < 64 → jv_nm (jv_hs a) = a := by decide +kernel
theorem jv_hs_inj {a b : Nat} (ha : a < 64) (hb : b < 64) (h : jv_hs a = jv_hs b) : a = b := by
  rw [← jv_nm_hs a ha, h, jv_nm_hs b hb]
theorem jv_hsX {a : Nat} (ha : a < 64) : (37 * nI a + 11) &&& 63 = nI (jv_hs a) := by
  have h1 : (37 : Int32) * nI a + 11 = nI (37 * a + 11) := by
    show nI 37 * nI a + nI 11 = _
    rw [pk_mul, nI_add]
  rw [h1, pk_andN (by omega) 6 (by decide)]
  rfl
theorem jv_hsY {a : Nat} (ha : a < 64) : (37 * nI a + 11) - (37 * nI a + 11) / 64 * 64 = nI (jv_hs a) := by
  have h1 : (37 : Int32) * nI a + 11 = nI (37 * a + 11) := by
    show nI 37 * nI a + nI 11 = _
    rw [pk_mul, nI_add]
  rw [h1]
  exact pk_rem (a := 37 * a + 11) (d := 64) (by omega) (by decide) (by decide)
/-! addresses -/
theorem ad_24 (x : Nat) : (24 : Int32) * nI x = nI (24 * x) := pk_mul 24 x
theorem ad_64 (x : Nat) : (64 : Int32) * nI x = nI (64 * x) := pk_mul 64 x
theorem ad_4 (x : Nat) : (4 : Int32) * nI x = nI (4 * x) := pk_mul 4 x
theorem ad_p (b c : Nat) : nI b + nI c = nI (b + c) := nI_add b c
theorem ad_p0 (b : Nat) : nI b + 0 = nI b := nI_add b 0
theorem ad_p1 (b : Nat) : nI b + 1 = nI (b + 1) := nI_add b 1
theorem ad_p2 (b : Nat) : nI b + 2 = nI (b + 2) := nI_add b 2
theorem ad_p3 (b : Nat) : nI b + 3 = nI (b + 3) := nI_add b 3
theorem ad_e (b j : Nat) : nI b + 4 + 2 * nI j = nI (b + 4 + 2 * j) := by
  show nI b + nI 4 + nI 2 * nI j = _
  rw [pk_mul, nI_add, nI_add]
theorem ad_x (b j : Nat) : nI b + 4 + 3 * nI j = nI (b + 4 + 3 * j) := by
  show nI b + nI 4 + nI 3 * nI j = _
  rw [pk_mul, nI_add, nI_add]
theorem ad_e1 (b j : Nat) : nI b + 4 + 2 * nI j + 1 = nI (b + 4 + 2 * j + 1) := by rw [ad_e, ad_p1]
theorem ad_e2 (b j : Nat) : nI b + 4 + 2 * nI j + 2 = nI (b + 4 + 2 * j + 2) := by rw [ad_e, ad_p2]
theorem ad_e3 (b j : Nat) : nI b + 4 + 2 * nI j + 3 = nI (b + 4 + 2 * j + 3) := by rw [ad_e, ad_p3]
theorem ad_m1 (b j : Nat) : nI b + 4 + 2 * nI (j + 1) - 1 = nI (b + 4 + 2 * j + 1) := by
  rw [ad_e]; exact pk_sub (a := b + 4 + 2 * (j + 1)) (b := 1) (by omega)
theorem ad_m2 (b j : Nat) : nI b + 4 + 2 * nI (j + 1) - 2 = nI (b + 4 + 2 * j) := by
  rw [ad_e]; exact pk_sub (a := b + 4 + 2 * (j + 1)) (b := 2) (by omega)
theorem ad_x1 (b j : Nat) : nI b + 4 + 3 * nI j + 1 = nI (b + 4 + 3 * j + 1) := by rw [ad_x, ad_p1]
theorem ad_x2 (b j : Nat) : nI b + 4 + 3 * nI j + 2 = nI (b + 4 + 3 * j + 2) := by rw [ad_x, ad_p2]
theorem ad_n (x a : Nat) : 64 * nI x + nI a = nI (64 * x + a) := by rw [ad_64, nI_add]
theorem ad_b (x a : Nat) : 24 * nI x + nI a = nI (24 * x + a) := by rw [ad_24, nI_add]
theorem jv_neg1 {n : Nat} (h : n < 2 ^ 31) : ¬ nI n = -1 := by
  intro e
  have := congrArg Int32.toInt e
  rw [nI_toInt h, show (-1 : Int32).toInt = -1 from by decide] at this
  omega
theorem jv_m1neg : (-1 : Int32) < 0 := by decide
theorem jv_m1n0 : ¬ (0 : Int32) ≤ -1 := by decide
theorem jv_bt : ∀ p, p < 128 → (nI p).toInt8.toInt32 = nI p := by decide +kernel
theorem jv_byte {p : Nat} (h : p < 128) : vp_nar .byte (nI p).toInt8.toInt32 = nI p := by
  rw [jv_bt p h, vp_nar_byte, jv_bt p h]
theorem jv_byte1 {p : Nat} (h : p < 128) : vp_nar .byte (nI p) = nI p := by
  rw [vp_nar_byte, jv_bt p h]
theorem jv_sh {p : Nat} (h : p < 32768) : (nI p).toInt16.toInt32 = nI p := by
  apply Int32.toInt_inj.mp
  rw [Int16.toInt_toInt32, Int32.toInt_toInt16, nI_toInt (by omega)]
  exact Int.bmod_eq_of_le (by omega) (by omega)
theorem jv_short {p : Nat} (h : p < 32768) : vp_nar .short (nI p).toInt16.toInt32 = nI p := by
  rw [jv_sh h, vp_nar_short, jv_sh h]
theorem jv_upd_id {f : Nat → Int32} {k : Nat} {x : Int32} (h : f k = x) : upd f k x = f := by
  funext j
  by_cases e : j = k
  · rw [e, pk_us, h]
  · rw [pk_un e]
/-- an entry put in at k, one taken out at k -/
def jv_ins (N : Nat → Nat) (k a : Nat) : Nat → Nat := fun i => if i < k then N i else if i = k then a else N (i - 1)
def jv_del (N : Nat → Nat) (k : Nat) : Nat → Nat := fun i => if i < k then N i else N (i + 1)
theorem jv_ins_lt {N : Nat → Nat} {k a i : Nat} (h : i < k) : jv_ins N k a i = N i := if_pos h
theorem jv_ins_eq {N : Nat → Nat} {k a : Nat} : jv_ins N k a k = a := by simp [jv_ins]
theorem jv_ins_gt {N : Nat → Nat} {k a i : Nat} (h : k < i) : jv_ins N k a i = N (i - 1) := by
  unfold jv_ins; rw [if_neg (by omega), if_neg (by omega)]
theorem jv_del_lt {N : Nat → Nat} {k i : Nat} (h : i < k) : jv_del N k i = N i := if_pos h
theorem jv_del_ge {N : Nat → Nat} {k i : Nat} (h : k ≤ i) : jv_del N k i = N (i + 1) := if_neg (by omega)
end
section
/-! pictures: directories, extents, marks, nodes; the relation of a row of words to the seven tables; what holds where nothing is damaged -/
/-- words of a directory x: n entries, names N, inodes I -/
def jv_DW (w : Nat → Int32) (x n : Nat) (N I : Nat → Nat) : Prop :=
  w (24 * x + 2) = nI n ∧ ∀ i, i < n → w (24 * x + 4 + 2 * i) = nI (N i) ∧ w (24 * x + 4 + 2 * i + 1) = nI (I i)
/-- the same entries in the table by names -/
def jv_DF (f : Nat → Int32) (n : Nat) (N I : Nat → Nat) : Prop :=
  n ≤ 10 ∧ (∀ i, i < n → N i < 64 ∧ I i < 16 ∧ f (N i) = nI (I i)) ∧
  (∀ i j, i < j → j < n → jv_hs (N i) < jv_hs (N j)) ∧
  (∀ a, a < 64 → (∀ i, i < n → N i ≠ a) → f a = -1)
def jv_Dir (w cn : Nat → Int32) (x : Nat) : Prop :=
  ∃ n N I, jv_DW w x n N I ∧ jv_DF (fun a => cn (64 * x + a)) n N I
/-- words of a file x: n extents -/
def jv_XW (w : Nat → Int32) (x n : Nat) (P B L : Nat → Nat) : Prop :=
  w (24 * x + 2) = nI n ∧ ∀ i, i < n → w (24 * x + 4 + 3 * i) = nI (P i) ∧ w (24 * x + 4 + 3 * i + 1) = nI (B i) ∧ w (24 * x + 4 + 3 * i + 2) = nI (L i)
/-- extents at work -/
def jv_EW (af ab al : Nat → Int32) (n : Nat) (P B L : Nat → Nat) : Prop :=
  ∀ i, i < n → af i = nI (P i) ∧ ab i = nI (B i) ∧ al i = nI (L i)
/-- extents within bounds, in order -/
def jv_E0 (n : Nat) (P B L : Nat → Nat) : Prop :=
  (∀ i, i < n → 1 ≤ L i ∧ P i + L i ≤ 24 ∧ B i + L i ≤ 64) ∧ (∀ i j, i < j → j < n → P i + L i ≤ P j)
/-- no two of them side by side -/
def jv_E1 (n : Nat) (P B L : Nat → Nat) : Prop :=
  ∀ i, i + 1 < n → ¬ (P i + L i = P (i + 1) ∧ B i + L i = B (i + 1))
/-- they make the map f of positions -/
def jv_EF (f : Nat → Int32) (n : Nat) (P B L : Nat → Nat) : Prop :=
  (∀ i, i < n → ∀ d, d < L i → f (P i + d) = nI (B i + d)) ∧
  (∀ p, p < 24 → (∀ i, i < n → ¬ (P i ≤ p ∧ p < P i + L i)) → f p = -1)
def jv_Ex (f : Nat → Int32) (n : Nat) (P B L : Nat → Nat) : Prop :=
  jv_E0 n P B L ∧ jv_E1 n P B L ∧ jv_EF f n P B L
def jv_File (w cb : Nat → Int32) (x : Nat) : Prop :=
  ∃ n P B L, n ≤ 5 ∧ jv_XW w x n P B L ∧ jv_Ex (fun p => cb (24 * x + p)) n P B L
/-- the marks of a row of words -/
def jv_M (w : Nat → Int32) : Int64 := ((w 384).toInt64 &&& 4294967295) ||| ((w 385).toInt64 <<< ((32 : Int32).toInt64 &&& 63))
def jv_lb (m : Int64) (b : Nat) : Bool := m.toBitVec.getLsbD b
def jv_MF (m : Int64) (cm : Nat → Int32) : Prop := ∀ b, b < 64 → cm b = if jv_lb m b = true then 1 else 0
/-- one inode -/
def jv_Nd (w ck cl cp cn cb : Nat → Int32) (x : Nat) : Prop :=
  w (24 * x) = ck x ∧ (ck x = 0 ∨ ck x = 1 ∨ ck x = 2) ∧ (ck x ≠ 0 → w (24 * x + 1) = cl x) ∧
  (ck x = 2 → w (24 * x + 3) = cp x ∧ jv_Dir w cn x) ∧ (ck x ≠ 2 → ∀ a, a < 64 → cn (64 * x + a) = -1) ∧
  (ck x = 1 → jv_File w cb x) ∧ (ck x ≠ 1 → ∀ p, p < 24 → cb (24 * x + p) = -1)
/-- nothing lies beyond the tables' ends -/
def jv_Z (ck cl cp cn cb cv cm : Nat → Int32) : Prop :=
  (∀ i, 16 ≤ i → ck i = 0) ∧ (∀ i, 16 ≤ i → cl i = 0) ∧ (∀ i, 16 ≤ i → cp i = 0) ∧ (∀ i, 1024 ≤ i → cn i = 0) ∧ (∀ i, 384 ≤ i → cb i = 0) ∧ (∀ i, 64 ≤ i → cv i = 0) ∧ (∀ i, 64 ≤ i → cm i = 0)
/-- a row of words and the seven tables hold the same volume -/
def jv_RW (w ck cl cp cn cb cv cm : Nat → Int32) : Prop :=
  (∀ x, x < 16 → jv_Nd w ck cl cp cn cb x) ∧ ck 0 = 2 ∧ jv_MF (jv_M w) cm ∧ (∀ b, b < 64 → w (386 + b) = cv b) ∧ (∀ q, 450 ≤ q → w q = 0) ∧ jv_Z ck cl cp cn cb cv cm
/-- how many entries name x -/
def jv_lk (cn : Nat → Int32) (x : Nat) : Nat := jv_ct (fun j => decide (cn j = nI x)) 1024
/-- what holds where nothing is damaged: entries, links, parents, ranks -/
def jv_U1 (ck cn : Nat → Int32) : Prop := ∀ j x, j < 1024 → x < 16 → cn j = nI x → 1 ≤ x ∧ ck x ≠ 0
def jv_U2 (ck cl cn : Nat → Int32) : Prop := ∀ x, x < 16 → ck x ≠ 0 → cl x = nI (jv_lk cn x)
def jv_U3 (ck cp cn : Nat → Int32) : Prop := ∀ x, 1 ≤ x → x < 16 → ck x = 2 →
  ∃ d a, d < 16 ∧ a < 64 ∧ cp x = nI d ∧ ck d = 2 ∧ cn (64 * d + a) = nI x ∧ ∀ j, j < 1024 → cn j = nI x → j = 64 * d + a
def jv_U4 (ck cp : Nat → Int32) : Prop := ∃ r : Nat → Nat, ∀ x d, 1 ≤ x → x < 16 → ck x = 2 → d < 16 → cp x = nI d → r d < r x
/-- blocks: marked, and each by one position alone -/
def jv_U5 (cb cm : Nat → Int32) : Prop := ∀ j b, j < 384 → b < 64 → cb j = nI b → cm b = 1
def jv_U6 (cb : Nat → Int32) : Prop := ∀ i j b, i < 384 → j < 384 → b < 64 → cb i = nI b → cb j = nI b → i = j
def jv_UI (ck cl cp cn cb cm : Nat → Int32) : Prop :=
  jv_U1 ck cn ∧ jv_U2 ck cl cn ∧ jv_U3 ck cp cn ∧ jv_U4 ck cp ∧ jv_U5 cb cm ∧ jv_U6 cb
/-- the journal's words over the place -/
def jv_rep (p a v : Nat → Int32) : Nat → (Nat → Int32)
  | 0 => p
  | n + 1 => upd (jv_rep p a v n) (a n).toNatClampNeg (v n)
theorem jv_rep_cg {p a v a' v' : Nat → Int32} : ∀ n : Nat, (∀ i, i < n → a' i = a i ∧ v' i = v i) → jv_rep p a' v' n = jv_rep p a v n := by
  intro n
  induction n with
  | zero => intro _; rfl
  | succ n ih =>
    intro h
    show upd (jv_rep p a' v' n) (a' n).toNatClampNeg (v' n) = upd (jv_rep p a v n) (a n).toNatClampNeg (v n)
    rw [ih (fun i hi => h i (by omega)), (h n (by omega)).1, (h n (by omega)).2]
/-- the journal at work: g whether it logs, m0 where the record begins, c how many puts at most so far -/
def jv_J (g : Int32) (A0 V0 pl : Nat → Int32) (m0 c : Nat) (w aa av : Nat → Int32) (m : Nat) : Prop :=
  (g = 0 ∧ aa = A0 ∧ av = V0 ∧ m = m0) ∨
  (g = 1 ∧ m0 + 58 ≤ 1400 ∧ m0 ≤ m ∧ m ≤ m0 + c ∧ jv_rep pl aa av m = w ∧ (∀ i, i < m0 → aa i = A0 i ∧ av i = V0 i) ∧ (∀ i, i < m → vp_in (aa i) 450))
theorem jv_J_up {g : Int32} {A0 V0 pl : Nat → Int32} {m0 c c' : Nat} {w aa av : Nat → Int32} {m : Nat} (h : jv_J g A0 V0 pl m0 c w aa av m) (hc : c ≤ c') : jv_J g A0 V0 pl m0 c' w aa av m := by
  rcases h with h | ⟨h1, h2, h3, h4, h5⟩
  · exact Or.inl h
  · exact Or.inr ⟨h1, h2, h3, by omega, h5⟩
theorem jv_J_0 {A0 V0 pl : Nat → Int32} {m0 c : Nat} {w aa av : Nat → Int32} {m : Nat} (h : jv_J 0 A0 V0 pl m0 c w aa av m) : aa = A0 ∧ av = V0 ∧ m = m0 := by
  rcases h with h | ⟨h1, _⟩
  · exact h.2
  · exact absurd h1 (by decide)
theorem jv_J_i0 {A0 V0 pl : Nat → Int32} {m0 c : Nat} {w : Nat → Int32} : jv_J 0 A0 V0 pl m0 c w A0 V0 m0 := Or.inl ⟨rfl, rfl, rfl, rfl⟩
/-- outside the count and the parts of x -/
def jv_Fr (x : Nat) (w w' : Nat → Int32) : Prop := ∀ q, (q < 24 * x + 2 ∨ q = 24 * x + 3 ∨ 24 * x + 24 ≤ q) → w' q = w q
theorem jv_Fr_rf {x : Nat} {w : Nat → Int32} : jv_Fr x w w := fun _ _ => rfl
theorem jv_Fr_tr {x : Nat} {w w' w2 : Nat → Int32} (h : jv_Fr x w w') (k : jv_Fr x w' w2) : jv_Fr x w w2 := fun q hq => (k q hq).trans (h q hq)
theorem jv_Fr_u {x q : Nat} {v : Int32} {w w' : Nat → Int32} (h : jv_Fr x w w') (h1 : 24 * x + 2 ≤ q) (h2 : q ≠ 24 * x + 3) (h3 : q < 24 * x + 24) : jv_Fr x w (upd w' q v) := by
  intro z hz
  rw [pk_un (by omega)]
  exact h z hz
end
section
/-! X: small methods -/
section
variable {xc xr xs xg xd xm xt xw xo : Int32} {aw ap aa av ae af ab al an aq : Nat → Int32}
theorem xk_put {post : SX → Prop} {a m m0 c : Nat} {p v : Int32} {A0 V0 : Nat → Int32} (hp : p = nI a) (ha : a < 450) (hc : c < 58)
    (J : jv_J xg A0 V0 ap m0 c aw aa av m)
    (K : ∀ aa' av' m', jv_J xg A0 V0 ap m0 (c + 1) (upd aw a v) aa' av' m' → post (nI m', xr, xs, xg, xd, xm, xt, xw, xo, upd aw a v, ap, aa', av', ae, af, ab, al, an, aq)) :
    wpX_put post (nI m, xr, xs, xg, xd, xm, xt, xw, xo, aw, ap, aa, av, ae, af, ab, al, an, aq) p v := by
  subst hp
  have hin : vp_in (nI a) 450 := vp_in_nI ha (by decide)
  have hcl : (nI a).toNatClampNeg = a := nI_clamp (by omega)
  unfold wpX_put
  dsimp only
  rw [hcl]
  refine ⟨hin, br_c (fun he => ?_) (fun he => ⟨hin, nm_e ?_⟩)⟩
  · have hu : upd aw a v = aw := jv_upd_id he
    have k := K aa av m (by rw [hu]; exact jv_J_up J (by omega))
    rw [hu] at k
    exact k
  · refine br_c (fun hg => ?_) (fun hg => ?_)
    · refine K aa av m ?_
      rcases J with h | ⟨h1, _⟩
      · exact Or.inl h
      · exact absurd (h1.symm.trans hg) (by decide)
    · rcases J with h | ⟨h1, h2, h3, h4, h5, h6, h7⟩
      · exact absurd h.1 hg
      · have hm : m < 1400 := by omega
        have hmc : (nI m).toNatClampNeg = m := nI_clamp (by omega)
        have hmi : vp_in (nI m) 1400 := vp_in_nI hm (by decide)
        rw [hmc, jv_short (show a < 32768 by omega)]
        refine ⟨hmi, nm_e (nm_r (nI_1 m) ⟨hmi, nm_e ?_⟩)⟩
        refine K _ _ (m + 1) (Or.inr ⟨h1, h2, by omega, by omega, ?_, fun i hi => ?_, fun i hi => ?_⟩)
        · show upd (jv_rep ap (upd aa m (nI a)) (upd av m v) m) (upd aa m (nI a) m).toNatClampNeg (upd av m v m) = _
          rw [pk_us, pk_us, hcl, jv_rep_cg (a := aa) (v := av) m (fun i hi => ⟨pk_un (by omega), pk_un (by omega)⟩), h5]
        · rw [pk_un (by omega), pk_un (by omega)]; exact h6 i hi
        · by_cases e : i = m
          · rw [e, pk_us]; exact hin
          · rw [pk_un e]; exact h7 i (by omega)
theorem xk_set {post : SX → Prop} {x f m m0 c : Nat} {v : Int32} {A0 V0 : Nat → Int32} (ha : 24 * x + f < 450) (hc : c < 58)
    (J : jv_J xg A0 V0 ap m0 c aw aa av m)
    (K : ∀ aa' av' m', jv_J xg A0 V0 ap m0 (c + 1) (upd aw (24 * x + f) v) aa' av' m' → post (nI m', xr, xs, xg, xd, xm, xt, xw, xo, upd aw (24 * x + f) v, ap, aa', av', ae, af, ab, al, an, aq)) :
    wpX_set post (nI m, xr, xs, xg, xd, xm, xt, xw, xo, aw, ap, aa, av, ae, af, ab, al, an, aq) (nI x) (nI f) v := by
  unfold wpX_set
  dsimp only
  refine nm_r (ad_b x f) ?_
  exact xk_put rfl ha hc J K
theorem xk_begin {post : SX → Prop} (K : post (xc, xr, xs, 1, xd, xm, xt, xw, xo, aw, ap, aa, av, ae, af, ab, al, an, aq)) : wpX_begin post (xc, xr, xs, xg, xd, xm, xt, xw, xo, aw, ap, aa, av, ae, af, ab, al, an, aq) := K
theorem xk_end {post : SX → Prop} {r m : Nat} (hr : r < 24) (hm : m < 32768) (K : post (nI m, nI (r + 1), xs, 0, xd, xm, xt, xw, xo, aw, ap, aa, av, upd ae (r + 1) (nI m), af, ab, al, an, aq)) : wpX_end post (nI m, nI r, xs, xg, xd, xm, xt, xw, xo, aw, ap, aa, av, ae, af, ab, al, an, aq) := by
  unfold wpX_end
  dsimp only
  rw [nI_1 r, jv_short hm, nI_clamp (show r + 1 < 2 ^ 31 by omega)]
  exact nm_e ⟨vp_in_nI (by omega) (by decide), nm_e K⟩
theorem xk_base {post : Int32 → Prop} {x : Nat} (h : post (nI (24 * x))) : wpX_base post (nI x) := by
  unfold wpX_base; rw [ad_24]; exact h
/-- a value that is no inode, or one -/
theorem jv_ix16 (v : Int32) : (v < 0 ∨ ¬ v < 0 ∧ (16 : Int32) ≤ v) ∨ ∃ x, x < 16 ∧ v = nI x := by
  by_cases h0 : v < 0
  · exact Or.inl (Or.inl h0)
  · rcases pk_ix v (n := 16) (by decide) with h | h | h
    · exact absurd h h0
    · exact Or.inl (Or.inr ⟨h0, h⟩)
    · exact Or.inr h
theorem xk_inode_o {post : Int32 → Prop} {v : Int32} (h : v < 0 ∨ ¬ v < 0 ∧ (16 : Int32) ≤ v) (K : post 0) : wpX_isInode post v := by
  unfold wpX_isInode
  rcases h with h | ⟨h, h2⟩
  · exact br_t h K
  · exact br_f h (br_t h2 K)
theorem xk_inode_i {post : Int32 → Prop} {x : Nat} (h : x < 16) (K : post 1) : wpX_isInode post (nI x) := by
  unfold wpX_isInode
  exact br_f (nI_pos (by omega)) (br_f (nI_ge (b := 16) h (by decide)) K)
theorem xk_kind_o {post : Int32 → Prop} {v : Int32} (h : v < 0 ∨ ¬ v < 0 ∧ (16 : Int32) ≤ v) (K : post 0) : wpX_kind post (xc, xr, xs, xg, xd, xm, xt, xw, xo, aw, ap, aa, av, ae, af, ab, al, an, aq) v := by
  unfold wpX_kind; dsimp only
  exact xk_inode_o h (br_t rfl K)
theorem xk_kind_i {post : Int32 → Prop} {x : Nat} (h : x < 16) (K : post (aw (24 * x))) : wpX_kind post (xc, xr, xs, xg, xd, xm, xt, xw, xo, aw, ap, aa, av, ae, af, ab, al, an, aq) (nI x) := by
  unfold wpX_kind; dsimp only
  refine xk_inode_i h (br_f (by decide) (xk_base ?_))
  rw [ad_p0, nI_clamp (by omega)]
  exact ⟨vp_in_nI (by omega) (by decide), K⟩
theorem jv_ix64 (v : Int32) : (v < 0 ∨ ¬ v < 0 ∧ (64 : Int32) ≤ v) ∨ ∃ x, x < 64 ∧ v = nI x := by
  by_cases h0 : v < 0
  · exact Or.inl (Or.inl h0)
  · rcases pk_ix v (n := 64) (by decide) with h | h | h
    · exact absurd h h0
    · exact Or.inl (Or.inr ⟨h0, h⟩)
    · exact Or.inr h
theorem xk_name_o {post : Int32 → Prop} {v : Int32} (h : v < 0 ∨ ¬ v < 0 ∧ (64 : Int32) ≤ v) (K : post 0) : wpX_isName post v := by
  unfold wpX_isName
  rcases h with h | ⟨h, h2⟩
  · exact br_t h K
  · exact br_f h (br_t h2 K)
theorem xk_name_i {post : Int32 → Prop} {x : Nat} (h : x < 64) (K : post 1) : wpX_isName post (nI x) := by
  unfold wpX_isName
  exact br_f (nI_pos (by omega)) (br_f (nI_ge (b := 64) h (by decide)) K)
theorem jv_ix24 (v : Int32) : (v < 0 ∨ ¬ v < 0 ∧ (24 : Int32) ≤ v) ∨ ∃ x, x < 24 ∧ v = nI x := by
  by_cases h0 : v < 0
  · exact Or.inl (Or.inl h0)
  · rcases pk_ix v (n := 24) (by decide) with h | h | h
    · exact absurd h h0
    · exact Or.inl (Or.inr ⟨h0, h⟩)
    · exact Or.inr h
theorem xk_pos_o {post : Int32 → Prop} {v : Int32} (h : v < 0 ∨ ¬ v < 0 ∧ (24 : Int32) ≤ v) (K : post 0) : wpX_isPosition post v := by
  unfold wpX_isPosition
  rcases h with h | ⟨h, h2⟩
  · exact br_t h K
  · exact br_f h (br_t h2 K)
theorem xk_pos_i {post : Int32 → Prop} {x : Nat} (h : x < 24) (K : post 1) : wpX_isPosition post (nI x) := by
  unfold wpX_isPosition
  exact br_f (nI_pos (by omega)) (br_f (nI_ge (b := 24) h (by decide)) K)
theorem xk_hash {post : Int32 → Prop} {a : Nat} (h : a < 64) (K : post (nI (jv_hs a))) : wpX_hash post (nI a) := by
  unfold wpX_hash; rw [jv_hsX h]; exact K
theorem xk_named {post : Int32 → Prop} {x k : Nat} (hx : x < 16) (hk : k < 10) (K : post (aw (24 * x + 4 + 2 * k + 1))) : wpX_named post (xc, xr, xs, xg, xd, xm, xt, xw, xo, aw, ap, aa, av, ae, af, ab, al, an, aq) (nI x) (nI k) := by
  unfold wpX_named; dsimp only
  refine xk_base ?_
  rw [ad_e1, nI_clamp (by omega)]
  exact ⟨vp_in_nI (by omega) (by decide), K⟩
theorem xk_isFull {post : Int32 → Prop} {x n : Nat} (hx : x < 16) (hn : aw (24 * x + 2) = nI n) (hn2 : n ≤ 10) (K1 : n = 10 → post 1) (K0 : n ≠ 10 → post 0) : wpX_isFull post (xc, xr, xs, xg, xd, xm, xt, xw, xo, aw, ap, aa, av, ae, af, ab, al, an, aq) (nI x) := by
  unfold wpX_isFull; dsimp only
  refine xk_base ?_
  rw [ad_p2, nI_clamp (by omega), hn]
  exact ⟨vp_in_nI (by omega) (by decide), pk_eq n 10 K1 K0⟩
/-! the place of a name -/
theorem xk_seek_l {post : Int32 → Prop} {x n a : Nat} {N I : Nat → Nat} {f : Nat → Int32} (hx : x < 16) (ha : a < 64) (hW : jv_DW aw x n N I) (hF : jv_DF f n N I)
    (K1 : ∀ i, i < n → N i = a → post (nI i))
    (K0 : ∀ k, k ≤ n → (∀ i, i < k → jv_hs (N i) < jv_hs a) → (∀ i, k ≤ i → i < n → jv_hs a < jv_hs (N i)) → post (nI k - 100)) :
    ∀ fuel lo hi, hi - lo < fuel → lo ≤ hi → hi ≤ n → (∀ i, i < lo → jv_hs (N i) < jv_hs a) → (∀ i, hi ≤ i → i < n → jv_hs a < jv_hs (N i)) →
      wX_seek_24 post (nI (24 * x)) (nI (jv_hs a)) xc xr xs xg xd xm xt xw xo aw ap aa av ae af ab al an aq fuel (nI lo) (nI hi) := by
  intro fuel
  induction fuel with
  | zero => intro lo hi h; omega
  | succ fuel ih =>
    intro lo hi h1 h2 h3 h4 h5
    have hn := hF.1
    unfold wX_seek_24
    refine pk_le hi lo (fun h => ?_) (fun h => ?_)
    · have e : lo = hi := by omega
      subst e
      exact K0 lo h3 h4 h5
    · have em : (nI lo + nI hi) >>> ((1 : Int32) &&& 31) = nI ((lo + hi) / 2) := by
        rw [nI_add]; exact pk_shrN (by omega) _ 1 (by decide)
      refine nm_r em ?_
      have hmid : (lo + hi) / 2 < n := by omega
      obtain ⟨hw, _⟩ := hW.2 _ hmid
      obtain ⟨hN, _, _⟩ := hF.2.1 _ hmid
      rw [ad_e, nI_clamp (by omega), hw]
      refine ⟨vp_in_nI (by omega) (by decide), xk_hash hN ?_⟩
      have hb1 := jv_hs_lt (N ((lo + hi) / 2))
      have hb2 := jv_hs_lt a
      refine pk_eq (jv_hs (N ((lo + hi) / 2))) (jv_hs a) (fun e => ?_) (fun e => ?_)
      · exact K1 _ hmid (jv_hs_inj hN ha e)
      · refine pk_le (jv_hs a) (jv_hs (N ((lo + hi) / 2))) (fun g => ?_) (fun g => nm_r (nI_1 _) ?_)
        · refine ih lo ((lo + hi) / 2) (by omega) (by omega) (by omega) h4 (fun i hi1 hi2 => ?_)
          by_cases ei : i = (lo + hi) / 2
          · rw [ei]; omega
          · have := hF.2.2.1 _ i (show (lo + hi) / 2 < i by omega) hi2; omega
        · refine ih ((lo + hi) / 2 + 1) hi (by omega) (by omega) (by omega) (fun i hi1 => ?_) h5
          by_cases ei : i = (lo + hi) / 2
          · rw [ei]; omega
          · have := hF.2.2.1 i _ (show i < (lo + hi) / 2 by omega) hmid; omega
theorem xk_seek {post : Int32 → Prop} {x n a : Nat} {N I : Nat → Nat} {f : Nat → Int32} (hx : x < 16) (ha : a < 64) (hW : jv_DW aw x n N I) (hF : jv_DF f n N I)
    (K1 : ∀ i, i < n → N i = a → post (nI i))
    (K0 : ∀ k, k ≤ n → (∀ i, i < k → jv_hs (N i) < jv_hs a) → (∀ i, k ≤ i → i < n → jv_hs a < jv_hs (N i)) → post (nI k - 100)) :
    wpX_seek post (xc, xr, xs, xg, xd, xm, xt, xw, xo, aw, ap, aa, av, ae, af, ab, al, an, aq) (nI x) (nI a) := by
  unfold wpX_seek; dsimp only
  refine xk_base ?_
  rw [ad_p2, nI_clamp (by omega), hW.1]
  refine ⟨vp_in_nI (by omega) (by decide), nm_e (xk_hash ha ⟨n + 1, ?_⟩)⟩
  exact xk_seek_l hx ha hW hF K1 K0 (n + 1) 0 n (by omega) (by omega) (by omega) (fun i hi => by omega) (fun i h1 h2 => by omega)
end
end
section
/-! X: entries put in and taken out -/
theorem jv_pos {a : Nat} {N : Nat → Nat} : ∀ n : Nat, (∀ i j, i < j → j < n → jv_hs (N i) < jv_hs (N j)) → (∀ i, i < n → jv_hs (N i) ≠ jv_hs a) →
    ∃ k, k ≤ n ∧ (∀ i, i < k → jv_hs (N i) < jv_hs a) ∧ (∀ i, k ≤ i → i < n → jv_hs a < jv_hs (N i)) := by
  intro n
  induction n with
  | zero => intro _ _; exact ⟨0, Nat.le_refl 0, fun i hi => by omega, fun i h1 h2 => by omega⟩
  | succ n ih =>
    intro hs hn
    obtain ⟨k, h1, h2, h3⟩ := ih (fun i j h1 h2 => hs i j h1 (by omega)) (fun i hi => hn i (by omega))
    by_cases e : k = n
    · subst e
      by_cases g : jv_hs (N k) < jv_hs a
      · refine ⟨k + 1, Nat.le_refl _, fun i hi => ?_, fun i h1 h2 => by omega⟩
        by_cases ei : i = k
        · rw [ei]; exact g
        · exact h2 i (by omega)
      · refine ⟨k, by omega, h2, fun i h4 h5 => ?_⟩
        have ei : i = k := by omega
        have := hn k (by omega)
        rw [ei]; omega
    · refine ⟨k, by omega, h2, fun i h4 h5 => ?_⟩
      by_cases ei : i = n
      · have g1 := h3 k (Nat.le_refl k) (by omega)
        have g2 := hs k n (by omega) (by omega)
        rw [ei]; omega
      · exact h3 i h4 (by omega)
section
variable {xc xr xs xg xd xm xt xw xo : Int32} {aw ap aa av ae af ab al an aq : Nat → Int32}
theorem xk_ins_l {x n k a y : Nat} {N I : Nat → Nat} {w0 : Nat → Int32} (hx : x < 16) (hn : n ≤ 9) (hk : k ≤ n) : ∀ (d j : Nat) (w : Nat → Int32), j = k + d → j ≤ n →
    (∀ i, i < j → w (24 * x + 4 + 2 * i) = nI (N i) ∧ w (24 * x + 4 + 2 * i + 1) = nI (I i)) →
    (∀ i, j < i → i ≤ n → w (24 * x + 4 + 2 * i) = nI (N (i - 1)) ∧ w (24 * x + 4 + 2 * i + 1) = nI (I (i - 1))) → jv_Fr x w0 w →
    ∃ w', jv_DW w' x (n + 1) (jv_ins N k a) (jv_ins I k y) ∧ jv_Fr x w0 w' ∧
      ∀ (post : SX → Prop) (A0 V0 : Nat → Int32) (m0 c fuel : Nat) (aa av : Nat → Int32) (m : Nat), d < fuel → c + 2 * d + 3 ≤ 58 → jv_J xg A0 V0 ap m0 c w aa av m →
        (∀ aa' av' m', jv_J xg A0 V0 ap m0 (c + 2 * d + 3) w' aa' av' m' → post (nI m', xr, xs, xg, xd, xm, xt, xw, xo, w', ap, aa', av', ae, af, ab, al, an, aq)) →
        wX_insert_32 post (nI a) (nI y) (nI (24 * x)) (nI k) (nI n) fuel (nI j) (nI m) xr xs xg xd xm xt xw xo w ap aa av ae af ab al an aq := by
  intro d
  induction d with
  | zero =>
    intro j w hj hjn hlo hhi hF
    refine ⟨upd (upd (upd w (24 * x + 4 + 2 * k) (nI a)) (24 * x + 4 + 2 * k + 1) (nI y)) (24 * x + 2) (nI (n + 1)), ⟨pk_us, fun i hi => ?_⟩, ?_, ?_⟩
    · by_cases h1 : i < k
      · rw [jv_ins_lt h1, jv_ins_lt h1]
        have := hlo i (by omega)
        exact ⟨by rw [pk_un (by omega), pk_un (by omega), pk_un (by omega)]; exact this.1, by rw [pk_un (by omega), pk_un (by omega), pk_un (by omega)]; exact this.2⟩
      · by_cases h2 : i = k
        · subst h2
          rw [jv_ins_eq, jv_ins_eq]
          exact ⟨by rw [pk_un (by omega), pk_un (by omega), pk_us], by rw [pk_un (by omega), pk_us]⟩
        · rw [jv_ins_gt (by omega), jv_ins_gt (by omega)]
          have := hhi i (by omega) (by omega)
          exact ⟨by rw [pk_un (by omega), pk_un (by omega), pk_un (by omega)]; exact this.1, by rw [pk_un (by omega), pk_un (by omega), pk_un (by omega)]; exact this.2⟩
    · exact jv_Fr_u (jv_Fr_u (jv_Fr_u hF (by omega) (by omega) (by omega)) (by omega) (by omega) (by omega)) (by omega) (by omega) (by omega)
    · intro post A0 V0 m0 c fuel aa av m hf hc J K
      obtain ⟨fuel, rfl⟩ : ∃ g, fuel = g + 1 := ⟨fuel - 1, by omega⟩
      rw [wX_insert_32]
      refine pk_le j k (fun _ => ?_) (fun h => absurd h (by omega))
      rw [ad_e1, ad_e, ad_p2, ad_p1]
      refine xk_put rfl (by omega) (by omega) J (fun aa1 av1 m1 J1 => ?_)
      refine xk_put rfl (by omega) (by omega) J1 (fun aa2 av2 m2 J2 => ?_)
      refine xk_put rfl (by omega) (by omega) J2 (fun aa3 av3 m3 J3 => ?_)
      exact K aa3 av3 m3 (jv_J_up J3 (by omega))
  | succ d ih =>
    intro j w hj hjn hlo hhi hF
    obtain ⟨j, rfl⟩ : ∃ g, j = g + 1 := ⟨j - 1, by omega⟩
    have hl := hlo j (by omega)
    have e1 : upd w (24 * x + 4 + 2 * (j + 1)) (w (24 * x + 4 + 2 * j)) (24 * x + 4 + 2 * j + 1) = nI (I j) := by rw [pk_un (by omega)]; exact hl.2
    obtain ⟨w', hD, hR, hW⟩ := ih j (upd (upd w (24 * x + 4 + 2 * (j + 1)) (w (24 * x + 4 + 2 * j))) (24 * x + 4 + 2 * (j + 1) + 1) (upd w (24 * x + 4 + 2 * (j + 1)) (w (24 * x + 4 + 2 * j)) (24 * x + 4 + 2 * j + 1))) (by omega) (by omega)
      (fun i hi => by
        have := hlo i (by omega)
        exact ⟨by rw [pk_un (by omega), pk_un (by omega)]; exact this.1, by rw [pk_un (by omega), pk_un (by omega)]; exact this.2⟩)
      (fun i hi hi2 => by
        by_cases ei : i = j + 1
        · subst ei
          exact ⟨by rw [pk_un (by omega), pk_us]; exact hl.1, by rw [pk_us]; exact e1⟩
        · have := hhi i (by omega) (by omega)
          exact ⟨by rw [pk_un (by omega), pk_un (by omega)]; exact this.1, by rw [pk_un (by omega), pk_un (by omega)]; exact this.2⟩)
      (jv_Fr_u (jv_Fr_u hF (by omega) (by omega) (by omega)) (by omega) (by omega) (by omega))
    refine ⟨w', hD, hR, ?_⟩
    intro post A0 V0 m0 c fuel aa av m hf hc J K
    obtain ⟨fuel, rfl⟩ : ∃ g, fuel = g + 1 := ⟨fuel - 1, by omega⟩
    rw [wX_insert_32]
    refine pk_le (j + 1) k (fun h => absurd h (by omega)) (fun _ => ?_)
    rw [ad_m2, ad_m1, ad_e1, ad_e, nI_clamp (by omega), nI_clamp (by omega), pk_m1]
    refine ⟨vp_in_nI (by omega) (by decide), ?_⟩
    refine xk_put rfl (by omega) (by omega) J (fun aa1 av1 m1 J1 => ?_)
    refine ⟨vp_in_nI (by omega) (by decide), ?_⟩
    refine xk_put rfl (by omega) (by omega) J1 (fun aa2 av2 m2 J2 => ?_)
    refine nm_e ?_
    exact hW post A0 V0 m0 (c + 1 + 1) fuel aa2 av2 m2 (by omega) (by omega) J2 (fun aa3 av3 m3 J3 => K aa3 av3 m3 (jv_J_up J3 (by omega)))
theorem xk_insert {x n a y : Nat} {N I : Nat → Nat} {f : Nat → Int32} (hx : x < 16) (hn : n ≤ 9) (ha : a < 64) (hW : jv_DW aw x n N I) (hF : jv_DF f n N I) (hno : ∀ i, i < n → N i ≠ a) :
    ∃ w' k, k ≤ n ∧ (∀ i, i < k → jv_hs (N i) < jv_hs a) ∧ (∀ i, k ≤ i → i < n → jv_hs a < jv_hs (N i)) ∧
      jv_DW w' x (n + 1) (jv_ins N k a) (jv_ins I k y) ∧ jv_Fr x aw w' ∧
      ∀ (post : SX → Prop) (A0 V0 : Nat → Int32) (m0 c : Nat) (aa av : Nat → Int32) (m : Nat), c + 21 ≤ 58 → jv_J xg A0 V0 ap m0 c aw aa av m →
        (∀ aa' av' m', jv_J xg A0 V0 ap m0 (c + 21) w' aa' av' m' → post (nI m', xr, xs, xg, xd, xm, xt, xw, xo, w', ap, aa', av', ae, af, ab, al, an, aq)) →
        wpX_insert post (nI m, xr, xs, xg, xd, xm, xt, xw, xo, aw, ap, aa, av, ae, af, ab, al, an, aq) (nI x) (nI a) (nI y) := by
  obtain ⟨k, hk, h1, h2⟩ := jv_pos (a := a) (N := N) n hF.2.2.1 (fun i hi e => hno i hi (jv_hs_inj (hF.2.1 i hi).1 ha e))
  obtain ⟨w', hD, hR, hw⟩ := xk_ins_l (xr := xr) (xs := xs) (xg := xg) (xd := xd) (xm := xm) (xt := xt) (xw := xw) (xo := xo) (ap := ap) (ae := ae) (af := af) (ab := ab) (al := al) (an := an) (aq := aq) (a := a) (y := y) hx hn hk (n - k) n aw (by omega) (Nat.le_refl n) hW.2 (fun i h3 h4 => by omega) jv_Fr_rf
  refine ⟨w', k, hk, h1, h2, hD, hR, ?_⟩
  intro post A0 V0 m0 c aa av m hc J K
  unfold wpX_insert; dsimp only
  refine xk_base ?_
  refine xk_seek hx ha hW hF (fun i hi e => absurd e (hno i hi)) (fun k' hk' g1 g2 => ?_)
  have ek : k' = k := by
    rcases Nat.lt_trichotomy k k' with h | h | h
    · have := g1 k h; have := h2 k (Nat.le_refl k) (by omega); omega
    · exact h.symm
    · have := h1 k' h; have := g2 k' (Nat.le_refl k') (by omega); omega
  subst ek
  refine nm_r (Int32.sub_add_cancel _ _) ?_
  rw [ad_p2, nI_clamp (by omega), hW.1]
  refine ⟨vp_in_nI (by omega) (by decide), nm_e ⟨n - k' + 1, ?_⟩⟩
  exact hw post A0 V0 m0 c (n - k' + 1) aa av m (by omega) (by omega) J (fun aa3 av3 m3 J3 => K aa3 av3 m3 (jv_J_up J3 (by omega)))
theorem xk_ext_l {x n k : Nat} {N I : Nat → Nat} {w0 : Nat → Int32} (hx : x < 16) (hn : n ≤ 9) : ∀ (d j : Nat) (w : Nat → Int32), j + d = n → k ≤ j →
    (∀ i, i < j → w (24 * x + 4 + 2 * i) = nI (jv_del N k i) ∧ w (24 * x + 4 + 2 * i + 1) = nI (jv_del I k i)) →
    (∀ i, j ≤ i → i < n + 1 → k ≤ i → w (24 * x + 4 + 2 * i) = nI (N i) ∧ w (24 * x + 4 + 2 * i + 1) = nI (I i)) → jv_Fr x w0 w →
    ∃ w', jv_DW w' x n (jv_del N k) (jv_del I k) ∧ jv_Fr x w0 w' ∧
      ∀ (post : SX → Prop) (A0 V0 : Nat → Int32) (m0 c fuel : Nat) (aa av : Nat → Int32) (m : Nat), d < fuel → c + 2 * d + 1 ≤ 58 → jv_J xg A0 V0 ap m0 c w aa av m →
        (∀ aa' av' m', jv_J xg A0 V0 ap m0 (c + 2 * d + 1) w' aa' av' m' → post (nI m', xr, xs, xg, xd, xm, xt, xw, xo, w', ap, aa', av', ae, af, ab, al, an, aq)) →
        wX_extract_20 post (nI (24 * x)) (nI n) fuel (nI j) (nI m) xr xs xg xd xm xt xw xo w ap aa av ae af ab al an aq := by
  intro d
  induction d with
  | zero =>
    intro j w hj hkj hlo hhi hF
    refine ⟨upd w (24 * x + 2) (nI n), ⟨pk_us, fun i hi => ?_⟩, ?_, ?_⟩
    · have := hlo i (by omega)
      exact ⟨by rw [pk_un (by omega)]; exact this.1, by rw [pk_un (by omega)]; exact this.2⟩
    · exact jv_Fr_u hF (by omega) (by omega) (by omega)
    · intro post A0 V0 m0 c fuel aa av m hf hc J K
      obtain ⟨fuel, rfl⟩ : ∃ g, fuel = g + 1 := ⟨fuel - 1, by omega⟩
      rw [wX_extract_20]
      refine pk_le n j (fun _ => ?_) (fun h => absurd h (by omega))
      rw [ad_p2]
      refine xk_put rfl (by omega) (by omega) J (fun aa1 av1 m1 J1 => ?_)
      exact K aa1 av1 m1 (jv_J_up J1 (by omega))
  | succ d ih =>
    intro j w hj hkj hlo hhi hF
    have hl := hhi (j + 1) (by omega) (by omega) (by omega)
    have ea : 24 * x + 4 + 2 * (j + 1) = 24 * x + 4 + 2 * j + 2 := by omega
    have eb : 24 * x + 4 + 2 * (j + 1) + 1 = 24 * x + 4 + 2 * j + 3 := by omega
    rw [eb, ea] at hl
    obtain ⟨w', hD, hR, hW⟩ := ih (j + 1) (upd (upd w (24 * x + 4 + 2 * j) (w (24 * x + 4 + 2 * j + 2))) (24 * x + 4 + 2 * j + 1) (upd w (24 * x + 4 + 2 * j) (w (24 * x + 4 + 2 * j + 2)) (24 * x + 4 + 2 * j + 3))) (by omega) (by omega)
      (fun i hi => by
        by_cases ei : i = j
        · subst ei
          rw [jv_del_ge hkj, jv_del_ge hkj]
          exact ⟨by rw [pk_un (by omega), pk_us]; exact hl.1, by rw [pk_us, pk_un (by omega)]; exact hl.2⟩
        · have := hlo i (by omega)
          exact ⟨by rw [pk_un (by omega), pk_un (by omega)]; exact this.1, by rw [pk_un (by omega), pk_un (by omega)]; exact this.2⟩)
      (fun i hi hi2 hi3 => by
        have := hhi i (by omega) (by omega) hi3
        exact ⟨by rw [pk_un (by omega), pk_un (by omega)]; exact this.1, by rw [pk_un (by omega), pk_un (by omega)]; exact this.2⟩)
      (jv_Fr_u (jv_Fr_u hF (by omega) (by omega) (by omega)) (by omega) (by omega) (by omega))
    refine ⟨w', hD, hR, ?_⟩
    intro post A0 V0 m0 c fuel aa av m hf hc J K
    obtain ⟨fuel, rfl⟩ : ∃ g, fuel = g + 1 := ⟨fuel - 1, by omega⟩
    rw [wX_extract_20]
    refine pk_le n j (fun h => absurd h (by omega)) (fun _ => ?_)
    rw [ad_e3, ad_e2, ad_e1, ad_e, nI_clamp (by omega), nI_clamp (by omega), nI_1]
    refine ⟨vp_in_nI (by omega) (by decide), ?_⟩
    refine xk_put rfl (by omega) (by omega) J (fun aa1 av1 m1 J1 => ?_)
    refine ⟨vp_in_nI (by omega) (by decide), ?_⟩
    refine xk_put rfl (by omega) (by omega) J1 (fun aa2 av2 m2 J2 => ?_)
    refine nm_e ?_
    exact hW post A0 V0 m0 (c + 1 + 1) fuel aa2 av2 m2 (by omega) (by omega) J2 (fun aa3 av3 m3 J3 => K aa3 av3 m3 (jv_J_up J3 (by omega)))
theorem xk_extract {x n k : Nat} {N I : Nat → Nat} (hx : x < 16) (hn : n ≤ 10) (hk : k < n) (hW : jv_DW aw x n N I) :
    ∃ w', jv_DW w' x (n - 1) (jv_del N k) (jv_del I k) ∧ jv_Fr x aw w' ∧
      ∀ (post : SX → Prop) (A0 V0 : Nat → Int32) (m0 c : Nat) (aa av : Nat → Int32) (m : Nat), c + 19 ≤ 58 → jv_J xg A0 V0 ap m0 c aw aa av m →
        (∀ aa' av' m', jv_J xg A0 V0 ap m0 (c + 19) w' aa' av' m' → post (nI m', xr, xs, xg, xd, xm, xt, xw, xo, w', ap, aa', av', ae, af, ab, al, an, aq)) →
        wpX_extract post (nI m, xr, xs, xg, xd, xm, xt, xw, xo, aw, ap, aa, av, ae, af, ab, al, an, aq) (nI x) (nI k) := by
  obtain ⟨w', hD, hR, hw⟩ := xk_ext_l (xr := xr) (xs := xs) (xg := xg) (xd := xd) (xm := xm) (xt := xt) (xw := xw) (xo := xo) (ap := ap) (ae := ae) (af := af) (ab := ab) (al := al) (an := an) (aq := aq) (n := n - 1) (k := k) (N := N) (I := I) hx (by omega) (n - 1 - k) k aw (by omega) (Nat.le_refl k)
    (fun i hi => by rw [jv_del_lt hi, jv_del_lt hi]; exact hW.2 i (by omega)) (fun i h3 h4 _ => hW.2 i (by omega)) jv_Fr_rf
  refine ⟨w', hD, hR, ?_⟩
  intro post A0 V0 m0 c aa av m hc J K
  unfold wpX_extract; dsimp only
  refine xk_base ?_
  rw [ad_p2, nI_clamp (by omega), hW.1]
  refine ⟨vp_in_nI (by omega) (by decide), nm_r (e' := nI (n - 1)) (pk_sub (a := n) (b := 1) (by omega)) ⟨n - 1 - k + 1, ?_⟩⟩
  exact hw post A0 V0 m0 c (n - 1 - k + 1) aa av m (by omega) (by omega) J (fun aa3 av3 m3 J3 => K aa3 av3 m3 (jv_J_up J3 (by omega)))
end
/-! the same on the table by names -/
theorem jv_DF_ins {f : Nat → Int32} {n k a y : Nat} {N I : Nat → Nat} (hF : jv_DF f n N I) (hn : n ≤ 9) (ha : a < 64) (hy : y < 16) (hk : k ≤ n)
    (h1 : ∀ i, i < k → jv_hs (N i) < jv_hs a) (h2 : ∀ i, k ≤ i → i < n → jv_hs a < jv_hs (N i)) : jv_DF (upd f a (nI y)) (n + 1) (jv_ins N k a) (jv_ins I k y) := by
  obtain ⟨_, hE, hS, hO⟩ := hF
  refine ⟨by omega, fun i hi => ?_, fun i j hij hj => ?_, fun b hb hnb => ?_⟩
  · rcases Nat.lt_trichotomy i k with h | h | h
    · rw [jv_ins_lt h, jv_ins_lt h]
      obtain ⟨e1, e2, e3⟩ := hE i (by omega)
      refine ⟨e1, e2, ?_⟩
      rw [pk_un (fun e => ?_)]
      · exact e3
      · have := h1 i h; rw [e] at this; omega
    · subst h
      rw [jv_ins_eq, jv_ins_eq]
      exact ⟨ha, hy, pk_us⟩
    · rw [jv_ins_gt h, jv_ins_gt h]
      obtain ⟨e1, e2, e3⟩ := hE (i - 1) (by omega)
      refine ⟨e1, e2, ?_⟩
      rw [pk_un (fun e => ?_)]
      · exact e3
      · have := h2 (i - 1) (by omega) (by omega); rw [e] at this; omega
  · rcases Nat.lt_trichotomy j k with h | h | h
    · rw [jv_ins_lt h, jv_ins_lt (show i < k by omega)]; exact hS i j hij (by omega)
    · subst h
      rw [jv_ins_eq, jv_ins_lt hij]; exact h1 i hij
    · rw [jv_ins_gt h]
      rcases Nat.lt_trichotomy i k with g | g | g
      · rw [jv_ins_lt g]
        by_cases e : i = j - 1
        · omega
        · exact hS i (j - 1) (by omega) (by omega)
      · subst g; rw [jv_ins_eq]; exact h2 (j - 1) (by omega) (by omega)
      · rw [jv_ins_gt g]; exact hS (i - 1) (j - 1) (by omega) (by omega)
  · have hab : b ≠ a := fun e => by
      have := hnb k (by omega); rw [jv_ins_eq] at this; exact this e.symm
    rw [pk_un hab]
    refine hO b hb (fun i hi e => ?_)
    by_cases h : i < k
    · have := hnb i (by omega); rw [jv_ins_lt h] at this; exact this e
    · have := hnb (i + 1) (by omega); rw [jv_ins_gt (by omega), Nat.add_sub_cancel] at this; exact this e
theorem jv_DF_del {f : Nat → Int32} {n k : Nat} {N I : Nat → Nat} (hF : jv_DF f n N I) (hk : k < n) : jv_DF (upd f (N k) (-1)) (n - 1) (jv_del N k) (jv_del I k) := by
  obtain ⟨hn, hE, hS, hO⟩ := hF
  refine ⟨by omega, fun i hi => ?_, fun i j hij hj => ?_, fun b hb hnb => ?_⟩
  · by_cases h : i < k
    · rw [jv_del_lt h, jv_del_lt h]
      obtain ⟨e1, e2, e3⟩ := hE i (by omega)
      refine ⟨e1, e2, ?_⟩
      rw [pk_un (fun e => ?_)]
      · exact e3
      · have := hS i k h hk; rw [e] at this; omega
    · rw [jv_del_ge (by omega), jv_del_ge (by omega)]
      obtain ⟨e1, e2, e3⟩ := hE (i + 1) (by omega)
      refine ⟨e1, e2, ?_⟩
      rw [pk_un (fun e => ?_)]
      · exact e3
      · have := hS k (i + 1) (by omega) (by omega); rw [e] at this; omega
  · by_cases h : j < k
    · rw [jv_del_lt h, jv_del_lt (show i < k by omega)]; exact hS i j hij (by omega)
    · rw [jv_del_ge (show k ≤ j by omega)]
      by_cases g : i < k
      · rw [jv_del_lt g]; exact hS i (j + 1) (by omega) (by omega)
      · rw [jv_del_ge (show k ≤ i by omega)]; exact hS (i + 1) (j + 1) (by omega) (by omega)
  · by_cases e : b = N k
    · rw [e, pk_us]
    · rw [pk_un e]
      refine hO b hb (fun i hi e2 => ?_)
      rcases Nat.lt_trichotomy i k with h | h | h
      · have := hnb i (by omega); rw [jv_del_lt h] at this; exact this e2
      · rw [h] at e2; exact e e2.symm
      · have := hnb (i - 1) (by omega); rw [jv_del_ge (by omega), show i - 1 + 1 = i by omega] at this; exact this e2
/-- the count of a directory's names -/
theorem jv_DF_ct {f : Nat → Int32} {n : Nat} {N I : Nat → Nat} (hF : jv_DF f n N I) (p : Nat → Bool) (hp : ∀ a, a < 64 → f a = -1 → p a = false) :
    jv_ct p 64 = jv_ct (fun i => p (N i)) n := by
  obtain ⟨hn, hE, hS, hO⟩ := hF
  refine jv_ct_rx n p (fun i hi => (hE i hi).1) (fun i j h1 h2 e => ?_) (fun a ha hpa => ?_)
  · have := hS i j h1 h2; rw [e] at this; omega
  · by_cases g : ∃ i, i < n ∧ N i = a
    · exact g
    · have := hp a ha (hO a ha (fun i hi e => g ⟨i, hi, e⟩))
      rw [this] at hpa; exact absurd hpa (by decide)
end
section
/-! extents as plain rows: one more at the end, one made longer; their joined form; the count of those that begin -/
def jv_up (N : Nat → Nat) (n v : Nat) : Nat → Nat := fun i => if i = n then v else N i
theorem jv_up_s {N : Nat → Nat} {n v : Nat} : jv_up N n v n = v := if_pos rfl
theorem jv_up_n {N : Nat → Nat} {n v i : Nat} (h : i ≠ n) : jv_up N n v i = N i := if_neg h
theorem jv_Ex_cg {f g : Nat → Int32} {n : Nat} {P B L : Nat → Nat} (h : jv_Ex f n P B L) (e : ∀ p, p < 24 → g p = f p) : jv_Ex g n P B L := by
  obtain ⟨h0, h1, h2, h3⟩ := h
  refine ⟨h0, h1, fun i hi d hd => ?_, fun p hp hn => ?_⟩
  · have := h0.1 i hi
    rw [e _ (by omega)]; exact h2 i hi d hd
  · rw [e p hp]; exact h3 p hp hn
theorem jv_EF_cg {f g : Nat → Int32} {n : Nat} {P B L : Nat → Nat} (h0 : jv_E0 n P B L) (h : jv_EF f n P B L) (e : ∀ p, p < 24 → g p = f p) : jv_EF g n P B L := by
  obtain ⟨h2, h3⟩ := h
  refine ⟨fun i hi d hd => ?_, fun p hp hn => ?_⟩
  · have := h0.1 i hi
    rw [e _ (by omega)]; exact h2 i hi d hd
  · rw [e p hp]; exact h3 p hp hn
/-- where a position lies -/
theorem jv_Ex_at {n : Nat} {P L : Nat → Nat} (p : Nat) : (∃ i, i < n ∧ P i ≤ p ∧ p < P i + L i) ∨ (∀ i, i < n → ¬ (P i ≤ p ∧ p < P i + L i)) := by
  by_cases h : ∃ i, i < n ∧ P i ≤ p ∧ p < P i + L i
  · exact Or.inl h
  · exact Or.inr (fun i hi hh => h ⟨i, hi, hh⟩)
theorem jv_EF_in {f : Nat → Int32} {n : Nat} {P B L : Nat → Nat} (h : jv_EF f n P B L) {i p : Nat} (hi : i < n) (h1 : P i ≤ p) (h2 : p < P i + L i) : f p = nI (B i + (p - P i)) := by
  have := h.1 i hi (p - P i) (by omega)
  rw [show P i + (p - P i) = p by omega] at this
  exact this
/-- a position has a block below 64, or none -/
theorem jv_EF_v {f : Nat → Int32} {n : Nat} {P B L : Nat → Nat} (h0 : jv_E0 n P B L) (h : jv_EF f n P B L) {p : Nat} (hp : p < 24) : (∃ b, b < 64 ∧ f p = nI b) ∨ f p = -1 := by
  rcases jv_Ex_at (n := n) (P := P) (L := L) p with ⟨i, hi, h1, h2⟩ | hn
  · have := h0.1 i hi
    exact Or.inl ⟨B i + (p - P i), by omega, jv_EF_in h hi h1 h2⟩
  · exact Or.inr (h.2 p hp hn)
/-- a new one at the end -/
theorem jv_E0_new {n p0 b0 l0 : Nat} {P B L : Nat → Nat} (h : jv_E0 n P B L) (he : ∀ i, i < n → P i + L i ≤ p0) (h1 : 1 ≤ l0) (h2 : p0 + l0 ≤ 24) (h3 : b0 + l0 ≤ 64) :
    jv_E0 (n + 1) (jv_up P n p0) (jv_up B n b0) (jv_up L n l0) := by
  refine ⟨fun i hi => ?_, fun i j hij hj => ?_⟩
  · by_cases e : i = n
    · rw [e, jv_up_s, jv_up_s, jv_up_s]; exact ⟨h1, h2, h3⟩
    · rw [jv_up_n e, jv_up_n e, jv_up_n e]; exact h.1 i (by omega)
  · rw [jv_up_n (show i ≠ n by omega), jv_up_n (show i ≠ n by omega)]
    by_cases e : j = n
    · rw [e, jv_up_s]; exact he i (by omega)
    · rw [jv_up_n e]; exact h.2 i j hij (by omega)
theorem jv_EF_new {f f' : Nat → Int32} {n p0 b0 l0 : Nat} {P B L : Nat → Nat} (h0 : jv_E0 n P B L) (h : jv_EF f n P B L) (he : ∀ i, i < n → P i + L i ≤ p0)
    (h4 : ∀ d, d < l0 → f' (p0 + d) = nI (b0 + d)) (h5 : ∀ p, p < 24 → (p < p0 ∨ p0 + l0 ≤ p) → f' p = f p) :
    jv_EF f' (n + 1) (jv_up P n p0) (jv_up B n b0) (jv_up L n l0) := by
  refine ⟨fun i hi d hd => ?_, fun p hp hn => ?_⟩
  · by_cases e : i = n
    · subst e
      rw [jv_up_s] at hd
      rw [jv_up_s, jv_up_s]
      exact h4 d hd
    · rw [jv_up_n e] at hd
      rw [jv_up_n e, jv_up_n e]
      have a1 := he i (by omega)
      have a2 := h0.1 i (by omega)
      rw [h5 (P i + d) (by omega) (by omega)]
      exact h.1 i (by omega) d hd
  · have hh := hn n (by omega)
    rw [jv_up_s, jv_up_s] at hh
    rw [h5 p hp (by omega)]
    refine h.2 p hp (fun i hi => ?_)
    have := hn i (by omega)
    rw [jv_up_n (show i ≠ n by omega), jv_up_n (show i ≠ n by omega)] at this
    exact this
theorem jv_Ex_new {f f' : Nat → Int32} {n p0 b0 l0 : Nat} {P B L : Nat → Nat} (h : jv_Ex f n P B L) (he : ∀ i, i < n → P i + L i ≤ p0) (h1 : 1 ≤ l0) (h2 : p0 + l0 ≤ 24) (h3 : b0 + l0 ≤ 64)
    (hm : ∀ m, n = m + 1 → ¬ (P m + L m = p0 ∧ B m + L m = b0))
    (h4 : ∀ d, d < l0 → f' (p0 + d) = nI (b0 + d)) (h5 : ∀ p, p < 24 → (p < p0 ∨ p0 + l0 ≤ p) → f' p = f p) :
    jv_Ex f' (n + 1) (jv_up P n p0) (jv_up B n b0) (jv_up L n l0) := by
  refine ⟨jv_E0_new h.1 he h1 h2 h3, fun i hi => ?_, jv_EF_new h.1 h.2.2 he h4 h5⟩
  rw [jv_up_n (show i ≠ n by omega), jv_up_n (show i ≠ n by omega), jv_up_n (show i ≠ n by omega)]
  by_cases e : i + 1 = n
  · rw [e, jv_up_s, jv_up_s]; exact hm i e.symm
  · rw [jv_up_n e, jv_up_n e]; exact h.2.1 i (by omega)
/-- the last one made longer -/
theorem jv_Ex_long {f f' : Nat → Int32} {m p0 b0 l0 : Nat} {P B L : Nat → Nat} (h : jv_Ex f (m + 1) P B L) (hp : P m + L m = p0) (hb : B m + L m = b0) (h2 : p0 + l0 ≤ 24) (h3 : b0 + l0 ≤ 64)
    (h4 : ∀ d, d < l0 → f' (p0 + d) = nI (b0 + d)) (h5 : ∀ p, p < 24 → (p < p0 ∨ p0 + l0 ≤ p) → f' p = f p) :
    jv_Ex f' (m + 1) P B (jv_up L m (L m + l0)) := by
  obtain ⟨⟨g1, g2⟩, g3, g4, g5⟩ := h
  have gm := g1 m (by omega)
  refine ⟨⟨fun i hi => ?_, fun i j hij hj => ?_⟩, fun i hi => ?_, fun i hi d hd => ?_, fun p hq hn => ?_⟩
  · by_cases e : i = m
    · rw [e, jv_up_s]; omega
    · rw [jv_up_n e]; exact g1 i hi
  · rw [jv_up_n (show i ≠ m by omega)]; exact g2 i j hij hj
  · rw [jv_up_n (show i ≠ m by omega)]; exact g3 i hi
  · by_cases e : i = m
    · rw [e, jv_up_s] at hd
      rw [e]
      by_cases hd2 : d < L m
      · rw [h5 (P m + d) (by omega) (by omega)]; exact g4 m (by omega) d hd2
      · have := h4 (d - L m) (by omega)
        rw [show p0 + (d - L m) = P m + d by omega, show b0 + (d - L m) = B m + d by omega] at this
        exact this
    · rw [jv_up_n e] at hd
      have a1 := g2 i m (by omega) (by omega)
      rw [h5 (P i + d) (by omega) (by omega)]; exact g4 i hi d hd
  · have hh := hn m (by omega)
    rw [jv_up_s] at hh
    rw [h5 p hq (by omega)]
    refine g5 p hq (fun i hi => ?_)
    by_cases e : i = m
    · rw [e]; omega
    · have := hn i hi; rw [jv_up_n e] at this; exact this
/-- none yet -/
theorem jv_Ex_nil {f : Nat → Int32} {P B L : Nat → Nat} (h : ∀ p, p < 24 → f p = -1) : jv_Ex f 0 P B L :=
  ⟨⟨fun i hi => by omega, fun i j _ hj => by omega⟩, fun i hi => by omega, fun i hi => by omega, fun p hp _ => h p hp⟩
/-- an extent begins at a position -/
def jv_bg (f : Nat → Int32) (p : Nat) : Bool := decide (¬ f p < 0 ∧ (p = 0 ∨ f (p - 1) < 0 ∨ ¬ f (p - 1) + 1 = f p))
theorem jv_Ex_bg {f : Nat → Int32} {n : Nat} {P B L : Nat → Nat} (h : jv_Ex f n P B L) {p : Nat} (hp : p < 24) : jv_bg f p = true ↔ ∃ i, i < n ∧ P i = p := by
  obtain ⟨⟨g1, g2⟩, g3, gF⟩ := h
  unfold jv_bg
  rw [decide_eq_true_iff]
  constructor
  · rintro ⟨h1, h2⟩
    rcases jv_Ex_at (n := n) (P := P) (L := L) p with ⟨i, hi, a1, a2⟩ | hn
    · refine ⟨i, hi, ?_⟩
      by_cases e : P i = p
      · exact e
      · exfalso
        have b1 := g1 i hi
        have e1 := jv_EF_in gF hi a1 a2
        have e2 := jv_EF_in gF hi (show P i ≤ p - 1 by omega) (show p - 1 < P i + L i by omega)
        rcases h2 with h2 | h2 | h2
        · omega
        · rw [e2] at h2; exact nI_pos (by omega) h2
        · apply h2
          rw [e1, e2, nI_1]
          exact congrArg nI (by omega)
    · rw [gF.2 p hp hn] at h1; exact absurd jv_m1neg h1
  · rintro ⟨i, hi, rfl⟩
    have b1 := g1 i hi
    have e1 := jv_EF_in gF hi (Nat.le_refl (P i)) (show P i < P i + L i by omega)
    refine ⟨by rw [e1]; exact nI_pos (by omega), ?_⟩
    by_cases z : P i = 0
    · exact Or.inl z
    · right
      rcases jv_Ex_at (n := n) (P := P) (L := L) (P i - 1) with ⟨j, hj, a1, a2⟩ | hn
      · right
        have hji : j < i := by
          rcases Nat.lt_trichotomy j i with h | h | h
          · exact h
          · rw [h] at a1; omega
          · have := g2 i j h hj; omega
        have b2 := g2 j i hji hi
        have b3 := g1 j hj
        have ej : i = j + 1 := by
          by_cases e : i = j + 1
          · exact e
          · have c1 := g2 j (j + 1) (by omega) (by omega)
            have c2 := g1 (j + 1) (by omega)
            have c3 := g2 (j + 1) i (by omega) hi
            omega
        have e2 := jv_EF_in gF hj a1 a2
        rw [e1, e2, nI_1]
        intro e
        rw [nI_eq (by omega) (by omega)] at e
        have c4 := g3 j (by omega)
        rw [← ej] at c4
        omega
      · left; rw [gF.2 _ (by omega) hn]; exact jv_m1neg
theorem jv_Ex_inj {n : Nat} {P B L : Nat → Nat} (h : jv_E0 n P B L) {i j : Nat} (hij : i < j) (hj : j < n) : P i < P j := by
  have h1 := h.1 i (by omega)
  have h2 := h.2 i j hij hj
  omega
theorem jv_Ex_ct {f : Nat → Int32} {n : Nat} {P B L : Nat → Nat} (h : jv_Ex f n P B L) : jv_ct (jv_bg f) 24 = n := by
  rw [jv_ct_rx (N := P) n (jv_bg f) (fun i hi => by have := h.1.1 i hi; omega) (fun i j h1 h2 e => by have := jv_Ex_inj h.1 h1 h2; omega)
    (fun a ha hb => (jv_Ex_bg h ha).mp hb)]
  exact jv_ct_all n (fun i hi => (jv_Ex_bg h (by have := h.1.1 i hi; omega)).mpr ⟨i, hi, rfl⟩)
/-- the k-th beginning is at P k -/
theorem jv_Ex_cb {f : Nat → Int32} {n : Nat} {P B L : Nat → Nat} (h : jv_Ex f n P B L) {q k : Nat} (hq : q ≤ 24) (h1 : ∀ i, i < k → P i < q) (h2 : ∀ i, k ≤ i → i < n → q ≤ P i) (hk : k ≤ n) : jv_ct (jv_bg f) q = k := by
  rw [jv_ct_rx (N := P) k (jv_bg f) (fun i hi => h1 i hi) (fun i j g1 g2 e => by have := jv_Ex_inj h.1 g1 (show j < n by omega); omega)
    (fun a ha hb => by
      obtain ⟨i, hi, e⟩ := (jv_Ex_bg h (show a < 24 by omega)).mp hb
      refine ⟨i, ?_, e⟩
      by_cases g : i < k
      · exact g
      · have := h2 i (by omega) hi; omega)]
  exact jv_ct_all k (fun i hi => (jv_Ex_bg h (by have := h1 i hi; omega)).mpr ⟨i, by omega, rfl⟩)
/-- the blocks met: how many positions have one -/
theorem jv_EF_ct {f : Nat → Int32} {n : Nat} {P B L : Nat → Nat} (h0 : jv_E0 n P B L) (h : jv_EF f n P B L) : ∀ k, k ≤ n → ∀ q, q ≤ 24 → (∀ i, i < k → P i + L i ≤ q) → (∀ i, k ≤ i → i < n → q ≤ P i) →
    jv_ct (fun p => decide (¬ f p < 0)) q = (List.range k).foldl (fun s i => s + L i) 0 := by
  intro k
  induction k with
  | zero =>
    intro _ q hq _ h2
    refine jv_ct_0 q (fun p hp => ?_)
    rw [h.2 p (by omega) (fun i hi hh => by have := h2 i (by omega) hi; omega)]
    decide
  | succ k ih =>
    intro hk q hq h1 h2
    have a1 := h1 k (by omega)
    have a2 := h0.1 k (by omega)
    have e1 := ih (by omega) (P k) (by omega) (fun i hi => h0.2 i k hi (by omega)) (fun i hi hi2 => by
      by_cases e : i = k
      · rw [e]; exact Nat.le_refl _
      · have := h0.2 k i (by omega) hi2; omega)
    rw [List.range_succ, List.foldl_append, ← e1, show q = P k + (L k + (q - (P k + L k))) by omega, jv_ct_add, jv_ct_add]
    show _ = jv_ct _ (P k) + L k
    rw [jv_ct_all (L k) (fun i hi => by
      have := h.1 k (by omega) i hi
      simp only [decide_eq_true_eq]
      rw [this]; exact nI_pos (by omega)), jv_ct_0 (q - (P k + L k)) (fun i hi => by
      have := h.2 (P k + (L k + i)) (by omega) (fun j hj hh => by
        rcases Nat.lt_trichotomy j k with g | g | g
        · have := h0.2 j k g (by omega); omega
        · rw [g] at hh; omega
        · have := h2 j (by omega) hj; omega)
      simp only [decide_eq_false_iff_not, Classical.not_not]
      rw [this]; exact jv_m1neg)]
    omega
end
section
/-! X: extents at work -/
section
variable {xc xr xs xg xd xm xt xw xo : Int32} {aw ap aa av ae af ab al an aq : Nat → Int32}
theorem xk_load_l {x n : Nat} {P B L : Nat → Nat} (hx : x < 16) (hn : n ≤ 6) (hb : ∀ i, i < n → P i < 128 ∧ B i < 128 ∧ L i < 128) (hW : jv_XW aw x n P B L) :
    ∀ (d i : Nat) (af ab al : Nat → Int32), i + d = n → jv_EW af ab al i P B L →
    ∃ af' ab' al', jv_EW af' ab' al' n P B L ∧ ∀ (post : SX → Prop) (xc : Int32) (aa av : Nat → Int32) (fuel : Nat), d < fuel → post (xc, xr, xs, xg, xd, nI n, xt, xw, xo, aw, ap, aa, av, ae, af', ab', al', an, aq) →
      wX_load_19 post (nI (24 * x)) xc xr xs xg xd (nI n) xt xw xo fuel (nI i) aw ap aa av ae af ab al an aq := by
  intro d
  induction d with
  | zero =>
    intro i af ab al hi hE
    have e : i = n := by omega
    subst e
    refine ⟨af, ab, al, hE, fun post xc aa av fuel hf K => ?_⟩
    obtain ⟨fuel, rfl⟩ : ∃ g, fuel = g + 1 := ⟨fuel - 1, by omega⟩
    rw [wX_load_19]
    exact pk_le i i (fun _ => K) (fun h => absurd h (by omega))
  | succ d ih =>
    intro i af ab al hi hE
    obtain ⟨h1, h2, h3⟩ := hW.2 i (by omega)
    obtain ⟨b1, b2, b3⟩ := hb i (by omega)
    obtain ⟨af', ab', al', hE', hw⟩ := ih (i + 1) (upd af i (nI (P i))) (upd ab i (nI (B i))) (upd al i (nI (L i))) (by omega) (fun j hj => by
      by_cases e : j = i
      · rw [e, pk_us, pk_us, pk_us]; exact ⟨rfl, rfl, rfl⟩
      · rw [pk_un e, pk_un e, pk_un e]; exact hE j (by omega))
    refine ⟨af', ab', al', hE', fun post xc aa av fuel hf K => ?_⟩
    obtain ⟨fuel, rfl⟩ : ∃ g, fuel = g + 1 := ⟨fuel - 1, by omega⟩
    rw [wX_load_19]
    refine pk_le n i (fun h => absurd h (by omega)) (fun _ => ?_)
    rw [ad_x2, ad_x1, ad_x, nI_clamp (n := 24 * x + 4 + 3 * i) (by omega), nI_clamp (n := 24 * x + 4 + 3 * i + 1) (by omega), nI_clamp (n := 24 * x + 4 + 3 * i + 2) (by omega), nI_clamp (n := i) (by omega), h1, h2, h3, jv_byte b1, jv_byte b2, jv_byte b3, nI_1]
    have v1 : vp_in (nI i) 12 := vp_in_nI (by omega) (by decide)
    exact ⟨vp_in_nI (by omega) (by decide), v1, nm_e ⟨vp_in_nI (by omega) (by decide), v1, nm_e ⟨vp_in_nI (by omega) (by decide), v1, nm_e (nm_e (hw post xc aa av fuel (by omega) K))⟩⟩⟩
theorem xk_load {x n : Nat} {P B L : Nat → Nat} (hx : x < 16) (hn : n ≤ 6) (hb : ∀ i, i < n → P i < 128 ∧ B i < 128 ∧ L i < 128) (hW : jv_XW aw x n P B L) :
    ∃ af' ab' al', jv_EW af' ab' al' n P B L ∧ ∀ (post : SX → Prop) (xc : Int32) (aa av : Nat → Int32), post (xc, xr, xs, xg, xd, nI n, xt, xw, xo, aw, ap, aa, av, ae, af', ab', al', an, aq) → wpX_load post (xc, xr, xs, xg, xd, xm, xt, xw, xo, aw, ap, aa, av, ae, af, ab, al, an, aq) (nI x) := by
  obtain ⟨af', ab', al', hE, hw⟩ := xk_load_l (xr := xr) (xs := xs) (xg := xg) (xd := xd) (xt := xt) (xw := xw) (xo := xo) (ap := ap) (ae := ae) (an := an) (aq := aq) hx hn hb hW n 0 af ab al (by omega) (fun i hi => by omega)
  refine ⟨af', ab', al', hE, fun post xc aa av K => ?_⟩
  unfold wpX_load; dsimp only
  refine xk_base ?_
  rw [ad_p2, nI_clamp (by omega), hW.1]
  exact ⟨vp_in_nI (by omega) (by decide), nm_e ⟨n + 1, hw post xc aa av (n + 1) (by omega) K⟩⟩
theorem xk_more {post : SX → Prop} {n p b l : Nat} (hn : n < 12) (hp : p < 128) (hb : b < 128) (hl : l < 128)
    (K : post (xc, xr, xs, xg, xd, nI (n + 1), xt, xw, xo, aw, ap, aa, av, ae, upd af n (nI p), upd ab n (nI b), upd al n (nI l), an, aq)) : wpX_more post (xc, xr, xs, xg, xd, nI n, xt, xw, xo, aw, ap, aa, av, ae, af, ab, al, an, aq) (nI p) (nI b) (nI l) := by
  unfold wpX_more; dsimp only
  rw [jv_byte hp, jv_byte hb, jv_byte hl, nI_clamp (by omega), nI_1]
  have v1 : vp_in (nI n) 12 := vp_in_nI (by omega) (by decide)
  exact ⟨v1, nm_e ⟨v1, nm_e (nm_e ⟨v1, nm_e K⟩)⟩⟩
theorem xk_app64 {post : SX → Prop} {n p b l : Nat} (hn : n < 12) (hp : p < 128) (hb : b < 128) (hl : l < 128)
    (K : post (xc, xr, xs, xg, xd, nI (n + 1), xt, xw, xo, aw, ap, aa, av, ae, upd af n (nI p), upd ab n (nI b), upd al n (nI l), an, aq)) : wX_append_64 post (nI p) (nI b) (nI l) xc xr xs xg xd (nI n) xt xw xo aw ap aa av ae af ab al an aq := by
  unfold wX_append_64
  rw [jv_byte hp, jv_byte hb, jv_byte hl, nI_clamp (by omega), nI_1]
  have v1 : vp_in (nI n) 12 := vp_in_nI (by omega) (by decide)
  exact ⟨v1, nm_e ⟨v1, nm_e (nm_e ⟨v1, nm_e K⟩)⟩⟩
theorem xk_append {post : SX → Prop} {n p b l : Nat} {P B L : Nat → Nat} (hn : n < 12) (hp : p < 128) (hb : b < 128) (hE : jv_EW af ab al n P B L) (hl : ∀ i, i < n → P i < 128 ∧ B i < 128 ∧ L i + l < 128) (hl2 : l < 128)
    (K1 : ∀ m, n = m + 1 → P m + L m = p → B m + L m = b → post (xc, xr, xs, xg, xd, nI n, xt, xw, xo, aw, ap, aa, av, ae, af, ab, upd al m (nI (L m + l)), an, aq))
    (K0 : (∀ m, n = m + 1 → ¬ (P m + L m = p ∧ B m + L m = b)) → post (xc, xr, xs, xg, xd, nI (n + 1), xt, xw, xo, aw, ap, aa, av, ae, upd af n (nI p), upd ab n (nI b), upd al n (nI l), an, aq)) :
    wpX_append post (xc, xr, xs, xg, xd, nI n, xt, xw, xo, aw, ap, aa, av, ae, af, ab, al, an, aq) (nI p) (nI b) (nI l) := by
  unfold wpX_append; dsimp only
  cases n with
  | zero =>
    refine nm_r (e' := -1) rfl (br_t jv_m1neg ?_)
    exact xk_app64 (n := 0) hn hp hb hl2 (K0 (fun m e => by omega))
  | succ m =>
    obtain ⟨e1, e2, e3⟩ := hE m (by omega)
    obtain ⟨g1, g2, g3⟩ := hl m (by omega)
    refine nm_r (nI_pred m) (br_f (nI_pos (by omega)) ?_)
    have v1 : vp_in (nI m) 12 := vp_in_nI (by omega) (by decide)
    rw [nI_clamp (n := m) (by omega), e1, e2, e3, nI_add, nI_add, nI_add, jv_byte g3]
    refine ⟨v1, v1, pk_eq (P m + L m) p (fun c1 => ⟨v1, v1, pk_eq (B m + L m) b (fun c2 => ⟨v1, v1, nm_e (K1 m rfl c1 c2)⟩) (fun c2 => ?_)⟩) (fun c1 => ?_)⟩
    · exact xk_app64 (n := m + 1) hn hp hb hl2 (K0 (fun m' e h => by
        have : m' = m := by omega
        subst this; exact c2 h.2))
    · exact xk_app64 (n := m + 1) hn hp hb hl2 (K0 (fun m' e h => by
        have : m' = m := by omega
        subst this; exact c1 h.1))
/-- a map cut off at a position -/
def jv_cu (f : Nat → Int32) (e : Nat) : Nat → Int32 := fun p => if p < e then f p else -1
theorem xk_join_l {f : Nat → Int32} {n : Nat} {P B L : Nat → Nat} (h0 : jv_E0 n P B L) (hF : jv_EF f n P B L) (hn : n ≤ 11) :
    ∀ (d k m e : Nat) (af ab al : Nat → Int32) (P' B' L' : Nat → Nat), k + d = n → m ≤ k → jv_EW af ab al m P' B' L' →
      (∀ i, k ≤ i → i < n → af i = nI (P i) ∧ ab i = nI (B i) ∧ al i = nI (L i)) → jv_Ex (jv_cu f e) m P' B' L' → (∀ i, i < m → P' i + L' i ≤ e) →
      (∀ i, i < k → P i + L i ≤ e) → (∀ i, k ≤ i → i < n → e ≤ P i) →
    ∃ n' P2 B2 L2 af' ab' al', n' ≤ n ∧ jv_EW af' ab' al' n' P2 B2 L2 ∧ jv_Ex f n' P2 B2 L2 ∧
      ∀ (post : SX → Prop) (fuel : Nat), d < fuel → post (xc, xr, xs, xg, xd, nI n', xt, xw, xo, aw, ap, aa, av, ae, af', ab', al', an, aq) → wX_join_12 post (nI n) fuel (nI k) xc xr xs xg xd (nI m) xt xw xo aw ap aa av ae af ab al an aq := by
  intro d
  induction d with
  | zero =>
    intro k m e af ab al P' B' L' hk hm hE hI hX hb he1 he2
    have ek : k = n := by omega
    subst ek
    refine ⟨m, P', B', L', af, ab, al, hm, hE, jv_Ex_cg hX (fun p hp => ?_), fun post fuel hf K => ?_⟩
    · show f p = if p < e then f p else -1
      by_cases h : p < e
      · rw [if_pos h]
      · rw [if_neg h]
        exact hF.2 p hp (fun i hi hh => by have := he1 i hi; omega)
    · obtain ⟨fuel, rfl⟩ : ∃ g, fuel = g + 1 := ⟨fuel - 1, by omega⟩
      rw [wX_join_12]
      exact pk_le k k (fun _ => K) (fun h => absurd h (by omega))
  | succ d ih =>
    intro k m e af ab al P' B' L' hk hm hE hI hX hb he1 he2
    obtain ⟨i1, i2, i3⟩ := hI k (Nat.le_refl k) (by omega)
    have a1 := h0.1 k (by omega)
    have a2 := he2 k (Nat.le_refl k) (by omega)
    have h4 : ∀ d, d < L k → jv_cu f (P k + L k) (P k + d) = nI (B k + d) := fun d hd => by
      show (if P k + d < P k + L k then f (P k + d) else -1) = _
      rw [if_pos (by omega)]; exact hF.1 k (by omega) d hd
    have h5 : ∀ p, p < 24 → (p < P k ∨ P k + L k ≤ p) → jv_cu f (P k + L k) p = jv_cu f e p := fun p hp ho => by
      show (if p < P k + L k then f p else -1) = (if p < e then f p else -1)
      by_cases h : p < e
      · rw [if_pos h, if_pos (by omega)]
      · rw [if_neg h]
        by_cases g : p < P k + L k
        · rw [if_pos g]
          refine hF.2 p hp (fun i hi hh => ?_)
          rcases Nat.lt_trichotomy i k with q | q | q
          · have := he1 i q; omega
          · rw [q] at hh; omega
          · have := h0.2 k i q hi; omega
        · rw [if_neg g]
    have hb2 : ∀ i, i < m → P' i + L' i ≤ P k := fun i hi => by have := hb i hi; omega
    have he1' : ∀ i, i < k + 1 → P i + L i ≤ P k + L k := fun i hi => by
      by_cases q : i = k
      · rw [q]; exact Nat.le_refl _
      · have := he1 i (by omega); omega
    have he2' : ∀ i, k + 1 ≤ i → i < n → P k + L k ≤ P i := fun i hi hi2 => h0.2 k i (by omega) hi2
    have hl : ∀ i, i < m → P' i < 128 ∧ B' i < 128 ∧ L' i + L k < 128 := fun i hi => by have := hX.1.1 i hi; omega
    by_cases hmg : ∃ m1, m = m1 + 1 ∧ P' m1 + L' m1 = P k ∧ B' m1 + L' m1 = B k
    · obtain ⟨m1, rfl, g1, g2⟩ := hmg
      obtain ⟨n', P2, B2, L2, af', ab', al', r1, r2, r3, r4⟩ := ih (k + 1) (m1 + 1) (P k + L k) af ab (upd al m1 (nI (L' m1 + L k))) P' B' (jv_up L' m1 (L' m1 + L k)) (by omega) (by omega)
        (fun i hi => by
          have := hE i hi
          by_cases q : i = m1
          · subst q; rw [pk_us, jv_up_s]; exact ⟨this.1, this.2.1, rfl⟩
          · rw [pk_un q, jv_up_n q]; exact this)
        (fun i hi hi2 => by rw [pk_un (by omega)]; exact hI i (by omega) hi2)
        (jv_Ex_long hX g1 g2 (by omega) (by omega) h4 h5)
        (fun i hi => by
          by_cases q : i = m1
          · rw [q, jv_up_s]; omega
          · rw [jv_up_n q]; have := hb i hi; omega) he1' he2'
      refine ⟨n', P2, B2, L2, af', ab', al', r1, r2, r3, fun post fuel hf K => ?_⟩
      obtain ⟨fuel, rfl⟩ : ∃ g, fuel = g + 1 := ⟨fuel - 1, by omega⟩
      rw [wX_join_12]
      refine pk_le n k (fun h => absurd h (by omega)) (fun _ => ?_)
      have v1 : vp_in (nI k) 12 := vp_in_nI (by omega) (by decide)
      rw [nI_clamp (n := k) (by omega), i1, i2, i3, nI_1]
      refine ⟨v1, nm_e ⟨v1, nm_e ⟨v1, nm_e ?_⟩⟩⟩
      refine xk_append (by omega) (by omega) (by omega) hE hl (by omega) (fun m' e _ _ => ?_) (fun h => absurd ⟨g1, g2⟩ (h m1 rfl))
      have : m' = m1 := by omega
      subst this
      exact nm_e (r4 post fuel (by omega) K)
    · have hnm : ∀ m1, m = m1 + 1 → ¬ (P' m1 + L' m1 = P k ∧ B' m1 + L' m1 = B k) := fun m1 e h => hmg ⟨m1, e, h⟩
      obtain ⟨n', P2, B2, L2, af', ab', al', r1, r2, r3, r4⟩ := ih (k + 1) (m + 1) (P k + L k) (upd af m (nI (P k))) (upd ab m (nI (B k))) (upd al m (nI (L k))) (jv_up P' m (P k)) (jv_up B' m (B k)) (jv_up L' m (L k)) (by omega) (by omega)
        (fun i hi => by
          by_cases q : i = m
          · rw [q, pk_us, pk_us, pk_us, jv_up_s, jv_up_s, jv_up_s]; exact ⟨rfl, rfl, rfl⟩
          · rw [pk_un q, pk_un q, pk_un q, jv_up_n q, jv_up_n q, jv_up_n q]; exact hE i (by omega))
        (fun i hi hi2 => by rw [pk_un (by omega), pk_un (by omega), pk_un (by omega)]; exact hI i (by omega) hi2)
        (jv_Ex_new hX hb2 (by omega) (by omega) (by omega) hnm h4 h5)
        (fun i hi => by
          by_cases q : i = m
          · rw [q, jv_up_s, jv_up_s]; exact Nat.le_refl _
          · rw [jv_up_n q, jv_up_n q]; have := hb i (by omega); omega) he1' he2'
      refine ⟨n', P2, B2, L2, af', ab', al', r1, r2, r3, fun post fuel hf K => ?_⟩
      obtain ⟨fuel, rfl⟩ : ∃ g, fuel = g + 1 := ⟨fuel - 1, by omega⟩
      rw [wX_join_12]
      refine pk_le n k (fun h => absurd h (by omega)) (fun _ => ?_)
      have v1 : vp_in (nI k) 12 := vp_in_nI (by omega) (by decide)
      rw [nI_clamp (n := k) (by omega), i1, i2, i3, nI_1]
      refine ⟨v1, nm_e ⟨v1, nm_e ⟨v1, nm_e ?_⟩⟩⟩
      refine xk_append (by omega) (by omega) (by omega) hE hl (by omega) (fun m' e c1 c2 => absurd ⟨c1, c2⟩ (hnm m' e)) (fun _ => ?_)
      exact nm_e (r4 post fuel (by omega) K)
theorem xk_join {f : Nat → Int32} {n : Nat} {P B L : Nat → Nat} (h0 : jv_E0 n P B L) (hF : jv_EF f n P B L) (hn : n ≤ 11) (hE : jv_EW af ab al n P B L) :
    ∃ n' P2 B2 L2 af' ab' al', n' ≤ n ∧ jv_EW af' ab' al' n' P2 B2 L2 ∧ jv_Ex f n' P2 B2 L2 ∧
      ∀ (post : SX → Prop), post (xc, xr, xs, xg, xd, nI n', xt, xw, xo, aw, ap, aa, av, ae, af', ab', al', an, aq) → wpX_join post (xc, xr, xs, xg, xd, nI n, xt, xw, xo, aw, ap, aa, av, ae, af, ab, al, an, aq) := by
  obtain ⟨n', P2, B2, L2, af', ab', al', r1, r2, r3, r4⟩ := xk_join_l (xc := xc) (xr := xr) (xs := xs) (xg := xg) (xd := xd) (xt := xt) (xw := xw) (xo := xo) (aw := aw) (ap := ap) (aa := aa) (av := av) (ae := ae) (an := an) (aq := aq) h0 hF hn n 0 0 0 af ab al P B L (by omega) (Nat.le_refl 0)
    (fun i hi => by omega) (fun i _ hi => hE i hi) (jv_Ex_nil (fun p _ => if_neg (by omega))) (fun i hi => by omega) (fun i hi => by omega) (fun i _ _ => by omega)
  refine ⟨n', P2, B2, L2, af', ab', al', r1, r2, r3, fun post K => ?_⟩
  unfold wpX_join; dsimp only
  exact ⟨n + 1, r4 post (n + 1) (by omega) K⟩
/-! the block of a position -/
theorem xk_map_l {post : Int32 → Prop} {n : Nat} {P B L : Nat → Nat} {v : Int32} (hn : n ≤ 11) (hb : ∀ i, i < n → P i < 128 ∧ B i < 128 ∧ L i < 128) (hE : jv_EW af ab al n P B L)
    (K1 : ∀ i, i < n → ¬ v < nI (P i) → ¬ nI (P i + L i) ≤ v → post (nI (B i) + v - nI (P i)))
    (K0 : (∀ i, i < n → v < nI (P i) ∨ nI (P i + L i) ≤ v) → post (-1)) :
    ∀ (d k : Nat), k + d = n → (∀ i, i < k → v < nI (P i) ∨ nI (P i + L i) ≤ v) → ∀ fuel, d < fuel → wX_mapped_2 post v xc xr xs xg xd (nI n) xt xw xo aw ap aa av ae af ab al an aq fuel (nI k) := by
  intro d
  induction d with
  | zero =>
    intro k hk h1 fuel hf
    obtain ⟨fuel, rfl⟩ : ∃ g, fuel = g + 1 := ⟨fuel - 1, by omega⟩
    rw [wX_mapped_2]
    have ek : k = n := by omega
    subst ek
    exact pk_le k k (fun _ => K0 h1) (fun h => absurd h (by omega))
  | succ d ih =>
    intro k hk h1 fuel hf
    obtain ⟨fuel, rfl⟩ : ∃ g, fuel = g + 1 := ⟨fuel - 1, by omega⟩
    rw [wX_mapped_2]
    obtain ⟨e1, e2, e3⟩ := hE k (by omega)
    obtain ⟨b1, b2, b3⟩ := hb k (by omega)
    have v1 : vp_in (nI k) 12 := vp_in_nI (by omega) (by decide)
    refine pk_le n k (fun h => absurd h (by omega)) (fun _ => ?_)
    rw [nI_clamp (n := k) (by omega), e1, e2, e3, nI_add, nI_1]
    refine ⟨v1, br_c (fun c => nm_e ?_) (fun c => ⟨v1, v1, br_c (fun c2 => nm_e ?_) (fun c2 => ⟨v1, v1, K1 k (by omega) c c2⟩)⟩)⟩
    · exact ih (k + 1) (by omega) (fun i hi => by
        by_cases q : i = k
        · rw [q]; exact Or.inl c
        · exact h1 i (by omega)) fuel (by omega)
    · exact ih (k + 1) (by omega) (fun i hi => by
        by_cases q : i = k
        · rw [q]; exact Or.inr c2
        · exact h1 i (by omega)) fuel (by omega)
theorem xk_mapped {post : Int32 → Prop} {f : Nat → Int32} {n p : Nat} {P B L : Nat → Nat} (hn : n ≤ 11) (h0 : jv_E0 n P B L) (hF : jv_EF f n P B L) (hE : jv_EW af ab al n P B L) (hp : p < 24) (K : post (f p)) :
    wpX_mapped post (xc, xr, xs, xg, xd, nI n, xt, xw, xo, aw, ap, aa, av, ae, af, ab, al, an, aq) (nI p) := by
  unfold wpX_mapped; dsimp only
  refine ⟨n + 1, xk_map_l hn (fun i hi => by have := h0.1 i hi; omega) hE (fun i hi c1 c2 => ?_) (fun h => ?_) n 0 (by omega) (fun i hi => by omega) (n + 1) (by omega)⟩
  · have := h0.1 i hi
    rw [nI_ltI (by omega) (by omega)] at c1
    rw [nI_leI (by omega) (by omega)] at c2
    rw [jv_EF_in hF hi (by omega) (by omega)] at K
    rw [nI_add, pk_sub (by omega), show B i + p - P i = B i + (p - P i) by omega]
    exact K
  · rw [hF.2 p hp (fun i hi hh => ?_)] at K
    · exact K
    · have := h0.1 i hi
      have c := h i hi
      rw [nI_ltI (by omega) (by omega), nI_leI (by omega) (by omega)] at c
      omega
theorem xk_mapped_o {post : Int32 → Prop} {n : Nat} {P B L : Nat → Nat} {v : Int32} (hn : n ≤ 11) (h0 : jv_E0 n P B L) (hE : jv_EW af ab al n P B L) (hv : v < 0 ∨ (24 : Int32) ≤ v) (K : post (-1)) :
    wpX_mapped post (xc, xr, xs, xg, xd, nI n, xt, xw, xo, aw, ap, aa, av, ae, af, ab, al, an, aq) v := by
  unfold wpX_mapped; dsimp only
  refine ⟨n + 1, xk_map_l hn (fun i hi => by have := h0.1 i hi; omega) hE (fun i hi c1 c2 => ?_) (fun h => K) n 0 (by omega) (fun i hi => by omega) (n + 1) (by omega)⟩
  have := h0.1 i hi
  rcases hv with hv | hv
  · exact absurd (Int32.lt_of_lt_of_le hv (nI_pos' (n := P i) (by omega))) c1
  · exact absurd (Int32.le_trans (nI_le (a := P i + L i) (b := 24) (by omega) (by decide)) hv) c2
/-! the extents at work go back -/
theorem xk_store_l {x n : Nat} {P B L : Nat → Nat} {w0 : Nat → Int32} (hx : x < 16) (hn : n ≤ 6) (hE : jv_EW af ab al n P B L) :
    ∀ (d i : Nat) (w : Nat → Int32), i + d = n → w (24 * x + 2) = nI n → (∀ j, j < i → w (24 * x + 4 + 3 * j) = nI (P j) ∧ w (24 * x + 4 + 3 * j + 1) = nI (B j) ∧ w (24 * x + 4 + 3 * j + 2) = nI (L j)) → jv_Fr x w0 w →
    ∃ w', jv_XW w' x n P B L ∧ jv_Fr x w0 w' ∧ ∀ (post : SX → Prop) (A0 V0 : Nat → Int32) (m0 c fuel : Nat) (aa av : Nat → Int32) (m : Nat), d < fuel → c + 3 * d ≤ 58 → jv_J xg A0 V0 ap m0 c w aa av m →
        (∀ aa' av' m', jv_J xg A0 V0 ap m0 (c + 3 * d) w' aa' av' m' → post (nI m', xr, xs, xg, xd, nI n, xt, xw, xo, w', ap, aa', av', ae, af, ab, al, an, aq)) →
        wX_store_18 post (nI (24 * x)) fuel (nI i) (nI m) xr xs xg xd (nI n) xt xw xo w ap aa av ae af ab al an aq := by
  intro d
  induction d with
  | zero =>
    intro i w hi hc2 hlo hF
    have e : i = n := by omega
    subst e
    refine ⟨w, ⟨hc2, hlo⟩, hF, fun post A0 V0 m0 c fuel aa av m hf hc J K => ?_⟩
    obtain ⟨fuel, rfl⟩ : ∃ g, fuel = g + 1 := ⟨fuel - 1, by omega⟩
    rw [wX_store_18]
    exact pk_le i i (fun _ => K aa av m J) (fun h => absurd h (by omega))
  | succ d ih =>
    intro i w hi hc2 hlo hF
    obtain ⟨e1, e2, e3⟩ := hE i (by omega)
    obtain ⟨w', hX, hR, hw⟩ := ih (i + 1) (upd (upd (upd w (24 * x + 4 + 3 * i) (nI (P i))) (24 * x + 4 + 3 * i + 1) (nI (B i))) (24 * x + 4 + 3 * i + 2) (nI (L i))) (by omega)
      (by rw [pk_un (by omega), pk_un (by omega), pk_un (by omega)]; exact hc2)
      (fun j hj => by
        by_cases q : j = i
        · subst q
          exact ⟨by rw [pk_un (by omega), pk_un (by omega), pk_us], by rw [pk_un (by omega), pk_us], pk_us⟩
        · have := hlo j (by omega)
          exact ⟨by rw [pk_un (by omega), pk_un (by omega), pk_un (by omega)]; exact this.1, by rw [pk_un (by omega), pk_un (by omega), pk_un (by omega)]; exact this.2.1, by rw [pk_un (by omega), pk_un (by omega), pk_un (by omega)]; exact this.2.2⟩)
      (jv_Fr_u (jv_Fr_u (jv_Fr_u hF (by omega) (by omega) (by omega)) (by omega) (by omega) (by omega)) (by omega) (by omega) (by omega))
    refine ⟨w', hX, hR, fun post A0 V0 m0 c fuel aa av m hf hc J K => ?_⟩
    obtain ⟨fuel, rfl⟩ : ∃ g, fuel = g + 1 := ⟨fuel - 1, by omega⟩
    rw [wX_store_18]
    refine pk_le n i (fun h => absurd h (by omega)) (fun _ => ?_)
    have v1 : vp_in (nI i) 12 := vp_in_nI (by omega) (by decide)
    rw [ad_x2, ad_x1, ad_x, nI_clamp (n := i) (by omega), e1, nI_1]
    refine ⟨v1, ?_⟩
    refine xk_put rfl (by omega) (by omega) J (fun aa1 av1 m1 J1 => ?_)
    refine ⟨v1, ?_⟩
    show wpX_put _ _ _ (ab i)
    rw [e2]
    refine xk_put rfl (by omega) (by omega) J1 (fun aa2 av2 m2 J2 => ?_)
    refine ⟨v1, ?_⟩
    show wpX_put _ _ _ (al i)
    rw [e3]
    refine xk_put rfl (by omega) (by omega) J2 (fun aa3 av3 m3 J3 => ?_)
    refine nm_e ?_
    exact hw post A0 V0 m0 (c + 1 + 1 + 1) fuel aa3 av3 m3 (by omega) (by omega) J3 (fun aa4 av4 m4 J4 => K aa4 av4 m4 (jv_J_up J4 (by omega)))
theorem xk_store {x n : Nat} {P B L : Nat → Nat} (hx : x < 16) (hn : n ≤ 5) (hE : jv_EW af ab al n P B L) :
    ∃ w', jv_XW w' x n P B L ∧ jv_Fr x aw w' ∧ ∀ (post : SX → Prop) (A0 V0 : Nat → Int32) (m0 c : Nat) (aa av : Nat → Int32) (m : Nat), c + 16 ≤ 58 → jv_J xg A0 V0 ap m0 c aw aa av m →
        (∀ aa' av' m', jv_J xg A0 V0 ap m0 (c + 16) w' aa' av' m' → post (nI m', xr, xs, xg, xd, nI n, xt, xw, xo, w', ap, aa', av', ae, af, ab, al, an, aq)) →
        wpX_store post (nI m, xr, xs, xg, xd, nI n, xt, xw, xo, aw, ap, aa, av, ae, af, ab, al, an, aq) (nI x) := by
  obtain ⟨w', hX, hR, hw⟩ := xk_store_l (xr := xr) (xs := xs) (xg := xg) (xd := xd) (xt := xt) (xw := xw) (xo := xo) (ap := ap) (ae := ae) (an := an) (aq := aq) hx (show n ≤ 6 by omega) hE n 0 (upd aw (24 * x + 2) (nI n)) (by omega) pk_us (fun j hj => by omega) (jv_Fr_u (jv_Fr_rf (w := aw)) (by omega) (by omega) (by omega))
  refine ⟨w', hX, hR, fun post A0 V0 m0 c aa av m hc J K => ?_⟩
  unfold wpX_store; dsimp only
  refine xk_base ?_
  rw [ad_p2]
  refine xk_put rfl (by omega) (by omega) J (fun aa1 av1 m1 J1 => ⟨n + 1, ?_⟩)
  exact hw post A0 V0 m0 (c + 1) (n + 1) aa1 av1 m1 (by omega) (by omega) J1 (fun aa2 av2 m2 J2 => K aa2 av2 m2 (jv_J_up J2 (by omega)))
/-! one more position -/
theorem xk_sq_l {n p0 b0 : Nat} {P B L : Nat → Nat} (hn : n ≤ 6) (hp0 : p0 < 24) (h0 : jv_E0 n P B L) :
    ∀ (k : Nat) (af ab al : Nat → Int32), k ≤ n → (∀ i, i < k → af i = nI (P i) ∧ ab i = nI (B i) ∧ al i = nI (L i)) →
      (∀ i, k < i → i ≤ n → af i = nI (P (i - 1)) ∧ ab i = nI (B (i - 1)) ∧ al i = nI (L (i - 1))) → (∀ i, k ≤ i → i < n → p0 < P i) →
    ∃ k' af' ab' al', k' ≤ n ∧ (∀ i, i < k' → P i ≤ p0) ∧ (∀ i, k' ≤ i → i < n → p0 < P i) ∧
      (∀ i, i < k' → af' i = nI (P i) ∧ ab' i = nI (B i) ∧ al' i = nI (L i)) ∧ (∀ i, k' < i → i ≤ n → af' i = nI (P (i - 1)) ∧ ab' i = nI (B (i - 1)) ∧ al' i = nI (L (i - 1))) ∧
      ∀ (post : SX → Prop) (fuel : Nat), k < fuel → wX_squeeze_69 post (nI p0) (nI b0) (nI k') xc xr xs xg xd (nI n) xt xw xo aw ap aa av ae af' ab' al' an aq → wX_squeeze_5 post (nI p0) (nI b0) xc xr xs xg xd (nI n) xt xw xo fuel (nI k) aw ap aa av ae af ab al an aq := by
  intro k
  induction k with
  | zero =>
    intro af ab al hk h1 h2 h3
    refine ⟨0, af, ab, al, hk, fun i hi => by omega, h3, h1, h2, fun post fuel hf K => ?_⟩
    obtain ⟨fuel, rfl⟩ : ∃ g, fuel = g + 1 := ⟨fuel - 1, by omega⟩
    rw [wX_squeeze_5]
    exact pk_le 0 0 (fun _ => K) (fun h => absurd h (by omega))
  | succ k ih =>
    intro af ab al hk h1 h2 h3
    obtain ⟨e1, e2, e3⟩ := h1 k (by omega)
    have b1 := h0.1 k (by omega)
    have v1 : vp_in (nI k) 12 := vp_in_nI (by omega) (by decide)
    have v2 : vp_in (nI (k + 1)) 12 := vp_in_nI (by omega) (by decide)
    by_cases hc : P k ≤ p0
    · refine ⟨k + 1, af, ab, al, hk, fun i hi => ?_, h3, h1, h2, fun post fuel hf K => ?_⟩
      · by_cases q : i = k
        · rw [q]; exact hc
        · have := h0.2 i k (by omega) (by omega); omega
      · obtain ⟨fuel, rfl⟩ : ∃ g, fuel = g + 1 := ⟨fuel - 1, by omega⟩
        rw [wX_squeeze_5]
        refine pk_le (k + 1) 0 (fun h => absurd h (by omega)) (fun _ => ?_)
        rw [nI_pred, nI_clamp (n := k) (by omega), e1]
        exact ⟨v1, pk_le (P k) p0 (fun _ => K) (fun h => absurd h (by omega))⟩
    · obtain ⟨k', af', ab', al', r1, r2, r3, r4, r5, r6⟩ := ih (upd af (k + 1) (nI (P k))) (upd ab (k + 1) (nI (B k))) (upd al (k + 1) (nI (L k))) (by omega)
        (fun i hi => by rw [pk_un (by omega), pk_un (by omega), pk_un (by omega)]; exact h1 i (by omega))
        (fun i hi hi2 => by
          by_cases q : i = k + 1
          · subst q; rw [pk_us, pk_us, pk_us]; exact ⟨rfl, rfl, rfl⟩
          · rw [pk_un q, pk_un q, pk_un q]; exact h2 i (by omega) hi2)
        (fun i hi hi2 => by
          by_cases q : i = k
          · rw [q]; omega
          · exact h3 i (by omega) hi2)
      refine ⟨k', af', ab', al', r1, r2, r3, r4, r5, fun post fuel hf K => ?_⟩
      obtain ⟨fuel, rfl⟩ : ∃ g, fuel = g + 1 := ⟨fuel - 1, by omega⟩
      rw [wX_squeeze_5]
      refine pk_le (k + 1) 0 (fun h => absurd h (by omega)) (fun _ => ?_)
      rw [nI_pred, nI_clamp (n := k) (by omega), nI_clamp (n := k + 1) (by omega), e1, e2, e3, jv_byte1 (show P k < 128 by omega), jv_byte1 (show B k < 128 by omega), jv_byte1 (show L k < 128 by omega), pk_m1]
      refine ⟨v1, pk_le (P k) p0 (fun h => absurd h hc) (fun _ => ⟨v1, v2, nm_e ⟨v1, v2, nm_e ⟨v1, v2, nm_e (nm_e ?_)⟩⟩⟩)⟩
      exact r6 post fuel (by omega) K
theorem xk_squeeze {f : Nat → Int32} {n p0 b0 : Nat} {P B L : Nat → Nat} (hn : n ≤ 5) (hp0 : p0 < 24) (hb0 : b0 < 64) (hX : jv_Ex f n P B L) (hf0 : f p0 = -1) (hE : jv_EW af ab al n P B L) :
    ∃ n' P2 B2 L2 af' ab' al', n' ≤ 6 ∧ jv_EW af' ab' al' n' P2 B2 L2 ∧ jv_Ex (upd f p0 (nI b0)) n' P2 B2 L2 ∧
      ∀ (post : SX → Prop), post (xc, xr, xs, xg, xd, nI n', xt, xw, xo, aw, ap, aa, av, ae, af', ab', al', an, aq) → wpX_squeeze post (xc, xr, xs, xg, xd, nI n, xt, xw, xo, aw, ap, aa, av, ae, af, ab, al, an, aq) (nI p0) (nI b0) := by
  obtain ⟨h0, h1, hF⟩ := hX
  obtain ⟨k, af1, ab1, al1, r1, r2, r3, r4, r5, r6⟩ := xk_sq_l (xc := xc) (xr := xr) (xs := xs) (xg := xg) (xd := xd) (xt := xt) (xw := xw) (xo := xo) (aw := aw) (ap := ap) (aa := aa) (av := av) (ae := ae) (an := an) (aq := aq) (b0 := b0) (show n ≤ 6 by omega) hp0 h0 n af ab al (Nat.le_refl n) hE (fun i h1 h2 => by omega) (fun i h1 h2 => by omega)
  have lo : ∀ i, i < k → P i + L i ≤ p0 := fun i hi => by
    by_cases q : P i + L i ≤ p0
    · exact q
    · have a1 := r2 i hi
      have a2 := h0.1 i (by omega)
      have := jv_EF_in hF (show i < n by omega) a1 (by omega)
      rw [hf0] at this
      exact absurd this.symm (jv_neg1 (by omega))
  have hE2 : jv_E0 (n + 1) (jv_ins P k p0) (jv_ins B k b0) (jv_ins L k 1) := by
    refine ⟨fun i hi => ?_, fun i j hij hj => ?_⟩
    · rcases Nat.lt_trichotomy i k with q | q | q
      · rw [jv_ins_lt q, jv_ins_lt q, jv_ins_lt q]; exact h0.1 i (by omega)
      · subst q; rw [jv_ins_eq, jv_ins_eq, jv_ins_eq]; omega
      · rw [jv_ins_gt q, jv_ins_gt q, jv_ins_gt q]; exact h0.1 (i - 1) (by omega)
    · rcases Nat.lt_trichotomy j k with q | q | q
      · rw [jv_ins_lt q, jv_ins_lt (show i < k by omega), jv_ins_lt (show i < k by omega)]; exact h0.2 i j hij (by omega)
      · subst q; rw [jv_ins_eq, jv_ins_lt hij, jv_ins_lt hij]; exact lo i hij
      · rw [jv_ins_gt q]
        rcases Nat.lt_trichotomy i k with s | s | s
        · rw [jv_ins_lt s, jv_ins_lt s]
          have a1 := lo i s
          have a2 := r3 (j - 1) (by omega) (by omega)
          omega
        · subst s; rw [jv_ins_eq, jv_ins_eq]; have := r3 (j - 1) (by omega) (by omega); omega
        · rw [jv_ins_gt s, jv_ins_gt s]; exact h0.2 (i - 1) (j - 1) (by omega) (by omega)
  have hF2 : jv_EF (upd f p0 (nI b0)) (n + 1) (jv_ins P k p0) (jv_ins B k b0) (jv_ins L k 1) := by
    refine ⟨fun i hi d hd => ?_, fun p hp hno => ?_⟩
    · rcases Nat.lt_trichotomy i k with q | q | q
      · rw [jv_ins_lt q] at hd
        rw [jv_ins_lt q, jv_ins_lt q]
        have := lo i q
        rw [pk_un (by omega)]; exact hF.1 i (by omega) d hd
      · subst q
        rw [jv_ins_eq] at hd
        have : d = 0 := by omega
        subst this
        rw [jv_ins_eq, jv_ins_eq]; exact pk_us
      · rw [jv_ins_gt q] at hd
        rw [jv_ins_gt q, jv_ins_gt q]
        have := r3 (i - 1) (by omega) (by omega)
        rw [pk_un (by omega)]; exact hF.1 (i - 1) (by omega) d hd
    · have hk := hno k (by omega)
      rw [jv_ins_eq, jv_ins_eq] at hk
      rw [pk_un (by omega)]
      refine hF.2 p hp (fun i hi => ?_)
      by_cases q : i < k
      · have := hno i (by omega); rw [jv_ins_lt q, jv_ins_lt q] at this; exact this
      · have := hno (i + 1) (by omega); rw [jv_ins_gt (by omega), jv_ins_gt (by omega), Nat.add_sub_cancel] at this; exact this
  obtain ⟨n', P2, B2, L2, af', ab', al', s1, s2, s3, s4⟩ := xk_join (xc := xc) (xr := xr) (xs := xs) (xg := xg) (xd := xd) (xt := xt) (xw := xw) (xo := xo) (aw := aw) (ap := ap) (aa := aa) (av := av) (ae := ae) (an := an) (aq := aq) hE2 hF2 (by omega)
    (show jv_EW (upd af1 k (nI p0)) (upd ab1 k (nI b0)) (upd al1 k (nI 1)) (n + 1) (jv_ins P k p0) (jv_ins B k b0) (jv_ins L k 1) from fun i hi => by
      rcases Nat.lt_trichotomy i k with q | q | q
      · rw [pk_un (by omega), pk_un (by omega), pk_un (by omega), jv_ins_lt q, jv_ins_lt q, jv_ins_lt q]; exact r4 i q
      · subst q; rw [pk_us, pk_us, pk_us, jv_ins_eq, jv_ins_eq, jv_ins_eq]; exact ⟨rfl, rfl, rfl⟩
      · rw [pk_un (by omega), pk_un (by omega), pk_un (by omega), jv_ins_gt q, jv_ins_gt q, jv_ins_gt q]; exact r5 i q (by omega))
  refine ⟨n', P2, B2, L2, af', ab', al', by omega, s2, s3, fun post K => ?_⟩
  unfold wpX_squeeze; dsimp only
  refine ⟨n + 1, r6 post (n + 1) (by omega) ?_⟩
  unfold wX_squeeze_69
  rw [jv_byte (show p0 < 128 by omega), jv_byte (show b0 < 128 by omega), nI_clamp (by omega), show vp_nar .byte (1 : Int32) = nI 1 from jv_byte1 (p := 1) (by decide), nI_1]
  have v1 : vp_in (nI k) 12 := vp_in_nI (by omega) (by decide)
  exact ⟨v1, nm_e ⟨v1, nm_e ⟨v1, nm_e (nm_e (s4 _ K))⟩⟩⟩
end
end
section
/-! marks: a long by its bits -/
theorem jv_lb_ext {x y : Int64} (h : ∀ b, b < 64 → jv_lb x b = jv_lb y b) : x = y := Int64.toBitVec_inj.mp (BitVec.eq_of_getLsbD_eq (fun i hi => h i hi))
theorem jv_lb_big {x : Int64} {b : Nat} (h : 64 ≤ b) : jv_lb x b = false := BitVec.getLsbD_of_ge _ _ h
theorem jv_lb_or (x y : Int64) (b : Nat) : jv_lb (x ||| y) b = (jv_lb x b || jv_lb y b) := by unfold jv_lb; rw [Int64.toBitVec_or, BitVec.getLsbD_or]
theorem jv_lb_and (x y : Int64) (b : Nat) : jv_lb (x &&& y) b = (jv_lb x b && jv_lb y b) := by unfold jv_lb; rw [Int64.toBitVec_and, BitVec.getLsbD_and]
theorem jv_lb_xor (x y : Int64) (b : Nat) : jv_lb (x ^^^ y) b = (jv_lb x b ^^ jv_lb y b) := by unfold jv_lb; rw [Int64.toBitVec_xor, BitVec.getLsbD_xor]
theorem jv_lb_0 (b : Nat) : jv_lb 0 b = false := BitVec.getLsbD_zero
theorem jv_lb_m1 : ∀ b, b < 64 → jv_lb (-1) b = true := by decide +kernel
theorem jv_lb_not (x : Int64) {b : Nat} (hb : b < 64) : jv_lb (x ^^^ (-1)) b = !jv_lb x b := by
  rw [jv_lb_xor, jv_lb_m1 b hb]; cases jv_lb x b <;> rfl
theorem jv_lb_lN (n : Nat) {b : Nat} (hb : b < 64) : jv_lb (lN n) b = n.testBit b := by
  unfold jv_lb; rw [lN_bv, BitVec.getLsbD_ofNat, decide_eq_true hb, Bool.true_and]
theorem jv_lb_z {x : Int64} (h : jv_ct (jv_lb x) 64 = 0) : x = 0 := jv_lb_ext (fun b hb => by rw [jv_ct_z 64 h b hb, jv_lb_0])
/-! the two words -/
theorem jv_b32 : ∀ b, b < 64 → (4294967295 : Int64).toBitVec.getLsbD b = decide (b < 32) := by decide +kernel
theorem jv_M_lb (w : Nat → Int32) {b : Nat} (hb : b < 64) : jv_lb (jv_M w) b = if b < 32 then (w 384).toBitVec.getLsbD b else (w 385).toBitVec.getLsbD (b - 32) := by
  have e : ((32 : Int32).toInt64 &&& 63).toBitVec.smod 64 = 32#64 := by decide
  have e2 : (32#64 : BitVec 64).toNat = 32 := by decide
  unfold jv_lb jv_M
  rw [Int64.toBitVec_or, Int64.toBitVec_and, Int64.toBitVec_shiftLeft, Int32.toBitVec_toInt64, Int32.toBitVec_toInt64, BitVec.getLsbD_or, BitVec.getLsbD_and, BitVec.getLsbD_signExtend, jv_b32 b hb]
  have e3 : ((64 : Nat) : BitVec 64) = 64 := by decide
  have e4 : (BitVec.signExtend 64 (w 385).toBitVec <<< (((32 : Int32).toInt64 &&& 63).toBitVec.smod 64)).getLsbD b = (BitVec.signExtend 64 (w 385).toBitVec <<< (32 : Nat)).getLsbD b := by rw [e]; rfl
  first
    | rw [e4]
    | (rw [show (((32 : Int32).toInt64 &&& 63).toBitVec.smod ((64 : Nat) : BitVec 64)) = 32#64 from by decide, BitVec.shiftLeft_eq', e2])
  rw [BitVec.getLsbD_shiftLeft, BitVec.getLsbD_signExtend]
  by_cases h : b < 32
  · simp [h, hb]
  · have : b - 32 < 32 := by omega
    have h3 : b - 32 < 64 := by omega
    simp [h, this, h3, hb]
theorem jv_M_set (w : Nat → Int32) (M : Int64) : jv_M (upd (upd w 384 M.toInt32) 385 (M >>> ((32 : Int32).toInt64 &&& 63)).toInt32) = M := by
  refine jv_lb_ext (fun b hb => ?_)
  rw [jv_M_lb _ hb, pk_un (show (384 : Nat) ≠ 385 by decide), pk_us, pk_us, Int64.toBitVec_toInt32, Int64.toBitVec_toInt32, BitVec.getLsbD_signExtend, BitVec.getLsbD_signExtend]
  by_cases h : b < 32
  · rw [if_pos h, decide_eq_true h, if_pos hb]; rfl
  · have h2 : b - 32 < 32 := by omega
    rw [if_neg h, decide_eq_true h2, if_pos (by omega)]
    unfold jv_lb
    rw [Int64.toBitVec_shiftRight, BitVec.getLsbD_sshiftRight']
    have e : ((((32 : Int32).toInt64 &&& 63).toBitVec.smod 64) : BitVec 64).toNat = 32 := by decide
    have e5 : 32 + (b - 32) = b := by omega
    have e6 : ¬ 64 ≤ b - 32 := by omega
    simp only [e, e5, e6, hb, if_true, decide_false, Bool.not_false, Bool.true_and]
theorem jv_M_fr {w w' : Nat → Int32} (h1 : w' 384 = w 384) (h2 : w' 385 = w 385) : jv_M w' = jv_M w := by unfold jv_M; rw [h1, h2]
/-! a row of bits -/
def jv_rw (s n : Nat) : Int64 := lN ((2 ^ n - 1) * 2 ^ s)
theorem jv_rw_lb (s n : Nat) {b : Nat} (hb : b < 64) : jv_lb (jv_rw s n) b = decide (s ≤ b ∧ b < s + n) := by
  unfold jv_rw
  rw [jv_lb_lN _ hb, Nat.testBit_mul_two_pow, Nat.testBit_two_pow_sub_one]
  by_cases h : s ≤ b
  · by_cases h2 : b < s + n
    · have : b - s < n := by omega
      simp [h, h2, this]
    · have : ¬ b - s < n := by omega
      simp [h, h2, this]
  · simp [h]
theorem xk_row {post : Int64 → Prop} {s n : Nat} (hs : s < 64) (hn : n < 64) (K : post (jv_rw s n)) : wpX_row post (nI s) (nI n) := by
  unfold wpX_row
  refine pk_eq n 64 (fun h => absurd h (by omega)) (fun _ => ?_)
  have e1 : (1 : Int64) <<< ((nI n).toInt64 &&& 63) = lN (2 ^ n) := by
    have := wb_shl 1 (k := n) hn
    rw [Nat.one_mul] at this
    exact this
  have e2 : lN (2 ^ n) - 1 = lN (2 ^ n - 1) := lN_sub (a := 2 ^ n) (b := 1) (Nat.one_le_two_pow)
  rw [e1, e2, wb_shl _ hs]
  exact K
/-! one bit -/
theorem jv_bit (M : Int64) {b : Nat} (hb : b < 64) : ((M.toUInt64 >>> ((nI b).toInt64.toUInt64 &&& Int64.toUInt64 63)).toInt64 &&& 1) = if jv_lb M b = true then 1 else 0 := by
  obtain ⟨n, hn, rfl⟩ := wb_of M
  rw [wb_bit hn hb, jv_lb_lN n hb, Nat.testBit_eq_decide_div_mod_eq]
  rcases Nat.mod_two_eq_zero_or_one (n / 2 ^ b) with h | h
  · rw [h]; simp; rfl
  · rw [h]; simp; rfl
/-! how many bits -/
theorem jv_low : ∀ n : Nat, 0 < n → ∃ b q, n = 2 ^ b * (2 * q + 1) := by
  intro n
  induction n using Nat.strongRecOn with
  | ind n ih =>
    intro h
    rcases Nat.mod_two_eq_zero_or_one n with e | e
    · obtain ⟨b, q, hq⟩ := ih (n / 2) (by omega) (by omega)
      refine ⟨b + 1, q, ?_⟩
      rw [Nat.pow_succ, Nat.mul_comm (2 ^ b) 2, Nat.mul_assoc, ← hq]; omega
    · exact ⟨0, n / 2, by rw [Nat.pow_zero, Nat.one_mul]; omega⟩
theorem jv_clr {S : Int64} (h : ¬ S = 0) : ∃ b, b < 64 ∧ jv_lb S b = true ∧ jv_lb (S &&& (S - 1)) b = false ∧ ∀ i, i ≠ b → jv_lb S i = jv_lb (S &&& (S - 1)) i := by
  obtain ⟨n, hn, rfl⟩ := wb_of S
  have hpos : 0 < n := by
    rcases Nat.eq_zero_or_pos n with e | e
    · subst e; exact absurd rfl h
    · exact e
  obtain ⟨b, q, hq⟩ := jv_low n hpos
  have hb : b < 64 := by
    rcases Nat.lt_or_ge b 64 with g | g
    · exact g
    · exfalso
      have h1 : 2 ^ 64 ≤ 2 ^ b := Nat.pow_le_pow_right (by decide) g
      have h2 : 2 ^ b * 1 ≤ 2 ^ b * (2 * q + 1) := Nat.mul_le_mul_left _ (by omega)
      omega
  have e1 : lN n - 1 = lN (n - 1) := lN_sub (a := n) (b := 1) hpos
  have hp : 0 < 2 ^ b := Nat.two_pow_pos b
  have e2 : n = 2 ^ b * (2 * q + 1) + 0 := hq
  have e3 : n - 1 = 2 ^ b * (2 * q) + (2 ^ b - 1) := by
    rw [hq, Nat.mul_add, Nat.mul_one]; omega
  have t1 : ∀ j, n.testBit j = if j < b then false else (2 * q + 1).testBit (j - b) := fun j => by
    rw [e2, Nat.testBit_two_pow_mul_add _ hp]
    simp
  have t2 : ∀ j, (n - 1).testBit j = if j < b then (2 ^ b - 1).testBit j else (2 * q).testBit (j - b) := fun j => by
    rw [e3, Nat.testBit_two_pow_mul_add _ (by omega)]
  refine ⟨b, hb, ?_, ?_, fun i hi => ?_⟩
  · rw [jv_lb_lN n hb, t1, if_neg (by omega), Nat.sub_self, Nat.testBit_eq_decide_div_mod_eq]; simp
  · rw [jv_lb_and, e1, jv_lb_lN (n - 1) hb, t2, if_neg (by omega), Nat.sub_self, Nat.testBit_eq_decide_div_mod_eq]; simp
  · rcases Nat.lt_or_ge i 64 with g | g
    · rw [jv_lb_and, e1, jv_lb_lN n g, jv_lb_lN (n - 1) g, t1, t2]
      by_cases hl : i < b
      · rw [if_pos hl]; rfl
      · rw [if_neg hl, if_neg hl]
        obtain ⟨t, ht⟩ : ∃ t, i - b = t + 1 := ⟨i - b - 1, by omega⟩
        rw [ht, Nat.testBit_succ, Nat.testBit_succ, show (2 * q + 1) / 2 = q by omega, show (2 * q) / 2 = q by omega, Bool.and_self]
    · rw [jv_lb_big g, jv_lb_big g]
theorem xk_ones_l {post : Int32 → Prop} : ∀ (fuel c : Nat) (S : Int64), jv_ct (jv_lb S) 64 < fuel → post (nI (c + jv_ct (jv_lb S) 64)) → wX_ones_4 post fuel (nI c) S := by
  intro fuel
  induction fuel with
  | zero => intro c S h; omega
  | succ fuel ih =>
    intro c S hf K
    rw [wX_ones_4]
    refine br_c (fun h => ?_) (fun h => nm_r (nI_1 c) (nm_e ?_))
    · rw [h, jv_ct_0 64 (fun i _ => jv_lb_0 i)] at K; exact K
    · obtain ⟨b, h1, h2, h3, h4⟩ := jv_clr h
      have e := jv_ct_1 h2 h3 h4 64 h1
      refine ih (c + 1) _ (by omega) ?_
      rw [e] at K
      rw [show c + 1 + jv_ct (jv_lb (S &&& (S - 1))) 64 = c + (jv_ct (jv_lb (S &&& (S - 1))) 64 + 1) by omega]
      exact K
theorem xk_ones {post : Int32 → Prop} {S : Int64} (K : post (nI (jv_ct (jv_lb S) 64))) : wpX_ones post S := by
  unfold wpX_ones
  refine ⟨65, xk_ones_l 65 0 S (by have := jv_ct_le (jv_lb S) 64; omega) ?_⟩
  rw [Nat.zero_add]; exact K
/-! the longest row of bits, and where it begins -/
def jv_RL (p : Nat → Bool) (n b : Nat) : Prop := ∀ j, j < n → p (b + j) = true
def jv_Lg (p : Nat → Bool) (n : Nat) : Prop := (∀ b, ¬ jv_RL p (n + 1) b) ∧ (n = 0 ∨ ∃ b, b < 64 ∧ jv_RL p n b)
theorem jv_RL_mono {p : Nat → Bool} {n m b : Nat} (h : jv_RL p n b) (hm : m ≤ n) : jv_RL p m b := fun j hj => h j (by omega)
theorem jv_Lg_u {p : Nat → Bool} {n m : Nat} (h1 : jv_Lg p n) (h2 : jv_Lg p m) : n = m := by
  rcases Nat.lt_trichotomy n m with h | h | h
  · rcases h2.2 with e | ⟨b, _, hb⟩
    · omega
    · exact absurd (jv_RL_mono hb (show n + 1 ≤ m by omega)) (h1.1 b)
  · exact h
  · rcases h1.2 with e | ⟨b, _, hb⟩
    · omega
    · exact absurd (jv_RL_mono hb (show m + 1 ≤ n by omega)) (h2.1 b)
theorem jv_RL_64 {S : Int64} {n b : Nat} (h : jv_RL (jv_lb S) n b) (hn : 0 < n) : b + n ≤ 64 := by
  rcases Nat.lt_or_ge 64 (b + n) with g | g
  · have := h (n - 1) (by omega)
    rw [jv_lb_big (by omega)] at this
    exact absurd this (by decide)
  · exact g
theorem jv_shr1 (S : Int64) (b : Nat) : jv_lb (S &&& ((S.toUInt64 >>> ((1 : Int32).toInt64.toUInt64 &&& Int64.toUInt64 63)).toInt64)) b = (jv_lb S b && jv_lb S (b + 1)) := by
  rcases Nat.lt_or_ge b 64 with g | g
  · rw [jv_lb_and]
    obtain ⟨n, hn, rfl⟩ := wb_of S
    have e := wb_shr (n := n) (k := 1) hn (by decide)
    have e' : ((lN n).toUInt64 >>> ((1 : Int32).toInt64.toUInt64 &&& Int64.toUInt64 63)).toInt64 = lN (n / 2) := e
    rw [e', jv_lb_lN (n / 2) g, ← Nat.testBit_succ]
    rcases Nat.lt_or_ge (b + 1) 64 with g2 | g2
    · rw [jv_lb_lN n g2]
    · rw [jv_lb_big g2, Nat.testBit_lt_two_pow (Nat.lt_of_lt_of_le hn (Nat.pow_le_pow_right (by decide) g2))]
  · rw [jv_lb_big g, jv_lb_big g]; rfl
theorem jv_sh_RL {S s : Int64} {n : Nat} (h : ∀ b, jv_lb s b = true ↔ jv_RL (jv_lb S) (n + 1) b) :
    ∀ b, jv_lb (s &&& ((s.toUInt64 >>> ((1 : Int32).toInt64.toUInt64 &&& Int64.toUInt64 63)).toInt64)) b = true ↔ jv_RL (jv_lb S) (n + 1 + 1) b := by
  intro b
  rw [jv_shr1, Bool.and_eq_true, h b, h (b + 1)]
  constructor
  · rintro ⟨h1, h2⟩ j hj
    by_cases e : j < n + 1
    · exact h1 j e
    · have := h2 n (by omega)
      rw [show b + 1 + n = b + j by omega] at this
      exact this
  · intro h1
    refine ⟨fun j hj => h1 j (by omega), fun j hj => ?_⟩
    have := h1 (j + 1) (by omega)
    rw [show b + (j + 1) = b + 1 + j by omega] at this
    exact this
theorem xk_longest_l {S : Int64} : ∀ (d n : Nat) (s : Int64), n + d = 64 → (∀ b, jv_lb s b = true ↔ jv_RL (jv_lb S) (n + 1) b) → (n = 0 ∨ ∃ b, b < 64 ∧ jv_RL (jv_lb S) n b) →
    ∃ r, r ≤ 64 ∧ jv_Lg (jv_lb S) r ∧ ∀ (post : Int32 → Prop) (fuel : Nat), d < fuel → post (nI r) → wX_longest_4 post fuel (nI n) s := by
  intro d
  induction d with
  | zero =>
    intro n s hn hs h0
    have hz : s = 0 := jv_lb_ext (fun b hb => by
      rw [jv_lb_0]
      cases e : jv_lb s b with
      | false => rfl
      | true => have := jv_RL_64 ((hs b).mp e) (by omega); omega)
    refine ⟨n, by omega, ⟨fun b hb => ?_, h0⟩, fun post fuel hf K => ?_⟩
    · have := jv_RL_64 hb (by omega); omega
    · obtain ⟨fuel, rfl⟩ : ∃ g, fuel = g + 1 := ⟨fuel - 1, by omega⟩
      rw [wX_longest_4]
      exact br_t hz K
  | succ d ih =>
    intro n s hn hs h0
    by_cases hz : s = 0
    · refine ⟨n, by omega, ⟨fun b hb => ?_, h0⟩, fun post fuel hf K => ?_⟩
      · have := (hs b).mpr hb
        rw [hz, jv_lb_0] at this
        exact absurd this (by decide)
      · obtain ⟨fuel, rfl⟩ : ∃ g, fuel = g + 1 := ⟨fuel - 1, by omega⟩
        rw [wX_longest_4]
        exact br_t hz K
    · obtain ⟨b, hb, hb2, _⟩ := jv_clr hz
      obtain ⟨r, r1, r2, r3⟩ := ih (n + 1) _ (by omega) (jv_sh_RL hs) (Or.inr ⟨b, hb, (hs b).mp hb2⟩)
      refine ⟨r, r1, r2, fun post fuel hf K => ?_⟩
      obtain ⟨fuel, rfl⟩ : ∃ g, fuel = g + 1 := ⟨fuel - 1, by omega⟩
      rw [wX_longest_4]
      exact br_f hz (nm_r (nI_1 n) (nm_e (r3 post fuel (by omega) K)))
theorem jv_RL_1 {S : Int64} (b : Nat) : jv_lb S b = true ↔ jv_RL (jv_lb S) (0 + 1) b := by
  constructor
  · intro h j hj
    have : j = 0 := by omega
    subst this; exact h
  · intro h; exact h 0 (by omega)
theorem xk_longest (S : Int64) : ∃ r, r ≤ 64 ∧ jv_Lg (jv_lb S) r ∧ ∀ (post : Int32 → Prop), post (nI r) → wpX_longest post S := by
  obtain ⟨r, r1, r2, r3⟩ := xk_longest_l (S := S) 64 0 S (by omega) (fun b => jv_RL_1 b) (Or.inl rfl)
  exact ⟨r, r1, r2, fun post K => ⟨65, r3 post 65 (by omega) K⟩⟩
theorem xk_start_2 {post : Int32 → Prop} {s : Int64} {b0 : Nat} (hb : b0 < 64) (h1 : jv_lb s b0 = true) (h2 : ∀ b, b < b0 → jv_lb s b = false) (K : post (nI b0)) :
    ∀ (d b : Nat), b + d = b0 → ∀ fuel, d < fuel → wX_startOf_26 post s fuel (nI b) := by
  intro d
  induction d with
  | zero =>
    intro b e fuel hf
    obtain ⟨fuel, rfl⟩ : ∃ g, fuel = g + 1 := ⟨fuel - 1, by omega⟩
    have : b = b0 := by omega
    subst this
    rw [wX_startOf_26]
    refine br_f ?_ K
    rw [jv_bit s hb, h1]; decide
  | succ d ih =>
    intro b e fuel hf
    obtain ⟨fuel, rfl⟩ : ∃ g, fuel = g + 1 := ⟨fuel - 1, by omega⟩
    rw [wX_startOf_26]
    refine br_t ?_ (nm_r (nI_1 b) (ih (b + 1) (by omega) fuel (by omega)))
    rw [jv_bit s (by omega), h2 b (by omega)]; decide
theorem xk_start_1 {post : Int32 → Prop} {S : Int64} {n b0 : Nat} (hn : n ≤ 64) (hb : b0 < 64) (h1 : jv_RL (jv_lb S) n b0) (h2 : ∀ b, b < b0 → ¬ jv_RL (jv_lb S) n b) (K : post (nI b0)) :
    ∀ (d k : Nat) (s : Int64), k + d = n → (∀ b, jv_lb s b = true ↔ jv_RL (jv_lb S) k b) → 1 ≤ k → ∀ fuel, d < fuel → wX_startOf_5 post (nI n) fuel s (nI k) := by
  intro d
  induction d with
  | zero =>
    intro k s e hs hk fuel hf
    obtain ⟨fuel, rfl⟩ : ∃ g, fuel = g + 1 := ⟨fuel - 1, by omega⟩
    have : k = n := by omega
    subst this
    rw [wX_startOf_5]
    refine pk_le k k (fun _ => ⟨65, ?_⟩) (fun h => absurd h (by omega))
    refine xk_start_2 hb ((hs b0).mpr h1) (fun b hb2 => ?_) K b0 0 (by omega) 65 (by omega)
    cases e : jv_lb s b with
    | false => rfl
    | true => exact absurd ((hs b).mp e) (h2 b hb2)
  | succ d ih =>
    intro k s e hs hk fuel hf
    obtain ⟨fuel, rfl⟩ : ∃ g, fuel = g + 1 := ⟨fuel - 1, by omega⟩
    obtain ⟨k, rfl⟩ : ∃ g, k = g + 1 := ⟨k - 1, by omega⟩
    rw [wX_startOf_5]
    refine pk_le n (k + 1) (fun h => absurd h (by omega)) (fun _ => nm_e (nm_r (nI_1 _) ?_))
    exact ih (k + 1 + 1) _ (by omega) (jv_sh_RL hs) (by omega) fuel (by omega)
theorem xk_start {post : Int32 → Prop} {S : Int64} {n b0 : Nat} (hn : n ≤ 64) (hn0 : 1 ≤ n) (hb : b0 < 64) (h1 : jv_RL (jv_lb S) n b0) (h2 : ∀ b, b < b0 → ¬ jv_RL (jv_lb S) n b) (K : post (nI b0)) :
    wpX_startOf post S (nI n) := by
  unfold wpX_startOf
  exact ⟨65, xk_start_1 hn hb h1 h2 K (n - 1) 1 S (by omega) (fun b => jv_RL_1 b) (Nat.le_refl 1) 65 (by omega)⟩
/-- the least beginning of a row of n -/
theorem jv_Lg_b {p : Nat → Bool} {n : Nat} (h : jv_Lg p n) (hn : n ≠ 0) : ∃ b, b < 64 ∧ jv_RL p n b ∧ ∀ b', b' < b → ¬ jv_RL p n b' := by
  rcases h.2 with e | ⟨b, hb, h1⟩
  · exact absurd e hn
  · obtain ⟨k, hk, hm⟩ := pk_least (fun b => jv_RL p n b) ⟨b, h1⟩
    refine ⟨k, ?_, hk, hm⟩
    rcases Nat.lt_or_ge b k with g | g
    · exact absurd h1 (hm b g)
    · omega
end
section
/-! X: marks put, an inode made free -/
def jv_sm (w : Nat → Int32) (M : Int64) : Nat → Int32 := upd (upd w 384 M.toInt32) 385 (M >>> ((32 : Int32).toInt64 &&& 63)).toInt32
theorem jv_sm_M (w : Nat → Int32) (M : Int64) : jv_M (jv_sm w M) = M := jv_M_set w M
theorem jv_sm_n {w : Nat → Int32} {M : Int64} {q : Nat} (h1 : q ≠ 384) (h2 : q ≠ 385) : jv_sm w M q = w q := by unfold jv_sm; rw [pk_un h2, pk_un h1]
section
variable {xc xr xs xg xd xm xt xw xo : Int32} {aw ap aa av ae af ab al an aq : Nat → Int32}
theorem xk_setMarks {post : SX → Prop} {m m0 c : Nat} {M : Int64} {A0 V0 : Nat → Int32} (hc : c + 2 ≤ 58) (J : jv_J xg A0 V0 ap m0 c aw aa av m)
    (K : ∀ aa' av' m', jv_J xg A0 V0 ap m0 (c + 2) (jv_sm aw M) aa' av' m' → post (nI m', xr, xs, xg, xd, xm, xt, xw, xo, jv_sm aw M, ap, aa', av', ae, af, ab, al, an, aq)) : wpX_setMarks post (nI m, xr, xs, xg, xd, xm, xt, xw, xo, aw, ap, aa, av, ae, af, ab, al, an, aq) M := by
  unfold wpX_setMarks; dsimp only
  refine xk_put (a := 384) rfl (by decide) (by omega) J (fun aa1 av1 m1 J1 => ?_)
  exact xk_put (a := 385) rfl (by decide) (by omega) J1 (fun aa2 av2 m2 J2 => K aa2 av2 m2 J2)
theorem xk_marks {post : Int64 → Prop} (K : post (jv_M aw)) : wpX_marks post (xc, xr, xs, xg, xd, xm, xt, xw, xo, aw, ap, aa, av, ae, af, ab, al, an, aq) := K
theorem xk_mark0 {post : SX → Prop} {m m0 c s n : Nat} {A0 V0 : Nat → Int32} (hs : s < 64) (hn : n < 64) (hc : c + 2 ≤ 58) (J : jv_J xg A0 V0 ap m0 c aw aa av m)
    (K : ∀ aa' av' m', jv_J xg A0 V0 ap m0 (c + 2) (jv_sm aw (jv_M aw &&& (jv_rw s n ^^^ (-1)))) aa' av' m' → post (nI m', xr, xs, xg, xd, xm, xt, xw, xo, jv_sm aw (jv_M aw &&& (jv_rw s n ^^^ (-1))), ap, aa', av', ae, af, ab, al, an, aq)) :
    wpX_mark post (nI m, xr, xs, xg, xd, xm, xt, xw, xo, aw, ap, aa, av, ae, af, ab, al, an, aq) (nI s) (nI n) 0 := by
  unfold wpX_mark; dsimp only
  refine xk_marks (xk_row hs hn (br_t rfl ?_))
  unfold wX_mark_35
  exact xk_setMarks hc J K
theorem xk_mark1 {post : SX → Prop} {m m0 c s n : Nat} {A0 V0 : Nat → Int32} (hs : s < 64) (hn : n < 64) (hc : c + 2 ≤ 58) (J : jv_J xg A0 V0 ap m0 c aw aa av m)
    (K : ∀ aa' av' m', jv_J xg A0 V0 ap m0 (c + 2) (jv_sm aw (jv_M aw ||| jv_rw s n)) aa' av' m' → post (nI m', xr, xs, xg, xd, xm, xt, xw, xo, jv_sm aw (jv_M aw ||| jv_rw s n), ap, aa', av', ae, af, ab, al, an, aq)) :
    wpX_mark post (nI m, xr, xs, xg, xd, xm, xt, xw, xo, aw, ap, aa, av, ae, af, ab, al, an, aq) (nI s) (nI n) 1 := by
  unfold wpX_mark; dsimp only
  refine xk_marks (xk_row hs hn (br_f (by decide) ?_))
  unfold wX_mark_35
  exact xk_setMarks hc J K
theorem xk_unmark {post : SX → Prop} {m m0 c : Nat} {G : Int64} {A0 V0 : Nat → Int32} (hc : c + 2 ≤ 58) (J : jv_J xg A0 V0 ap m0 c aw aa av m)
    (K : ∀ aa' av' m', jv_J xg A0 V0 ap m0 (c + 2) (jv_sm aw (jv_M aw &&& (G ^^^ (-1)))) aa' av' m' → post (nI m', xr, xs, xg, xd, xm, xt, xw, xo, jv_sm aw (jv_M aw &&& (G ^^^ (-1))), ap, aa', av', ae, af, ab, al, an, aq)) :
    wpX_unmark post (nI m, xr, xs, xg, xd, xm, xt, xw, xo, aw, ap, aa, av, ae, af, ab, al, an, aq) G := by
  unfold wpX_unmark; dsimp only
  exact xk_marks (xk_setMarks hc J K)
theorem xk_used {post : Int32 → Prop} {b : Nat} {cm : Nat → Int32} (hb : b < 64) (hM : jv_MF (jv_M aw) cm) (K1 : ¬ cm b = 0 → post 1) (K0 : cm b = 0 → post 0) : wpX_isUsed post (xc, xr, xs, xg, xd, xm, xt, xw, xo, aw, ap, aa, av, ae, af, ab, al, an, aq) (nI b) := by
  unfold wpX_isUsed; dsimp only
  refine br_f (nI_pos (by omega)) (br_f (nI_nlt (a := 63) (b := b) (by omega) (by decide)) (xk_marks ?_))
  have h := hM b hb
  rw [jv_bit _ hb]
  cases e : jv_lb (jv_M aw) b with
  | true => 
    rw [e] at h
    exact br_t rfl (K1 (by rw [h]; decide))
  | false =>
    rw [e] at h
    exact br_f (by decide) (K0 (by rw [h]; rfl))
/-- the last three puts of free -/
theorem xk_free55 {post : SX → Prop} {x m m0 c : Nat} {A0 V0 : Nat → Int32} (hx : x < 16) (hc : c + 3 ≤ 58) (J : jv_J xg A0 V0 ap m0 c aw aa av m)
    (K : ∀ aa' av' m', jv_J xg A0 V0 ap m0 (c + 3) (upd (upd (upd aw (24 * x + 2) 0) (24 * x + 1) 0) (24 * x) 0) aa' av' m' → post (nI m', xr, xs, xg, xd, xm, xt, xw, xo, upd (upd (upd aw (24 * x + 2) 0) (24 * x + 1) 0) (24 * x) 0, ap, aa', av', ae, af, ab, al, an, aq)) :
    wX_free_55 post (nI (24 * x)) (nI m) xr xs xg xd xm xt xw xo aw ap aa av ae af ab al an aq := by
  unfold wX_free_55
  rw [ad_p2, ad_p1, ad_p0]
  refine xk_put rfl (by omega) (by omega) J (fun aa1 av1 m1 J1 => ?_)
  refine xk_put rfl (by omega) (by omega) J1 (fun aa2 av2 m2 J2 => ?_)
  exact xk_put rfl (by omega) (by omega) J2 (fun aa3 av3 m3 J3 => K aa3 av3 m3 J3)
theorem xk_free_l {x n : Nat} {P B L : Nat → Nat} (hx : x < 16) (hn : n ≤ 5) (h0 : jv_E0 n P B L) (hE : jv_EW af ab al n P B L) :
    ∀ (d k : Nat) (w : Nat → Int32), k + d = n → ∃ w', (∀ q, q ≠ 384 → q ≠ 385 → w' q = w q) ∧ (∀ b, b < 64 → jv_lb (jv_M w') b = (jv_lb (jv_M w) b && decide (∀ i, i < n → k ≤ i → ¬ (B i ≤ b ∧ b < B i + L i)))) ∧
      ∀ (post : SX → Prop) (A0 V0 : Nat → Int32) (m0 c fuel : Nat) (aa av : Nat → Int32) (m : Nat), d < fuel → c + 2 * d + 3 ≤ 58 → jv_J xg A0 V0 ap m0 c w aa av m →
        (∀ aa' av' m', jv_J xg A0 V0 ap m0 (c + 2 * d + 3) (upd (upd (upd w' (24 * x + 2) 0) (24 * x + 1) 0) (24 * x) 0) aa' av' m' → post (nI m', xr, xs, xg, xd, nI n, xt, xw, xo, upd (upd (upd w' (24 * x + 2) 0) (24 * x + 1) 0) (24 * x) 0, ap, aa', av', ae, af, ab, al, an, aq)) →
        wX_free_24 post (nI (24 * x)) fuel (nI k) (nI m) xr xs xg xd (nI n) xt xw xo w ap aa av ae af ab al an aq := by
  intro d
  induction d with
  | zero =>
    intro k w hk
    refine ⟨w, fun q _ _ => rfl, fun b hb => ?_, fun post A0 V0 m0 c fuel aa av m hf hc J K => ?_⟩
    · rw [decide_eq_true (fun i h1 h2 => by omega), Bool.and_true]
    · obtain ⟨fuel, rfl⟩ : ∃ g, fuel = g + 1 := ⟨fuel - 1, by omega⟩
      rw [wX_free_24]
      refine pk_le n k (fun _ => ?_) (fun h => absurd h (by omega))
      exact xk_free55 hx (by omega) J (fun aa1 av1 m1 J1 => K aa1 av1 m1 (jv_J_up J1 (by omega)))
  | succ d ih =>
    intro k w hk
    obtain ⟨e1, e2, e3⟩ := hE k (by omega)
    have b1 := h0.1 k (by omega)
    obtain ⟨w', g1, g2, g3⟩ := ih (k + 1) (jv_sm w (jv_M w &&& (jv_rw (B k) (L k) ^^^ (-1)))) (by omega)
    refine ⟨w', fun q h1 h2 => by rw [g1 q h1 h2, jv_sm_n h1 h2], fun b hb => ?_, fun post A0 V0 m0 c fuel aa av m hf hc J K => ?_⟩
    · rw [g2 b hb, jv_sm_M, jv_lb_and, jv_lb_not _ hb, jv_rw_lb _ _ hb, Bool.and_assoc]
      congr 1
      rw [← decide_not, ← Bool.decide_and]
      refine decide_eq_decide.mpr ⟨fun ⟨a1, a2⟩ i hi hi2 => ?_, fun a => ⟨a k (by omega) (Nat.le_refl k), fun i hi hi2 => a i hi (by omega)⟩⟩
      by_cases q : i = k
      · rw [q]; exact a1
      · exact a2 i hi (by omega)
    · obtain ⟨fuel, rfl⟩ : ∃ g, fuel = g + 1 := ⟨fuel - 1, by omega⟩
      rw [wX_free_24]
      refine pk_le n k (fun h => absurd h (by omega)) (fun _ => ?_)
      have v1 : vp_in (nI k) 12 := vp_in_nI (by omega) (by decide)
      rw [nI_clamp (n := k) (by omega), e2, e3, nI_1]
      refine ⟨v1, v1, xk_mark0 (by omega) (by omega) (by omega) J (fun aa1 av1 m1 J1 => ?_)⟩
      refine nm_e ?_
      exact g3 post A0 V0 m0 (c + 2) fuel aa1 av1 m1 (by omega) (by omega) J1 (fun aa2 av2 m2 J2 => K aa2 av2 m2 (jv_J_up J2 (by omega)))
theorem xk_free {x n : Nat} {P B L : Nat → Nat} (hx : x < 16) (hk : aw (24 * x) = 1) (hn : n ≤ 5) (h0 : jv_E0 n P B L) (hW : jv_XW aw x n P B L) :
    ∃ w' af' ab' al', w' (24 * x) = 0 ∧ (∀ q, (q < 24 * x ∨ 24 * x + 3 ≤ q) → q ≠ 384 → q ≠ 385 → w' q = aw q) ∧
      (∀ b, b < 64 → jv_lb (jv_M w') b = (jv_lb (jv_M aw) b && decide (∀ i, i < n → ¬ (B i ≤ b ∧ b < B i + L i)))) ∧
      ∀ (post : SX → Prop) (A0 V0 : Nat → Int32) (m0 c : Nat) (aa av : Nat → Int32) (m : Nat), c + 13 ≤ 58 → jv_J xg A0 V0 ap m0 c aw aa av m →
        (∀ aa' av' m', jv_J xg A0 V0 ap m0 (c + 13) w' aa' av' m' → post (nI m', xr, xs, xg, xd, nI n, xt, xw, xo, w', ap, aa', av', ae, af', ab', al', an, aq)) →
        wpX_free post (nI m, xr, xs, xg, xd, xm, xt, xw, xo, aw, ap, aa, av, ae, af, ab, al, an, aq) (nI x) := by
  obtain ⟨af', ab', al', hE, hl⟩ := xk_load (xr := xr) (xs := xs) (xg := xg) (xd := xd) (xt := xt) (xw := xw) (xo := xo) (ap := ap) (ae := ae) (af := af) (ab := ab) (al := al) (an := an) (aq := aq) hx (show n ≤ 6 by omega) (fun i hi => by have := h0.1 i hi; omega) hW
  obtain ⟨w', g1, g2, g3⟩ := xk_free_l (xr := xr) (xs := xs) (xg := xg) (xd := xd) (xt := xt) (xw := xw) (xo := xo) (ap := ap) (ae := ae) (an := an) (aq := aq) hx hn h0 hE n 0 aw (by omega)
  refine ⟨upd (upd (upd w' (24 * x + 2) 0) (24 * x + 1) 0) (24 * x) 0, af', ab', al', pk_us, fun q h1 h2 h3 => ?_, fun b hb => ?_, fun post A0 V0 m0 c aa av m hc J K => ?_⟩
  · rw [pk_un (by omega), pk_un (by omega), pk_un (by omega)]; exact g1 q h2 h3
  · rw [jv_M_fr (w := w') (by rw [pk_un (by omega), pk_un (by omega), pk_un (by omega)]) (by rw [pk_un (by omega), pk_un (by omega), pk_un (by omega)]), g2 b hb]
    congr 1
    exact decide_eq_decide.mpr ⟨fun a i hi => a i hi (Nat.zero_le i), fun a i hi _ => a i hi⟩
  · unfold wpX_free; dsimp only
    refine xk_base ?_
    rw [ad_p0, nI_clamp (by omega), hk]
    refine ⟨vp_in_nI (by omega) (by decide), br_t rfl (hl _ _ _ _ ⟨n + 1, ?_⟩)⟩
    exact g3 post A0 V0 m0 c (n + 1) aa av m (by omega) (by omega) J (fun aa1 av1 m1 J1 => K aa1 av1 m1 (jv_J_up J1 (by omega)))
theorem xk_free_d {x : Nat} (hx : x < 16) (hk : ¬ aw (24 * x) = 1) {post : SX → Prop} {A0 V0 : Nat → Int32} {m0 c m : Nat} (hc : c + 13 ≤ 58) (J : jv_J xg A0 V0 ap m0 c aw aa av m)
    (K : ∀ aa' av' m', jv_J xg A0 V0 ap m0 (c + 13) (upd (upd (upd aw (24 * x + 2) 0) (24 * x + 1) 0) (24 * x) 0) aa' av' m' → post (nI m', xr, xs, xg, xd, xm, xt, xw, xo, upd (upd (upd aw (24 * x + 2) 0) (24 * x + 1) 0) (24 * x) 0, ap, aa', av', ae, af, ab, al, an, aq)) :
    wpX_free post (nI m, xr, xs, xg, xd, xm, xt, xw, xo, aw, ap, aa, av, ae, af, ab, al, an, aq) (nI x) := by
  unfold wpX_free; dsimp only
  refine xk_base ?_
  rw [ad_p0, nI_clamp (by omega)]
  refine ⟨vp_in_nI (by omega) (by decide), br_f hk ?_⟩
  exact xk_free55 hx (by omega) J (fun aa1 av1 m1 J1 => K aa1 av1 m1 (jv_J_up J1 (by omega)))
end
end
section
/-! Y: small methods -/
/-- a stretch filled -/
def jv_fl (f : Nat → Int32) (b n : Nat) (v : Int32) : Nat → Int32 := fun j => if b ≤ j ∧ j < b + n then v else f j
theorem jv_fl_0 {f : Nat → Int32} {b : Nat} {v : Int32} : jv_fl f b 0 v = f := by
  funext j; unfold jv_fl; rw [if_neg (by omega)]
theorem jv_fl_s {f : Nat → Int32} {b n : Nat} {v : Int32} : upd (jv_fl f b n v) (b + n) v = jv_fl f b (n + 1) v := by
  funext j
  unfold jv_fl
  by_cases e : j = b + n
  · rw [e, pk_us, if_pos (by omega)]
  · rw [pk_un e]
    by_cases h : b ≤ j ∧ j < b + n
    · rw [if_pos h, if_pos (by omega)]
    · rw [if_neg h, if_neg (by omega)]
theorem jv_fl_i {f : Nat → Int32} {b n j : Nat} {v : Int32} (h1 : b ≤ j) (h2 : j < b + n) : jv_fl f b n v j = v := if_pos ⟨h1, h2⟩
theorem jv_fl_o {f : Nat → Int32} {b n j : Nat} {v : Int32} (h : j < b ∨ b + n ≤ j) : jv_fl f b n v j = f j := if_neg (by omega)
theorem yk_in {post : Int32 → Prop} {x a b : Nat} {u v w : Int32} (hu : u = nI x) (hv : v = nI a) (hw : w = nI b) (hx : x < 2 ^ 31) (ha : a < 2 ^ 31) (hb : b < 2 ^ 31) (K1 : a ≤ x → x ≤ b → post 1) (K0 : (x < a ∨ b < x) → post 0) : wpY_in post u v w := by
  subst hu hv hw
  unfold wpY_in
  exact pk_lt x a (fun h => K0 (Or.inl h)) (fun h => pk_lt b x (fun h2 => K0 (Or.inr h2)) (fun h2 => K1 h h2))
theorem yk_in_neg {post : Int32 → Prop} {a b : Nat} {u v w : Int32} (hv : v = nI a) (hu : u < 0) (ha : a < 2 ^ 31) (K0 : post 0) : wpY_in post u v w := by
  subst hv
  unfold wpY_in
  exact br_t (Int32.lt_of_lt_of_le hu (nI_pos' ha)) K0
theorem yk_in_o {post : Int32 → Prop} {b : Nat} {u w z : Int32} (hw : w = nI b) (hz : z = nI (b + 1)) (hb : b + 1 < 2 ^ 31) (h : u < 0 ∨ ¬ u < 0 ∧ z ≤ u) (K0 : post 0) : wpY_in post u 0 w := by
  subst hw hz
  unfold wpY_in
  rcases h with h | ⟨h, h2⟩
  · exact br_t h K0
  · exact br_f h (br_t (Int32.lt_of_lt_of_le (nI_lt (Nat.lt_succ_self b) hb) h2) K0)
section
variable {yr ys yd yh yt : Int32} {ck cl cp cn cb cv cm ok ol op on ob ov om ac au yf yo yu ym : Nat → Int32}
theorem yk_is_o {post : Int32 → Prop} {u t : Int32} (h : u < 0 ∨ ¬ u < 0 ∧ (16 : Int32) ≤ u) (K0 : post 0) : wpY_is post (yr, ys, yd, yh, yt, ck, cl, cp, cn, cb, cv, cm, ok, ol, op, on, ob, ov, om, ac, au, yf, yo, yu, ym) u t := by
  unfold wpY_is; dsimp only
  exact yk_in_o (b := 15) rfl (z := 16) rfl (by decide) h (br_t rfl K0)
theorem yk_is {post : Int32 → Prop} {x : Nat} {t : Int32} (hx : x < 16) (K1 : ck x = t → post 1) (K0 : ¬ ck x = t → post 0) : wpY_is post (yr, ys, yd, yh, yt, ck, cl, cp, cn, cb, cv, cm, ok, ol, op, on, ob, ov, om, ac, au, yf, yo, yu, ym) (nI x) t := by
  unfold wpY_is; dsimp only
  refine yk_in (x := x) (a := 0) (b := 15) rfl rfl rfl (by omega) (by decide) (by decide) (fun _ _ => br_f (by decide) ?_) (fun h => by omega)
  rw [nI_clamp (by omega)]
  exact ⟨vp_in_nI hx (by decide), br_c K1 K0⟩
/-! entries -/
theorem yk_ent_l {post : Int32 → Prop} {x : Nat} (hx : x < 16) : ∀ (d a c : Nat), a + d = 64 → c ≤ a → post (nI (c + jv_ct (fun i => decide (¬ cn (64 * x + a + i) < 0)) d)) →
    ∀ fuel, d < fuel → wY_entries_7 post (nI x) yr ys yd yh yt ck cl cp cn cb cv cm ok ol op on ob ov om ac au yf yo yu ym fuel (nI c) (nI (64 * x + a)) := by
  intro d
  induction d with
  | zero =>
    intro a c h hc K fuel hf
    obtain ⟨fuel, rfl⟩ : ∃ g, fuel = g + 1 := ⟨fuel - 1, by omega⟩
    rw [wY_entries_7]
    dsimp only
    have e : 64 * nI x + 64 = nI (64 * x + 64) := ad_n x 64
    rw [e]
    exact pk_le (64 * x + 64) (64 * x + a) (fun _ => K) (fun h => absurd h (by omega))
  | succ d ih =>
    intro a c h hc K fuel hf
    obtain ⟨fuel, rfl⟩ : ∃ g, fuel = g + 1 := ⟨fuel - 1, by omega⟩
    rw [wY_entries_7]
    dsimp only
    have e : 64 * nI x + 64 = nI (64 * x + 64) := ad_n x 64
    rw [e, nI_clamp (by omega)]
    refine pk_le (64 * x + 64) (64 * x + a) (fun h => absurd h (by omega)) (fun _ => ⟨vp_in_nI (by omega) (by decide), ?_⟩)
    rw [show d + 1 = 1 + d by omega, jv_ct_add] at K
    have e2 : (fun i => decide (¬ cn (64 * x + a + (1 + i)) < 0)) = (fun i => decide (¬ cn (64 * x + (a + 1) + i) < 0)) := by
      funext i; rw [show 64 * x + a + (1 + i) = 64 * x + (a + 1) + i by omega]
    rw [e2] at K
    refine br_c (fun hn => nm_r (nI_1 _) ?_) (fun hn => nm_r (nI_1 _) (nm_r (nI_1 _) ?_))
    · refine ih (a + 1) c (by omega) (by omega) ?_ fuel (by omega)
      rw [jv_ct_f (p := fun i => decide (¬ cn (64 * x + a + i) < 0)) (n := 0) (by simpa using hn)] at K
      rw [show (jv_ct (fun i => decide (¬ cn (64 * x + a + i) < 0)) 0) = 0 from rfl, Nat.zero_add] at K
      exact K
    · refine ih (a + 1) (c + 1) (by omega) (by omega) ?_ fuel (by omega)
      rw [jv_ct_t (p := fun i => decide (¬ cn (64 * x + a + i) < 0)) (n := 0) (by simpa using hn)] at K
      rw [show (jv_ct (fun i => decide (¬ cn (64 * x + a + i) < 0)) 0) = 0 from rfl, Nat.zero_add, ← Nat.add_assoc] at K
      exact K
theorem jv_DF_n {f : Nat → Int32} {n : Nat} {N I : Nat → Nat} (hF : jv_DF f n N I) : jv_ct (fun a => decide (¬ f a < 0)) 64 = n := by
  rw [jv_DF_ct hF _ (fun a _ e => by rw [e]; decide)]
  exact jv_ct_all n (fun i hi => by
    have := hF.2.1 i hi
    rw [this.2.2]
    exact decide_eq_true (nI_pos (by omega)))
theorem yk_entries {post : Int32 → Prop} {x n : Nat} {N I : Nat → Nat} (hx : x < 16) (hF : jv_DF (fun a => cn (64 * x + a)) n N I) (K : post (nI n)) : wpY_entries post (yr, ys, yd, yh, yt, ck, cl, cp, cn, cb, cv, cm, ok, ol, op, on, ob, ov, om, ac, au, yf, yo, yu, ym) (nI x) := by
  unfold wpY_entries; dsimp only
  refine nm_r (e' := nI (64 * x + 0)) (ad_64 x) ⟨65, yk_ent_l hx 64 0 0 (by omega) (by omega) ?_ 65 (by omega)⟩
  have := jv_DF_n hF
  rw [Nat.zero_add]
  rw [← this] at K
  exact K
/-! the name of an entry -/
theorem yk_nm2 {post : Int32 → Prop} {J5 : Int32 → Int32 → Prop} {x h c : Nat} {kk : Int32} (hh : h < 64) (K : J5 (nI c) (nI (h + 1))) : ∀ (d a : Nat), a + d = 64 → jv_nm h < a →
    ∀ fuel, d < fuel → wY_nameOf_15 post J5 (nI x) kk (nI h) yr ys yd yh yt ck cl cp cn cb cv cm ok ol op on ob ov om ac au yf yo yu ym fuel (nI c) (nI a) := by
  intro d
  induction d with
  | zero =>
    intro a e ha fuel hf
    obtain ⟨fuel, rfl⟩ : ∃ g, fuel = g + 1 := ⟨fuel - 1, by omega⟩
    rw [wY_nameOf_15]
    dsimp only
    exact pk_le 64 a (fun _ => nm_r (nI_1 h) K) (fun h => absurd h (by omega))
  | succ d ih =>
    intro a e ha fuel hf
    obtain ⟨fuel, rfl⟩ : ∃ g, fuel = g + 1 := ⟨fuel - 1, by omega⟩
    rw [wY_nameOf_15]
    dsimp only
    refine pk_le 64 a (fun h => absurd h (by omega)) (fun _ => ⟨by decide, ?_⟩)
    rw [jv_hsY (by omega)]
    have := jv_hs_lt a
    refine pk_eq (jv_hs a) h (fun g => ?_) (fun _ => nm_r (nI_1 a) (ih (a + 1) (by omega) (by omega) fuel (by omega)))
    exfalso
    rw [← g, jv_nm_hs a (by omega)] at ha; omega
theorem yk_nm1 {post : Int32 → Prop} {J5 : Int32 → Int32 → Prop} {x h c : Nat} {kk : Int32} (hx : x < 16) (hh : h < 64)
    (K1 : 0 ≤ cn (64 * x + jv_nm h) → nI c = kk → post (nI (jv_nm h)))
    (K2 : 0 ≤ cn (64 * x + jv_nm h) → ¬ nI c = kk → J5 (nI (c + 1)) (nI (h + 1)))
    (K3 : ¬ 0 ≤ cn (64 * x + jv_nm h) → J5 (nI c) (nI (h + 1))) : ∀ (d a : Nat), a + d = jv_nm h →
    ∀ fuel, 64 - a < fuel → wY_nameOf_15 post J5 (nI x) kk (nI h) yr ys yd yh yt ck cl cp cn cb cv cm ok ol op on ob ov om ac au yf yo yu ym fuel (nI c) (nI a) := by
  have hl := jv_nm_lt h
  intro d
  induction d with
  | zero =>
    intro a e fuel hf
    obtain ⟨fuel, rfl⟩ : ∃ g, fuel = g + 1 := ⟨fuel - 1, by omega⟩
    have ea : a = jv_nm h := by omega
    subst ea
    rw [wY_nameOf_15]
    dsimp only
    refine pk_le 64 (jv_nm h) (fun h => absurd h (by omega)) (fun _ => ⟨by decide, ?_⟩)
    rw [jv_hsY (by omega), jv_hs_nm h hh, ad_n, nI_clamp (by omega)]
    refine br_t rfl ⟨vp_in_nI (by omega) (by decide), br_c (fun g => br_c (fun g2 => K1 g g2) (fun g2 => nm_r (nI_1 c) (nm_r (nI_1 _) ?_))) (fun g => nm_r (nI_1 _) ?_)⟩
    · exact yk_nm2 hh (K2 g g2) (64 - (jv_nm h + 1)) (jv_nm h + 1) (by omega) (by omega) fuel (by omega)
    · exact yk_nm2 hh (K3 g) (64 - (jv_nm h + 1)) (jv_nm h + 1) (by omega) (by omega) fuel (by omega)
  | succ d ih =>
    intro a e fuel hf
    obtain ⟨fuel, rfl⟩ : ∃ g, fuel = g + 1 := ⟨fuel - 1, by omega⟩
    rw [wY_nameOf_15]
    dsimp only
    refine pk_le 64 a (fun h => absurd h (by omega)) (fun _ => ⟨by decide, ?_⟩)
    rw [jv_hsY (by omega)]
    have := jv_hs_lt a
    refine pk_eq (jv_hs a) h (fun g => ?_) (fun _ => nm_r (nI_1 a) (ih (a + 1) (by omega) fuel (by omega)))
    exfalso
    have e2 := jv_nm_hs a (by omega)
    rw [g] at e2; omega
/-- at hash h: the next entry i has it, or none has -/
theorem jv_at_h {f : Nat → Int32} {n h i : Nat} {N I : Nat → Nat} (hF : jv_DF f n N I) (hh : h < 64) (h1 : ∀ j, j < i → jv_hs (N j) < h) (h2 : ∀ j, i ≤ j → j < n → h ≤ jv_hs (N j)) :
    (i < n ∧ N i = jv_nm h ∧ jv_hs (N i) = h ∧ f (jv_nm h) = nI (I i)) ∨ (f (jv_nm h) = -1 ∧ ∀ j, i ≤ j → j < n → h < jv_hs (N j)) := by
  by_cases g : ∃ j, j < n ∧ jv_hs (N j) = h
  · obtain ⟨j, hj, e⟩ := g
    have hji : j = i := by
      rcases Nat.lt_trichotomy j i with q | q | q
      · have := h1 j q; omega
      · exact q
      · have a1 := hF.2.2.1 i j q hj
        have a2 := h2 i (Nat.le_refl i) (by omega)
        omega
    subst hji
    have hN := hF.2.1 j hj
    have e2 : N j = jv_nm h := by rw [← e, jv_nm_hs _ hN.1]
    exact Or.inl ⟨hj, e2, e, by rw [← e2]; exact hN.2.2⟩
  · refine Or.inr ⟨hF.2.2.2 _ (jv_nm_lt h) (fun j hj e => g ⟨j, hj, by rw [e]; exact jv_hs_nm h hh⟩), fun j hj hj2 => ?_⟩
    have := h2 j hj hj2
    rcases Nat.lt_or_ge h (jv_hs (N j)) with q | q
    · exact q
    · exact absurd ⟨j, hj2, by omega⟩ g
theorem yk_nm0 {post : Int32 → Prop} {x n : Nat} {N I : Nat → Nat} {kk : Int32} (hx : x < 16) (hF : jv_DF (fun a => cn (64 * x + a)) n N I)
    (K1 : ∀ k, k < n → kk = nI k → post (nI (N k))) (K0 : (∀ k, k < n → ¬ kk = nI k) → post (-1)) : ∀ (d h i : Nat), h + d = 64 → i ≤ n → (∀ j, j < i → jv_hs (N j) < h) → (∀ j, i ≤ j → j < n → h ≤ jv_hs (N j)) → (∀ k, k < i → ¬ kk = nI k) →
    ∀ fuel, d < fuel → wY_nameOf_5 post (nI x) kk yr ys yd yh yt ck cl cp cn cb cv cm ok ol op on ob ov om ac au yf yo yu ym fuel (nI i) (nI h) := by
  intro d
  induction d with
  | zero =>
    intro h i e hi h1 h2 h3 fuel hf
    obtain ⟨fuel, rfl⟩ : ∃ g, fuel = g + 1 := ⟨fuel - 1, by omega⟩
    rw [wY_nameOf_5]
    refine pk_le 64 h (fun _ => K0 (fun k hk => h3 k ?_)) (fun h => absurd h (by omega))
    rcases Nat.lt_or_ge k i with q | q
    · exact q
    · have a1 := h2 k q hk
      have a2 := jv_hs_lt (N k)
      omega
  | succ d ih =>
    intro h i e hi h1 h2 h3 fuel hf
    obtain ⟨fuel, rfl⟩ : ∃ g, fuel = g + 1 := ⟨fuel - 1, by omega⟩
    have hn := hF.1
    rw [wY_nameOf_5]
    refine pk_le 64 h (fun h => absurd h (by omega)) (fun _ => ⟨65, ?_⟩)
    rcases jv_at_h hF (show h < 64 by omega) h1 h2 with ⟨a1, a2, a3, a4⟩ | ⟨a1, a2⟩
    · have hI := hF.2.1 i a1
      have g0 : 0 ≤ cn (64 * x + jv_nm h) := by
        have a5 : cn (64 * x + jv_nm h) = nI (I i) := a4
        rw [a5]; exact nI_pos' (by omega)
      refine yk_nm1 hx (by omega) (fun _ g => ?_) (fun _ g => ?_) (fun g => absurd g0 g) (jv_nm h) 0 (by omega) 65 (by omega)
      · rw [← a2]; exact K1 i a1 g.symm
      · refine ih (h + 1) (i + 1) (by omega) (by omega) (fun j hj => ?_) (fun j hj hj2 => ?_) (fun k hk => ?_) fuel (by omega)
        · by_cases q : j = i
          · rw [q]; omega
          · have := h1 j (by omega); omega
        · have := hF.2.2.1 i j (by omega) hj2; omega
        · by_cases q : k = i
          · rw [q]; exact fun g2 => g g2.symm
          · exact h3 k (by omega)
    · have g0 : ¬ 0 ≤ cn (64 * x + jv_nm h) := by
        have a5 : cn (64 * x + jv_nm h) = -1 := a1
        rw [a5]; exact jv_m1n0
      refine yk_nm1 hx (by omega) (fun g _ => absurd g g0) (fun g _ => absurd g g0) (fun _ => ?_) (jv_nm h) 0 (by omega) 65 (by omega)
      exact ih (h + 1) i (by omega) hi (fun j hj => by have := h1 j hj; omega) (fun j hj hj2 => by have := a2 j hj hj2; omega) h3 fuel (by omega)
theorem yk_nameOf {post : Int32 → Prop} {x n : Nat} {N I : Nat → Nat} {kk : Int32} (hx : x < 16) (hF : jv_DF (fun a => cn (64 * x + a)) n N I)
    (K1 : ∀ k, k < n → kk = nI k → post (nI (N k))) (K0 : (∀ k, k < n → ¬ kk = nI k) → post (-1)) : wpY_nameOf post (yr, ys, yd, yh, yt, ck, cl, cp, cn, cb, cv, cm, ok, ol, op, on, ob, ov, om, ac, au, yf, yo, yu, ym) (nI x) kk := by
  unfold wpY_nameOf; dsimp only
  exact ⟨65, yk_nm0 hx hF K1 K0 64 0 0 (by omega) (by omega) (fun j hj => by omega) (fun j _ _ => by omega) (fun k hk => by omega) 65 (by omega)⟩
/-! extents -/
theorem yk_begins {post : Int32 → Prop} {x p : Nat} (hx : x < 16) (hp : p < 24) (K1 : jv_bg (fun q => cb (24 * x + q)) p = true → post 1) (K0 : jv_bg (fun q => cb (24 * x + q)) p = false → post 0) :
    wpY_begins post (yr, ys, yd, yh, yt, ck, cl, cp, cn, cb, cv, cm, ok, ol, op, on, ob, ov, om, ac, au, yf, yo, yu, ym) (nI x) (nI p) := by
  unfold wpY_begins; dsimp only
  refine nm_r (ad_b x p) ?_
  rw [nI_clamp (by omega)]
  have v1 : vp_in (nI (24 * x + p)) 384 := vp_in_nI (by omega) (by decide)
  unfold jv_bg at K1 K0
  simp only [decide_eq_true_eq, decide_eq_false_iff_not] at K1 K0
  refine ⟨v1, br_c (fun h => K0 (fun g => g.1 h)) (fun h => pk_eq p 0 (fun e => K1 ⟨h, Or.inl e⟩) (fun e => ?_))⟩
  have es : nI (24 * x + p) - 1 = nI (24 * x + (p - 1)) := by
    have := pk_sub (a := 24 * x + p) (b := 1) (by omega)
    rw [show 24 * x + p - 1 = 24 * x + (p - 1) by omega] at this
    exact this
  rw [es, nI_clamp (by omega)]
  have v2 : vp_in (nI (24 * x + (p - 1))) 384 := vp_in_nI (by omega) (by decide)
  exact ⟨v2, br_c (fun g => K1 ⟨h, Or.inr (Or.inl g)⟩) (fun g => ⟨v2, v1, br_c (fun g2 => K0 (fun z => by
    rcases z.2 with q | q | q
    · exact e q
    · exact g q
    · exact q g2)) (fun g2 => K1 ⟨h, Or.inr (Or.inr g2)⟩)⟩)⟩
theorem yk_exts_l {post : Int32 → Prop} {x : Nat} (hx : x < 16) (K : post (nI (jv_ct (jv_bg (fun q => cb (24 * x + q))) 24))) : ∀ (d p : Nat), p + d = 24 →
    ∀ fuel, d < fuel → wY_extents_4 post (nI x) yr ys yd yh yt ck cl cp cn cb cv cm ok ol op on ob ov om ac au yf yo yu ym fuel (nI (jv_ct (jv_bg (fun q => cb (24 * x + q))) p)) (nI p) := by
  intro d
  induction d with
  | zero =>
    intro p e fuel hf
    obtain ⟨fuel, rfl⟩ : ∃ g, fuel = g + 1 := ⟨fuel - 1, by omega⟩
    rw [wY_extents_4]
    have : p = 24 := by omega
    subst this
    exact br_t (nI_le (a := 24) (b := 24) (by omega) (by decide)) K
  | succ d ih =>
    intro p e fuel hf
    obtain ⟨fuel, rfl⟩ : ∃ g, fuel = g + 1 := ⟨fuel - 1, by omega⟩
    rw [wY_extents_4]
    refine pk_le 24 p (fun h => absurd h (by omega)) (fun _ => yk_begins hx (by omega) (fun h => br_f (by decide) (nm_r (nI_1 _) (nm_r (nI_1 _) ?_))) (fun h => br_t rfl (nm_r (nI_1 _) ?_)))
    · rw [← jv_ct_t h]; exact ih (p + 1) (by omega) fuel (by omega)
    · have := ih (p + 1) (by omega) fuel (by omega)
      rw [jv_ct_f h] at this
      exact this
theorem yk_extents {post : Int32 → Prop} {x n : Nat} {P B L : Nat → Nat} (hx : x < 16) (hX : jv_Ex (fun q => cb (24 * x + q)) n P B L) (K : post (nI n)) : wpY_extents post (yr, ys, yd, yh, yt, ck, cl, cp, cn, cb, cv, cm, ok, ol, op, on, ob, ov, om, ac, au, yf, yo, yu, ym) (nI x) := by
  unfold wpY_extents; dsimp only
  exact ⟨25, yk_exts_l hx (by rw [jv_Ex_ct hX]; exact K) 24 0 (by omega) 25 (by omega)⟩
theorem yk_exA_l {post : Int32 → Prop} {x n : Nat} {P B L : Nat → Nat} {kk : Int32} (hx : x < 16) (hn : n ≤ 24) (hX : jv_Ex (fun q => cb (24 * x + q)) n P B L)
    (K1 : ∀ k, k < n → kk = nI k → post (nI (P k))) (K0 : (∀ k, k < n → ¬ kk = nI k) → post (-1)) : ∀ (d p i : Nat), p + d = 24 → i ≤ n → (∀ j, j < i → P j < p) → (∀ j, i ≤ j → j < n → p ≤ P j) → (∀ k, k < i → ¬ kk = nI k) →
    ∀ fuel, d < fuel → wY_extentAt_5 post (nI x) kk yr ys yd yh yt ck cl cp cn cb cv cm ok ol op on ob ov om ac au yf yo yu ym fuel (nI i) (nI p) := by
  intro d
  induction d with
  | zero =>
    intro p i e hi h1 h2 h3 fuel hf
    obtain ⟨fuel, rfl⟩ : ∃ g, fuel = g + 1 := ⟨fuel - 1, by omega⟩
    rw [wY_extentAt_5]
    refine pk_le 24 p (fun _ => K0 (fun k hk => h3 k ?_)) (fun h => absurd h (by omega))
    rcases Nat.lt_or_ge k i with q | q
    · exact q
    · have a1 := h2 k q hk
      have a2 := hX.1.1 k hk
      omega
  | succ d ih =>
    intro p i e hi h1 h2 h3 fuel hf
    obtain ⟨fuel, rfl⟩ : ∃ g, fuel = g + 1 := ⟨fuel - 1, by omega⟩
    rw [wY_extentAt_5]
    refine pk_le 24 p (fun h => absurd h (by omega)) (fun _ => yk_begins hx (by omega) (fun h => br_f (by decide) ?_) (fun h => br_t rfl ?_))
    · obtain ⟨j, hj, e2⟩ := (jv_Ex_bg hX (show p < 24 by omega)).mp h
      have hji : j = i := by
        rcases Nat.lt_trichotomy j i with q | q | q
        · have := h1 j q; omega
        · exact q
        · have a1 := jv_Ex_inj hX.1 q hj
          have a2 := h2 i (Nat.le_refl i) (by omega)
          omega
      subst hji
      refine br_c (fun g => by rw [← e2]; exact K1 j hj g.symm) (fun g => ?_)
      unfold wY_extentAt_34
      refine br_f (by decide) (nm_r (nI_1 _) (nm_r (nI_1 _) ?_))
      refine ih (p + 1) (j + 1) (by omega) (by omega) (fun j' hj' => ?_) (fun j' hj' hj2 => ?_) (fun k hk => ?_) fuel (by omega)
      · by_cases q : j' = j
        · rw [q]; omega
        · have := h1 j' (by omega); omega
      · have := jv_Ex_inj hX.1 (show j < j' by omega) hj2; omega
      · by_cases q : k = j
        · rw [q]; exact fun g2 => g g2.symm
        · exact h3 k (by omega)
    · unfold wY_extentAt_34
      refine br_t rfl (nm_r (nI_1 _) ?_)
      refine ih (p + 1) i (by omega) hi (fun j hj => by have := h1 j hj; omega) (fun j hj hj2 => ?_) h3 fuel (by omega)
      have a1 := h2 j hj hj2
      by_cases q : P j = p
      · rw [(jv_Ex_bg hX (show p < 24 by omega)).mpr ⟨j, hj2, q⟩] at h
        exact absurd h (by decide)
      · omega
theorem yk_extentAt {post : Int32 → Prop} {x n : Nat} {P B L : Nat → Nat} {kk : Int32} (hx : x < 16) (hn : n ≤ 24) (hX : jv_Ex (fun q => cb (24 * x + q)) n P B L)
    (K1 : ∀ k, k < n → kk = nI k → post (nI (P k))) (K0 : (∀ k, k < n → ¬ kk = nI k) → post (-1)) : wpY_extentAt post (yr, ys, yd, yh, yt, ck, cl, cp, cn, cb, cv, cm, ok, ol, op, on, ob, ov, om, ac, au, yf, yo, yu, ym) (nI x) kk := by
  unfold wpY_extentAt; dsimp only
  exact ⟨25, yk_exA_l hx hn hX K1 K0 24 0 0 (by omega) (by omega) (fun j hj => by omega) (fun j _ _ => by omega) (fun k hk => by omega) 25 (by omega)⟩
theorem yk_len_l {post : Int32 → Prop} {x n k : Nat} {P B L : Nat → Nat} (hx : x < 16) (hX : jv_Ex (fun q => cb (24 * x + q)) n P B L) (hk : k < n) (K : post (nI (L k))) : ∀ (d i : Nat), i + d = L k → 1 ≤ i →
    ∀ fuel, d < fuel → wY_lengthAt_2 post (nI x) (nI (P k)) yr ys yd yh yt ck cl cp cn cb cv cm ok ol op on ob ov om ac au yf yo yu ym fuel (nI i) := by
  have b1 := hX.1.1 k hk
  have e0 : cb (24 * x + P k) = nI (B k) := by
    have := hX.2.2.1 k hk 0 (by omega)
    exact this
  intro d
  induction d with
  | zero =>
    intro i e hi fuel hf
    obtain ⟨fuel, rfl⟩ : ∃ g, fuel = g + 1 := ⟨fuel - 1, by omega⟩
    have : i = L k := by omega
    subst this
    rw [wY_lengthAt_2]
    dsimp only
    rw [ad_b, nI_add, nI_add]
    refine pk_le 24 (P k + L k) (fun _ => K) (fun h => ?_)
    rw [nI_clamp (by omega), nI_clamp (by omega), e0, nI_add]
    refine ⟨vp_in_nI (by omega) (by decide), vp_in_nI (by omega) (by decide), br_f (fun e => ?_) K⟩
    rw [show 24 * x + P k + L k = 24 * x + (P k + L k) by omega] at e
    rcases jv_Ex_at (n := n) (P := P) (L := L) (P k + L k) with ⟨j, hj, a1, a2⟩ | hn
    · have hkj : k < j := by
        rcases Nat.lt_trichotomy j k with q | q | q
        · have := hX.1.2 j k q hk; omega
        · rw [q] at a2; omega
        · exact q
      have c1 := hX.1.2 k j hkj hj
      have c2 := hX.1.1 j hj
      have ej : j = k + 1 := by
        by_cases q : j = k + 1
        · exact q
        · have d1 := hX.1.2 k (k + 1) (by omega) (by omega)
          have d2 := hX.1.1 (k + 1) (by omega)
          have d3 := hX.1.2 (k + 1) j (by omega) hj
          omega
      have e3 : cb (24 * x + (P k + L k)) = nI (B j + (P k + L k - P j)) := jv_EF_in hX.2.2 hj a1 a2
      rw [e3, nI_eq (by omega) (by omega)] at e
      have c3 := hX.2.1 k (by omega)
      rw [← ej] at c3
      omega
    · have e3 : cb (24 * x + (P k + L k)) = -1 := hX.2.2.2 _ h hn
      rw [e3] at e
      exact absurd e.symm (jv_neg1 (by omega))
  | succ d ih =>
    intro i e hi fuel hf
    obtain ⟨fuel, rfl⟩ : ∃ g, fuel = g + 1 := ⟨fuel - 1, by omega⟩
    rw [wY_lengthAt_2]
    dsimp only
    rw [ad_b, nI_add, nI_add]
    refine pk_le 24 (P k + i) (fun h => absurd h (by omega)) (fun h => ?_)
    rw [nI_clamp (by omega), nI_clamp (by omega), e0, nI_add]
    refine ⟨vp_in_nI (by omega) (by decide), vp_in_nI (by omega) (by decide), br_t ?_ (nm_r (nI_1 i) (ih (i + 1) (by omega) (by omega) fuel (by omega)))⟩
    rw [show 24 * x + P k + i = 24 * x + (P k + i) by omega]
    exact hX.2.2.1 k hk i (by omega)
theorem yk_lengthAt {post : Int32 → Prop} {x n k : Nat} {P B L : Nat → Nat} (hx : x < 16) (hX : jv_Ex (fun q => cb (24 * x + q)) n P B L) (hk : k < n) (K : post (nI (L k))) : wpY_lengthAt post (yr, ys, yd, yh, yt, ck, cl, cp, cn, cb, cv, cm, ok, ol, op, on, ob, ov, om, ac, au, yf, yo, yu, ym) (nI x) (nI (P k)) := by
  unfold wpY_lengthAt; dsimp only
  have b1 := hX.1.1 k hk
  exact ⟨L k + 1, yk_len_l hx hX hk K (L k - 1) 1 (by omega) (by omega) (L k + 1) (by omega)⟩
/-! records, positions taken away -/
def jv_nt (au : Nat → Int32) (k : Nat) (a b c d : Int32) : Nat → Int32 := upd (upd (upd (upd au (4 * k) a) (4 * k + 1) b) (4 * k + 2) c) (4 * k + 3) d
theorem yk_note {post : SY → Prop} {k : Nat} {q a b c d : Int32} (hk : k < 24) (K : post (nI (k + 1), ys, yd, yh, yt, ck, cl, cp, cn, cb, cv, cm, ok, ol, op, on, ob, ov, om, upd ac k q, jv_nt au k a b c d, yf, yo, yu, ym)) : wpY_note post (nI k, ys, yd, yh, yt, ck, cl, cp, cn, cb, cv, cm, ok, ol, op, on, ob, ov, om, ac, au, yf, yo, yu, ym) q a b c d := by
  unfold wpY_note; dsimp only
  rw [ad_4, ad_p1, ad_p2, ad_p3, nI_clamp (n := k) (by omega), nI_clamp (n := 4 * k) (by omega), nI_clamp (n := 4 * k + 1) (by omega), nI_clamp (n := 4 * k + 2) (by omega), nI_clamp (n := 4 * k + 3) (by omega), ad_p1]
  exact ⟨vp_in_nI (by omega) (by decide), nm_e ⟨vp_in_nI (by omega) (by decide), nm_e ⟨vp_in_nI (by omega) (by decide), nm_e ⟨vp_in_nI (by omega) (by decide), nm_e ⟨vp_in_nI (by omega) (by decide), nm_e (nm_e K)⟩⟩⟩⟩⟩
theorem yk_unmap {post : SY → Prop} {j : Nat} (hj : j < 384) (hv : cb j = -1 ∨ ∃ b, b < 64 ∧ cb j = nI b) (K1 : cb j = -1 → post (yr, ys, yd, yh, yt, ck, cl, cp, cn, upd cb j (-1), cv, cm, ok, ol, op, on, ob, ov, om, ac, au, yf, yo, yu, ym)) (K2 : ∀ b, b < 64 → cb j = nI b → post (yr, ys, yd, yh, yt, ck, cl, cp, cn, upd cb j (-1), cv, upd cm b 0, ok, ol, op, on, ob, ov, om, ac, au, yf, yo, yu, ym)) :
    wpY_unmap post (yr, ys, yd, yh, yt, ck, cl, cp, cn, cb, cv, cm, ok, ol, op, on, ob, ov, om, ac, au, yf, yo, yu, ym) (nI j) := by
  unfold wpY_unmap; dsimp only
  rw [nI_clamp (by omega)]
  have v1 : vp_in (nI j) 384 := vp_in_nI (by omega) (by decide)
  rcases hv with h | ⟨b, hb, h⟩
  · exact ⟨v1, br_t (by rw [h]; exact jv_m1neg) ⟨v1, nm_e (K1 h)⟩⟩
  · refine ⟨v1, br_f (by rw [h]; exact nI_pos (by omega)) ⟨v1, ?_⟩⟩
    have := K2 b hb h
    rw [h, nI_clamp (by omega)]
    exact ⟨vp_in_nI hb (by decide), nm_e ⟨v1, nm_e this⟩⟩
end
end
section
/-! the longest row of open blocks in Y, and the choice of a block in lockstep -/
section
variable {yr ys yd yh yt : Int32} {ck cl cp cn cb cv cm ok ol op on ob ov om ac au yf yo yu ym : Nat → Int32}
theorem yk_lng_i {p : Nat → Bool} {b : Nat} (hb : b ≤ 64) (hp : ∀ q, q < 64 → (p q = true ↔ cm q = 0)) (hp2 : ∀ q, 64 ≤ q → p q = false) : ∀ (d n : Nat), b + n + d = 64 → jv_RL p n b →
    ∃ r, r ≤ 64 ∧ jv_RL p r b ∧ ¬ jv_RL p (r + 1) b ∧ ∀ (yr ys yd yh yt : Int32) (ck cl cp cn cb cv ok ol op on ob ov om ac au yf yo yu ym : Nat → Int32) (post : Int32 → Prop) (J7 : Int32 → Int32 → Int32 → Prop) (x1 x2 x3 : Int32) (fuel : Nat), d < fuel →
      wY_longest_46 post J7 x1 x2 x3 (nI b) (nI r) yr ys yd yh yt ck cl cp cn cb cv cm ok ol op on ob ov om ac au yf yo yu ym → wY_longest_17 post J7 x1 x2 x3 (nI b) yr ys yd yh yt ck cl cp cn cb cv cm ok ol op on ob ov om ac au yf yo yu ym fuel (nI n) := by
  intro d
  induction d with
  | zero =>
    intro n hn hR
    refine ⟨n, by omega, hR, fun h => ?_, ?_⟩
    · have := h n (by omega)
      rw [hp2 _ (by omega)] at this
      exact absurd this (by decide)
    · intros
      rename_i fuel hf K
      obtain ⟨fuel, rfl⟩ : ∃ g, fuel = g + 1 := ⟨fuel - 1, by omega⟩
      rw [wY_longest_17]
      dsimp only
      rw [nI_add]
      exact pk_le 64 (b + n) (fun _ => K) (fun h => absurd h (by omega))
  | succ d ih =>
    intro n hn hR
    by_cases hc : cm (b + n) = 0
    · obtain ⟨r, r1, r2, r3, r4⟩ := ih (n + 1) (by omega) (fun j hj => by
        by_cases q : j = n
        · rw [q]; exact (hp _ (by omega)).mpr hc
        · exact hR j (by omega))
      refine ⟨r, r1, r2, r3, ?_⟩
      intros
      rename_i fuel hf K
      obtain ⟨fuel, rfl⟩ : ∃ g, fuel = g + 1 := ⟨fuel - 1, by omega⟩
      rw [wY_longest_17]
      dsimp only
      rw [nI_add, nI_clamp (by omega)]
      exact pk_le 64 (b + n) (fun h => absurd h (by omega)) (fun _ => ⟨vp_in_nI (by omega) (by decide), br_t hc (nm_r (nI_1 n) (r4 _ _ _ _ _ _ _ _ _ _ _ _ _ _ _ _ _ _ _ _ _ _ _ _ _ _ _ _ _ fuel (by omega) K))⟩)
    · refine ⟨n, by omega, hR, fun h => hc ((hp _ (by omega)).mp (h n (by omega))), ?_⟩
      intros
      rename_i fuel hf K
      obtain ⟨fuel, rfl⟩ : ∃ g, fuel = g + 1 := ⟨fuel - 1, by omega⟩
      rw [wY_longest_17]
      dsimp only
      rw [nI_add, nI_clamp (by omega)]
      exact pk_le 64 (b + n) (fun h => absurd h (by omega)) (fun _ => ⟨vp_in_nI (by omega) (by decide), br_f hc K⟩)
/-- the best so far -/
def jv_Bs (p : Nat → Bool) (b m : Nat) (z : Int32) : Prop :=
  (∀ q, q < b → ¬ jv_RL p (m + 1) q) ∧ ((m = 0 ∧ z = -1) ∨ (0 < m ∧ ∃ q, q < b ∧ q < 64 ∧ z = nI q ∧ jv_RL p m q ∧ ∀ q', q' < q → ¬ jv_RL p m q'))
theorem yk_lng_o {p : Nat → Bool} (hp : ∀ q, q < 64 → (p q = true ↔ cm q = 0)) (hp2 : ∀ q, 64 ≤ q → p q = false) : ∀ (d b m : Nat) (z : Int32), b + d = 64 → m ≤ 64 → jv_Bs p b m z →
    ∃ m' z', m' ≤ 64 ∧ jv_Bs p 64 m' z' ∧ ∀ (yr ys yd yh yt : Int32) (ck cl cp cn cb cv ok ol op on ob ov om ac au yf yo yu ym : Nat → Int32) (post : Int32 → Prop) (x1 : Int32) (fuel : Nat), d < fuel →
      (x1 = 0 → post z') → (¬ x1 = 0 → post (nI m')) → wY_longest_7 post x1 yr ys yd yh yt ck cl cp cn cb cv cm ok ol op on ob ov om ac au yf yo yu ym fuel (nI m) z (nI b) := by
  intro d
  induction d with
  | zero =>
    intro b m z hb hm hB
    have : b = 64 := by omega
    subst this
    refine ⟨m, z, hm, hB, ?_⟩
    intros
    rename_i fuel hf K0 K1
    obtain ⟨fuel, rfl⟩ : ∃ g, fuel = g + 1 := ⟨fuel - 1, by omega⟩
    rw [wY_longest_7]
    exact br_t (nI_le (a := 64) (b := 64) (by omega) (by decide)) (br_c K0 K1)
  | succ d ih =>
    intro b m z hb hm hB
    obtain ⟨r, r1, r2, r3, r4⟩ := yk_lng_i (cm := cm) (b := b) (by omega) hp hp2 (64 - b) 0 (by omega) (fun j hj => by omega)
    by_cases hc : r ≤ m
    · obtain ⟨m', z', g1, g2, g3⟩ := ih (b + 1) m z (by omega) hm ⟨fun q hq => by
        by_cases e : q = b
        · rw [e]; exact fun h => r3 (jv_RL_mono h (by omega))
        · exact hB.1 q (by omega), by
        rcases hB.2 with h | ⟨h, q, h1, h2⟩
        · exact Or.inl h
        · exact Or.inr ⟨h, q, by omega, h2⟩⟩
      refine ⟨m', z', g1, g2, ?_⟩
      intros
      rename_i fuel hf K0 K1
      obtain ⟨fuel, rfl⟩ : ∃ g, fuel = g + 1 := ⟨fuel - 1, by omega⟩
      rw [wY_longest_7]
      refine pk_le 64 b (fun h => absurd h (by omega)) (fun _ => ⟨65, r4 _ _ _ _ _ _ _ _ _ _ _ _ _ _ _ _ _ _ _ _ _ _ _ _ _ _ _ _ _ 65 (by omega) ?_⟩)
      unfold wY_longest_46
      exact pk_le r m (fun _ => nm_r (nI_1 b) (g3 _ _ _ _ _ _ _ _ _ _ _ _ _ _ _ _ _ _ _ _ _ _ _ _ _ _ fuel (by omega) K0 K1)) (fun h => absurd h (by omega))
    · obtain ⟨m', z', g1, g2, g3⟩ := ih (b + 1) r (nI b) (by omega) r1 ⟨fun q hq => by
        by_cases e : q = b
        · rw [e]; exact r3
        · exact fun h => hB.1 q (by omega) (jv_RL_mono h (by omega)), Or.inr ⟨by omega, b, by omega, by omega, rfl, r2, fun q hq h => hB.1 q hq (jv_RL_mono h (by omega))⟩⟩
      refine ⟨m', z', g1, g2, ?_⟩
      intros
      rename_i fuel hf K0 K1
      obtain ⟨fuel, rfl⟩ : ∃ g, fuel = g + 1 := ⟨fuel - 1, by omega⟩
      rw [wY_longest_7]
      refine pk_le 64 b (fun h => absurd h (by omega)) (fun _ => ⟨65, r4 _ _ _ _ _ _ _ _ _ _ _ _ _ _ _ _ _ _ _ _ _ _ _ _ _ _ _ _ _ 65 (by omega) ?_⟩)
      unfold wY_longest_46
      exact pk_le r m (fun h => absurd h hc) (fun _ => nm_r (nI_1 b) (g3 _ _ _ _ _ _ _ _ _ _ _ _ _ _ _ _ _ _ _ _ _ _ _ _ _ _ fuel (by omega) K0 K1))
theorem yk_longest {p : Nat → Bool} (hp : ∀ q, q < 64 → (p q = true ↔ cm q = 0)) (hp2 : ∀ q, 64 ≤ q → p q = false) :
    ∃ m z, m ≤ 64 ∧ jv_Lg p m ∧ ((m = 0 ∧ z = -1) ∨ (0 < m ∧ ∃ q, q < 64 ∧ z = nI q ∧ jv_RL p m q ∧ ∀ q', q' < q → ¬ jv_RL p m q')) ∧
      ∀ (yr ys yd yh yt : Int32) (ck cl cp cn cb cv ok ol op on ob ov om ac au yf yo yu ym : Nat → Int32) (post : Int32 → Prop), (post z → wpY_longest post (yr, ys, yd, yh, yt, ck, cl, cp, cn, cb, cv, cm, ok, ol, op, on, ob, ov, om, ac, au, yf, yo, yu, ym) 0) ∧ (post (nI m) → wpY_longest post (yr, ys, yd, yh, yt, ck, cl, cp, cn, cb, cv, cm, ok, ol, op, on, ob, ov, om, ac, au, yf, yo, yu, ym) 1) := by
  obtain ⟨m, z, h1, ⟨h2, h3⟩, h4⟩ := yk_lng_o (cm := cm) hp hp2 64 0 0 (-1) (by omega) (by omega) ⟨fun q hq => by omega, Or.inl ⟨rfl, rfl⟩⟩
  refine ⟨m, z, h1, ⟨fun b hb => ?_, ?_⟩, ?_, ?_⟩
  · rcases Nat.lt_or_ge b 64 with q | q
    · exact h2 b q hb
    · have := hb 0 (by omega)
      rw [hp2 _ (by omega)] at this
      exact absurd this (by decide)
  · rcases h3 with h | ⟨_, q, _, h5, _, h6, _⟩
    · exact Or.inl h.1
    · exact Or.inr ⟨q, h5, h6⟩
  · rcases h3 with h | ⟨h, q, _, h5⟩
    · exact Or.inl h
    · exact Or.inr ⟨h, q, h5⟩
  · intros
    refine ⟨fun K => ?_, fun K => ?_⟩
    · unfold wpY_longest; dsimp only
      exact ⟨65, h4 _ _ _ _ _ _ _ _ _ _ _ _ _ _ _ _ _ _ _ _ _ _ _ _ _ _ 65 (by omega) (fun _ => K) (fun h => absurd rfl h)⟩
    · unfold wpY_longest; dsimp only
      exact ⟨65, h4 _ _ _ _ _ _ _ _ _ _ _ _ _ _ _ _ _ _ _ _ _ _ _ _ _ _ 65 (by omega) (fun h => absurd h (by decide)) (fun _ => K)⟩
end
theorem jv_op {M : Int64} {cm : Nat → Int32} (hM : jv_MF M cm) : (∀ q, q < 64 → (jv_lb (M ^^^ (-1)) q = true ↔ cm q = 0)) ∧ (∀ q, 64 ≤ q → jv_lb (M ^^^ (-1)) q = false) := by
  refine ⟨fun q hq => ?_, fun q hq => jv_lb_big hq⟩
  rw [jv_lb_not _ hq, hM q hq]
  cases jv_lb M q <;> simp
section
variable {xc xr xs xg xd xm xt xw xo : Int32} {aw ap aa av ae af ab al an aq : Nat → Int32}
/-- the third way of choosing -/
theorem zk_ch3 {cm : Nat → Int32} (hM : jv_MF (jv_M aw) cm) : ∃ r : Int32, (r = -1 ∨ ∃ b, b < 64 ∧ r = nI b ∧ cm b = 0) ∧ (∀ post : Int32 → Prop, post r → wX_choose_52 post xc xr xs xg xd xm xt xw xo aw ap aa av ae af ab al an aq) ∧
    (∀ (yr ys yd yh yt : Int32) (ck cl cp cn cb cv ok ol op on ob ov om ac au yf yo yu ym : Nat → Int32) (post : Int32 → Prop), post r → wY_choose_103 post yr ys yd yh yt ck cl cp cn cb cv cm ok ol op on ob ov om ac au yf yo yu ym) := by
  obtain ⟨o1, o2⟩ := jv_op hM
  obtain ⟨m, z, h1, h2, h3, h4⟩ := yk_longest (cm := cm) o1 o2
  obtain ⟨r, g1, g2, g3⟩ := xk_longest (jv_M aw ^^^ (-1))
  have e : r = m := jv_Lg_u g2 h2
  subst e
  refine ⟨z, ?_, fun post K => ?_, ?_⟩
  · rcases h3 with h | ⟨h, q, hq, h5, h6, _⟩
    · exact Or.inl h.2
    · exact Or.inr ⟨q, hq, h5, (o1 q hq).mp (h6 0 h)⟩
  · unfold wX_choose_52
    refine xk_marks (nm_e (g3 _ ?_))
    rcases h3 with ⟨h, h'⟩ | ⟨h, q, hq, h5, h6, h7⟩
    · subst h; rw [h'] at K; exact br_t rfl K
    · rw [h5] at K
      exact br_f (nI_ne0 h (by omega)) (xk_start g1 h hq h6 h7 K)
  · intros
    rename_i post K
    unfold wY_choose_103
    exact (h4 _ _ _ _ _ _ _ _ _ _ _ _ _ _ _ _ _ _ _ _ _ _ _ _ _).1 K
theorem zk_choose {x p n : Nat} {P B L : Nat → Nat} {cb cm : Nat → Int32} (hx : x < 16) (hp : p < 24) (hn : n ≤ 11) (hX : jv_Ex (fun q => cb (24 * x + q)) n P B L) (hE : jv_EW af ab al n P B L) (hM : jv_MF (jv_M aw) cm) :
    ∃ r : Int32, (r = -1 ∨ ∃ b, b < 64 ∧ r = nI b ∧ cm b = 0) ∧ (∀ post : Int32 → Prop, post r → wpX_choose post (xc, xr, xs, xg, xd, nI n, xt, xw, xo, aw, ap, aa, av, ae, af, ab, al, an, aq) (nI p)) ∧
      (∀ (yr ys yd yh yt : Int32) (ck cl cp cn cv ok ol op on ob ov om ac au yf yo yu ym : Nat → Int32) (post : Int32 → Prop), post r → wpY_choose post (yr, ys, yd, yh, yt, ck, cl, cp, cn, cb, cv, cm, ok, ol, op, on, ob, ov, om, ac, au, yf, yo, yu, ym) (nI (24 * x + p)) (nI p)) := by
  have hv : ∀ q, q < 24 → (∃ b, b < 64 ∧ cb (24 * x + q) = nI b) ∨ cb (24 * x + q) = -1 := fun q hq => jv_EF_v hX.1 hX.2.2 hq
  by_cases hA : ∃ b, 0 < p ∧ cb (24 * x + (p - 1)) = nI b ∧ b < 63 ∧ cm (b + 1) = 0
  · obtain ⟨b, h0, h1, h2, h3⟩ := hA
    refine ⟨nI (b + 1), Or.inr ⟨b + 1, by omega, rfl, h3⟩, fun post K => ?_, ?_⟩
    · unfold wpX_choose; dsimp only
      rw [show nI p - 1 = nI (p - 1) from pk_sub (a := p) (b := 1) (by omega)]
      refine xk_mapped hn hX.1 hX.2.2 hE (by omega) ?_
      rw [h1]
      refine br_f (nI_pos (by omega)) ?_
      rw [nI_1]
      exact xk_used (by omega) hM (fun h => absurd h3 h) (fun _ => br_t rfl K)
    · intros
      rename_i post K
      unfold wpY_choose; dsimp only
      have es : nI (24 * x + p) - 1 = nI (24 * x + (p - 1)) := by
        have := pk_sub (a := 24 * x + p) (b := 1) (by omega)
        rw [show 24 * x + p - 1 = 24 * x + (p - 1) by omega] at this
        exact this
      rw [es, nI_clamp (by omega), h1, nI_1, nI_clamp (by omega)]
      have v : vp_in (nI (24 * x + (p - 1))) 384 := vp_in_nI (by omega) (by decide)
      exact pk_le p 0 (fun h => absurd h (by omega)) (fun _ => ⟨v, br_f (nI_pos (by omega)) ⟨v, pk_le 63 b (fun h => absurd h (by omega)) (fun _ => ⟨v, vp_in_nI (by omega) (by decide), br_t h3 ⟨v, K⟩⟩)⟩⟩)
  · -- neither the left one
    have lX : ∀ post : Int32 → Prop, wX_choose_26 post (nI p) xc xr xs xg xd (nI n) xt xw xo aw ap aa av ae af ab al an aq → wpX_choose post (xc, xr, xs, xg, xd, nI n, xt, xw, xo, aw, ap, aa, av, ae, af, ab, al, an, aq) (nI p) := by
      intro post K
      unfold wpX_choose; dsimp only
      by_cases z : p = 0
      · subst z
        refine xk_mapped_o hn hX.1 hE (Or.inl (by decide)) (br_t (by decide) K)
      · rw [show nI p - 1 = nI (p - 1) from pk_sub (a := p) (b := 1) (by omega)]
        refine xk_mapped hn hX.1 hX.2.2 hE (by omega) ?_
        rcases hv (p - 1) (by omega) with ⟨b, hb, e⟩ | e
        · rw [e, nI_1]
          refine br_f (nI_pos (by omega)) ?_
          by_cases q : b = 63
          · subst q
            unfold wpX_isUsed; dsimp only
            exact br_f (by decide) (br_t (by decide) (br_f (by decide) K))
          · exact xk_used (by omega) hM (fun h => br_f (by decide) K) (fun h => absurd ⟨b, by omega, e, by omega, h⟩ hA)
        · rw [e]; exact br_t (by decide) K
    have lY : ∀ (yr ys yd yh yt : Int32) (ck cl cp cn cv ok ol op on ob ov om ac au yf yo yu ym : Nat → Int32) (post : Int32 → Prop), wY_choose_57 post (nI (24 * x + p)) (nI p) yr ys yd yh yt ck cl cp cn cb cv cm ok ol op on ob ov om ac au yf yo yu ym → wpY_choose post (yr, ys, yd, yh, yt, ck, cl, cp, cn, cb, cv, cm, ok, ol, op, on, ob, ov, om, ac, au, yf, yo, yu, ym) (nI (24 * x + p)) (nI p) := by
      intros
      rename_i post K
      unfold wpY_choose; dsimp only
      have es : 0 < p → nI (24 * x + p) - 1 = nI (24 * x + (p - 1)) := fun h0 => by
        have := pk_sub (a := 24 * x + p) (b := 1) (by omega)
        rw [show 24 * x + p - 1 = 24 * x + (p - 1) by omega] at this
        exact this
      refine pk_le p 0 (fun h => K) (fun h => ?_)
      have v : vp_in (nI (24 * x + (p - 1))) 384 := vp_in_nI (by omega) (by decide)
      rw [es h, nI_clamp (by omega)]
      rcases hv (p - 1) (by omega) with ⟨b, hb, e⟩ | e
      · rw [e, nI_1]
        refine ⟨v, br_f (nI_pos (by omega)) ⟨v, pk_le 63 b (fun _ => K) (fun hb2 => ?_)⟩⟩
        rw [nI_clamp (by omega)]
        exact ⟨v, vp_in_nI (by omega) (by decide), br_f (fun g => hA ⟨b, h, e, hb2, g⟩) K⟩
      · rw [e]
        exact ⟨v, br_t (by decide) K⟩
    by_cases hB : ∃ b, p < 23 ∧ cb (24 * x + (p + 1)) = nI b ∧ 0 < b ∧ b < 64 ∧ cm (b - 1) = 0
    · obtain ⟨b, h0, h1, h2, h2', h3⟩ := hB
      have eb : nI b - 1 = nI (b - 1) := pk_sub (a := b) (b := 1) (by omega)
      refine ⟨nI (b - 1), Or.inr ⟨b - 1, by omega, rfl, h3⟩, fun post K => lX post ?_, ?_⟩
      · unfold wX_choose_26
        rw [nI_1]
        refine xk_mapped hn hX.1 hX.2.2 hE (by omega) ?_
        rw [h1, eb]
        exact br_f (nI_pos (by omega)) (xk_used (by omega) hM (fun h => absurd h3 h) (fun _ => br_t rfl K))
      · intros
        rename_i post K
        refine lY _ _ _ _ _ _ _ _ _ _ _ _ _ _ _ _ _ _ _ _ _ _ _ _ ?_
        unfold wY_choose_57
        rw [nI_1, nI_clamp (by omega), show 24 * x + p + 1 = 24 * x + (p + 1) by omega, h1, eb, nI_clamp (by omega)]
        have v : vp_in (nI (24 * x + (p + 1))) 384 := vp_in_nI (by omega) (by decide)
        exact pk_le 23 p (fun h => absurd h (by omega)) (fun _ => ⟨v, pk_le b 0 (fun h => absurd h (by omega)) (fun _ => ⟨v, vp_in_nI (by omega) (by decide), br_t h3 ⟨v, K⟩⟩)⟩)
    · obtain ⟨r, r1, r2, r3⟩ := zk_ch3 (xc := xc) (xr := xr) (xs := xs) (xg := xg) (xd := xd) (xt := xt) (xw := xw) (xo := xo) (ap := ap) (aa := aa) (av := av) (ae := ae) (af := af) (ab := ab) (al := al) (an := an) (aq := aq) (aw := aw) (xm := nI n) hM
      refine ⟨r, r1, fun post K => lX post ?_, ?_⟩
      · unfold wX_choose_26
        rw [nI_1]
        by_cases z : p = 23
        · subst z
          exact xk_mapped_o hn hX.1 hE (Or.inr (by decide)) (br_t (by decide) (r2 post K))
        · refine xk_mapped hn hX.1 hX.2.2 hE (by omega) ?_
          rcases hv (p + 1) (by omega) with ⟨b, hb, e⟩ | e
          · rw [e]
            refine br_f (nI_pos (by omega)) ?_
            by_cases q : b = 0
            · subst q
              unfold wpX_isUsed; dsimp only
              exact br_t (by decide) (br_f (by decide) (r2 post K))
            · rw [show nI b - 1 = nI (b - 1) from pk_sub (a := b) (b := 1) (by omega)]
              exact xk_used (by omega) hM (fun h => br_f (by decide) (r2 post K)) (fun h => absurd ⟨b, by omega, e, by omega, hb, h⟩ hB)
          · rw [e]; exact br_t (by decide) (r2 post K)
      · intro yr ys yd yh yt ck cl cp cn cv ok ol op on ob ov om ac au yf yo yu ym post K
        refine lY yr ys yd yh yt ck cl cp cn cv ok ol op on ob ov om ac au yf yo yu ym post ?_
        have K' := r3 yr ys yd yh yt ck cl cp cn cb cv ok ol op on ob ov om ac au yf yo yu ym post K
        unfold wY_choose_57
        refine pk_le 23 p (fun _ => K') (fun h => ?_)
        rw [nI_1, nI_clamp (by omega), show 24 * x + p + 1 = 24 * x + (p + 1) by omega]
        have v : vp_in (nI (24 * x + (p + 1))) 384 := vp_in_nI (by omega) (by decide)
        rcases hv (p + 1) (by omega) with ⟨b, hb, e⟩ | e
        · rw [e]
          refine ⟨v, pk_le b 0 (fun _ => K') (fun hb2 => ?_)⟩
          rw [show nI b - 1 = nI (b - 1) from pk_sub (a := b) (b := 1) (by omega), nI_clamp (by omega)]
          exact ⟨v, vp_in_nI (by omega) (by decide), br_f (fun g => hB ⟨b, h, e, hb2, hb, g⟩) K'⟩
        · rw [e]; exact ⟨v, br_t (by decide) K'⟩
end
end
section
/-! printed by gen_copy.py: tables copied -/
def jv_cq (s d : Nat → Int32) (n : Nat) : Nat → Int32 := fun j => if j < n then s j else d j
theorem jv_cq_0 {s d : Nat → Int32} : jv_cq s d 0 = d := by funext j; unfold jv_cq; rw [if_neg (by omega)]
theorem jv_cq_s {s d : Nat → Int32} {n : Nat} : upd (jv_cq s d n) n (s n) = jv_cq s d (n + 1) := by
  funext j
  unfold jv_cq
  by_cases e : j = n
  · rw [e, pk_us, if_pos (by omega)]
  · rw [pk_un e]
    by_cases h : j < n
    · rw [if_pos h, if_pos (by omega)]
    · rw [if_neg h, if_neg (by omega)]
theorem jv_cq_n {s d : Nat → Int32} {n : Nat} (h : ∀ j, n ≤ j → d j = s j) : jv_cq s d n = s := by
  funext j
  unfold jv_cq
  by_cases e : j < n
  · rw [if_pos e]
  · rw [if_neg e]; exact h j (by omega)
section
variable {yr ys yd yh yt : Int32} {ck cl cp cn cb cv cm ok ol op on ob ov om ac au yf yo yu ym : Nat → Int32}
theorem yk_cp_kind_oldKind_l {post : SY → Prop} (K : post (yr, ys, yd, yh, yt, ck, cl, cp, cn, cb, cv, cm, jv_cq ck ok 16, ol, op, on, ob, ov, om, ac, au, yf, yo, yu, ym)) : ∀ (d i : Nat), i + d = 16 → ∀ fuel, d < fuel → wY_copy__kind_oldKind_2 post yr ys yd yh yt fuel (nI i) ck cl cp cn cb cv cm (jv_cq ck ok i) ol op on ob ov om ac au yf yo yu ym := by
  intro d
  induction d with
  | zero =>
    intro i e fuel hf
    obtain ⟨fuel, rfl⟩ : ∃ g, fuel = g + 1 := ⟨fuel - 1, by omega⟩
    have : i = 16 := by omega
    subst this
    rw [wY_copy__kind_oldKind_2]
    exact br_t (nI_le (a := 16) (b := 16) (by omega) (by decide)) K
  | succ d ih =>
    intro i e fuel hf
    obtain ⟨fuel, rfl⟩ : ∃ g, fuel = g + 1 := ⟨fuel - 1, by omega⟩
    rw [wY_copy__kind_oldKind_2]
    dsimp only
    rw [nI_clamp (by omega), jv_cq_s]
    have v1 : vp_in (nI i) 16 := vp_in_nI (by omega) (by decide)
    exact br_f (nI_ge (a := i) (b := 16) (by omega) (by decide)) ⟨v1, v1, nm_e (nm_r (nI_1 i) (ih (i + 1) (by omega) fuel (by omega)))⟩
theorem yk_cp_kind_oldKind {post : SY → Prop} (h : ∀ j, 16 ≤ j → ok j = ck j) (K : post (yr, ys, yd, yh, yt, ck, cl, cp, cn, cb, cv, cm, ck, ol, op, on, ob, ov, om, ac, au, yf, yo, yu, ym)) : wpY_copy__kind_oldKind post (yr, ys, yd, yh, yt, ck, cl, cp, cn, cb, cv, cm, ok, ol, op, on, ob, ov, om, ac, au, yf, yo, yu, ym) := by
  unfold wpY_copy__kind_oldKind; dsimp only
  have := yk_cp_kind_oldKind_l (yr := yr) (ys := ys) (yd := yd) (yh := yh) (yt := yt) (ck := ck) (cl := cl) (cp := cp) (cn := cn) (cb := cb) (cv := cv) (cm := cm) (ok := ok) (ol := ol) (op := op) (on := on) (ob := ob) (ov := ov) (om := om) (ac := ac) (au := au) (yf := yf) (yo := yo) (yu := yu) (ym := ym) (post := post) (by rw [jv_cq_n h]; exact K) 16 0 (by omega) 17 (by omega)
  rw [jv_cq_0] at this
  exact ⟨17, this⟩
theorem yk_cp_links_oldLinks_l {post : SY → Prop} (K : post (yr, ys, yd, yh, yt, ck, cl, cp, cn, cb, cv, cm, ok, jv_cq cl ol 16, op, on, ob, ov, om, ac, au, yf, yo, yu, ym)) : ∀ (d i : Nat), i + d = 16 → ∀ fuel, d < fuel → wY_copy__links_oldLinks_2 post yr ys yd yh yt fuel (nI i) ck cl cp cn cb cv cm ok (jv_cq cl ol i) op on ob ov om ac au yf yo yu ym := by
  intro d
  induction d with
  | zero =>
    intro i e fuel hf
    obtain ⟨fuel, rfl⟩ : ∃ g, fuel = g + 1 := ⟨fuel - 1, by omega⟩
    have : i = 16 := by omega
    subst this
    rw [wY_copy__links_oldLinks_2]
    exact br_t (nI_le (a := 16) (b := 16) (by omega) (by decide)) K
  | succ d ih =>
    intro i e fuel hf
    obtain ⟨fuel, rfl⟩ : ∃ g, fuel = g + 1 := ⟨fuel - 1, by omega⟩
    rw [wY_copy__links_oldLinks_2]
    dsimp only
    rw [nI_clamp (by omega), jv_cq_s]
    have v1 : vp_in (nI i) 16 := vp_in_nI (by omega) (by decide)
    exact br_f (nI_ge (a := i) (b := 16) (by omega) (by decide)) ⟨v1, v1, nm_e (nm_r (nI_1 i) (ih (i + 1) (by omega) fuel (by omega)))⟩
theorem yk_cp_links_oldLinks {post : SY → Prop} (h : ∀ j, 16 ≤ j → ol j = cl j) (K : post (yr, ys, yd, yh, yt, ck, cl, cp, cn, cb, cv, cm, ok, cl, op, on, ob, ov, om, ac, au, yf, yo, yu, ym)) : wpY_copy__links_oldLinks post (yr, ys, yd, yh, yt, ck, cl, cp, cn, cb, cv, cm, ok, ol, op, on, ob, ov, om, ac, au, yf, yo, yu, ym) := by
  unfold wpY_copy__links_oldLinks; dsimp only
  have := yk_cp_links_oldLinks_l (yr := yr) (ys := ys) (yd := yd) (yh := yh) (yt := yt) (ck := ck) (cl := cl) (cp := cp) (cn := cn) (cb := cb) (cv := cv) (cm := cm) (ok := ok) (ol := ol) (op := op) (on := on) (ob := ob) (ov := ov) (om := om) (ac := ac) (au := au) (yf := yf) (yo := yo) (yu := yu) (ym := ym) (post := post) (by rw [jv_cq_n h]; exact K) 16 0 (by omega) 17 (by omega)
  rw [jv_cq_0] at this
  exact ⟨17, this⟩
theorem yk_cp_parent_oldParent_l {post : SY → Prop} (K : post (yr, ys, yd, yh, yt, ck, cl, cp, cn, cb, cv, cm, ok, ol, jv_cq cp op 16, on, ob, ov, om, ac, au, yf, yo, yu, ym)) : ∀ (d i : Nat), i + d = 16 → ∀ fuel, d < fuel → wY_copy__parent_oldParent_2 post yr ys yd yh yt fuel (nI i) ck cl cp cn cb cv cm ok ol (jv_cq cp op i) on ob ov om ac au yf yo yu ym := by
  intro d
  induction d with
  | zero =>
    intro i e fuel hf
    obtain ⟨fuel, rfl⟩ : ∃ g, fuel = g + 1 := ⟨fuel - 1, by omega⟩
    have : i = 16 := by omega
    subst this
    rw [wY_copy__parent_oldParent_2]
    exact br_t (nI_le (a := 16) (b := 16) (by omega) (by decide)) K
  | succ d ih =>
    intro i e fuel hf
    obtain ⟨fuel, rfl⟩ : ∃ g, fuel = g + 1 := ⟨fuel - 1, by omega⟩
    rw [wY_copy__parent_oldParent_2]
    dsimp only
    rw [nI_clamp (by omega), jv_cq_s]
    have v1 : vp_in (nI i) 16 := vp_in_nI (by omega) (by decide)
    exact br_f (nI_ge (a := i) (b := 16) (by omega) (by decide)) ⟨v1, v1, nm_e (nm_r (nI_1 i) (ih (i + 1) (by omega) fuel (by omega)))⟩
theorem yk_cp_parent_oldParent {post : SY → Prop} (h : ∀ j, 16 ≤ j → op j = cp j) (K : post (yr, ys, yd, yh, yt, ck, cl, cp, cn, cb, cv, cm, ok, ol, cp, on, ob, ov, om, ac, au, yf, yo, yu, ym)) : wpY_copy__parent_oldParent post (yr, ys, yd, yh, yt, ck, cl, cp, cn, cb, cv, cm, ok, ol, op, on, ob, ov, om, ac, au, yf, yo, yu, ym) := by
  unfold wpY_copy__parent_oldParent; dsimp only
  have := yk_cp_parent_oldParent_l (yr := yr) (ys := ys) (yd := yd) (yh := yh) (yt := yt) (ck := ck) (cl := cl) (cp := cp) (cn := cn) (cb := cb) (cv := cv) (cm := cm) (ok := ok) (ol := ol) (op := op) (on := on) (ob := ob) (ov := ov) (om := om) (ac := ac) (au := au) (yf := yf) (yo := yo) (yu := yu) (ym := ym) (post := post) (by rw [jv_cq_n h]; exact K) 16 0 (by omega) 17 (by omega)
  rw [jv_cq_0] at this
  exact ⟨17, this⟩
theorem yk_cp_named_oldNamed_l {post : SY → Prop} (K : post (yr, ys, yd, yh, yt, ck, cl, cp, cn, cb, cv, cm, ok, ol, op, jv_cq cn on 1024, ob, ov, om, ac, au, yf, yo, yu, ym)) : ∀ (d i : Nat), i + d = 1024 → ∀ fuel, d < fuel → wY_copy__named_oldNamed_2 post yr ys yd yh yt fuel (nI i) ck cl cp cn cb cv cm ok ol op (jv_cq cn on i) ob ov om ac au yf yo yu ym := by
  intro d
  induction d with
  | zero =>
    intro i e fuel hf
    obtain ⟨fuel, rfl⟩ : ∃ g, fuel = g + 1 := ⟨fuel - 1, by omega⟩
    have : i = 1024 := by omega
    subst this
    rw [wY_copy__named_oldNamed_2]
    exact br_t (nI_le (a := 1024) (b := 1024) (by omega) (by decide)) K
  | succ d ih =>
    intro i e fuel hf
    obtain ⟨fuel, rfl⟩ : ∃ g, fuel = g + 1 := ⟨fuel - 1, by omega⟩
    rw [wY_copy__named_oldNamed_2]
    dsimp only
    rw [nI_clamp (by omega), jv_cq_s]
    have v1 : vp_in (nI i) 1024 := vp_in_nI (by omega) (by decide)
    exact br_f (nI_ge (a := i) (b := 1024) (by omega) (by decide)) ⟨v1, v1, nm_e (nm_r (nI_1 i) (ih (i + 1) (by omega) fuel (by omega)))⟩
theorem yk_cp_named_oldNamed {post : SY → Prop} (h : ∀ j, 1024 ≤ j → on j = cn j) (K : post (yr, ys, yd, yh, yt, ck, cl, cp, cn, cb, cv, cm, ok, ol, op, cn, ob, ov, om, ac, au, yf, yo, yu, ym)) : wpY_copy__named_oldNamed post (yr, ys, yd, yh, yt, ck, cl, cp, cn, cb, cv, cm, ok, ol, op, on, ob, ov, om, ac, au, yf, yo, yu, ym) := by
  unfold wpY_copy__named_oldNamed; dsimp only
  have := yk_cp_named_oldNamed_l (yr := yr) (ys := ys) (yd := yd) (yh := yh) (yt := yt) (ck := ck) (cl := cl) (cp := cp) (cn := cn) (cb := cb) (cv := cv) (cm := cm) (ok := ok) (ol := ol) (op := op) (on := on) (ob := ob) (ov := ov) (om := om) (ac := ac) (au := au) (yf := yf) (yo := yo) (yu := yu) (ym := ym) (post := post) (by rw [jv_cq_n h]; exact K) 1024 0 (by omega) 1025 (by omega)
  rw [jv_cq_0] at this
  exact ⟨1025, this⟩
theorem yk_cp_block_oldBlock_l {post : SY → Prop} (K : post (yr, ys, yd, yh, yt, ck, cl, cp, cn, cb, cv, cm, ok, ol, op, on, jv_cq cb ob 384, ov, om, ac, au, yf, yo, yu, ym)) : ∀ (d i : Nat), i + d = 384 → ∀ fuel, d < fuel → wY_copy__block_oldBlock_2 post yr ys yd yh yt fuel (nI i) ck cl cp cn cb cv cm ok ol op on (jv_cq cb ob i) ov om ac au yf yo yu ym := by
  intro d
  induction d with
  | zero =>
    intro i e fuel hf
    obtain ⟨fuel, rfl⟩ : ∃ g, fuel = g + 1 := ⟨fuel - 1, by omega⟩
    have : i = 384 := by omega
    subst this
    rw [wY_copy__block_oldBlock_2]
    exact br_t (nI_le (a := 384) (b := 384) (by omega) (by decide)) K
  | succ d ih =>
    intro i e fuel hf
    obtain ⟨fuel, rfl⟩ : ∃ g, fuel = g + 1 := ⟨fuel - 1, by omega⟩
    rw [wY_copy__block_oldBlock_2]
    dsimp only
    rw [nI_clamp (by omega), jv_cq_s]
    have v1 : vp_in (nI i) 384 := vp_in_nI (by omega) (by decide)
    exact br_f (nI_ge (a := i) (b := 384) (by omega) (by decide)) ⟨v1, v1, nm_e (nm_r (nI_1 i) (ih (i + 1) (by omega) fuel (by omega)))⟩
theorem yk_cp_block_oldBlock {post : SY → Prop} (h : ∀ j, 384 ≤ j → ob j = cb j) (K : post (yr, ys, yd, yh, yt, ck, cl, cp, cn, cb, cv, cm, ok, ol, op, on, cb, ov, om, ac, au, yf, yo, yu, ym)) : wpY_copy__block_oldBlock post (yr, ys, yd, yh, yt, ck, cl, cp, cn, cb, cv, cm, ok, ol, op, on, ob, ov, om, ac, au, yf, yo, yu, ym) := by
  unfold wpY_copy__block_oldBlock; dsimp only
  have := yk_cp_block_oldBlock_l (yr := yr) (ys := ys) (yd := yd) (yh := yh) (yt := yt) (ck := ck) (cl := cl) (cp := cp) (cn := cn) (cb := cb) (cv := cv) (cm := cm) (ok := ok) (ol := ol) (op := op) (on := on) (ob := ob) (ov := ov) (om := om) (ac := ac) (au := au) (yf := yf) (yo := yo) (yu := yu) (ym := ym) (post := post) (by rw [jv_cq_n h]; exact K) 384 0 (by omega) 385 (by omega)
  rw [jv_cq_0] at this
  exact ⟨385, this⟩
theorem yk_cp_value_oldValue_l {post : SY → Prop} (K : post (yr, ys, yd, yh, yt, ck, cl, cp, cn, cb, cv, cm, ok, ol, op, on, ob, jv_cq cv ov 64, om, ac, au, yf, yo, yu, ym)) : ∀ (d i : Nat), i + d = 64 → ∀ fuel, d < fuel → wY_copy__value_oldValue_2 post yr ys yd yh yt fuel (nI i) ck cl cp cn cb cv cm ok ol op on ob (jv_cq cv ov i) om ac au yf yo yu ym := by
  intro d
  induction d with
  | zero =>
    intro i e fuel hf
    obtain ⟨fuel, rfl⟩ : ∃ g, fuel = g + 1 := ⟨fuel - 1, by omega⟩
    have : i = 64 := by omega
    subst this
    rw [wY_copy__value_oldValue_2]
    exact br_t (nI_le (a := 64) (b := 64) (by omega) (by decide)) K
  | succ d ih =>
    intro i e fuel hf
    obtain ⟨fuel, rfl⟩ : ∃ g, fuel = g + 1 := ⟨fuel - 1, by omega⟩
    rw [wY_copy__value_oldValue_2]
    dsimp only
    rw [nI_clamp (by omega), jv_cq_s]
    have v1 : vp_in (nI i) 64 := vp_in_nI (by omega) (by decide)
    exact br_f (nI_ge (a := i) (b := 64) (by omega) (by decide)) ⟨v1, v1, nm_e (nm_r (nI_1 i) (ih (i + 1) (by omega) fuel (by omega)))⟩
theorem yk_cp_value_oldValue {post : SY → Prop} (h : ∀ j, 64 ≤ j → ov j = cv j) (K : post (yr, ys, yd, yh, yt, ck, cl, cp, cn, cb, cv, cm, ok, ol, op, on, ob, cv, om, ac, au, yf, yo, yu, ym)) : wpY_copy__value_oldValue post (yr, ys, yd, yh, yt, ck, cl, cp, cn, cb, cv, cm, ok, ol, op, on, ob, ov, om, ac, au, yf, yo, yu, ym) := by
  unfold wpY_copy__value_oldValue; dsimp only
  have := yk_cp_value_oldValue_l (yr := yr) (ys := ys) (yd := yd) (yh := yh) (yt := yt) (ck := ck) (cl := cl) (cp := cp) (cn := cn) (cb := cb) (cv := cv) (cm := cm) (ok := ok) (ol := ol) (op := op) (on := on) (ob := ob) (ov := ov) (om := om) (ac := ac) (au := au) (yf := yf) (yo := yo) (yu := yu) (ym := ym) (post := post) (by rw [jv_cq_n h]; exact K) 64 0 (by omega) 65 (by omega)
  rw [jv_cq_0] at this
  exact ⟨65, this⟩
theorem yk_cp_mark_oldMark_l {post : SY → Prop} (K : post (yr, ys, yd, yh, yt, ck, cl, cp, cn, cb, cv, cm, ok, ol, op, on, ob, ov, jv_cq cm om 64, ac, au, yf, yo, yu, ym)) : ∀ (d i : Nat), i + d = 64 → ∀ fuel, d < fuel → wY_copy__mark_oldMark_2 post yr ys yd yh yt fuel (nI i) ck cl cp cn cb cv cm ok ol op on ob ov (jv_cq cm om i) ac au yf yo yu ym := by
  intro d
  induction d with
  | zero =>
    intro i e fuel hf
    obtain ⟨fuel, rfl⟩ : ∃ g, fuel = g + 1 := ⟨fuel - 1, by omega⟩
    have : i = 64 := by omega
    subst this
    rw [wY_copy__mark_oldMark_2]
    exact br_t (nI_le (a := 64) (b := 64) (by omega) (by decide)) K
  | succ d ih =>
    intro i e fuel hf
    obtain ⟨fuel, rfl⟩ : ∃ g, fuel = g + 1 := ⟨fuel - 1, by omega⟩
    rw [wY_copy__mark_oldMark_2]
    dsimp only
    rw [nI_clamp (by omega), jv_cq_s]
    have v1 : vp_in (nI i) 64 := vp_in_nI (by omega) (by decide)
    exact br_f (nI_ge (a := i) (b := 64) (by omega) (by decide)) ⟨v1, v1, nm_e (nm_r (nI_1 i) (ih (i + 1) (by omega) fuel (by omega)))⟩
theorem yk_cp_mark_oldMark {post : SY → Prop} (h : ∀ j, 64 ≤ j → om j = cm j) (K : post (yr, ys, yd, yh, yt, ck, cl, cp, cn, cb, cv, cm, ok, ol, op, on, ob, ov, cm, ac, au, yf, yo, yu, ym)) : wpY_copy__mark_oldMark post (yr, ys, yd, yh, yt, ck, cl, cp, cn, cb, cv, cm, ok, ol, op, on, ob, ov, om, ac, au, yf, yo, yu, ym) := by
  unfold wpY_copy__mark_oldMark; dsimp only
  have := yk_cp_mark_oldMark_l (yr := yr) (ys := ys) (yd := yd) (yh := yh) (yt := yt) (ck := ck) (cl := cl) (cp := cp) (cn := cn) (cb := cb) (cv := cv) (cm := cm) (ok := ok) (ol := ol) (op := op) (on := on) (ob := ob) (ov := ov) (om := om) (ac := ac) (au := au) (yf := yf) (yo := yo) (yu := yu) (ym := ym) (post := post) (by rw [jv_cq_n h]; exact K) 64 0 (by omega) 65 (by omega)
  rw [jv_cq_0] at this
  exact ⟨65, this⟩
theorem yk_cp_oldKind_kind_l {post : SY → Prop} (K : post (yr, ys, yd, yh, yt, jv_cq ok ck 16, cl, cp, cn, cb, cv, cm, ok, ol, op, on, ob, ov, om, ac, au, yf, yo, yu, ym)) : ∀ (d i : Nat), i + d = 16 → ∀ fuel, d < fuel → wY_copy__oldKind_kind_2 post yr ys yd yh yt fuel (nI i) (jv_cq ok ck i) cl cp cn cb cv cm ok ol op on ob ov om ac au yf yo yu ym := by
  intro d
  induction d with
  | zero =>
    intro i e fuel hf
    obtain ⟨fuel, rfl⟩ : ∃ g, fuel = g + 1 := ⟨fuel - 1, by omega⟩
    have : i = 16 := by omega
    subst this
    rw [wY_copy__oldKind_kind_2]
    exact br_t (nI_le (a := 16) (b := 16) (by omega) (by decide)) K
  | succ d ih =>
    intro i e fuel hf
    obtain ⟨fuel, rfl⟩ : ∃ g, fuel = g + 1 := ⟨fuel - 1, by omega⟩
    rw [wY_copy__oldKind_kind_2]
    dsimp only
    rw [nI_clamp (by omega), jv_cq_s]
    have v1 : vp_in (nI i) 16 := vp_in_nI (by omega) (by decide)
    exact br_f (nI_ge (a := i) (b := 16) (by omega) (by decide)) ⟨v1, v1, nm_e (nm_r (nI_1 i) (ih (i + 1) (by omega) fuel (by omega)))⟩
theorem yk_cp_oldKind_kind {post : SY → Prop} (h : ∀ j, 16 ≤ j → ck j = ok j) (K : post (yr, ys, yd, yh, yt, ok, cl, cp, cn, cb, cv, cm, ok, ol, op, on, ob, ov, om, ac, au, yf, yo, yu, ym)) : wpY_copy__oldKind_kind post (yr, ys, yd, yh, yt, ck, cl, cp, cn, cb, cv, cm, ok, ol, op, on, ob, ov, om, ac, au, yf, yo, yu, ym) := by
  unfold wpY_copy__oldKind_kind; dsimp only
  have := yk_cp_oldKind_kind_l (yr := yr) (ys := ys) (yd := yd) (yh := yh) (yt := yt) (ck := ck) (cl := cl) (cp := cp) (cn := cn) (cb := cb) (cv := cv) (cm := cm) (ok := ok) (ol := ol) (op := op) (on := on) (ob := ob) (ov := ov) (om := om) (ac := ac) (au := au) (yf := yf) (yo := yo) (yu := yu) (ym := ym) (post := post) (by rw [jv_cq_n h]; exact K) 16 0 (by omega) 17 (by omega)
  rw [jv_cq_0] at this
  exact ⟨17, this⟩
theorem yk_cp_oldLinks_links_l {post : SY → Prop} (K : post (yr, ys, yd, yh, yt, ck, jv_cq ol cl 16, cp, cn, cb, cv, cm, ok, ol, op, on, ob, ov, om, ac, au, yf, yo, yu, ym)) : ∀ (d i : Nat), i + d = 16 → ∀ fuel, d < fuel → wY_copy__oldLinks_links_2 post yr ys yd yh yt fuel (nI i) ck (jv_cq ol cl i) cp cn cb cv cm ok ol op on ob ov om ac au yf yo yu ym := by
  intro d
  induction d with
  | zero =>
    intro i e fuel hf
    obtain ⟨fuel, rfl⟩ : ∃ g, fuel = g + 1 := ⟨fuel - 1, by omega⟩
    have : i = 16 := by omega
    subst this
    rw [wY_copy__oldLinks_links_2]
    exact br_t (nI_le (a := 16) (b := 16) (by omega) (by decide)) K
  | succ d ih =>
    intro i e fuel hf
    obtain ⟨fuel, rfl⟩ : ∃ g, fuel = g + 1 := ⟨fuel - 1, by omega⟩
    rw [wY_copy__oldLinks_links_2]
    dsimp only
    rw [nI_clamp (by omega), jv_cq_s]
    have v1 : vp_in (nI i) 16 := vp_in_nI (by omega) (by decide)
    exact br_f (nI_ge (a := i) (b := 16) (by omega) (by decide)) ⟨v1, v1, nm_e (nm_r (nI_1 i) (ih (i + 1) (by omega) fuel (by omega)))⟩
theorem yk_cp_oldLinks_links {post : SY → Prop} (h : ∀ j, 16 ≤ j → cl j = ol j) (K : post (yr, ys, yd, yh, yt, ck, ol, cp, cn, cb, cv, cm, ok, ol, op, on, ob, ov, om, ac, au, yf, yo, yu, ym)) : wpY_copy__oldLinks_links post (yr, ys, yd, yh, yt, ck, cl, cp, cn, cb, cv, cm, ok, ol, op, on, ob, ov, om, ac, au, yf, yo, yu, ym) := by
  unfold wpY_copy__oldLinks_links; dsimp only
  have := yk_cp_oldLinks_links_l (yr := yr) (ys := ys) (yd := yd) (yh := yh) (yt := yt) (ck := ck) (cl := cl) (cp := cp) (cn := cn) (cb := cb) (cv := cv) (cm := cm) (ok := ok) (ol := ol) (op := op) (on := on) (ob := ob) (ov := ov) (om := om) (ac := ac) (au := au) (yf := yf) (yo := yo) (yu := yu) (ym := ym) (post := post) (by rw [jv_cq_n h]; exact K) 16 0 (by omega) 17 (by omega)
  rw [jv_cq_0] at this
  exact ⟨17, this⟩
theorem yk_cp_oldParent_parent_l {post : SY → Prop} (K : post (yr, ys, yd, yh, yt, ck, cl, jv_cq op cp 16, cn, cb, cv, cm, ok, ol, op, on, ob, ov, om, ac, au, yf, yo, yu, ym)) : ∀ (d i : Nat), i + d = 16 → ∀ fuel, d < fuel → wY_copy__oldParent_parent_2 post yr ys yd yh yt fuel (nI i) ck cl (jv_cq op cp i) cn cb cv cm ok ol op on ob ov om ac au yf yo yu ym := by
  intro d
  induction d with
  | zero =>
    intro i e fuel hf
    obtain ⟨fuel, rfl⟩ : ∃ g, fuel = g + 1 := ⟨fuel - 1, by omega⟩
    have : i = 16 := by omega
    subst this
    rw [wY_copy__oldParent_parent_2]
    exact br_t (nI_le (a := 16) (b := 16) (by omega) (by decide)) K
  | succ d ih =>
    intro i e fuel hf
    obtain ⟨fuel, rfl⟩ : ∃ g, fuel = g + 1 := ⟨fuel - 1, by omega⟩
    rw [wY_copy__oldParent_parent_2]
    dsimp only
    rw [nI_clamp (by omega), jv_cq_s]
    have v1 : vp_in (nI i) 16 := vp_in_nI (by omega) (by decide)
    exact br_f (nI_ge (a := i) (b := 16) (by omega) (by decide)) ⟨v1, v1, nm_e (nm_r (nI_1 i) (ih (i + 1) (by omega) fuel (by omega)))⟩
theorem yk_cp_oldParent_parent {post : SY → Prop} (h : ∀ j, 16 ≤ j → cp j = op j) (K : post (yr, ys, yd, yh, yt, ck, cl, op, cn, cb, cv, cm, ok, ol, op, on, ob, ov, om, ac, au, yf, yo, yu, ym)) : wpY_copy__oldParent_parent post (yr, ys, yd, yh, yt, ck, cl, cp, cn, cb, cv, cm, ok, ol, op, on, ob, ov, om, ac, au, yf, yo, yu, ym) := by
  unfold wpY_copy__oldParent_parent; dsimp only
  have := yk_cp_oldParent_parent_l (yr := yr) (ys := ys) (yd := yd) (yh := yh) (yt := yt) (ck := ck) (cl := cl) (cp := cp) (cn := cn) (cb := cb) (cv := cv) (cm := cm) (ok := ok) (ol := ol) (op := op) (on := on) (ob := ob) (ov := ov) (om := om) (ac := ac) (au := au) (yf := yf) (yo := yo) (yu := yu) (ym := ym) (post := post) (by rw [jv_cq_n h]; exact K) 16 0 (by omega) 17 (by omega)
  rw [jv_cq_0] at this
  exact ⟨17, this⟩
theorem yk_cp_oldNamed_named_l {post : SY → Prop} (K : post (yr, ys, yd, yh, yt, ck, cl, cp, jv_cq on cn 1024, cb, cv, cm, ok, ol, op, on, ob, ov, om, ac, au, yf, yo, yu, ym)) : ∀ (d i : Nat), i + d = 1024 → ∀ fuel, d < fuel → wY_copy__oldNamed_named_2 post yr ys yd yh yt fuel (nI i) ck cl cp (jv_cq on cn i) cb cv cm ok ol op on ob ov om ac au yf yo yu ym := by
  intro d
  induction d with
  | zero =>
    intro i e fuel hf
    obtain ⟨fuel, rfl⟩ : ∃ g, fuel = g + 1 := ⟨fuel - 1, by omega⟩
    have : i = 1024 := by omega
    subst this
    rw [wY_copy__oldNamed_named_2]
    exact br_t (nI_le (a := 1024) (b := 1024) (by omega) (by decide)) K
  | succ d ih =>
    intro i e fuel hf
    obtain ⟨fuel, rfl⟩ : ∃ g, fuel = g + 1 := ⟨fuel - 1, by omega⟩
    rw [wY_copy__oldNamed_named_2]
    dsimp only
    rw [nI_clamp (by omega), jv_cq_s]
    have v1 : vp_in (nI i) 1024 := vp_in_nI (by omega) (by decide)
    exact br_f (nI_ge (a := i) (b := 1024) (by omega) (by decide)) ⟨v1, v1, nm_e (nm_r (nI_1 i) (ih (i + 1) (by omega) fuel (by omega)))⟩
theorem yk_cp_oldNamed_named {post : SY → Prop} (h : ∀ j, 1024 ≤ j → cn j = on j) (K : post (yr, ys, yd, yh, yt, ck, cl, cp, on, cb, cv, cm, ok, ol, op, on, ob, ov, om, ac, au, yf, yo, yu, ym)) : wpY_copy__oldNamed_named post (yr, ys, yd, yh, yt, ck, cl, cp, cn, cb, cv, cm, ok, ol, op, on, ob, ov, om, ac, au, yf, yo, yu, ym) := by
  unfold wpY_copy__oldNamed_named; dsimp only
  have := yk_cp_oldNamed_named_l (yr := yr) (ys := ys) (yd := yd) (yh := yh) (yt := yt) (ck := ck) (cl := cl) (cp := cp) (cn := cn) (cb := cb) (cv := cv) (cm := cm) (ok := ok) (ol := ol) (op := op) (on := on) (ob := ob) (ov := ov) (om := om) (ac := ac) (au := au) (yf := yf) (yo := yo) (yu := yu) (ym := ym) (post := post) (by rw [jv_cq_n h]; exact K) 1024 0 (by omega) 1025 (by omega)
  rw [jv_cq_0] at this
  exact ⟨1025, this⟩
theorem yk_cp_oldBlock_block_l {post : SY → Prop} (K : post (yr, ys, yd, yh, yt, ck, cl, cp, cn, jv_cq ob cb 384, cv, cm, ok, ol, op, on, ob, ov, om, ac, au, yf, yo, yu, ym)) : ∀ (d i : Nat), i + d = 384 → ∀ fuel, d < fuel → wY_copy__oldBlock_block_2 post yr ys yd yh yt fuel (nI i) ck cl cp cn (jv_cq ob cb i) cv cm ok ol op on ob ov om ac au yf yo yu ym := by
  intro d
  induction d with
  | zero =>
    intro i e fuel hf
    obtain ⟨fuel, rfl⟩ : ∃ g, fuel = g + 1 := ⟨fuel - 1, by omega⟩
    have : i = 384 := by omega
    subst this
    rw [wY_copy__oldBlock_block_2]
    exact br_t (nI_le (a := 384) (b := 384) (by omega) (by decide)) K
  | succ d ih =>
    intro i e fuel hf
    obtain ⟨fuel, rfl⟩ : ∃ g, fuel = g + 1 := ⟨fuel - 1, by omega⟩
    rw [wY_copy__oldBlock_block_2]
    dsimp only
    rw [nI_clamp (by omega), jv_cq_s]
    have v1 : vp_in (nI i) 384 := vp_in_nI (by omega) (by decide)
    exact br_f (nI_ge (a := i) (b := 384) (by omega) (by decide)) ⟨v1, v1, nm_e (nm_r (nI_1 i) (ih (i + 1) (by omega) fuel (by omega)))⟩
theorem yk_cp_oldBlock_block {post : SY → Prop} (h : ∀ j, 384 ≤ j → cb j = ob j) (K : post (yr, ys, yd, yh, yt, ck, cl, cp, cn, ob, cv, cm, ok, ol, op, on, ob, ov, om, ac, au, yf, yo, yu, ym)) : wpY_copy__oldBlock_block post (yr, ys, yd, yh, yt, ck, cl, cp, cn, cb, cv, cm, ok, ol, op, on, ob, ov, om, ac, au, yf, yo, yu, ym) := by
  unfold wpY_copy__oldBlock_block; dsimp only
  have := yk_cp_oldBlock_block_l (yr := yr) (ys := ys) (yd := yd) (yh := yh) (yt := yt) (ck := ck) (cl := cl) (cp := cp) (cn := cn) (cb := cb) (cv := cv) (cm := cm) (ok := ok) (ol := ol) (op := op) (on := on) (ob := ob) (ov := ov) (om := om) (ac := ac) (au := au) (yf := yf) (yo := yo) (yu := yu) (ym := ym) (post := post) (by rw [jv_cq_n h]; exact K) 384 0 (by omega) 385 (by omega)
  rw [jv_cq_0] at this
  exact ⟨385, this⟩
theorem yk_cp_oldValue_value_l {post : SY → Prop} (K : post (yr, ys, yd, yh, yt, ck, cl, cp, cn, cb, jv_cq ov cv 64, cm, ok, ol, op, on, ob, ov, om, ac, au, yf, yo, yu, ym)) : ∀ (d i : Nat), i + d = 64 → ∀ fuel, d < fuel → wY_copy__oldValue_value_2 post yr ys yd yh yt fuel (nI i) ck cl cp cn cb (jv_cq ov cv i) cm ok ol op on ob ov om ac au yf yo yu ym := by
  intro d
  induction d with
  | zero =>
    intro i e fuel hf
    obtain ⟨fuel, rfl⟩ : ∃ g, fuel = g + 1 := ⟨fuel - 1, by omega⟩
    have : i = 64 := by omega
    subst this
    rw [wY_copy__oldValue_value_2]
    exact br_t (nI_le (a := 64) (b := 64) (by omega) (by decide)) K
  | succ d ih =>
    intro i e fuel hf
    obtain ⟨fuel, rfl⟩ : ∃ g, fuel = g + 1 := ⟨fuel - 1, by omega⟩
    rw [wY_copy__oldValue_value_2]
    dsimp only
    rw [nI_clamp (by omega), jv_cq_s]
    have v1 : vp_in (nI i) 64 := vp_in_nI (by omega) (by decide)
    exact br_f (nI_ge (a := i) (b := 64) (by omega) (by decide)) ⟨v1, v1, nm_e (nm_r (nI_1 i) (ih (i + 1) (by omega) fuel (by omega)))⟩
theorem yk_cp_oldValue_value {post : SY → Prop} (h : ∀ j, 64 ≤ j → cv j = ov j) (K : post (yr, ys, yd, yh, yt, ck, cl, cp, cn, cb, ov, cm, ok, ol, op, on, ob, ov, om, ac, au, yf, yo, yu, ym)) : wpY_copy__oldValue_value post (yr, ys, yd, yh, yt, ck, cl, cp, cn, cb, cv, cm, ok, ol, op, on, ob, ov, om, ac, au, yf, yo, yu, ym) := by
  unfold wpY_copy__oldValue_value; dsimp only
  have := yk_cp_oldValue_value_l (yr := yr) (ys := ys) (yd := yd) (yh := yh) (yt := yt) (ck := ck) (cl := cl) (cp := cp) (cn := cn) (cb := cb) (cv := cv) (cm := cm) (ok := ok) (ol := ol) (op := op) (on := on) (ob := ob) (ov := ov) (om := om) (ac := ac) (au := au) (yf := yf) (yo := yo) (yu := yu) (ym := ym) (post := post) (by rw [jv_cq_n h]; exact K) 64 0 (by omega) 65 (by omega)
  rw [jv_cq_0] at this
  exact ⟨65, this⟩
theorem yk_cp_oldMark_mark_l {post : SY → Prop} (K : post (yr, ys, yd, yh, yt, ck, cl, cp, cn, cb, cv, jv_cq om cm 64, ok, ol, op, on, ob, ov, om, ac, au, yf, yo, yu, ym)) : ∀ (d i : Nat), i + d = 64 → ∀ fuel, d < fuel → wY_copy__oldMark_mark_2 post yr ys yd yh yt fuel (nI i) ck cl cp cn cb cv (jv_cq om cm i) ok ol op on ob ov om ac au yf yo yu ym := by
  intro d
  induction d with
  | zero =>
    intro i e fuel hf
    obtain ⟨fuel, rfl⟩ : ∃ g, fuel = g + 1 := ⟨fuel - 1, by omega⟩
    have : i = 64 := by omega
    subst this
    rw [wY_copy__oldMark_mark_2]
    exact br_t (nI_le (a := 64) (b := 64) (by omega) (by decide)) K
  | succ d ih =>
    intro i e fuel hf
    obtain ⟨fuel, rfl⟩ : ∃ g, fuel = g + 1 := ⟨fuel - 1, by omega⟩
    rw [wY_copy__oldMark_mark_2]
    dsimp only
    rw [nI_clamp (by omega), jv_cq_s]
    have v1 : vp_in (nI i) 64 := vp_in_nI (by omega) (by decide)
    exact br_f (nI_ge (a := i) (b := 64) (by omega) (by decide)) ⟨v1, v1, nm_e (nm_r (nI_1 i) (ih (i + 1) (by omega) fuel (by omega)))⟩
theorem yk_cp_oldMark_mark {post : SY → Prop} (h : ∀ j, 64 ≤ j → cm j = om j) (K : post (yr, ys, yd, yh, yt, ck, cl, cp, cn, cb, cv, om, ok, ol, op, on, ob, ov, om, ac, au, yf, yo, yu, ym)) : wpY_copy__oldMark_mark post (yr, ys, yd, yh, yt, ck, cl, cp, cn, cb, cv, cm, ok, ol, op, on, ob, ov, om, ac, au, yf, yo, yu, ym) := by
  unfold wpY_copy__oldMark_mark; dsimp only
  have := yk_cp_oldMark_mark_l (yr := yr) (ys := ys) (yd := yd) (yh := yh) (yt := yt) (ck := ck) (cl := cl) (cp := cp) (cn := cn) (cb := cb) (cv := cv) (cm := cm) (ok := ok) (ol := ol) (op := op) (on := on) (ob := ob) (ov := ov) (om := om) (ac := ac) (au := au) (yf := yf) (yo := yo) (yu := yu) (ym := ym) (post := post) (by rw [jv_cq_n h]; exact K) 64 0 (by omega) 65 (by omega)
  rw [jv_cq_0] at this
  exact ⟨65, this⟩
theorem yk_place {post : SY → Prop} (h : jv_Z ck cl cp cn cb cv cm) (h' : jv_Z ok ol op on ob ov om) (K : post (yr, ys, yd, yh, yt, ck, cl, cp, cn, cb, cv, cm, ck, cl, cp, cn, cb, cv, cm, ac, au, yf, yo, yu, ym)) : wpY_place post (yr, ys, yd, yh, yt, ck, cl, cp, cn, cb, cv, cm, ok, ol, op, on, ob, ov, om, ac, au, yf, yo, yu, ym) := by
  obtain ⟨a1, a2, a3, a4, a5, a6, a7⟩ := h
  obtain ⟨b1, b2, b3, b4, b5, b6, b7⟩ := h'
  unfold wpY_place; dsimp only
  refine yk_cp_kind_oldKind (fun j hj => by rw [a1 j hj, b1 j hj]) ?_
  dsimp only
  refine yk_cp_links_oldLinks (fun j hj => by rw [a2 j hj, b2 j hj]) ?_
  dsimp only
  refine yk_cp_parent_oldParent (fun j hj => by rw [a3 j hj, b3 j hj]) ?_
  dsimp only
  refine yk_cp_named_oldNamed (fun j hj => by rw [a4 j hj, b4 j hj]) ?_
  dsimp only
  refine yk_cp_block_oldBlock (fun j hj => by rw [a5 j hj, b5 j hj]) ?_
  dsimp only
  refine yk_cp_value_oldValue (fun j hj => by rw [a6 j hj, b6 j hj]) ?_
  dsimp only
  exact yk_cp_mark_oldMark (fun j hj => by rw [a7 j hj, b7 j hj]) K
theorem yk_back {post : Int32 → SY → Prop} (h : jv_Z ck cl cp cn cb cv cm) (h' : jv_Z ok ol op on ob ov om) {x2 : Int32} {r : Nat}
    (K : ∃ n, wY_crash_129 post x2 (nI r) n 0 0 ys yd yh yt ok ol op on ob ov om ok ol op on ob ov om ac au yf yo yu ym) : wY_crash_43 post x2 (nI r) yr ys yd yh yt ck cl cp cn cb cv cm ok ol op on ob ov om ac au yf yo yu ym := by
  obtain ⟨a1, a2, a3, a4, a5, a6, a7⟩ := h
  obtain ⟨b1, b2, b3, b4, b5, b6, b7⟩ := h'
  unfold wY_crash_43
  refine yk_cp_oldKind_kind (fun j hj => by rw [a1 j hj, b1 j hj]) ?_
  dsimp only
  refine yk_cp_oldLinks_links (fun j hj => by rw [a2 j hj, b2 j hj]) ?_
  dsimp only
  refine yk_cp_oldParent_parent (fun j hj => by rw [a3 j hj, b3 j hj]) ?_
  dsimp only
  refine yk_cp_oldNamed_named (fun j hj => by rw [a4 j hj, b4 j hj]) ?_
  dsimp only
  refine yk_cp_oldBlock_block (fun j hj => by rw [a5 j hj, b5 j hj]) ?_
  dsimp only
  refine yk_cp_oldValue_value (fun j hj => by rw [a6 j hj, b6 j hj]) ?_
  dsimp only
  exact yk_cp_oldMark_mark (fun j hj => by rw [a7 j hj, b7 j hj]) K
end
section
variable {xc xr xs xg xd xm xt xw xo : Int32} {aw ap aa av ae af ab al an aq : Nat → Int32}
theorem xk_ckp_l {post : Int32 → SX → Prop} {x1 : Int32} (K : post x1 (0, 0, 0, xg, xd, xm, xt, xw, xo, aw, jv_cq aw ap 450, aa, av, ae, af, ab, al, an, aq)) : ∀ (d i : Nat), i + d = 450 → ∀ fuel, d < fuel → wX_checkpoint_7 post x1 xc xr xs xg xd xm xt xw xo fuel (nI i) aw (jv_cq aw ap i) aa av ae af ab al an aq := by
  intro d
  induction d with
  | zero =>
    intro i e fuel hf
    obtain ⟨fuel, rfl⟩ : ∃ g, fuel = g + 1 := ⟨fuel - 1, by omega⟩
    have : i = 450 := by omega
    subst this
    rw [wX_checkpoint_7]
    exact br_t (nI_le (a := 450) (b := 450) (by omega) (by decide)) K
  | succ d ih =>
    intro i e fuel hf
    obtain ⟨fuel, rfl⟩ : ∃ g, fuel = g + 1 := ⟨fuel - 1, by omega⟩
    rw [wX_checkpoint_7]
    dsimp only
    rw [nI_clamp (by omega), jv_cq_s]
    have v1 : vp_in (nI i) 450 := vp_in_nI (by omega) (by decide)
    exact br_f (nI_ge (a := i) (b := 450) (by omega) (by decide)) ⟨v1, v1, nm_e (nm_r (nI_1 i) (ih (i + 1) (by omega) fuel (by omega)))⟩
theorem xk_checkpoint {post : Int32 → SX → Prop} (h : ∀ j, 450 ≤ j → ap j = aw j) (K : post xr (0, 0, 0, xg, xd, xm, xt, xw, xo, aw, aw, aa, av, ae, af, ab, al, an, aq)) : wpX_checkpoint post (xc, xr, xs, xg, xd, xm, xt, xw, xo, aw, ap, aa, av, ae, af, ab, al, an, aq) := by
  unfold wpX_checkpoint; dsimp only
  have := xk_ckp_l (xc := xc) (xr := xr) (xs := xs) (xg := xg) (xd := xd) (xm := xm) (xt := xt) (xw := xw) (xo := xo) (aw := aw) (ap := ap) (aa := aa) (av := av) (ae := ae) (af := af) (ab := ab) (al := al) (an := an) (aq := aq) (post := post) (x1 := xr) (by rw [jv_cq_n h]; exact K) 450 0 (by omega) 451 (by omega)
  rw [jv_cq_0] at this
  exact ⟨451, this⟩
theorem xk_cr1 {post : Int32 → SX → Prop} {x3 : Int32} {w : Nat → Int32} (h : ∀ j, 450 ≤ j → w j = ap j) (K : ∃ n, wX_crash_100 post x3 xc xr xs xg xd xm xt xw xo n 0 ap ap aa av ae af ab al an aq) : ∀ (d i : Nat), i + d = 450 → ∀ fuel, d < fuel → wX_crash_69 post x3 xc xr xs xg xd xm xt xw xo fuel (nI i) (jv_cq ap w i) ap aa av ae af ab al an aq := by
  intro d
  induction d with
  | zero =>
    intro i e fuel hf
    obtain ⟨fuel, rfl⟩ : ∃ g, fuel = g + 1 := ⟨fuel - 1, by omega⟩
    have : i = 450 := by omega
    subst this
    rw [wX_crash_69, jv_cq_n h]
    exact br_t (nI_le (a := 450) (b := 450) (by omega) (by decide)) K
  | succ d ih =>
    intro i e fuel hf
    obtain ⟨fuel, rfl⟩ : ∃ g, fuel = g + 1 := ⟨fuel - 1, by omega⟩
    rw [wX_crash_69]
    dsimp only
    rw [nI_clamp (by omega), jv_cq_s]
    have v1 : vp_in (nI i) 450 := vp_in_nI (by omega) (by decide)
    exact br_f (nI_ge (a := i) (b := 450) (by omega) (by decide)) ⟨v1, v1, nm_e (nm_r (nI_1 i) (ih (i + 1) (by omega) fuel (by omega)))⟩
theorem xk_cr2 {post : Int32 → SX → Prop} {x3 : Int32} {m : Nat} (hm : m ≤ 1400) (hv : ∀ i, i < m → vp_in (aa i) 450) (K : post x3 (nI m, xr, xs, xg, xd, xm, xt, xw, xo, jv_rep ap aa av m, ap, aa, av, ae, af, ab, al, an, aq)) : ∀ (d i : Nat), i + d = m → ∀ fuel, d < fuel → wX_crash_100 post x3 (nI m) xr xs xg xd xm xt xw xo fuel (nI i) (jv_rep ap aa av i) ap aa av ae af ab al an aq := by
  intro d
  induction d with
  | zero =>
    intro i e fuel hf
    obtain ⟨fuel, rfl⟩ : ∃ g, fuel = g + 1 := ⟨fuel - 1, by omega⟩
    have : i = m := by omega
    subst this
    rw [wX_crash_100]
    exact br_t (nI_le (a := i) (b := i) (by omega) (by omega)) K
  | succ d ih =>
    intro i e fuel hf
    obtain ⟨fuel, rfl⟩ : ∃ g, fuel = g + 1 := ⟨fuel - 1, by omega⟩
    rw [wX_crash_100]
    dsimp only
    rw [nI_clamp (n := i) (by omega)]
    have v1 : vp_in (nI i) 1400 := vp_in_nI (by omega) (by decide)
    exact br_f (nI_ge (a := i) (b := m) (by omega) (by omega)) ⟨v1, v1, hv i (by omega), nm_e (nm_r (nI_1 i) (ih (i + 1) (by omega) fuel (by omega)))⟩
/-- X goes back to its first k records -/
theorem xk_crash {post : Int32 → SX → Prop} {r k m : Nat} (hr : r ≤ 24) (hk : k ≤ r) (hm : m ≤ 1400) (he : ae k = nI m) (hv : ∀ i, i < m → vp_in (aa i) 450) (h : ∀ j, 450 ≤ j → aw j = ap j)
    (K : post (nI (r - k)) (nI m, nI k, nI k, xg, xd, xm, xt, xw, xo, jv_rep ap aa av m, ap, aa, av, ae, af, ab, al, an, aq)) : wX_crash_38 post (nI k) xc (nI r) xs xg xd xm xt xw xo aw ap aa av ae af ab al an aq := by
  unfold wX_crash_38
  rw [pk_sub hk, nI_clamp (by omega), he]
  refine nm_e ⟨vp_in_nI (by omega) (by decide), nm_e ⟨451, ?_⟩⟩
  have h2 : ∃ n, wX_crash_100 post (nI (r - k)) (nI m) (nI k) (nI k) xg xd xm xt xw xo n 0 ap ap aa av ae af ab al an aq := ⟨m + 1, xk_cr2 hm hv K m 0 (by omega) (m + 1) (by omega)⟩
  have := xk_cr1 h h2 450 0 (by omega) 451 (by omega)
  rw [jv_cq_0] at this
  exact this
end
end
section
/-! the relation of the two states, and what opens and extends it -/
theorem jv_Nd_cg {w ck cl cp cn cb w' ck' cl' cp' cn' cb' : Nat → Int32} {x : Nat} (h : jv_Nd w ck cl cp cn cb x) (hw : ∀ q, 24 * x ≤ q → q < 24 * x + 24 → w' q = w q) (h1 : ck' x = ck x) (h2 : ck x ≠ 0 → cl' x = cl x) (h3 : ck x = 2 → cp' x = cp x)
    (h4 : ∀ a, a < 64 → cn' (64 * x + a) = cn (64 * x + a)) (h5 : ∀ p, p < 24 → cb' (24 * x + p) = cb (24 * x + p)) : jv_Nd w' ck' cl' cp' cn' cb' x := by
  obtain ⟨g1, g2, g3, g4, g5, g6, g7⟩ := h
  unfold jv_Nd
  rw [h1]
  refine ⟨by rw [hw _ (by omega) (by omega)]; exact g1, g2, fun hk => by rw [hw _ (by omega) (by omega), h2 hk]; exact g3 hk, fun hk => ?_, fun hk a ha => by rw [h4 a ha]; exact g5 hk a ha, fun hk => ?_, fun hk p hp => by rw [h5 p hp]; exact g7 hk p hp⟩
  · obtain ⟨e1, n, N, I, hW, hF⟩ := g4 hk
    refine ⟨by rw [hw _ (by omega) (by omega), h3 hk]; exact e1, n, N, I, ⟨by rw [hw _ (by omega) (by omega)]; exact hW.1, fun i hi => ?_⟩, ?_⟩
    · have := hW.2 i hi
      have := hF.1
      rw [hw _ (by omega) (by omega), hw _ (by omega) (by omega)]; assumption
    · refine ⟨hF.1, fun i hi => ?_, hF.2.2.1, fun a ha hno => (h4 a ha).trans (hF.2.2.2 a ha hno)⟩
      have := hF.2.1 i hi
      refine ⟨this.1, this.2.1, ?_⟩
      show cn' _ = _
      rw [h4 _ this.1]; exact this.2.2
  · obtain ⟨n, P, B, L, hn, hW, hX⟩ := g6 hk
    refine ⟨n, P, B, L, hn, ⟨by rw [hw _ (by omega) (by omega)]; exact hW.1, fun i hi => ?_⟩, jv_Ex_cg hX (fun p hp => h5 p hp)⟩
    have := hW.2 i hi
    rw [hw _ (by omega) (by omega), hw _ (by omega) (by omega), hw _ (by omega) (by omega)]; assumption
theorem jv_off (f : Nat → Int32) (b a : Nat) (v : Int32) : (fun i => upd f (b + a) v (b + i)) = upd (fun i => f (b + i)) a v := by
  funext i
  by_cases e : i = a
  · rw [e, pk_us, pk_us]
  · rw [pk_un e, pk_un (by omega)]
/-- what an entry may hold -/
theorem jv_nv {w ck cl cp cn cb cv cm : Nat → Int32} (h : jv_RW w ck cl cp cn cb cv cm) {j : Nat} (hj : j < 1024) : cn j = -1 ∨ ∃ x, x < 16 ∧ cn j = nI x := by
  have hx : j / 64 < 16 := by omega
  have ha : j % 64 < 64 := Nat.mod_lt _ (by decide)
  have ej : 64 * (j / 64) + j % 64 = j := by omega
  obtain ⟨_, g2, _, g4, g5, _, _⟩ := h.1 (j / 64) hx
  by_cases hk : ck (j / 64) = 2
  · obtain ⟨_, n, N, I, _, hF⟩ := g4 hk
    by_cases hn : ∃ i, i < n ∧ N i = j % 64
    · obtain ⟨i, hi, e⟩ := hn
      obtain ⟨a1, a2, a3⟩ := hF.2.1 i hi
      rw [e] at a3
      have a4 : cn (64 * (j / 64) + j % 64) = nI (I i) := a3
      rw [ej] at a4
      exact Or.inr ⟨I i, a2, a4⟩
    · have a4 : cn (64 * (j / 64) + j % 64) = -1 := hF.2.2.2 _ ha (fun i hi e => hn ⟨i, hi, e⟩)
      rw [ej] at a4
      exact Or.inl a4
  · have := g5 hk _ ha
    rw [ej] at this
    exact Or.inl this
theorem jv_nv2 {w ck cl cp cn cb cv cm : Nat → Int32} (h : jv_RW w ck cl cp cn cb cv cm) {x a : Nat} (hx : x < 16) (ha : a < 64) (hn : ¬ cn (64 * x + a) = -1) : ck x = 2 := by
  obtain ⟨_, g2, _, g4, g5, _, _⟩ := h.1 x hx
  by_cases hk : ck x = 2
  · exact hk
  · exact absurd (g5 hk a ha) hn
theorem jv_bv {w ck cl cp cn cb cv cm : Nat → Int32} (h : jv_RW w ck cl cp cn cb cv cm) {j : Nat} (hj : j < 384) : cb j = -1 ∨ ∃ b, b < 64 ∧ cb j = nI b := by
  have hx : j / 24 < 16 := by omega
  have ha : j % 24 < 24 := Nat.mod_lt _ (by decide)
  have ej : 24 * (j / 24) + j % 24 = j := by omega
  obtain ⟨_, g2, _, _, _, g6, g7⟩ := h.1 (j / 24) hx
  by_cases hk : ck (j / 24) = 1
  · obtain ⟨n, P, B, L, hn, _, hX⟩ := g6 hk
    have := jv_EF_v hX.1 hX.2.2 ha
    rw [ej] at this
    exact this.symm
  · have := g7 hk _ ha
    rw [ej] at this
    exact Or.inl this
theorem jv_lk_same {cn cn' : Nat → Int32} {y : Nat} (h : ∀ j, j < 1024 → (cn' j = nI y ↔ cn j = nI y)) : jv_lk cn' y = jv_lk cn y :=
  jv_ct_cg 1024 (fun j hj => decide_eq_decide.mpr (h j hj))
theorem jv_lk_add {cn : Nat → Int32} {y j : Nat} (hj : j < 1024) (h : ¬ cn j = nI y) : jv_lk (upd cn j (nI y)) y = jv_lk cn y + 1 :=
  jv_ct_1 (a := j) (by rw [pk_us]; exact decide_eq_true rfl) (decide_eq_false h) (fun i hi => by rw [pk_un hi]) 1024 hj
theorem jv_lk_del {cn : Nat → Int32} {y j : Nat} {v : Int32} (hj : j < 1024) (h : cn j = nI y) (hv : ¬ v = nI y) : jv_lk cn y = jv_lk (upd cn j v) y + 1 :=
  jv_ct_1 (a := j) (decide_eq_true h) (by rw [pk_us]; exact decide_eq_false hv) (fun i hi => by rw [pk_un hi]) 1024 hj
theorem jv_lk_0 {cn : Nat → Int32} {y : Nat} (h : jv_lk cn y = 0) {j : Nat} (hj : j < 1024) : ¬ cn j = nI y := by
  have := jv_ct_z 1024 h j hj
  exact of_decide_eq_false this
theorem jv_lk_le (cn : Nat → Int32) (y : Nat) : jv_lk cn y ≤ 1024 := jv_ct_le _ 1024
theorem jv_lk_pos {cn : Nat → Int32} {y j : Nat} (hj : j < 1024) (h : cn j = nI y) : 0 < jv_lk cn y := by
  rcases Nat.eq_zero_or_pos (jv_lk cn y) with e | e
  · exact absurd h (jv_lk_0 e hj)
  · exact e
theorem jv_nI16 {x y : Nat} (hx : x < 16) (hy : y < 16) (h : nI x = nI y) : x = y := (nI_eq (by omega) (by omega)).mp h
/-- the seven tables -/
abbrev jv_C : Type := (Nat → Int32) × (Nat → Int32) × (Nat → Int32) × (Nat → Int32) × (Nat → Int32) × (Nat → Int32) × (Nat → Int32)
def jv_RC (w : Nat → Int32) : jv_C → Prop
  | (ck, cl, cp, cn, cb, cv, cm) => jv_RW w ck cl cp cn cb cv cm ∧ cp 0 = 0
def jv_UC : jv_C → Prop
  | (ck, cl, cp, cn, cb, _, cm) => jv_UI ck cl cp cn cb cm
/-- the reference, asked to do a record again, goes from V to V' -/
def jv_Redo (q a b c d : Int32) : jv_C → jv_C → Prop
  | (ck, cl, cp, cn, cb, cv, cm), (ck', cl', cp', cn', cb', cv', cm') => ∀ (k : Nat) (ys yh yt : Int32) (ok ol op on ob ov om ac au yf yo yu ym : Nat → Int32) (post : SY → Prop), k < 24 →
      ac k = q → au (4 * k) = a → au (4 * k + 1) = b → au (4 * k + 2) = c → au (4 * k + 3) = d →
      post (nI (k + 1), ys, 0, yh, yt, ck', cl', cp', cn', cb', cv', cm', ok, ol, op, on, ob, ov, om, ac, au, yf, yo, yu, ym) → wpY_again post (nI k, ys, 0, yh, yt, ck, cl, cp, cn, cb, cv, cm, ok, ol, op, on, ob, ov, om, ac, au, yf, yo, yu, ym) (nI k)
/-- all that the relation says -/
def jv_R (xc xr xs xg xd yr ys yd : Int32) (aw ap aa av ae an ac au yf : Nat → Int32) (C O : jv_C) : Prop :=
  ∃ (r s : Nat) (e : Nat → Nat) (V : Nat → jv_C), r ≤ 24 ∧ s ≤ r ∧ xr = nI r ∧ yr = nI r ∧ xs = nI s ∧ ys = nI s ∧ xg = 0 ∧ xc = nI (e r) ∧ yd = xd ∧
    e 0 = 0 ∧ (∀ j, j < r → e j ≤ e (j + 1) ∧ e (j + 1) ≤ e j + 58) ∧ (∀ j, j ≤ r → ae j = nI (e j)) ∧ (∀ i, i < e r → vp_in (aa i) 450) ∧ aw = jv_rep ap aa av (e r) ∧ V 0 = O ∧ V r = C ∧
    (∀ j, j ≤ r → jv_RC (jv_rep ap aa av (e j)) (V j)) ∧ (∀ j, j < r → jv_Redo (ac j) (au (4 * j)) (au (4 * j + 1)) (au (4 * j + 2)) (au (4 * j + 3)) (V j) (V (j + 1))) ∧
    ((xd = 0 ∧ ∀ j, j ≤ r → jv_UC (V j)) ∨ (xd = 1 ∧ r = 0)) ∧ (∀ i, i < 5 → an i = yf i)
theorem jv_e_le {e : Nat → Nat} {r : Nat} (h0 : e 0 = 0) (h : ∀ j, j < r → e j ≤ e (j + 1) ∧ e (j + 1) ≤ e j + 58) : ∀ j, j ≤ r → e j ≤ 58 * j := by
  intro j
  induction j with
  | zero => intro _; omega
  | succ j ih => intro hj; have := ih (by omega); have := h j (by omega); omega
theorem jv_e_mono {e : Nat → Nat} {r : Nat} (h : ∀ j, j < r → e j ≤ e (j + 1) ∧ e (j + 1) ≤ e j + 58) : ∀ d j, j + d ≤ r → e j ≤ e (j + d) := by
  intro d
  induction d with
  | zero => intro j _; exact Nat.le_refl _
  | succ d ih => intro j hj; have a := ih j (by omega); have b := h (j + d) (by omega); rw [show j + (d + 1) = j + d + 1 by omega]; omega
/-- opened: what a call needs to know, and how the relation goes on by one record -/
theorem jv_open {xc xr xs xg xd yr ys yd : Int32} {aw ap aa av ae an ac au yf ck cl cp cn cb cv cm : Nat → Int32} {O : jv_C} (h : jv_R xc xr xs xg xd yr ys yd aw ap aa av ae an ac au yf (ck, cl, cp, cn, cb, cv, cm) O) :
    ∃ r s m : Nat, r ≤ 24 ∧ s ≤ r ∧ xr = nI r ∧ yr = nI r ∧ xs = nI s ∧ ys = nI s ∧ xg = 0 ∧ xc = nI m ∧ yd = xd ∧ (∀ i, i < 5 → an i = yf i) ∧ jv_RW aw ck cl cp cn cb cv cm ∧
      (xd = 0 ∨ xd = 1 ∧ r = 0) ∧ (xd = 0 → jv_UI ck cl cp cn cb cm) ∧
      (r < 24 → ∀ c, jv_J 1 aa av ap m c aw aa av m) ∧
      (∀ (w' aa' av' : Nat → Int32) (m' : Nat) (q a b c d : Int32) (ck' cl' cp' cn' cb' cv' cm' : Nat → Int32), r < 24 → xd = 0 → jv_J 1 aa av ap m 58 w' aa' av' m' →
        jv_RW w' ck' cl' cp' cn' cb' cv' cm' → jv_UI ck' cl' cp' cn' cb' cm' → jv_Redo q a b c d (ck, cl, cp, cn, cb, cv, cm) (ck', cl', cp', cn', cb', cv', cm') → cp' 0 = 0 →
        m' < 32768 ∧ jv_R (nI m') (nI (r + 1)) xs 0 xd (nI (r + 1)) ys yd w' ap aa' av' (upd ae (r + 1) (nI m')) an (upd ac r q) (jv_nt au r a b c d) yf (ck', cl', cp', cn', cb', cv', cm') O) := by
  obtain ⟨r, s, e, V, h1, h2, h3, h4, h5, h6, h7, h8, h9, h10, h11, h12, h13, h14, h15, h16, h17, h18, h19, h20⟩ := h
  have hE := jv_e_le h10 h11
  have er := hE r (Nat.le_refl r)
  refine ⟨r, s, e r, h1, h2, h3, h4, h5, h6, h7, h8, h9, h20, ?_, ?_, ?_, ?_, ?_⟩
  · have := h17 r (Nat.le_refl r)
    rw [h16, ← h14] at this
    exact this.1
  · rcases h19 with g | g
    · exact Or.inl g.1
    · exact Or.inr g
  · intro hd
    rcases h19 with g | g
    · have := g.2 r (Nat.le_refl r)
      rw [h16] at this
      exact this
    · rw [hd] at g; exact absurd g.1 (by decide)
  · intro hr c
    exact Or.inr ⟨rfl, by omega, Nat.le_refl _, by omega, h14.symm, fun i _ => ⟨rfl, rfl⟩, h13⟩
  · intro w' aa' av' m' q a b c d ck' cl' cp' cn' cb' cv' cm' hr hd hJ hRW hUI hRd hcp
    rcases hJ with g | ⟨_, g2, g3, g4, g5, g6, g7⟩
    · exact absurd g.1 (by decide)
    have hrep : ∀ j, j ≤ r → jv_rep ap aa' av' (e j) = jv_rep ap aa av (e j) := fun j hj => by
      have := jv_e_mono h11 (r - j) j (by omega)
      rw [show j + (r - j) = r by omega] at this
      exact jv_rep_cg (e j) (fun i hi => g6 i (by omega))
    refine ⟨by omega, r + 1, s, fun j => if j = r + 1 then m' else e j, fun j => if j = r + 1 then (ck', cl', cp', cn', cb', cv', cm') else V j, by omega, by omega, rfl, rfl, h5, h6, rfl, by simp, h9, ?_, ?_, ?_, ?_, ?_, ?_, by simp, ?_, ?_, ?_, h20⟩
    · show (if 0 = r + 1 then m' else e 0) = 0
      rw [if_neg (by omega)]; exact h10
    · intro j hj
      dsimp only
      rw [if_neg (show ¬ j = r + 1 by omega)]
      by_cases q : j + 1 = r + 1
      · rw [if_pos q]
        have : j = r := by omega
        subst this; omega
      · rw [if_neg q]; exact h11 j (by omega)
    · intro j hj
      dsimp only
      by_cases q : j = r + 1
      · rw [if_pos q, q, pk_us]
      · rw [if_neg q, pk_un q]; exact h12 j (by omega)
    · intro i hi
      dsimp only at hi
      rw [if_pos rfl] at hi
      exact g7 i hi
    · dsimp only
      rw [if_pos rfl]; exact g5.symm
    · dsimp only
      rw [if_neg (by omega)]; exact h15
    · intro j hj
      dsimp only
      by_cases q : j = r + 1
      · rw [if_pos q, if_pos q, g5]; exact ⟨hRW, hcp⟩
      · rw [if_neg q, if_neg q, hrep j (by omega)]; exact h17 j (by omega)
    · intro j hj
      dsimp only
      rw [if_neg (show ¬ j = r + 1 by omega)]
      unfold jv_nt
      by_cases q : j = r
      · subst q
        rw [if_pos rfl, h16, pk_us]
        rw [pk_un (show 4 * j ≠ 4 * j + 3 by omega), pk_un (show 4 * j ≠ 4 * j + 2 by omega), pk_un (show 4 * j ≠ 4 * j + 1 by omega), pk_us, pk_un (show 4 * j + 1 ≠ 4 * j + 3 by omega), pk_un (show 4 * j + 1 ≠ 4 * j + 2 by omega), pk_us, pk_un (show 4 * j + 2 ≠ 4 * j + 3 by omega), pk_us, pk_us]
        exact hRd
      · rw [if_neg (show ¬ j + 1 = r + 1 by omega), pk_un q]
        rw [pk_un (show 4 * j ≠ 4 * r + 3 by omega), pk_un (show 4 * j ≠ 4 * r + 2 by omega), pk_un (show 4 * j ≠ 4 * r + 1 by omega), pk_un (show 4 * j ≠ 4 * r by omega)]
        rw [pk_un (show 4 * j + 1 ≠ 4 * r + 3 by omega), pk_un (show 4 * j + 1 ≠ 4 * r + 2 by omega), pk_un (show 4 * j + 1 ≠ 4 * r + 1 by omega), pk_un (show 4 * j + 1 ≠ 4 * r by omega)]
        rw [pk_un (show 4 * j + 2 ≠ 4 * r + 3 by omega), pk_un (show 4 * j + 2 ≠ 4 * r + 2 by omega), pk_un (show 4 * j + 2 ≠ 4 * r + 1 by omega), pk_un (show 4 * j + 2 ≠ 4 * r by omega)]
        rw [pk_un (show 4 * j + 3 ≠ 4 * r + 3 by omega), pk_un (show 4 * j + 3 ≠ 4 * r + 2 by omega), pk_un (show 4 * j + 3 ≠ 4 * r + 1 by omega), pk_un (show 4 * j + 3 ≠ 4 * r by omega)]
        exact h18 j (by omega)
    · rcases h19 with g | g
      · refine Or.inl ⟨g.1, fun j hj => ?_⟩
        dsimp only
        by_cases q : j = r + 1
        · rw [if_pos q]; exact hUI
        · rw [if_neg q]; exact g.2 j (by omega)
      · rw [hd] at g; exact absurd g.1 (by decide)
theorem jv_R_cp {xc xr xs xg xd yr ys yd : Int32} {aw ap aa av ae an ac au yf ck cl cp cn cb cv cm : Nat → Int32} {O : jv_C} (h : jv_R xc xr xs xg xd yr ys yd aw ap aa av ae an ac au yf (ck, cl, cp, cn, cb, cv, cm) O) : cp 0 = 0 := by
  obtain ⟨r, s, e, V, h1, h2, h3, h4, h5, h6, h7, h8, h9, h10, h11, h12, h13, h14, h15, h16, h17, _⟩ := h
  have := h17 r (Nat.le_refl r)
  rw [h16] at this
  exact this.2
theorem jv_nt_id {au : Nat → Int32} {k : Nat} {a b c d : Int32} (h1 : au (4 * k) = a) (h2 : au (4 * k + 1) = b) (h3 : au (4 * k + 2) = c) (h4 : au (4 * k + 3) = d) : jv_nt au k a b c d = au := by
  unfold jv_nt
  rw [jv_upd_id h1, jv_upd_id h2, jv_upd_id h3, jv_upd_id h4]
def i_Rel (_ : Nat) (u : SX) (v : SY) : Prop := match u, v with
  | (xc, xr, xs, xg, xd, xm, xt, xw, xo, aw, ap, aa, av, ae, af, ab, al, an, aq), (yr, ys, yd, yh, yt, ck, cl, cp, cn, cb, cv, cm, ok, ol, op, on, ob, ov, om, ac, au, yf, yo, yu, ym) => jv_R xc xr xs xg xd yr ys yd aw ap aa av ae an ac au yf (ck, cl, cp, cn, cb, cv, cm) (ok, ol, op, on, ob, ov, om)
theorem i_up {k : Nat} {u : SX} {v : SY} (h : i_Rel k u v) : i_Rel (k + 5) u v := h
theorem zz_el {k : Nat} {Q : SX → SY → Prop} (h : ∀ (xc xr xs xg xd xm xt xw xo : Int32) (aw ap aa av ae af ab al an aq : Nat → Int32) (yr ys yd yh yt : Int32) (ck cl cp cn cb cv cm ok ol op on ob ov om ac au yf yo yu ym : Nat → Int32), jv_R xc xr xs xg xd yr ys yd aw ap aa av ae an ac au yf (ck, cl, cp, cn, cb, cv, cm) (ok, ol, op, on, ob, ov, om) → Q (xc, xr, xs, xg, xd, xm, xt, xw, xo, aw, ap, aa, av, ae, af, ab, al, an, aq) (yr, ys, yd, yh, yt, ck, cl, cp, cn, cb, cv, cm, ok, ol, op, on, ob, ov, om, ac, au, yf, yo, yu, ym)) {u : SX} {v : SY} (I : i_Rel k u v) : Q u v := by
  obtain ⟨xc, xr, xs, xg, xd, xm, xt, xw, xo, aw, ap, aa, av, ae, af, ab, al, an, aq⟩ := u
  obtain ⟨yr, ys, yd, yh, yt, ck, cl, cp, cn, cb, cv, cm, ok, ol, op, on, ob, ov, om, ac, au, yf, yo, yu, ym⟩ := v
  exact h _ _ _ _ _ _ _ _ _ _ _ _ _ _ _ _ _ _ _ _ _ _ _ _ _ _ _ _ _ _ _ _ _ _ _ _ _ _ _ _ _ _ _ _ I
end
section
/-! arguments, by cases -/
section
variable {xc xr xs xg xd xm xt xw xo : Int32} {aw ap aa av ae af ab al an aq : Nat → Int32}
theorem xk_kind_v {post : Int32 → Prop} {ck : Nat → Int32} {v : Int32} (hk : ∀ x, x < 16 → aw (24 * x) = ck x) (K1 : ∀ d, d < 16 → v = nI d → post (ck d)) (K0 : (∀ d, d < 16 → ¬ v = nI d) → post 0) : wpX_kind post (xc, xr, xs, xg, xd, xm, xt, xw, xo, aw, ap, aa, av, ae, af, ab, al, an, aq) v := by
  rcases jv_ix16 v with h | ⟨d, hd, rfl⟩
  · refine xk_kind_o h (K0 (fun d hd e => ?_))
    subst e
    rcases h with h | ⟨_, h⟩
    · exact nI_pos (by omega) h
    · exact nI_ge (b := 16) hd (by decide) h
  · exact xk_kind_i hd (by rw [hk d hd]; exact K1 d hd rfl)
theorem xk_name_v {post : Int32 → Prop} {v : Int32} (K1 : ∀ a, a < 64 → v = nI a → post 1) (K0 : (∀ d, d < 64 → ¬ v = nI d) → post 0) : wpX_isName post v := by
  rcases jv_ix64 v with h | ⟨d, hd, rfl⟩
  · refine xk_name_o h (K0 (fun d hd e => ?_))
    subst e
    rcases h with h | ⟨_, h⟩
    · exact nI_pos (by omega) h
    · exact nI_ge (b := 64) hd (by decide) h
  · exact xk_name_i hd (K1 d hd rfl)
theorem xk_pos_v {post : Int32 → Prop} {v : Int32} (K1 : ∀ a, a < 24 → v = nI a → post 1) (K0 : (∀ d, d < 24 → ¬ v = nI d) → post 0) : wpX_isPosition post v := by
  rcases jv_ix24 v with h | ⟨d, hd, rfl⟩
  · refine xk_pos_o h (K0 (fun d hd e => ?_))
    subst e
    rcases h with h | ⟨_, h⟩
    · exact nI_pos (by omega) h
    · exact nI_ge (b := 24) hd (by decide) h
  · exact xk_pos_i hd (K1 d hd rfl)
theorem xk_inode_v {post : Int32 → Prop} {v : Int32} (K1 : ∀ a, a < 16 → v = nI a → post 1) (K0 : (∀ d, d < 16 → ¬ v = nI d) → post 0) : wpX_isInode post v := by
  rcases jv_ix16 v with h | ⟨d, hd, rfl⟩
  · refine xk_inode_o h (K0 (fun d hd e => ?_))
    subst e
    rcases h with h | ⟨_, h⟩
    · exact nI_pos (by omega) h
    · exact nI_ge (b := 16) hd (by decide) h
  · exact xk_inode_i hd (K1 d hd rfl)
end
theorem yk_in_v {post : Int32 → Prop} {b : Nat} {v w : Int32} (hw : w = nI b) (hb : b + 1 < 2 ^ 31) (K1 : ∀ a, a < b + 1 → v = nI a → post 1) (K0 : (∀ d, d < b + 1 → ¬ v = nI d) → post 0) : wpY_in post v 0 w := by
  subst hw
  by_cases h0 : v < 0
  · unfold wpY_in
    refine br_t h0 (K0 (fun d hd e => ?_))
    subst e; exact nI_pos (by omega) h0
  · obtain ⟨j, hj, rfl⟩ := nI_of h0
    refine yk_in (x := j) (a := 0) (b := b) rfl rfl rfl hj (by decide) (by omega) (fun _ h => K1 j (by omega) rfl) (fun h => K0 (fun d hd e => ?_))
    rw [nI_eq hj (by omega)] at e
    omega
section
variable {yr ys yd yh yt : Int32} {ck cl cp cn cb cv cm ok ol op on ob ov om ac au yf yo yu ym : Nat → Int32}
theorem yk_is_v {post : Int32 → Prop} {v t : Int32} (K1 : ∀ d, d < 16 → v = nI d → ck d = t → post 1) (K0 : (∀ d, d < 16 → v = nI d → ¬ ck d = t) → post 0) : wpY_is post (yr, ys, yd, yh, yt, ck, cl, cp, cn, cb, cv, cm, ok, ol, op, on, ob, ov, om, ac, au, yf, yo, yu, ym) v t := by
  rcases jv_ix16 v with h | ⟨d, hd, rfl⟩
  · refine yk_is_o h (K0 (fun d hd e => ?_))
    subst e
    rcases h with h | ⟨_, h⟩
    · exact absurd h (nI_pos (by omega))
    · exact absurd h (nI_ge (b := 16) hd (by decide))
  · refine yk_is hd (fun h => K1 d hd rfl h) (fun h => K0 (fun d' hd' e => ?_))
    rw [← jv_nI16 hd hd' e]; exact h
end
theorem jv_J_lt {A0 V0 pl w aa av : Nat → Int32} {m0 c m : Nat} (h : jv_J 1 A0 V0 pl m0 c w aa av m) (hc : c ≤ 58) : m < 32768 := by
  rcases h with g | ⟨_, g2, g3, g4, _⟩
  · exact absurd g.1 (by decide)
  · omega
theorem jv_m2 : ¬ (-2 : Int32) = 0 := by decide
section
variable {xc xr xs xg xd xm xt xw xo : Int32} {aw ap aa av ae af ab al an aq : Nat → Int32}
/-- a new entry: what is wrong with it -/
theorem xk_wrong_r {post : Int32 → Prop} {ck : Nat → Int32} {v1 v2 : Int32} (hk : ∀ x, x < 16 → aw (24 * x) = ck x) (h : ¬ xd = 0 ∨ (∀ d, d < 16 → v1 = nI d → ¬ ck d = 2) ∨ (∀ a, a < 64 → ¬ v2 = nI a)) (K : post (-1)) : wpX_wrong post (xc, xr, xs, xg, xd, xm, xt, xw, xo, aw, ap, aa, av, ae, af, ab, al, an, aq) v1 v2 := by
  unfold wpX_wrong; dsimp only
  refine br_c (fun hd => ?_) (fun _ => K)
  refine xk_kind_v hk (fun d hd1 e => br_c (fun h2 => ?_) (fun _ => K)) (fun _ => br_f (by decide) K)
  refine xk_name_v (fun a ha e2 => ?_) (fun _ => br_t rfl K)
  rcases h with h | h | h
  · exact absurd hd h
  · exact absurd h2 (h d hd1 e)
  · exact absurd e2 (h a ha)
theorem xk_wrong_i {post : Int32 → Prop} {d a n r : Nat} {N I : Nat → Nat} {f : Nat → Int32} (hd : d < 16) (ha : a < 64) (hr : r ≤ 24) (hk : aw (24 * d) = 2) (hW : jv_DW aw d n N I) (hF : jv_DF f n N I)
    (K2 : ∀ i, i < n → N i = a → post (-2)) (K3 : (∀ i, i < n → ¬ N i = a) → (n = 10 ∨ r = 24) → post (-3)) (K0 : (∀ i, i < n → ¬ N i = a) → n ≠ 10 → r ≠ 24 → post 0) : wpX_wrong post (xc, nI r, xs, xg, 0, xm, xt, xw, xo, aw, ap, aa, av, ae, af, ab, al, an, aq) (nI d) (nI a) := by
  unfold wpX_wrong; dsimp only
  refine br_t rfl (xk_kind_i hd ?_)
  rw [hk]
  refine br_t rfl (xk_name_i ha (br_f (by decide) ?_))
  refine xk_seek hd ha hW hF (fun i hi e => ?_) (fun k hk2 h1 h2 => ?_)
  · exact br_f (nI_pos (by have := hF.1; omega)) (K2 i hi e)
  · have hno : ∀ i, i < n → ¬ N i = a := fun i hi e => by
      rcases Nat.lt_or_ge i k with q | q
      · have := h1 i q; rw [e] at this; omega
      · have := h2 i q hi; rw [e] at this; omega
    refine br_t (pk_sneg (a := k) (b := 100) (by decide) (by have := hF.1; omega)) ?_
    refine xk_isFull hd hW.1 hF.1 (fun e => br_f (by decide) (K3 hno (Or.inl e))) (fun e => br_t rfl ?_)
    exact pk_eq r 24 (fun g => K3 hno (Or.inr g)) (fun g => K0 hno e g)
end
end
section
/-! make -/
theorem jv_ff (ck : Nat → Int32) (h0 : ¬ ck 0 = 0) : ∃ t, 1 ≤ t ∧ t ≤ 16 ∧ (∀ y, y < t → ¬ ck y = 0) ∧ (t = 16 ∨ (t < 16 ∧ ck t = 0)) := by
  by_cases h : ∃ y, y < 16 ∧ ck y = 0
  · obtain ⟨k, hk, hm⟩ := pk_least (fun y => y < 16 ∧ ck y = 0) h
    refine ⟨k, ?_, by omega, fun y hy e => hm y hy ⟨by omega, e⟩, Or.inr hk⟩
    rcases Nat.eq_zero_or_pos k with e | e
    · rw [e] at hk; exact absurd hk.2 h0
    · exact e
  · exact ⟨16, by omega, by omega, fun y hy e => h ⟨y, hy, e⟩, Or.inl rfl⟩
section
variable {xc xr xs xg xd xm xt xw xo : Int32} {aw ap aa av ae af ab al an aq : Nat → Int32}
theorem xk_mk19 {post : Int32 → SX → Prop} {ck : Nat → Int32} {p0 p1 p2 : Int32} {t : Nat} (ht : t ≤ 16) (hk : ∀ x, x < 16 → aw (24 * x) = ck x) (h1 : ∀ y, y < t → ¬ ck y = 0) (h2 : t = 16 ∨ (t < 16 ∧ ck t = 0))
    (K : wX_make_47 post p0 p1 p2 (nI t) xc xr xs xg xd xm xt xw xo aw ap aa av ae af ab al an aq) : ∀ (d y : Nat), y + d = t → ∀ fuel, d < fuel → wX_make_19 post p0 p1 p2 xc xr xs xg xd xm xt xw xo aw ap aa av ae af ab al an aq fuel (nI y) := by
  intro d
  induction d with
  | zero =>
    intro y e fuel hf
    obtain ⟨fuel, rfl⟩ : ∃ g, fuel = g + 1 := ⟨fuel - 1, by omega⟩
    have : y = t := by omega
    subst this
    rw [wX_make_19]
    refine pk_le 16 y (fun _ => K) (fun h => xk_base ?_)
    rw [ad_p0, nI_clamp (by omega), hk y h]
    exact ⟨vp_in_nI (by omega) (by decide), br_t (by rcases h2 with g | g; omega; exact g.2) K⟩
  | succ d ih =>
    intro y e fuel hf
    obtain ⟨fuel, rfl⟩ : ∃ g, fuel = g + 1 := ⟨fuel - 1, by omega⟩
    rw [wX_make_19]
    refine pk_le 16 y (fun h => absurd h (by omega)) (fun h => xk_base ?_)
    rw [ad_p0, nI_clamp (by omega), hk y h]
    exact ⟨vp_in_nI (by omega) (by decide), br_f (h1 y (by omega)) (nm_r (nI_1 y) (ih (y + 1) (by omega) fuel (by omega)))⟩
/-- the words of a new inode -/
def jv_mw (w : Nat → Int32) (x : Nat) (t p : Int32) : Nat → Int32 := upd (upd (upd (upd w (24 * x) t) (24 * x + 1) 1) (24 * x + 2) 0) (24 * x + 3) p
theorem jv_mw_o {w : Nat → Int32} {x q : Nat} {t p : Int32} (h : q < 24 * x ∨ 24 * x + 4 ≤ q) : jv_mw w x t p q = w q := by
  unfold jv_mw
  rw [pk_un (by omega), pk_un (by omega), pk_un (by omega), pk_un (by omega)]
theorem jv_mw_0 {w : Nat → Int32} {x : Nat} {t p : Int32} : jv_mw w x t p (24 * x) = t ∧ jv_mw w x t p (24 * x + 1) = 1 ∧ jv_mw w x t p (24 * x + 2) = 0 ∧ jv_mw w x t p (24 * x + 3) = p := by
  unfold jv_mw
  refine ⟨?_, ?_, ?_, pk_us⟩
  · rw [pk_un (by omega), pk_un (by omega), pk_un (by omega), pk_us]
  · rw [pk_un (by omega), pk_un (by omega), pk_us]
  · rw [pk_un (by omega), pk_us]
theorem xk_make_ok {d a x n r : Nat} {N I : Nat → Nat} {f : Nat → Int32} {z t p : Int32} (hd : d < 16) (ha : a < 64) (hx : x < 16) (hdx : d ≠ x) (hn : n ≤ 9) (hr : r < 24) (hW : jv_DW aw d n N I) (hF : jv_DF f n N I) (hno : ∀ i, i < n → ¬ N i = a)
    (hz : (z = 0 ∧ t = 1 ∧ p = 0) ∨ (¬ z = 0 ∧ t = 2 ∧ p = nI d)) :
    ∃ w' k, k ≤ n ∧ (∀ i, i < k → jv_hs (N i) < jv_hs a) ∧ (∀ i, k ≤ i → i < n → jv_hs a < jv_hs (N i)) ∧ jv_DW w' d (n + 1) (jv_ins N k a) (jv_ins I k x) ∧ jv_Fr d (jv_mw aw x t p) w' ∧
      ∀ (post : Int32 → SX → Prop) (m : Nat), jv_J 1 aa av ap m 0 aw aa av m →
        (∀ aa' av' m', jv_J 1 aa av ap m 58 w' aa' av' m' → m' < 32768 → post (nI x) (nI m', nI (r + 1), xs, 0, xd, xm, xt, xw, xo, w', ap, aa', av', upd ae (r + 1) (nI m'), af, ab, al, an, aq)) →
        wX_make_47 post (nI d) (nI a) z (nI x) (nI m) (nI r) xs xg xd xm xt xw xo aw ap aa av ae af ab al an aq := by
  have hW1 : jv_DW (jv_mw aw x t p) d n N I := ⟨by rw [jv_mw_o (by omega)]; exact hW.1, fun i hi => by rw [jv_mw_o (by omega), jv_mw_o (by omega)]; exact hW.2 i hi⟩
  obtain ⟨w', k, k1, k2, k3, k4, k5, k6⟩ := xk_insert (xs := xs) (xd := xd) (xm := xm) (xt := xt) (xw := xw) (xo := xo) (ap := ap) (ae := ae) (af := af) (ab := ab) (al := al) (an := an) (aq := aq) (xr := nI r) (xg := 1) (aw := jv_mw aw x t p) (y := x) hd hn ha hW1 hF hno
  refine ⟨w', k, k1, k2, k3, k4, k5, fun post m J K => ?_⟩
  unfold wX_make_47
  refine pk_eq x 16 (fun h => absurd h (by omega)) (fun _ => xk_begin ?_)
  dsimp only
  refine xk_base ?_
  rw [ad_p0]
  have main : ∀ aa4 av4 m4, jv_J 1 aa av ap m 4 (jv_mw aw x t p) aa4 av4 m4 → wpX_insert (fun u => match u with | (xc, xr, xs, xg, xd, xm, xt, xw, xo, aw, ap, aa, av, ae, af, ab, al, an, aq) => wpX_end (fun u => match u with | (xc, xr, xs, xg, xd, xm, xt, xw, xo, aw, ap, aa, av, ae, af, ab, al, an, aq) => post (nI x) (xc, xr, xs, xg, xd, xm, xt, xw, xo, aw, ap, aa, av, ae, af, ab, al, an, aq)) (xc, xr, xs, xg, xd, xm, xt, xw, xo, aw, ap, aa, av, ae, af, ab, al, an, aq)) (nI m4, nI r, xs, 1, xd, xm, xt, xw, xo, jv_mw aw x t p, ap, aa4, av4, ae, af, ab, al, an, aq) (nI d) (nI a) (nI x) := by
    intro aa4 av4 m4 J4
    refine k6 _ aa av m 4 aa4 av4 m4 (by omega) J4 (fun aa5 av5 m5 J5 => ?_)
    dsimp only
    have hm := jv_J_lt J5 (by omega)
    exact xk_end hr hm (K aa5 av5 m5 (jv_J_up J5 (by omega)) hm)
  rcases hz with ⟨h1, h2, h3⟩ | ⟨h1, h2, h3⟩
  · subst h1 h2 h3
    refine br_t rfl ?_
    unfold wX_make_82
    rw [ad_p1, ad_p2, ad_p3]
    refine xk_put rfl (by omega) (by omega) J (fun aa1 av1 m1 J1 => ?_)
    dsimp only
    refine xk_put rfl (by omega) (by omega) J1 (fun aa2 av2 m2 J2 => ?_)
    dsimp only
    refine xk_put rfl (by omega) (by omega) J2 (fun aa3 av3 m3 J3 => br_t rfl ?_)
    unfold wX_make_117
    exact xk_put rfl (by omega) (by omega) J3 (fun aa4 av4 m4 J4 => main aa4 av4 m4 J4)
  · subst h2 h3
    refine br_f h1 ?_
    unfold wX_make_82
    rw [ad_p1, ad_p2, ad_p3]
    refine xk_put rfl (by omega) (by omega) J (fun aa1 av1 m1 J1 => ?_)
    dsimp only
    refine xk_put rfl (by omega) (by omega) J1 (fun aa2 av2 m2 J2 => ?_)
    dsimp only
    refine xk_put rfl (by omega) (by omega) J2 (fun aa3 av3 m3 J3 => br_f h1 ?_)
    unfold wX_make_117
    exact xk_put rfl (by omega) (by omega) J3 (fun aa4 av4 m4 J4 => main aa4 av4 m4 J4)
end
section
variable {yr ys yd yh yt : Int32} {ck cl cp cn cb cv cm ok ol op on ob ov om ac au yf yo yu ym : Nat → Int32}
theorem yk_mk48 {post : Int32 → SY → Prop} {p0 p1 p2 : Int32} {t : Nat} (ht : t ≤ 16) (h1 : ∀ y, y < t → ¬ ck y = 0) (h2 : t = 16 ∨ (t < 16 ∧ ck t = 0))
    (K : wY_make_71 post p0 p1 p2 (nI t) yr ys yd yh yt ck cl cp cn cb cv cm ok ol op on ob ov om ac au yf yo yu ym) : ∀ (d y : Nat), y + d = t → ∀ fuel, d < fuel → wY_make_48 post p0 p1 p2 yr ys yd yh yt ck cl cp cn cb cv cm ok ol op on ob ov om ac au yf yo yu ym fuel (nI y) := by
  intro d
  induction d with
  | zero =>
    intro y e fuel hf
    obtain ⟨fuel, rfl⟩ : ∃ g, fuel = g + 1 := ⟨fuel - 1, by omega⟩
    have : y = t := by omega
    subst this
    rw [wY_make_48]
    refine pk_le 16 y (fun _ => K) (fun h => ?_)
    rw [nI_clamp (by omega)]
    exact ⟨vp_in_nI (by omega) (by decide), br_t (by rcases h2 with g | g; omega; exact g.2) K⟩
  | succ d ih =>
    intro y e fuel hf
    obtain ⟨fuel, rfl⟩ : ∃ g, fuel = g + 1 := ⟨fuel - 1, by omega⟩
    rw [wY_make_48]
    refine pk_le 16 y (fun h => absurd h (by omega)) (fun h => ?_)
    rw [nI_clamp (by omega)]
    exact ⟨vp_in_nI (by omega) (by decide), br_f (h1 y (by omega)) (nm_r (nI_1 y) (ih (y + 1) (by omega) fuel (by omega)))⟩
/-- up to the search -/
theorem yk_make_71 {post : Int32 → SY → Prop} {d a t : Nat} {z : Int32} (hd : d < 16) (ha : a < 64) (ht : t ≤ 16) (hk : ck d = 2) (hn : cn (64 * d + a) = -1) (h1 : ∀ y, y < t → ¬ ck y = 0) (h2 : t = 16 ∨ (t < 16 ∧ ck t = 0))
    (K : wY_make_71 post (nI d) (nI a) z (nI t) yr ys 0 yh yt ck cl cp cn cb cv cm ok ol op on ob ov om ac au yf yo yu ym) : wpY_make post (yr, ys, 0, yh, yt, ck, cl, cp, cn, cb, cv, cm, ok, ol, op, on, ob, ov, om, ac, au, yf, yo, yu, ym) (nI d) (nI a) z := by
  unfold wpY_make; dsimp only
  refine br_t rfl (yk_is hd (fun _ => br_f (by decide) ?_) (fun h => absurd hk h))
  refine yk_in (x := a) (a := 0) (b := 63) rfl rfl rfl (by omega) (by decide) (by decide) (fun _ _ => br_f (by decide) ?_) (fun h => by omega)
  rw [ad_n, nI_clamp (by omega), hn]
  exact ⟨vp_in_nI (by omega) (by decide), br_t (by decide) ⟨17, yk_mk48 ht h1 h2 K t 0 (by omega) 17 (by omega)⟩⟩
theorem yk_make_ok {post : Int32 → SY → Prop} {d a x n k : Nat} {N I : Nat → Nat} {z t : Int32} (hd : d < 16) (ha : a < 64) (hx : x < 16) (hk : ck d = 2) (hn : cn (64 * d + a) = -1) (h1 : ∀ y, y < x → ¬ ck y = 0) (h2 : ck x = 0)
    (hF : jv_DF (fun a => cn (64 * d + a)) n N I) (hn9 : n ≤ 9) (hk24 : k < 24) (hz : (z = 0 ∧ t = 1) ∨ (z = 1 ∧ t = 2))
    (K : post (nI x) (nI (k + 1), ys, 0, yh, yt, upd ck x t, upd cl x 1, upd cp x (nI d), upd cn (64 * d + a) (nI x), cb, cv, cm, ok, ol, op, on, ob, ov, om, upd ac k 0, jv_nt au k (nI d) (nI a) z 0, yf, yo, yu, ym)) : wpY_make post (nI k, ys, 0, yh, yt, ck, cl, cp, cn, cb, cv, cm, ok, ol, op, on, ob, ov, om, ac, au, yf, yo, yu, ym) (nI d) (nI a) z := by
  refine yk_make_71 hd ha (by omega) hk hn h1 (Or.inr ⟨hx, h2⟩) ?_
  unfold wY_make_71
  refine pk_eq x 16 (fun h => absurd h (by omega)) (fun _ => pk_eq k 24 (fun h => absurd h (by omega)) (fun _ => yk_entries hd hF (pk_eq n 10 (fun h => absurd h (by omega)) (fun _ => ?_))))
  have hx2 : vp_in (nI x) 16 := vp_in_nI hx (by decide)
  have hv : vp_in (nI (64 * d + a)) 1024 := vp_in_nI (by omega) (by decide)
  rcases hz with ⟨e1, e2⟩ | ⟨e1, e2⟩
  · subst e1 e2
    refine br_t rfl ?_
    unfold wY_make_113
    refine yk_note hk24 ?_
    dsimp only
    refine br_t rfl ?_
    unfold wY_make_132
    rw [ad_n, nI_clamp (by omega), nI_clamp (by omega)]
    exact ⟨hx2, nm_e ⟨hx2, nm_e ⟨hx2, nm_e ⟨hv, nm_e K⟩⟩⟩⟩
  · subst e1 e2
    refine br_f (by decide) ?_
    unfold wY_make_113
    refine yk_note hk24 ?_
    dsimp only
    refine br_f (by decide) ?_
    unfold wY_make_132
    rw [ad_n, nI_clamp (by omega), nI_clamp (by omega)]
    exact ⟨hx2, nm_e ⟨hx2, nm_e ⟨hx2, nm_e ⟨hv, nm_e K⟩⟩⟩⟩
end
/-! the two pictures after it -/
theorem jv_make_RW {aw ck cl cp cn cb cv cm w' : Nat → Int32} {d a x n k : Nat} {N I : Nat → Nat} {z t p : Int32} (h : jv_RW aw ck cl cp cn cb cv cm) (hd : d < 16) (ha : a < 64) (hx : x < 16) (hx1 : 1 ≤ x) (hk : ck d = 2) (hxf : ck x = 0)
    (hF : jv_DF (fun a => cn (64 * d + a)) n N I) (hn9 : n ≤ 9) (hz : (z = 0 ∧ t = 1 ∧ p = 0) ∨ (z = 1 ∧ t = 2 ∧ p = nI d))
    (k1 : k ≤ n) (k2 : ∀ i, i < k → jv_hs (N i) < jv_hs a) (k3 : ∀ i, k ≤ i → i < n → jv_hs a < jv_hs (N i)) (hD : jv_DW w' d (n + 1) (jv_ins N k a) (jv_ins I k x)) (hR : jv_Fr d (jv_mw aw x t p) w') :
    jv_RW w' (upd ck x t) (upd cl x 1) (upd cp x (nI d)) (upd cn (64 * d + a) (nI x)) cb cv cm := by
  obtain ⟨hN, h0, hM, hV, hO, z1, z2, z3, z4, z5, z6, z7⟩ := h
  have hdx : d ≠ x := fun e => by rw [e, hxf] at hk; exact absurd hk (by decide)
  have ht : t = 1 ∨ t = 2 := by rcases hz with g | g; exact Or.inl g.2.1; exact Or.inr g.2.1
  have fo : ∀ q, (q < 24 * x ∨ 24 * x + 4 ≤ q) → (q < 24 * d + 2 ∨ q = 24 * d + 3 ∨ 24 * d + 24 ≤ q) → w' q = aw q := fun q h1 h2 => by rw [hR q h2, jv_mw_o h1]
  have fx : ∀ q, 24 * x ≤ q → q < 24 * x + 24 → w' q = jv_mw aw x t p q := fun q h1 h2 => hR q (by omega)
  obtain ⟨m0, m1, m2, m3⟩ := jv_mw_0 (w := aw) (x := x) (t := t) (p := p)
  refine ⟨fun y hy => ?_, ?_, ?_, fun b hb => ?_, fun q hq => ?_, ?_⟩
  · by_cases ey : y = x
    · subst ey
      obtain ⟨g1, g2, g3, g4, g5, g6, g7⟩ := hN y hy
      unfold jv_Nd
      rw [pk_us, pk_us, pk_us, fx _ (by omega) (by omega), fx _ (by omega) (by omega), fx _ (by omega) (by omega), m0, m1, m3]
      have e1 : ∀ a', a' < 64 → upd cn (64 * d + a) (nI y) (64 * y + a') = -1 := fun a' ha' => by
        rw [pk_un (by omega)]; exact g5 (by rw [hxf]; decide) a' ha'
      have e2 : ∀ p', p' < 24 → cb (24 * y + p') = -1 := fun p' hp' => g7 (by rw [hxf]; decide) p' hp'
      refine ⟨rfl, Or.inr ht, fun _ => rfl, fun h2 => ⟨?_, 0, N, I, ⟨?_, fun i hi => by omega⟩, by omega, fun i hi => by omega, fun i j _ hj => by omega, fun a' ha' _ => e1 a' ha'⟩, fun _ => e1, fun h2 => ⟨0, N, N, N, by omega, ⟨?_, fun i hi => by omega⟩, jv_Ex_nil e2⟩, fun _ => e2⟩
      · rcases hz with g | g
        · rw [g.2.1] at h2; exact absurd h2 (by decide)
        · exact g.2.2
      · rw [fx _ (by omega) (by omega), m2]; rfl
      · rw [fx _ (by omega) (by omega), m2]; rfl
    · by_cases ed : y = d
      · subst ed
        obtain ⟨g1, g2, g3, g4, g5, g6, g7⟩ := hN y hy
        unfold jv_Nd
        rw [pk_un hdx, pk_un hdx, pk_un hdx, fo _ (by omega) (by omega), fo _ (by omega) (by omega), fo _ (by omega) (by omega)]
        refine ⟨g1, g2, g3, fun h2 => ⟨(g4 h2).1, n + 1, _, _, hD, ?_⟩, fun h2 => absurd hk h2, fun h2 => ?_, g7⟩
        · rw [jv_off]; exact jv_DF_ins hF hn9 ha hx k1 k2 k3
        · rw [hk] at h2; exact absurd h2 (by decide)
      · exact jv_Nd_cg (hN y hy) (fun q h1 h2 => fo q (by omega) (by omega)) (pk_un ey) (fun _ => pk_un ey) (fun _ => pk_un ey) (fun a' ha' => pk_un (by omega)) (fun _ _ => rfl)
  · rw [pk_un (by omega)]; exact h0
  · rw [jv_M_fr (w := aw) (fo _ (by omega) (by omega)) (fo _ (by omega) (by omega))]; exact hM
  · rw [fo _ (by omega) (by omega)]; exact hV b hb
  · rw [fo _ (by omega) (by omega)]; exact hO q hq
  · exact ⟨fun i hi => by rw [pk_un (by omega)]; exact z1 i hi, fun i hi => by rw [pk_un (by omega)]; exact z2 i hi, fun i hi => by rw [pk_un (by omega)]; exact z3 i hi, fun i hi => by rw [pk_un (by omega)]; exact z4 i hi, z5, z6, z7⟩
theorem jv_make_UI {ck cl cp cn cb cm : Nat → Int32} {d a x : Nat} {t : Int32} (h : jv_UI ck cl cp cn cb cm) (hd : d < 16) (ha : a < 64) (hx : x < 16) (hx1 : 1 ≤ x) (hk : ck d = 2) (hxf : ck x = 0) (hnn : cn (64 * d + a) = -1) (ht : ¬ t = 0) :
    jv_UI (upd ck x t) (upd cl x 1) (upd cp x (nI d)) (upd cn (64 * d + a) (nI x)) cb cm := by
  obtain ⟨u1, u2, u3, ⟨ρ, u4⟩, u5, u6⟩ := h
  have hdx : d ≠ x := fun e => by rw [e, hxf] at hk; exact absurd hk (by decide)
  have nox : ∀ j, j < 1024 → ¬ cn j = nI x := fun j hj e => (u1 j x hj hx e).2 hxf
  have hj0 : 64 * d + a < 1024 := by omega
  refine ⟨fun j y hj hy e => ?_, fun y hy hne => ?_, fun y hy1 hy h2 => ?_, ⟨jv_up ρ x (ρ d + 1), fun y d' hy1 hy h2 hd' e => ?_⟩, u5, u6⟩
  · by_cases ej : j = 64 * d + a
    · rw [ej, pk_us] at e
      have := jv_nI16 hx hy e
      subst this
      exact ⟨hx1, by rw [pk_us]; exact ht⟩
    · rw [pk_un ej] at e
      obtain ⟨g1, g2⟩ := u1 j y hj hy e
      refine ⟨g1, ?_⟩
      rw [pk_un (fun q => g2 (by rw [q]; exact hxf))]; exact g2
  · by_cases ey : y = x
    · subst ey
      rw [pk_us, jv_lk_add hj0 (nox _ hj0)]
      have : jv_lk cn y = 0 := jv_ct_0 1024 (fun j hj => decide_eq_false (nox j hj))
      rw [this]; rfl
    · rw [pk_un ey] at hne
      rw [pk_un ey, jv_lk_same (cn := cn) (fun j hj => ?_)]
      · exact u2 y hy hne
      · by_cases ej : j = 64 * d + a
        · rw [ej, pk_us, hnn]
          exact ⟨fun q => absurd (jv_nI16 hx hy q).symm ey, fun q => absurd q.symm (jv_neg1 (by omega))⟩
        · rw [pk_un ej]
  · by_cases ey : y = x
    · subst ey
      refine ⟨d, a, hd, ha, pk_us, by rw [pk_un hdx]; exact hk, pk_us, fun j hj e => ?_⟩
      by_cases ej : j = 64 * d + a
      · exact ej
      · rw [pk_un ej] at e; exact absurd e (nox j hj)
    · rw [pk_un ey] at h2
      obtain ⟨d0, a0, e1, e2, e3, e4, e5, e6⟩ := u3 y hy1 hy h2
      have nd : d0 ≠ x := fun q => by rw [q, hxf] at e4; exact absurd e4 (by decide)
      have nj : 64 * d0 + a0 ≠ 64 * d + a := fun q => by rw [q, hnn] at e5; exact absurd e5.symm (jv_neg1 (by omega))
      refine ⟨d0, a0, e1, e2, by rw [pk_un ey]; exact e3, by rw [pk_un nd]; exact e4, by rw [pk_un nj]; exact e5, fun j hj e => ?_⟩
      by_cases ej : j = 64 * d + a
      · rw [ej, pk_us] at e; exact absurd (jv_nI16 hx hy e).symm ey
      · rw [pk_un ej] at e; exact e6 j hj e
  · by_cases ey : y = x
    · subst ey
      rw [pk_us] at e
      have := jv_nI16 hd hd' e
      subst this
      rw [jv_up_s, jv_up_n hdx]; omega
    · rw [pk_un ey] at h2 e
      obtain ⟨d0, a0, e1, e2, e3, e4, _⟩ := u3 y hy1 hy h2
      have : d0 = d' := jv_nI16 e1 hd' (e3.symm.trans e)
      subst this
      have nd : d0 ≠ x := fun q => by rw [q, hxf] at e4; exact absurd e4 (by decide)
      rw [jv_up_n ey, jv_up_n nd]
      exact u4 y d0 hy1 hy h2 e1 e3
/-! the call -/
theorem jv_kd {w ck cl cp cn cb cv cm : Nat → Int32} (h : jv_RW w ck cl cp cn cb cv cm) : ∀ x, x < 16 → w (24 * x) = ck x := fun x hx => (h.1 x hx).1
theorem jv_fn {cn : Nat → Int32} {d n a : Nat} {N I : Nat → Nat} (hF : jv_DF (fun a => cn (64 * d + a)) n N I) (ha : a < 64) (hno : ∀ i, i < n → ¬ N i = a) : cn (64 * d + a) = -1 := hF.2.2.2 a ha hno
theorem jv_fy {cn : Nat → Int32} {d n i : Nat} {N I : Nat → Nat} (hF : jv_DF (fun a => cn (64 * d + a)) n N I) (hi : i < n) : cn (64 * d + N i) = nI (I i) := (hF.2.1 i hi).2.2
section
variable {yr ys yd yh yt : Int32} {ck cl cp cn cb cv cm ok ol op on ob ov om ac au yf yo yu ym : Nat → Int32}
theorem yk_make_r {post : Int32 → SY → Prop} {v1 v2 z : Int32} (h : ¬ yd = 0 ∨ (∀ d, d < 16 → v1 = nI d → ¬ ck d = 2) ∨ (∀ a, a < 64 → ¬ v2 = nI a)) (K : post (-1) (yr, ys, yd, yh, yt, ck, cl, cp, cn, cb, cv, cm, ok, ol, op, on, ob, ov, om, ac, au, yf, yo, yu, ym)) : wpY_make post (yr, ys, yd, yh, yt, ck, cl, cp, cn, cb, cv, cm, ok, ol, op, on, ob, ov, om, ac, au, yf, yo, yu, ym) v1 v2 z := by
  unfold wpY_make; dsimp only
  refine br_c (fun hd => ?_) (fun _ => K)
  refine yk_is_v (fun d hd1 e hk => br_f (by decide) ?_) (fun _ => br_t rfl K)
  refine yk_in_v (b := 63) rfl (by decide) (fun a ha e2 => ?_) (fun _ => br_t rfl K)
  rcases h with h | h | h
  · exact absurd hd h
  · exact absurd hk (h d hd1 e)
  · exact absurd e2 (h a ha)
theorem yk_make_e {post : Int32 → SY → Prop} {d a : Nat} {z : Int32} (hd : d < 16) (ha : a < 64) (hk : ck d = 2) (hn : ¬ cn (64 * d + a) < 0) (K : post (-2) (yr, ys, 0, yh, yt, ck, cl, cp, cn, cb, cv, cm, ok, ol, op, on, ob, ov, om, ac, au, yf, yo, yu, ym)) : wpY_make post (yr, ys, 0, yh, yt, ck, cl, cp, cn, cb, cv, cm, ok, ol, op, on, ob, ov, om, ac, au, yf, yo, yu, ym) (nI d) (nI a) z := by
  unfold wpY_make; dsimp only
  refine br_t rfl (yk_is hd (fun _ => br_f (by decide) ?_) (fun h => absurd hk h))
  refine yk_in (x := a) (a := 0) (b := 63) rfl rfl rfl (by omega) (by decide) (by decide) (fun _ _ => br_f (by decide) ?_) (fun h => by omega)
  rw [ad_n, nI_clamp (by omega)]
  exact ⟨vp_in_nI (by omega) (by decide), br_f hn K⟩
theorem yk_make_f {post : Int32 → SY → Prop} {d a t n k : Nat} {N I : Nat → Nat} {z : Int32} (hd : d < 16) (ha : a < 64) (ht : t ≤ 16) (hk : ck d = 2) (hn : cn (64 * d + a) = -1) (h1 : ∀ y, y < t → ¬ ck y = 0) (h2 : t = 16 ∨ (t < 16 ∧ ck t = 0))
    (hF : jv_DF (fun a => cn (64 * d + a)) n N I) (hk2 : k ≤ 24) (hf : t = 16 ∨ k = 24 ∨ n = 10) (K : post (-3) (nI k, ys, 0, yh, yt, ck, cl, cp, cn, cb, cv, cm, ok, ol, op, on, ob, ov, om, ac, au, yf, yo, yu, ym)) : wpY_make post (nI k, ys, 0, yh, yt, ck, cl, cp, cn, cb, cv, cm, ok, ol, op, on, ob, ov, om, ac, au, yf, yo, yu, ym) (nI d) (nI a) z := by
  refine yk_make_71 hd ha ht hk hn h1 h2 ?_
  unfold wY_make_71
  have := hF.1
  refine pk_eq t 16 (fun _ => K) (fun g1 => pk_eq k 24 (fun _ => K) (fun g2 => yk_entries hd hF (pk_eq n 10 (fun _ => K) (fun g3 => by omega))))
end
theorem i_vc_make {k : Nat} {u : SX} {v : SY} (I : i_Rel k u v) (hk : k + 5 ≤ 2560) (v1 : Int32) (v2 : Int32) (v3 : Int32) : wpX_make (fun r u' => wpY_make (fun r' v' => r' = r ∧ i_Rel (k + 5) u' v') v v1 v2 (lw_bz v3)) u v1 v2 (lw_bz v3) := by
  have hz := lw_bz_01 v3
  generalize lw_bz v3 = z at *
  refine zz_el (Q := fun u v => wpX_make (fun r u' => wpY_make (fun r' v' => r' = r ∧ i_Rel (k + 5) u' v') v v1 v2 z) u v1 v2 z) ?_ I
  intro xc xr xs xg xd xm xt xw xo aw ap aa av ae af ab al an aq yr ys yd yh yt ck cl cp cn cb cv cm ok ol op on ob ov om ac au yf yo yu ym R
  obtain ⟨r, s, m, h1, h2, rfl, rfl, rfl, rfl, rfl, rfl, rfl, hf, hRW, hd, hU, hJ, hP⟩ := jv_open R
  have hK := jv_kd hRW
  unfold wpX_make; dsimp only
  by_cases hb : ¬ yd = 0 ∨ (∀ d, d < 16 → v1 = nI d → ¬ ck d = 2) ∨ (∀ a, a < 64 → ¬ v2 = nI a)
  · exact xk_wrong_r hK hb (br_f (by decide) (yk_make_r hb ⟨rfl, R⟩))
  · have hd0 : yd = 0 := Classical.byContradiction (fun g => hb (Or.inl g))
    have hA : ∃ d, d < 16 ∧ v1 = nI d ∧ ck d = 2 := Classical.byContradiction (fun g => hb (Or.inr (Or.inl (fun d h1 h2 h3 => g ⟨d, h1, h2, h3⟩))))
    have hB : ∃ a, a < 64 ∧ v2 = nI a := Classical.byContradiction (fun g => hb (Or.inr (Or.inr (fun d h1 h2 => g ⟨d, h1, h2⟩))))
    obtain ⟨d, hd1, rfl, hkd⟩ := hA
    obtain ⟨a, ha, rfl⟩ := hB
    subst hd0
    obtain ⟨_, _, _, g4, _, _, _⟩ := hRW.1 d hd1
    obtain ⟨_, n, N, I', hW, hF⟩ := g4 hkd
    obtain ⟨t, t1, t2, t3, t4⟩ := jv_ff ck (by rw [hRW.2.1]; decide)
    refine xk_wrong_i hd1 ha h1 (by rw [hK d hd1]; exact hkd) hW hF (fun i hi e => ?_) (fun hno hfl => ?_) (fun hno hn10 hr24 => ?_)
    · refine br_f (by decide) (yk_make_e hd1 ha hkd ?_ ⟨rfl, R⟩)
      have : cn (64 * d + N i) = nI (I' i) := jv_fy hF hi
      rw [← e, this]; exact nI_pos (by have := (hF.2.1 i hi).2.1; omega)
    · exact br_f (by decide) (yk_make_f hd1 ha t2 hkd (jv_fn hF ha hno) t3 t4 hF h1 (by omega) ⟨rfl, R⟩)
    · refine br_t rfl ⟨17, xk_mk19 t2 hK t3 t4 ?_ (t - 1) 1 (by omega) 17 (by omega)⟩
      have hn9 : n ≤ 9 := by have := hF.1; omega
      rcases t4 with e | ⟨hx, hxf⟩
      · subst e
        unfold wX_make_47
        exact br_t rfl (yk_make_f hd1 ha t2 hkd (jv_fn hF ha hno) t3 (Or.inl rfl) hF h1 (Or.inl rfl) ⟨rfl, R⟩)
      · have hdx : d ≠ t := fun e => by rw [e, hxf] at hkd; exact absurd hkd (by decide)
        have hnn : cn (64 * d + a) = -1 := jv_fn hF ha hno
        obtain ⟨tt, p, hz2, hz3⟩ : ∃ tt p : Int32, ((z = 0 ∧ tt = 1 ∧ p = 0) ∨ (z = 1 ∧ tt = 2 ∧ p = nI d)) ∧ ((z = 0 ∧ tt = 1) ∨ (z = 1 ∧ tt = 2)) := by
          rcases hz with e | e
          · exact ⟨1, 0, Or.inl ⟨e, rfl, rfl⟩, Or.inl ⟨e, rfl⟩⟩
          · exact ⟨2, nI d, Or.inr ⟨e, rfl, rfl⟩, Or.inr ⟨e, rfl⟩⟩
        have htt : ¬ tt = 0 := by rcases hz3 with g | g <;> (rw [g.2]; decide)
        obtain ⟨w', kk, k1, k2, k3, k4, k5, k6⟩ := xk_make_ok (xm := xm) (xt := xt) (xw := xw) (xo := xo) (ap := ap) (aa := aa) (av := av) (ae := ae) (af := af) (ab := ab) (al := al) (an := an) (aq := aq) (xs := nI s) (xd := 0) (aw := aw) (z := z) (t := tt) (p := p) hd1 ha hx hdx hn9 (show r < 24 by omega) hW hF hno (by
          rcases hz2 with g | g
          · exact Or.inl g
          · exact Or.inr ⟨by rw [g.1]; decide, g.2⟩)
        refine k6 _ m (hJ (by omega) 0) (fun aa' av' m' J' hm => ?_)
        have hRW' := jv_make_RW hRW hd1 ha hx t1 hkd hxf hF hn9 hz2 k1 k2 k3 k4 k5
        have hUI' := jv_make_UI (hU rfl) hd1 ha hx t1 hkd hxf hnn htt
        have hRd : jv_Redo 0 (nI d) (nI a) z 0 (ck, cl, cp, cn, cb, cv, cm) (upd ck t tt, upd cl t 1, upd cp t (nI d), upd cn (64 * d + a) (nI t), cb, cv, cm) := by
          intro k ys yh yt ok ol op on ob ov om ac au yf yo yu ym post hk e1 e2 e3 e4 e5 K
          unfold wpY_again; dsimp only
          rw [ad_4, ad_p1, ad_p2, ad_p3, nI_clamp (n := 4 * k) (by omega), nI_clamp (n := 4 * k + 1) (by omega), nI_clamp (n := 4 * k + 2) (by omega), nI_clamp (n := 4 * k + 3) (by omega), nI_clamp (n := k) (by omega), e1, e2, e3, e4, e5]
          refine ⟨vp_in_nI (by omega) (by decide), nm_e ⟨vp_in_nI (by omega) (by decide), nm_e ⟨vp_in_nI (by omega) (by decide), nm_e ⟨vp_in_nI (by omega) (by decide), nm_e ⟨vp_in_nI (by omega) (by decide), br_t rfl ?_⟩⟩⟩⟩⟩
          have main : ∀ z', z' = z → wY_again_67 post z' (nI a) (nI d) (nI k) ys 0 yh yt ck cl cp cn cb cv cm ok ol op on ob ov om ac au yf yo yu ym := by
            intro z' ez
            subst ez
            unfold wY_again_67
            refine yk_make_ok hd1 ha hx hkd hnn t3 hxf hF hn9 hk hz3 ?_
            rw [jv_upd_id e1, jv_nt_id e2 e3 e4 e5]
            exact K
          exact br_c (fun g => main 1 g.symm) (fun g => main 0 (by rcases hz with q | q; exact q.symm; exact absurd q g))
        obtain ⟨_, R'⟩ := hP w' aa' av' m' 0 (nI d) (nI a) z 0 _ _ _ _ _ _ _ (by omega) rfl J' hRW' hUI' hRd (by rw [pk_un (by omega)]; exact jv_R_cp R)
        exact yk_make_ok hd1 ha hx hkd hnn t3 hxf hF hn9 (show r < 24 by omega) hz3 ⟨rfl, R'⟩
end
section
/-! single steps of the two pictures -/
theorem jv_RW_lk {w ck cl cp cn cb cv cm : Nat → Int32} (h : jv_RW w ck cl cp cn cb cv cm) {x : Nat} (hx : x < 16) (v : Int32) : jv_RW (upd w (24 * x + 1) v) ck (upd cl x v) cp cn cb cv cm := by
  obtain ⟨hN, h0, hM, hV, hO, z1, z2, z3, z4, z5, z6, z7⟩ := h
  refine ⟨fun y hy => ?_, h0, ?_, fun b hb => by rw [pk_un (by omega)]; exact hV b hb, fun q hq => by rw [pk_un (by omega)]; exact hO q hq, z1, fun i hi => by rw [pk_un (by omega)]; exact z2 i hi, z3, z4, z5, z6, z7⟩
  · by_cases e : y = x
    · subst e
      obtain ⟨g1, g2, g3, g4, g5, g6, g7⟩ := hN y hy
      refine ⟨by rw [pk_un (by omega)]; exact g1, g2, fun _ => by rw [pk_us, pk_us], fun hk => ?_, g5, fun hk => ?_, g7⟩
      · obtain ⟨e1, n, N, I, hW, hF⟩ := g4 hk
        exact ⟨by rw [pk_un (by omega)]; exact e1, n, N, I, ⟨by rw [pk_un (by omega)]; exact hW.1, fun i hi => by rw [pk_un (by omega), pk_un (by omega)]; exact hW.2 i hi⟩, hF⟩
      · obtain ⟨n, P, B, L, hn, hW, hX⟩ := g6 hk
        exact ⟨n, P, B, L, hn, ⟨by rw [pk_un (by omega)]; exact hW.1, fun i hi => by rw [pk_un (by omega), pk_un (by omega), pk_un (by omega)]; exact hW.2 i hi⟩, hX⟩
    · exact jv_Nd_cg (hN y hy) (fun q h1 h2 => pk_un (by omega)) rfl (fun _ => pk_un e) (fun _ => rfl) (fun _ _ => rfl) (fun _ _ => rfl)
  · rw [jv_M_fr (w := w) (pk_un (by omega)) (pk_un (by omega))]; exact hM
theorem jv_RW_pa {w ck cl cp cn cb cv cm : Nat → Int32} (h : jv_RW w ck cl cp cn cb cv cm) {x : Nat} (hx : x < 16) (v : Int32) : jv_RW (upd w (24 * x + 3) v) ck cl (upd cp x v) cn cb cv cm := by
  obtain ⟨hN, h0, hM, hV, hO, z1, z2, z3, z4, z5, z6, z7⟩ := h
  refine ⟨fun y hy => ?_, h0, ?_, fun b hb => by rw [pk_un (by omega)]; exact hV b hb, fun q hq => by rw [pk_un (by omega)]; exact hO q hq, z1, z2, fun i hi => by rw [pk_un (by omega)]; exact z3 i hi, z4, z5, z6, z7⟩
  · by_cases e : y = x
    · subst e
      obtain ⟨g1, g2, g3, g4, g5, g6, g7⟩ := hN y hy
      refine ⟨by rw [pk_un (by omega)]; exact g1, g2, fun hk => by rw [pk_un (by omega)]; exact g3 hk, fun hk => ?_, g5, fun hk => ?_, g7⟩
      · obtain ⟨e1, n, N, I, hW, hF⟩ := g4 hk
        exact ⟨by rw [pk_us, pk_us], n, N, I, ⟨by rw [pk_un (by omega)]; exact hW.1, fun i hi => by rw [pk_un (by omega), pk_un (by omega)]; exact hW.2 i hi⟩, hF⟩
      · obtain ⟨n, P, B, L, hn, hW, hX⟩ := g6 hk
        exact ⟨n, P, B, L, hn, ⟨by rw [pk_un (by omega)]; exact hW.1, fun i hi => by rw [pk_un (by omega), pk_un (by omega), pk_un (by omega)]; exact hW.2 i hi⟩, hX⟩
    · exact jv_Nd_cg (hN y hy) (fun q h1 h2 => pk_un (by omega)) rfl (fun _ => rfl) (fun _ => pk_un e) (fun _ _ => rfl) (fun _ _ => rfl)
  · rw [jv_M_fr (w := w) (pk_un (by omega)) (pk_un (by omega))]; exact hM
/-- a directory's entries are others -/
theorem jv_RW_dir {w w' ck cl cp cn cn' cb cv cm : Nat → Int32} (h : jv_RW w ck cl cp cn cb cv cm) {d n : Nat} {N I : Nat → Nat} (hd : d < 16) (hk : ck d = 2) (hR : jv_Fr d w w') (hD : jv_DW w' d n N I)
    (hF : jv_DF (fun a => cn' (64 * d + a)) n N I) (hc : ∀ j, (j < 64 * d ∨ 64 * d + 64 ≤ j) → cn' j = cn j) : jv_RW w' ck cl cp cn' cb cv cm := by
  obtain ⟨hN, h0, hM, hV, hO, z1, z2, z3, z4, z5, z6, z7⟩ := h
  refine ⟨fun y hy => ?_, h0, ?_, fun b hb => by rw [hR _ (by omega)]; exact hV b hb, fun q hq => by rw [hR _ (by omega)]; exact hO q hq, z1, z2, z3, fun i hi => by rw [hc i (by omega)]; exact z4 i hi, z5, z6, z7⟩
  · by_cases e : y = d
    · subst e
      obtain ⟨g1, g2, g3, g4, g5, g6, g7⟩ := hN y hy
      exact ⟨by rw [hR _ (by omega)]; exact g1, g2, fun hk => by rw [hR _ (by omega)]; exact g3 hk, fun hk => ⟨by rw [hR _ (by omega)]; exact (g4 hk).1, n, N, I, hD, hF⟩, fun h => absurd hk h, fun h => by rw [hk] at h; exact absurd h (by decide), g7⟩
    · exact jv_Nd_cg (hN y hy) (fun q h1 h2 => hR q (by omega)) rfl (fun _ => rfl) (fun _ => rfl) (fun a ha => hc _ (by omega)) (fun _ _ => rfl)
  · rw [jv_M_fr (w := w) (hR _ (by omega)) (hR _ (by omega))]; exact hM
theorem jv_RW_ins {w w' ck cl cp cn cb cv cm : Nat → Int32} (h : jv_RW w ck cl cp cn cb cv cm) {d a n k y : Nat} {N I : Nat → Nat} (hd : d < 16) (ha : a < 64) (hy : y < 16) (hk : ck d = 2) (hn : n ≤ 9) (hF : jv_DF (fun a => cn (64 * d + a)) n N I)
    (k1 : k ≤ n) (k2 : ∀ i, i < k → jv_hs (N i) < jv_hs a) (k3 : ∀ i, k ≤ i → i < n → jv_hs a < jv_hs (N i)) (hD : jv_DW w' d (n + 1) (jv_ins N k a) (jv_ins I k y)) (hR : jv_Fr d w w') : jv_RW w' ck cl cp (upd cn (64 * d + a) (nI y)) cb cv cm :=
  jv_RW_dir h hd hk hR hD (by rw [jv_off]; exact jv_DF_ins hF hn ha hy k1 k2 k3) (fun j hj => pk_un (by omega))
theorem jv_RW_del {w w' ck cl cp cn cb cv cm : Nat → Int32} (h : jv_RW w ck cl cp cn cb cv cm) {d n k : Nat} {N I : Nat → Nat} (hd : d < 16) (hk : ck d = 2) (hF : jv_DF (fun a => cn (64 * d + a)) n N I)
    (k1 : k < n) (hD : jv_DW w' d (n - 1) (jv_del N k) (jv_del I k)) (hR : jv_Fr d w w') : jv_RW w' ck cl cp (upd cn (64 * d + N k) (-1)) cb cv cm :=
  jv_RW_dir h hd hk hR hD (by rw [jv_off]; exact jv_DF_del hF k1) (fun j hj => pk_un (by have := (hF.2.1 k k1).1; omega))
/-- a file's extents are others -/
theorem jv_RW_file {w w' ck cl cp cn cb cb' cv cm : Nat → Int32} (h : jv_RW w ck cl cp cn cb cv cm) {x n : Nat} {P B L : Nat → Nat} (hx : x < 16) (hk : ck x = 1) (hR : jv_Fr x w w') (hn : n ≤ 5) (hD : jv_XW w' x n P B L)
    (hF : jv_Ex (fun a => cb' (24 * x + a)) n P B L) (hc : ∀ j, (j < 24 * x ∨ 24 * x + 24 ≤ j) → cb' j = cb j) : jv_RW w' ck cl cp cn cb' cv cm := by
  obtain ⟨hN, h0, hM, hV, hO, z1, z2, z3, z4, z5, z6, z7⟩ := h
  refine ⟨fun y hy => ?_, h0, ?_, fun b hb => by rw [hR _ (by omega)]; exact hV b hb, fun q hq => by rw [hR _ (by omega)]; exact hO q hq, z1, z2, z3, z4, fun i hi => by rw [hc i (by omega)]; exact z5 i hi, z6, z7⟩
  · by_cases e : y = x
    · subst e
      obtain ⟨g1, g2, g3, g4, g5, g6, g7⟩ := hN y hy
      exact ⟨by rw [hR _ (by omega)]; exact g1, g2, fun hk => by rw [hR _ (by omega)]; exact g3 hk, fun h => by rw [hk] at h; exact absurd h (by decide), g5, fun _ => ⟨n, P, B, L, hn, hD, hF⟩, fun h => absurd hk h⟩
    · exact jv_Nd_cg (hN y hy) (fun q h1 h2 => hR q (by omega)) rfl (fun _ => rfl) (fun _ => rfl) (fun _ _ => rfl) (fun p hp => hc _ (by omega))
  · rw [jv_M_fr (w := w) (hR _ (by omega)) (hR _ (by omega))]; exact hM
/-- the marks are others -/
theorem jv_RW_mk {w w' ck cl cp cn cb cv cm cm' : Nat → Int32} (h : jv_RW w ck cl cp cn cb cv cm) (hw : ∀ q, q ≠ 384 → q ≠ 385 → w' q = w q) (hM : jv_MF (jv_M w') cm') (hz : ∀ i, 64 ≤ i → cm' i = 0) : jv_RW w' ck cl cp cn cb cv cm' := by
  obtain ⟨hN, h0, _, hV, hO, z1, z2, z3, z4, z5, z6, z7⟩ := h
  exact ⟨fun y hy => jv_Nd_cg (hN y hy) (fun q h1 h2 => hw q (by omega) (by omega)) rfl (fun _ => rfl) (fun _ => rfl) (fun _ _ => rfl) (fun _ _ => rfl), h0, hM, fun b hb => by rw [hw _ (by omega) (by omega)]; exact hV b hb, fun q hq => by rw [hw _ (by omega) (by omega)]; exact hO q hq, z1, z2, z3, z4, z5, z6, hz⟩
/-- a value is another -/
theorem jv_RW_vl {w ck cl cp cn cb cv cm : Nat → Int32} (h : jv_RW w ck cl cp cn cb cv cm) {b : Nat} (hb : b < 64) (v : Int32) : jv_RW (upd w (386 + b) v) ck cl cp cn cb (upd cv b v) cm := by
  obtain ⟨hN, h0, hM, hV, hO, z1, z2, z3, z4, z5, z6, z7⟩ := h
  refine ⟨fun y hy => jv_Nd_cg (hN y hy) (fun q h1 h2 => pk_un (by omega)) rfl (fun _ => rfl) (fun _ => rfl) (fun _ _ => rfl) (fun _ _ => rfl), h0, ?_, fun c hc => ?_, fun q hq => by rw [pk_un (by omega)]; exact hO q hq, z1, z2, z3, z4, z5, fun i hi => by rw [pk_un (by omega)]; exact z6 i hi, z7⟩
  · rw [jv_M_fr (w := w) (pk_un (by omega)) (pk_un (by omega))]; exact hM
  · by_cases e : c = b
    · rw [e, pk_us, pk_us]
    · rw [pk_un e, pk_un (by omega)]; exact hV c hc
/-- an inode is free: its entries and blocks are gone -/
theorem jv_RW_free {w w' ck cl cp cn cb cv cm cl' cm' : Nat → Int32} (h : jv_RW w ck cl cp cn cb cv cm) {x : Nat} (hx : x < 16) (hx1 : 1 ≤ x) (hw : ∀ q, (q < 24 * x ∨ 24 * x + 24 ≤ q) → q ≠ 384 → q ≠ 385 → w' q = w q) (h0 : w' (24 * x) = 0) (hl : ∀ i, i ≠ x → cl' i = cl i)
    (hM : jv_MF (jv_M w') cm') (hz : ∀ i, 64 ≤ i → cm' i = 0) :
    jv_RW w' (upd ck x 0) cl' cp (jv_fl cn (64 * x) 64 (-1)) (jv_fl cb (24 * x) 24 (-1)) cv cm' := by
  obtain ⟨hN, hk0, _, hV, hO, z1, z2, z3, z4, z5, z6, z7⟩ := h
  refine ⟨fun y hy => ?_, by rw [pk_un (by omega)]; exact hk0, hM, fun b hb => by rw [hw _ (by omega) (by omega) (by omega)]; exact hV b hb, fun q hq => by rw [hw _ (by omega) (by omega) (by omega)]; exact hO q hq, fun i hi => by rw [pk_un (by omega)]; exact z1 i hi, fun i hi => by rw [hl i (by omega)]; exact z2 i hi, z3, fun i hi => by rw [jv_fl_o (by omega)]; exact z4 i hi, fun i hi => by rw [jv_fl_o (by omega)]; exact z5 i hi, z6, hz⟩
  by_cases e : y = x
  · subst e
    unfold jv_Nd
    rw [pk_us]
    exact ⟨h0, Or.inl rfl, fun h => absurd rfl h, fun h => absurd h (by decide), fun _ a ha => jv_fl_i (by omega) (by omega), fun h => absurd h (by decide), fun _ p hp => jv_fl_i (by omega) (by omega)⟩
  · exact jv_Nd_cg (hN y hy) (fun q h1 h2 => hw q (by omega) (by omega) (by omega)) (pk_un e) (fun _ => hl y e) (fun _ => rfl) (fun a ha => jv_fl_o (by omega)) (fun p hp => jv_fl_o (by omega))
end
section
/-! link -/
theorem jv_link_UI {ck cl cp cn cb cm : Nat → Int32} {d a x : Nat} (h : jv_UI ck cl cp cn cb cm) (hd : d < 16) (ha : a < 64) (hx : x < 16) (hx1 : 1 ≤ x) (hxf : ck x = 1) (hnn : cn (64 * d + a) = -1) :
    jv_UI ck (upd cl x (cl x + 1)) cp (upd cn (64 * d + a) (nI x)) cb cm := by
  obtain ⟨u1, u2, u3, u4, u5, u6⟩ := h
  have hj0 : 64 * d + a < 1024 := by omega
  have hno : ∀ y, y < 16 → ¬ cn (64 * d + a) = nI y := fun y hy e => by rw [hnn] at e; exact jv_neg1 (by omega) e.symm
  refine ⟨fun j y hj hy e => ?_, fun y hy hne => ?_, fun y hy1 hy h2 => ?_, u4, u5, u6⟩
  · by_cases ej : j = 64 * d + a
    · rw [ej, pk_us] at e
      have := jv_nI16 hx hy e
      subst this
      exact ⟨hx1, by rw [hxf]; decide⟩
    · rw [pk_un ej] at e
      exact u1 j y hj hy e
  · by_cases ey : y = x
    · subst ey
      rw [pk_us, jv_lk_add hj0 (hno y hx), u2 y hx hne, nI_1]
    · rw [pk_un ey, jv_lk_same (cn := cn) (fun j hj => ?_)]
      · exact u2 y hy hne
      · by_cases ej : j = 64 * d + a
        · rw [ej, pk_us]
          exact ⟨fun q => absurd (jv_nI16 hx hy q).symm ey, fun q => absurd q (hno y hy)⟩
        · rw [pk_un ej]
  · have ey : y ≠ x := fun q => by rw [q, hxf] at h2; exact absurd h2 (by decide)
    obtain ⟨d0, a0, e1, e2, e3, e4, e5, e6⟩ := u3 y hy1 hy h2
    have nj : 64 * d0 + a0 ≠ 64 * d + a := fun q => by rw [q] at e5; exact absurd e5 (hno y hy)
    refine ⟨d0, a0, e1, e2, e3, e4, by rw [pk_un nj]; exact e5, fun j hj e => ?_⟩
    by_cases ej : j = 64 * d + a
    · rw [ej, pk_us] at e; exact absurd (jv_nI16 hx hy e).symm ey
    · rw [pk_un ej] at e; exact e6 j hj e
/-- refused: damaged, no directory, no name, no file, too many links -/
def jv_lbad (g : Int32) (ck cl : Nat → Int32) (v1 v2 v3 : Int32) : Prop :=
  ¬ g = 0 ∨ (∀ d, d < 16 → v1 = nI d → ¬ ck d = 2) ∨ (∀ a, a < 64 → ¬ v2 = nI a) ∨ (∀ x, x < 16 → v3 = nI x → ¬ ck x = 1 ∨ ¬ cl x ≤ 8)
section
variable {xc xr xs xg xd xm xt xw xo : Int32} {aw ap aa av ae af ab al an aq : Nat → Int32}
theorem xk_link_r {post : Int32 → SX → Prop} {ck cl : Nat → Int32} {v1 v2 v3 : Int32} (hk : ∀ x, x < 16 → aw (24 * x) = ck x) (hl : ∀ x, x < 16 → ck x = 1 → aw (24 * x + 1) = cl x) (h : jv_lbad xd ck cl v1 v2 v3) (K : post (-1) (xc, xr, xs, xg, xd, xm, xt, xw, xo, aw, ap, aa, av, ae, af, ab, al, an, aq)) : wpX_link post (xc, xr, xs, xg, xd, xm, xt, xw, xo, aw, ap, aa, av, ae, af, ab, al, an, aq) v1 v2 v3 := by
  unfold wpX_link; dsimp only
  refine br_c (fun hd => ?_) (fun _ => K)
  refine xk_kind_v hk (fun x hx e => br_c (fun h2 => ?_) (fun _ => K)) (fun _ => br_f (by decide) K)
  subst e
  refine xk_base ?_
  rw [ad_p1, nI_clamp (by omega), hl x hx h2]
  refine ⟨vp_in_nI (by omega) (by decide), br_c (fun h3 => ?_) (fun _ => K)⟩
  refine xk_wrong_r hk ?_ (br_f (by decide) K)
  rcases h with h | h | h | h
  · exact Or.inl h
  · exact Or.inr (Or.inl h)
  · exact Or.inr (Or.inr h)
  · rcases h x hx rfl with g | g
    · exact absurd h2 g
    · exact absurd h3 g
theorem xk_link_f {post : Int32 → SX → Prop} {x d a n r : Nat} {N I : Nat → Nat} {f cl : Nat → Int32} (hx : x < 16) (hk : aw (24 * x) = 1) (hl : aw (24 * x + 1) = cl x) (h8 : cl x ≤ 8) (hd : d < 16) (ha : a < 64) (hr : r ≤ 24) (hkd : aw (24 * d) = 2) (hW : jv_DW aw d n N I) (hF : jv_DF f n N I)
    (hf : (∃ i, i < n ∧ N i = a) ∨ n = 10 ∨ r = 24) (K2 : (∃ i, i < n ∧ N i = a) → post (-2) (xc, nI r, xs, xg, 0, xm, xt, xw, xo, aw, ap, aa, av, ae, af, ab, al, an, aq)) (K3 : (∀ i, i < n → ¬ N i = a) → (n = 10 ∨ r = 24) → post (-3) (xc, nI r, xs, xg, 0, xm, xt, xw, xo, aw, ap, aa, av, ae, af, ab, al, an, aq)) :
    wpX_link post (xc, nI r, xs, xg, 0, xm, xt, xw, xo, aw, ap, aa, av, ae, af, ab, al, an, aq) (nI d) (nI a) (nI x) := by
  unfold wpX_link; dsimp only
  refine br_t rfl (xk_kind_i hx ?_)
  rw [hk]
  refine br_t rfl (xk_base ?_)
  rw [ad_p1, nI_clamp (by omega), hl]
  refine ⟨vp_in_nI (by omega) (by decide), br_t h8 ?_⟩
  refine xk_wrong_i hd ha hr hkd hW hF (fun i hi e => br_f (by decide) (K2 ⟨i, hi, e⟩)) (fun h1 h2 => br_f (by decide) (K3 h1 h2)) (fun h1 h2 h3 => ?_)
  rcases hf with ⟨i, hi, e⟩ | g | g
  · exact absurd e (h1 i hi)
  · exact absurd g h2
  · exact absurd g h3
theorem xk_link_ok {x d a n r : Nat} {N I : Nat → Nat} {f cl : Nat → Int32} (hx : x < 16) (hk : aw (24 * x) = 1) (hl : aw (24 * x + 1) = cl x) (h8 : cl x ≤ 8) (hd : d < 16) (ha : a < 64) (hr : r < 24) (hkd : aw (24 * d) = 2) (hW : jv_DW aw d n N I) (hF : jv_DF f n N I)
    (hno : ∀ i, i < n → ¬ N i = a) (hn : n ≤ 9) :
    ∃ w' k, k ≤ n ∧ (∀ i, i < k → jv_hs (N i) < jv_hs a) ∧ (∀ i, k ≤ i → i < n → jv_hs a < jv_hs (N i)) ∧ jv_DW w' d (n + 1) (jv_ins N k a) (jv_ins I k x) ∧ jv_Fr d (upd aw (24 * x + 1) (cl x + 1)) w' ∧
      ∀ (post : Int32 → SX → Prop) (m : Nat), jv_J 1 aa av ap m 0 aw aa av m →
        (∀ aa' av' m', jv_J 1 aa av ap m 58 w' aa' av' m' → m' < 32768 → post (cl x + 1) (nI m', nI (r + 1), xs, 0, 0, xm, xt, xw, xo, w', ap, aa', av', upd ae (r + 1) (nI m'), af, ab, al, an, aq)) →
        wpX_link post (nI m, nI r, xs, xg, 0, xm, xt, xw, xo, aw, ap, aa, av, ae, af, ab, al, an, aq) (nI d) (nI a) (nI x) := by
  have hW1 : jv_DW (upd aw (24 * x + 1) (cl x + 1)) d n N I := ⟨by rw [pk_un (by omega)]; exact hW.1, fun i hi => by rw [pk_un (by omega), pk_un (by omega)]; exact hW.2 i hi⟩
  obtain ⟨w', k, k1, k2, k3, k4, k5, k6⟩ := xk_insert (xs := xs) (xm := xm) (xt := xt) (xw := xw) (xo := xo) (ap := ap) (ae := ae) (af := af) (ab := ab) (al := al) (an := an) (aq := aq) (xr := nI r) (xg := 1) (xd := 0) (aw := upd aw (24 * x + 1) (cl x + 1)) (y := x) hd hn ha hW1 hF hno
  refine ⟨w', k, k1, k2, k3, k4, k5, fun post m J K => ?_⟩
  unfold wpX_link; dsimp only
  refine br_t rfl (xk_kind_i hx ?_)
  rw [hk]
  refine br_t rfl (xk_base ?_)
  rw [ad_p1, nI_clamp (by omega), hl]
  refine ⟨vp_in_nI (by omega) (by decide), br_t h8 ?_⟩
  refine xk_wrong_i hd ha (show r ≤ 24 by omega) hkd hW hF (fun i hi e => absurd e (hno i hi)) (fun h1 h2 => absurd h2 (by omega)) (fun h1 h2 h3 => br_t rfl (xk_begin ?_))
  dsimp only
  refine xk_base ?_
  rw [ad_p1, nI_clamp (by omega), hl]
  refine ⟨vp_in_nI (by omega) (by decide), nm_e ?_⟩
  refine xk_set (f := 1) (by omega) (by omega) J (fun aa1 av1 m1 J1 => ?_)
  dsimp only
  refine k6 _ aa av m 1 aa1 av1 m1 (by omega) J1 (fun aa2 av2 m2 J2 => ?_)
  dsimp only
  have hm := jv_J_lt J2 (by omega)
  exact xk_end hr hm (K aa2 av2 m2 (jv_J_up J2 (by omega)) hm)
end
section
variable {yr ys yd yh yt : Int32} {ck cl cp cn cb cv cm ok ol op on ob ov om ac au yf yo yu ym : Nat → Int32}
theorem yk_link_r {post : Int32 → SY → Prop} {v1 v2 v3 : Int32} (h : jv_lbad yd ck cl v1 v2 v3) (K : post (-1) (yr, ys, yd, yh, yt, ck, cl, cp, cn, cb, cv, cm, ok, ol, op, on, ob, ov, om, ac, au, yf, yo, yu, ym)) : wpY_link post (yr, ys, yd, yh, yt, ck, cl, cp, cn, cb, cv, cm, ok, ol, op, on, ob, ov, om, ac, au, yf, yo, yu, ym) v1 v2 v3 := by
  unfold wpY_link; dsimp only
  refine br_c (fun hd => ?_) (fun _ => K)
  refine yk_is_v (fun d hd1 e hk => br_f (by decide) ?_) (fun _ => br_t rfl K)
  refine yk_in_v (b := 63) rfl (by decide) (fun a ha e2 => br_f (by decide) ?_) (fun _ => br_t rfl K)
  refine yk_is_v (fun x hx e3 hk3 => br_f (by decide) ?_) (fun _ => br_t rfl K)
  subst e3
  rw [nI_clamp (n := x) (by omega)]
  refine ⟨vp_in_nI hx (by decide), br_c (fun h8 => ?_) (fun _ => K)⟩
  rcases h with h | h | h | h
  · exact absurd hd h
  · exact absurd hk (h d hd1 e)
  · exact absurd e2 (h a ha)
  · rcases h x hx rfl with g | g
    · exact absurd hk3 g
    · exact absurd h8 g
theorem yk_link_i {post : Int32 → SY → Prop} {d a x k n : Nat} {N I : Nat → Nat} (hd : d < 16) (ha : a < 64) (hx : x < 16) (hk : ck d = 2) (hkx : ck x = 1) (h8 : cl x ≤ 8) (hk24 : k ≤ 24) (hF : jv_DF (fun a => cn (64 * d + a)) n N I)
    (K2 : (∃ i, i < n ∧ N i = a) → post (-2) (nI k, ys, 0, yh, yt, ck, cl, cp, cn, cb, cv, cm, ok, ol, op, on, ob, ov, om, ac, au, yf, yo, yu, ym)) (K3 : (∀ i, i < n → ¬ N i = a) → (n = 10 ∨ k = 24) → post (-3) (nI k, ys, 0, yh, yt, ck, cl, cp, cn, cb, cv, cm, ok, ol, op, on, ob, ov, om, ac, au, yf, yo, yu, ym))
    (K0 : (∀ i, i < n → ¬ N i = a) → n ≠ 10 → k ≠ 24 → post (cl x + 1) (nI (k + 1), ys, 0, yh, yt, ck, upd cl x (cl x + 1), cp, upd cn (64 * d + a) (nI x), cb, cv, cm, ok, ol, op, on, ob, ov, om, upd ac k 1, jv_nt au k (nI d) (nI a) (nI x) 0, yf, yo, yu, ym)) :
    wpY_link post (nI k, ys, 0, yh, yt, ck, cl, cp, cn, cb, cv, cm, ok, ol, op, on, ob, ov, om, ac, au, yf, yo, yu, ym) (nI d) (nI a) (nI x) := by
  unfold wpY_link; dsimp only
  refine br_t rfl (yk_is hd (fun _ => br_f (by decide) ?_) (fun h => absurd hk h))
  refine yk_in (x := a) (a := 0) (b := 63) rfl rfl rfl (by omega) (by decide) (by decide) (fun _ _ => br_f (by decide) ?_) (fun h => by omega)
  refine yk_is hx (fun _ => br_f (by decide) ?_) (fun h => absurd hkx h)
  have vx : vp_in (nI x) 16 := vp_in_nI hx (by decide)
  have vn : vp_in (nI (64 * d + a)) 1024 := vp_in_nI (by omega) (by decide)
  rw [nI_clamp (n := x) (by omega), ad_n, nI_clamp (n := 64 * d + a) (by omega)]
  refine ⟨vx, br_t h8 ⟨vn, ?_⟩⟩
  have hn10 := hF.1
  by_cases g : ∃ i, i < n ∧ N i = a
  · obtain ⟨i, hi, e⟩ := g
    have e2 : cn (64 * d + N i) = nI (I i) := jv_fy hF hi
    have e3 := (hF.2.1 i hi).2.1
    refine br_f ?_ (K2 ⟨i, hi, e⟩)
    rw [← e, e2]; exact nI_pos (by omega)
  · have hno : ∀ i, i < n → ¬ N i = a := fun i hi e => g ⟨i, hi, e⟩
    refine br_t (by rw [jv_fn hF ha hno]; exact jv_m1neg) ?_
    refine pk_eq k 24 (fun e => K3 hno (Or.inr e)) (fun e => yk_entries hd hF (pk_eq n 10 (fun e2 => K3 hno (Or.inl e2)) (fun e2 => ?_)))
    refine yk_note (by omega) ?_
    dsimp only
    refine ⟨vn, nm_e ⟨vx, vx, nm_e ⟨vx, ?_⟩⟩⟩
    rw [pk_us]
    exact K0 hno e2 e
end
theorem i_vc_link {k : Nat} {u : SX} {v : SY} (I : i_Rel k u v) (hk : k + 5 ≤ 2560) (v1 : Int32) (v2 : Int32) (v3 : Int32) : wpX_link (fun r u' => wpY_link (fun r' v' => r' = r ∧ i_Rel (k + 5) u' v') v v1 v2 v3) u v1 v2 v3 := by
  refine zz_el (Q := fun u v => wpX_link (fun r u' => wpY_link (fun r' v' => r' = r ∧ i_Rel (k + 5) u' v') v v1 v2 v3) u v1 v2 v3) ?_ I
  intro xc xr xs xg xd xm xt xw xo aw ap aa av ae af ab al an aq yr ys yd yh yt ck cl cp cn cb cv cm ok ol op on ob ov om ac au yf yo yu ym R
  obtain ⟨r, s, m, h1, h2, rfl, rfl, rfl, rfl, rfl, rfl, rfl, hf, hRW, hd, hU, hJ, hP⟩ := jv_open R
  have hK := jv_kd hRW
  have hL : ∀ x, x < 16 → ck x = 1 → aw (24 * x + 1) = cl x := fun x hx e => (hRW.1 x hx).2.2.1 (by rw [e]; decide)
  by_cases hb : jv_lbad yd ck cl v1 v2 v3
  · exact xk_link_r hK hL hb (yk_link_r hb ⟨rfl, R⟩)
  · have hd0 : yd = 0 := Classical.byContradiction (fun g => hb (Or.inl g))
    have hA : ∃ d, d < 16 ∧ v1 = nI d ∧ ck d = 2 := Classical.byContradiction (fun g => hb (Or.inr (Or.inl (fun d h1 h2 h3 => g ⟨d, h1, h2, h3⟩))))
    have hB : ∃ a, a < 64 ∧ v2 = nI a := Classical.byContradiction (fun g => hb (Or.inr (Or.inr (Or.inl (fun d h1 h2 => g ⟨d, h1, h2⟩)))))
    have hC : ∃ x, x < 16 ∧ v3 = nI x ∧ ck x = 1 ∧ cl x ≤ 8 := Classical.byContradiction (fun g => hb (Or.inr (Or.inr (Or.inr (fun x h1 h2 => Classical.byContradiction (fun g2 => g ⟨x, h1, h2, Classical.byContradiction (fun g3 => g2 (Or.inl g3)), Classical.byContradiction (fun g3 => g2 (Or.inr g3))⟩))))))
    obtain ⟨d, hd1, rfl, hkd⟩ := hA
    obtain ⟨a, ha, rfl⟩ := hB
    obtain ⟨x, hx, rfl, hkx, h8⟩ := hC
    subst hd0
    obtain ⟨_, _, _, g4, _, _, _⟩ := hRW.1 d hd1
    obtain ⟨_, n, N, I', hW, hF⟩ := g4 hkd
    have hn10 := hF.1
    by_cases hfl : (∃ i, i < n ∧ N i = a) ∨ n = 10 ∨ r = 24
    · refine xk_link_f hx (by rw [hK x hx]; exact hkx) (hL x hx hkx) h8 hd1 ha h1 (by rw [hK d hd1]; exact hkd) hW hF hfl (fun g => ?_) (fun g1 g2 => ?_)
      · obtain ⟨i, hi, e⟩ := g
        exact yk_link_i hd1 ha hx hkd hkx h8 h1 hF (fun _ => ⟨rfl, R⟩) (fun g _ => absurd e (g i hi)) (fun g _ _ => absurd e (g i hi))
      · exact yk_link_i hd1 ha hx hkd hkx h8 h1 hF (fun ⟨i, hi, e⟩ => absurd e (g1 i hi)) (fun _ _ => ⟨rfl, R⟩) (fun _ q1 q2 => by omega)
    · have hno : ∀ i, i < n → ¬ N i = a := fun i hi e => hfl (Or.inl ⟨i, hi, e⟩)
      have hn9 : n ≤ 9 := by
        rcases Nat.lt_or_ge n 10 with q | q
        · omega
        · exact absurd (Or.inr (Or.inl (by omega))) hfl
      have hr : r < 24 := by
        rcases Nat.lt_or_ge r 24 with q | q
        · exact q
        · exact absurd (Or.inr (Or.inr (by omega))) hfl
      have hnn : cn (64 * d + a) = -1 := jv_fn hF ha hno
      have hx1 : 1 ≤ x := by
        rcases Nat.eq_zero_or_pos x with q | q
        · rw [q, hRW.2.1] at hkx; exact absurd hkx (by decide)
        · exact q
      obtain ⟨w', kk, k1, k2, k3, k4, k5, k6⟩ := xk_link_ok (xm := xm) (xt := xt) (xw := xw) (xo := xo) (ap := ap) (aa := aa) (av := av) (ae := ae) (af := af) (ab := ab) (al := al) (an := an) (aq := aq) (xs := nI s) (xg := 0) (aw := aw) hx (by rw [hK x hx]; exact hkx) (hL x hx hkx) h8 hd1 ha hr (by rw [hK d hd1]; exact hkd) hW hF hno hn9
      refine k6 _ m (hJ hr 0) (fun aa' av' m' J' hm => ?_)
      have hRW' := jv_RW_ins (jv_RW_lk hRW hx (cl x + 1)) hd1 ha hx hkd hn9 hF k1 k2 k3 k4 k5
      have hUI' := jv_link_UI (hU rfl) hd1 ha hx hx1 hkx hnn
      have hRd : jv_Redo 1 (nI d) (nI a) (nI x) 0 (ck, cl, cp, cn, cb, cv, cm) (ck, upd cl x (cl x + 1), cp, upd cn (64 * d + a) (nI x), cb, cv, cm) := by
        intro k ys yh yt ok ol op on ob ov om ac au yf yo yu ym post hk e1 e2 e3 e4 e5 K
        unfold wpY_again; dsimp only
        rw [ad_4, ad_p1, ad_p2, ad_p3, nI_clamp (n := 4 * k) (by omega), nI_clamp (n := 4 * k + 1) (by omega), nI_clamp (n := 4 * k + 2) (by omega), nI_clamp (n := 4 * k + 3) (by omega), nI_clamp (n := k) (by omega), e1, e2, e3, e4, e5]
        have vk : vp_in (nI k) 24 := vp_in_nI (by omega) (by decide)
        refine ⟨vp_in_nI (by omega) (by decide), nm_e ⟨vp_in_nI (by omega) (by decide), nm_e ⟨vp_in_nI (by omega) (by decide), nm_e ⟨vp_in_nI (by omega) (by decide), nm_e ⟨vk, br_f (by decide) ⟨vk, br_t rfl ?_⟩⟩⟩⟩⟩⟩
        refine yk_link_i hd1 ha hx hkd hkx h8 (show k ≤ 24 by omega) hF (fun ⟨i, hi, e⟩ => absurd e (hno i hi)) (fun _ h => absurd h (by omega)) (fun _ _ _ => ?_)
        rw [jv_upd_id e1, jv_nt_id e2 e3 e4 e5]
        exact K
      obtain ⟨_, R'⟩ := hP w' aa' av' m' 1 (nI d) (nI a) (nI x) 0 _ _ _ _ _ _ _ hr rfl J' hRW' hUI' hRd (jv_R_cp R)
      exact yk_link_i hd1 ha hx hkd hkx h8 h1 hF (fun ⟨i, hi, e⟩ => absurd e (hno i hi)) (fun _ h => absurd h (by omega)) (fun _ _ _ => ⟨rfl, R'⟩)
end
section
/-! blocks taken away in Y; an inode made free -/
def jv_um (cb : Nat → Int32) (j0 n : Nat) (cm cm' : Nat → Int32) : Prop :=
  (∀ b, b < 64 → (∃ i, i < n ∧ cb (j0 + i) = nI b) → cm' b = 0) ∧ (∀ b, b < 64 → (∀ i, i < n → ¬ cb (j0 + i) = nI b) → cm' b = cm b) ∧ (∀ b, 64 ≤ b → cm' b = cm b)
theorem jv_um_un {cb cm c1 c2 : Nat → Int32} {j0 n : Nat} (h1 : jv_um cb j0 n cm c1) (h2 : jv_um cb j0 n cm c2) : c1 = c2 := by
  funext b
  rcases Nat.lt_or_ge b 64 with hb | hb
  · by_cases g : ∃ i, i < n ∧ cb (j0 + i) = nI b
    · rw [h1.1 b hb g, h2.1 b hb g]
    · have g' : ∀ i, i < n → ¬ cb (j0 + i) = nI b := fun i hi e => g ⟨i, hi, e⟩
      rw [h1.2.1 b hb g', h2.2.1 b hb g']
  · rw [h1.2.2 b hb, h2.2.2 b hb]
theorem jv_um_0 {cb cm : Nat → Int32} {j0 : Nat} : jv_um cb j0 0 cm cm := ⟨fun b _ ⟨i, hi, _⟩ => by omega, fun _ _ _ => rfl, fun _ _ => rfl⟩
theorem jv_um_n {cb cm c : Nat → Int32} {j0 n : Nat} (h : jv_um cb j0 n cm c) (e : cb (j0 + n) = -1) : jv_um cb j0 (n + 1) cm c := by
  refine ⟨fun b hb ⟨i, hi, g⟩ => h.1 b hb ⟨i, ?_, g⟩, fun b hb g => h.2.1 b hb (fun i hi => g i (by omega)), h.2.2⟩
  by_cases q : i = n
  · rw [q, e] at g; exact absurd g.symm (jv_neg1 (by omega))
  · omega
theorem jv_um_b {cb cm c : Nat → Int32} {j0 n b0 : Nat} (h : jv_um cb j0 n cm c) (hb0 : b0 < 64) (e : cb (j0 + n) = nI b0) : jv_um cb j0 (n + 1) cm (upd c b0 0) := by
  refine ⟨fun b hb ⟨i, hi, g⟩ => ?_, fun b hb g => ?_, fun b hb => by rw [pk_un (by omega)]; exact h.2.2 b hb⟩
  · by_cases q : b = b0
    · rw [q, pk_us]
    · rw [pk_un q]
      refine h.1 b hb ⟨i, ?_, g⟩
      by_cases s : i = n
      · rw [s, e, nI_eq (by omega) (by omega)] at g; exact absurd g.symm q
      · omega
  · have q : b ≠ b0 := fun q => g n (by omega) (by rw [e, q])
    rw [pk_un q]
    exact h.2.1 b hb (fun i hi => g i (by omega))
theorem jv_um_ex {cb cm : Nat → Int32} {j0 : Nat} : ∀ n : Nat, (∀ i, i < n → cb (j0 + i) = -1 ∨ ∃ b, b < 64 ∧ cb (j0 + i) = nI b) → ∃ c, jv_um cb j0 n cm c := by
  intro n
  induction n with
  | zero => intro _; exact ⟨cm, jv_um_0⟩
  | succ n ih =>
    intro h
    obtain ⟨c, hc⟩ := ih (fun i hi => h i (by omega))
    rcases h n (by omega) with g | ⟨b, hb, g⟩
    · exact ⟨c, jv_um_n hc g⟩
    · exact ⟨_, jv_um_b hc hb g⟩
/-- the blocks of extents are those of positions -/
theorem jv_EF_b {f : Nat → Int32} {n b : Nat} {P B L : Nat → Nat} (h0 : jv_E0 n P B L) (h : jv_EF f n P B L) (hb : b < 64) : (∃ i, i < n ∧ B i ≤ b ∧ b < B i + L i) ↔ ∃ p, p < 24 ∧ f p = nI b := by
  constructor
  · rintro ⟨i, hi, h1, h2⟩
    have := h0.1 i hi
    refine ⟨P i + (b - B i), by omega, ?_⟩
    rw [h.1 i hi (b - B i) (by omega), show B i + (b - B i) = b by omega]
  · rintro ⟨p, hp, e⟩
    rcases jv_Ex_at (n := n) (P := P) (L := L) p with ⟨i, hi, h1, h2⟩ | hn
    · have := h0.1 i hi
      rw [jv_EF_in h hi h1 h2, nI_eq (by omega) (by omega)] at e
      exact ⟨i, hi, by omega, by omega⟩
    · rw [h.2 p hp hn] at e
      exact absurd e.symm (jv_neg1 (by omega))
section
variable {yr ys yd yh yt : Int32} {ck cl cp cn cb cv cm ok ol op on ob ov om ac au yf yo yu ym : Nat → Int32}
theorem yk_free48 {post : SY → Prop} {x : Nat} {cF : Nat → Int32} (hx : x < 16) (hv : ∀ i, i < 24 → cb (24 * x + i) = -1 ∨ ∃ b, b < 64 ∧ cb (24 * x + i) = nI b) (hF : jv_um cb (24 * x) 24 cm cF)
    (K : post (yr, ys, yd, yh, yt, ck, cl, cp, cn, jv_fl cb (24 * x) 24 (-1), cv, cF, ok, ol, op, on, ob, ov, om, ac, au, yf, yo, yu, ym)) : ∀ (d i : Nat) (c : Nat → Int32), i + d = 24 → jv_um cb (24 * x) i cm c → ∀ fuel, d < fuel →
    wY_free_48 post (nI x) fuel (nI (24 * x + i)) yr ys yd yh yt ck cl cp cn (jv_fl cb (24 * x) i (-1)) cv c ok ol op on ob ov om ac au yf yo yu ym := by
  intro d
  induction d with
  | zero =>
    intro i c e hc fuel hf
    obtain ⟨fuel, rfl⟩ : ∃ g, fuel = g + 1 := ⟨fuel - 1, by omega⟩
    have : i = 24 := by omega
    subst this
    rw [wY_free_48]
    have e1 : 24 * nI x + 24 = nI (24 * x + 24) := ad_b x 24
    rw [jv_um_un hc hF]
    refine br_t ?_ K
    rw [e1]; exact nI_le (Nat.le_refl _) (by omega)
  | succ d ih =>
    intro i c e hc fuel hf
    obtain ⟨fuel, rfl⟩ : ∃ g, fuel = g + 1 := ⟨fuel - 1, by omega⟩
    rw [wY_free_48]
    have e1 : 24 * nI x + 24 = nI (24 * x + 24) := ad_b x 24
    refine br_f ?_ ?_
    · rw [e1]; exact nI_ge (by omega) (by omega)
    · have ev : jv_fl cb (24 * x) i (-1) (24 * x + i) = cb (24 * x + i) := jv_fl_o (by omega)
      refine yk_unmap (by omega) (by rw [ev]; exact hv i (by omega)) (fun g => ?_) (fun b hb g => ?_)
      · dsimp only
        rw [jv_fl_s]
        rw [ev] at g
        exact nm_r (nI_1 _) (ih (i + 1) c (by omega) (jv_um_n hc g) fuel (by omega))
      · dsimp only
        rw [jv_fl_s]
        rw [ev] at g
        exact nm_r (nI_1 _) (ih (i + 1) _ (by omega) (jv_um_b hc hb g) fuel (by omega))
theorem yk_free19 {post : SY → Prop} {x : Nat} (hx : x < 16) (K : ∃ n, wY_free_48 post (nI x) n (nI (24 * x)) yr ys yd yh yt ck cl cp (jv_fl cn (64 * x) 64 (-1)) cb cv cm ok ol op on ob ov om ac au yf yo yu ym) : ∀ (d i : Nat), i + d = 64 → ∀ fuel, d < fuel →
    wY_free_19 post (nI x) yr ys yd yh yt fuel (nI (64 * x + i)) ck cl cp (jv_fl cn (64 * x) i (-1)) cb cv cm ok ol op on ob ov om ac au yf yo yu ym := by
  intro d
  induction d with
  | zero =>
    intro i e fuel hf
    obtain ⟨fuel, rfl⟩ : ∃ g, fuel = g + 1 := ⟨fuel - 1, by omega⟩
    have : i = 64 := by omega
    subst this
    rw [wY_free_19]
    have e1 : 64 * nI x + 64 = nI (64 * x + 64) := ad_n x 64
    refine br_t ?_ (nm_r (ad_24 x) K)
    rw [e1]; exact nI_le (Nat.le_refl _) (by omega)
  | succ d ih =>
    intro i e fuel hf
    obtain ⟨fuel, rfl⟩ : ∃ g, fuel = g + 1 := ⟨fuel - 1, by omega⟩
    rw [wY_free_19]
    have e1 : 64 * nI x + 64 = nI (64 * x + 64) := ad_n x 64
    refine br_f ?_ ?_
    · rw [e1]; exact nI_ge (by omega) (by omega)
    · rw [nI_clamp (by omega), jv_fl_s]
      exact ⟨vp_in_nI (by omega) (by decide), nm_e (nm_r (nI_1 _) (ih (i + 1) (by omega) fuel (by omega)))⟩
theorem yk_free {post : SY → Prop} {x : Nat} {cF : Nat → Int32} (hx : x < 16) (hv : ∀ i, i < 24 → cb (24 * x + i) = -1 ∨ ∃ b, b < 64 ∧ cb (24 * x + i) = nI b) (hF : jv_um cb (24 * x) 24 cm cF)
    (K : post (yr, ys, yd, yh, yt, upd ck x 0, upd cl x 0, cp, jv_fl cn (64 * x) 64 (-1), jv_fl cb (24 * x) 24 (-1), cv, cF, ok, ol, op, on, ob, ov, om, ac, au, yf, yo, yu, ym)) : wpY_free post (yr, ys, yd, yh, yt, ck, cl, cp, cn, cb, cv, cm, ok, ol, op, on, ob, ov, om, ac, au, yf, yo, yu, ym) (nI x) := by
  unfold wpY_free; dsimp only
  rw [nI_clamp (by omega)]
  have vx : vp_in (nI x) 16 := vp_in_nI hx (by decide)
  refine ⟨vx, nm_e ⟨vx, nm_e (nm_r (e' := nI (64 * x + 0)) (ad_64 x) ⟨65, ?_⟩)⟩⟩
  have h48 := yk_free48 (yr := yr) (ys := ys) (yd := yd) (yh := yh) (yt := yt) (cp := cp) (cb := cb) (cv := cv) (cm := cm) (ok := ok) (ol := ol) (op := op) (on := on) (ob := ob) (ov := ov) (om := om) (ac := ac) (au := au) (yf := yf) (yo := yo) (yu := yu) (ym := ym) (ck := upd ck x 0) (cl := upd cl x 0) (cn := jv_fl cn (64 * x) 64 (-1)) hx hv hF K 24 0 cm (by omega) jv_um_0 25 (by omega)
  rw [jv_fl_0] at h48
  have := yk_free19 (yr := yr) (ys := ys) (yd := yd) (yh := yh) (yt := yt) (cp := cp) (cn := cn) (cb := cb) (cv := cv) (cm := cm) (ok := ok) (ol := ol) (op := op) (on := on) (ob := ob) (ov := ov) (om := om) (ac := ac) (au := au) (yf := yf) (yo := yo) (yu := yu) (ym := ym) (ck := upd ck x 0) (cl := upd cl x 0) (post := post) hx ⟨25, h48⟩ 64 0 (by omega) 65 (by omega)
  rw [jv_fl_0] at this
  exact this
end
end
section
/-! remove -/
/-- an entry is gone, and what it named stays -/
theorem jv_rem1_UI {ck cl cp cn cb cm : Nat → Int32} {j0 x : Nat} (h : jv_UI ck cl cp cn cb cm) (hj0 : j0 < 1024) (hx : x < 16) (he : cn j0 = nI x) (hl : ¬ cl x - 1 = 0) :
    jv_UI ck (upd cl x (cl x - 1)) cp (upd cn j0 (-1)) cb cm := by
  obtain ⟨u1, u2, u3, u4, u5, u6⟩ := h
  have hm1 : ∀ y, y < 16 → ¬ (-1 : Int32) = nI y := fun y hy e => jv_neg1 (by omega) e.symm
  have hkx := (u1 j0 x hj0 hx he).2
  have lk1 := jv_lk_del (v := -1) hj0 he (hm1 x hx)
  have ecl : cl x - 1 = nI (jv_lk (upd cn j0 (-1)) x) := by rw [u2 x hx hkx, lk1]; exact nI_pred _
  refine ⟨fun j y hj hy e => ?_, fun y hy hne => ?_, fun y hy1 hy h2 => ?_, u4, u5, u6⟩
  · by_cases ej : j = j0
    · rw [ej, pk_us] at e; exact absurd e (hm1 y hy)
    · rw [pk_un ej] at e; exact u1 j y hj hy e
  · by_cases ey : y = x
    · subst ey; rw [pk_us]; exact ecl
    · rw [pk_un ey, jv_lk_same (cn := cn) (fun j hj => ?_)]
      · exact u2 y hy hne
      · by_cases ej : j = j0
        · rw [ej, pk_us, he]
          exact ⟨fun q => absurd q (hm1 y hy), fun q => absurd (jv_nI16 hx hy q).symm ey⟩
        · rw [pk_un ej]
  · obtain ⟨d0, a0, e1, e2, e3, e4, e5, e6⟩ := u3 y hy1 hy h2
    have ey : y ≠ x := fun q => by
      subst q
      have hz : jv_lk (upd cn j0 (-1)) y = 0 := jv_ct_0 1024 (fun j hj => decide_eq_false (fun q => by
        by_cases ej : j = j0
        · rw [ej, pk_us] at q; exact hm1 y hy q
        · rw [pk_un ej] at q
          exact ej ((e6 j hj q).trans (e6 j0 hj0 he).symm)))
      rw [ecl, hz] at hl
      exact hl rfl
    have nj : 64 * d0 + a0 ≠ j0 := fun q => by rw [q, he] at e5; exact ey (jv_nI16 hx hy e5).symm
    refine ⟨d0, a0, e1, e2, e3, e4, by rw [pk_un nj]; exact e5, fun j hj e => ?_⟩
    by_cases ej : j = j0
    · rw [ej, pk_us] at e; exact absurd e (hm1 y hy)
    · rw [pk_un ej] at e; exact e6 j hj e
/-- an entry is gone, and what it named is free -/
theorem jv_rem2_UI {ck cl cp cn cb cm cl' cm' : Nat → Int32} {j0 x : Nat} (h : jv_UI ck cl cp cn cb cm) (hj0 : j0 < 1024) (hx : x < 16) (he : cn j0 = nI x) (hjx : j0 < 64 * x ∨ 64 * x + 64 ≤ j0) (hl : cl x - 1 = 0) (hcl : ∀ i, i ≠ x → cl' i = cl i)
    (hb : ∀ a, a < 64 → cn (64 * x + a) = -1) (hm : jv_um cb (24 * x) 24 cm cm') :
    jv_UI (upd ck x 0) cl' cp (jv_fl (upd cn j0 (-1)) (64 * x) 64 (-1)) (jv_fl cb (24 * x) 24 (-1)) cm' := by
  obtain ⟨u1, u2, u3, ⟨ρ, u4⟩, u5, u6⟩ := h
  have hm1 : ∀ y, y < 16 → ¬ (-1 : Int32) = nI y := fun y hy e => jv_neg1 (by omega) e.symm
  have hkx := (u1 j0 x hj0 hx he).2
  have lk1 := jv_lk_del (v := -1) hj0 he (hm1 x hx)
  have hz : jv_lk (upd cn j0 (-1)) x = 0 := by
    have ecl : cl x - 1 = nI (jv_lk (upd cn j0 (-1)) x) := by rw [u2 x hx hkx, lk1]; exact nI_pred _
    have := jv_lk_le (upd cn j0 (-1)) x
    rw [hl] at ecl
    exact ((nI_eq (a := 0) (by decide) (by omega)).mp ecl).symm
  have old : ∀ j y, j < 1024 → y < 16 → (jv_fl (upd cn j0 (-1)) (64 * x) 64 (-1) j = nI y ↔ (cn j = nI y ∧ y ≠ x)) := fun j y hj hy => by
    by_cases hi : 64 * x ≤ j ∧ j < 64 * x + 64
    · rw [jv_fl_i hi.1 hi.2]
      have := hb (j - 64 * x) (by omega)
      rw [show 64 * x + (j - 64 * x) = j by omega] at this
      rw [this]
      exact ⟨fun q => absurd q (hm1 y hy), fun q => absurd q.1 (hm1 y hy)⟩
    · rw [jv_fl_o (by omega)]
      by_cases ej : j = j0
      · rw [ej, pk_us, he]
        exact ⟨fun q => absurd q (hm1 y hy), fun q => absurd (jv_nI16 hx hy q.1).symm q.2⟩
      · rw [pk_un ej]
        refine ⟨fun q => ⟨q, fun e => ?_⟩, fun q => q.1⟩
        rw [e] at q
        have := jv_lk_0 hz hj
        rw [pk_un ej] at this
        exact this q
  refine ⟨fun j y hj hy e => ?_, fun y hy hne => ?_, fun y hy1 hy h2 => ?_, ⟨ρ, fun y d' hy1 hy h2 hd' e => ?_⟩, fun j b hj hbb e => ?_, fun i j b hi hj hbb e1 e2 => ?_⟩
  · obtain ⟨g1, g2⟩ := (old j y hj hy).mp e
    obtain ⟨g3, g4⟩ := u1 j y hj hy g1
    exact ⟨g3, by rw [pk_un g2]; exact g4⟩
  · have ey : y ≠ x := fun q => by rw [q, pk_us] at hne; exact hne rfl
    rw [pk_un ey] at hne
    rw [hcl y ey, jv_lk_same (cn := cn) (fun j hj => ⟨fun q => ((old j y hj hy).mp q).1, fun q => (old j y hj hy).mpr ⟨q, ey⟩⟩)]
    exact u2 y hy hne
  · have ey : y ≠ x := fun q => by rw [q, pk_us] at h2; exact absurd h2 (by decide)
    rw [pk_un ey] at h2
    obtain ⟨d0, a0, e1, e2, e3, e4, e5, e6⟩ := u3 y hy1 hy h2
    have nd : d0 ≠ x := fun q => by
      subst q
      rw [hb a0 e2] at e5; exact hm1 y hy e5
    exact ⟨d0, a0, e1, e2, e3, by rw [pk_un nd]; exact e4, (old _ y (by omega) hy).mpr ⟨e5, ey⟩, fun j hj e => e6 j hj ((old j y hj hy).mp e).1⟩
  · have ey : y ≠ x := fun q => by rw [q, pk_us] at h2; exact absurd h2 (by decide)
    rw [pk_un ey] at h2
    exact u4 y d' hy1 hy h2 hd' e
  · by_cases hi : 24 * x ≤ j ∧ j < 24 * x + 24
    · rw [jv_fl_i hi.1 hi.2] at e; exact absurd e.symm (jv_neg1 (by omega))
    · rw [jv_fl_o (by omega)] at e
      rw [hm.2.1 b hbb (fun i hi2 e3 => hi (by have := u6 j (24 * x + i) b hj (by omega) hbb e e3; omega))]
      exact u5 j b hj hbb e
  · by_cases hi' : 24 * x ≤ i ∧ i < 24 * x + 24
    · rw [jv_fl_i hi'.1 hi'.2] at e1; exact absurd e1.symm (jv_neg1 (by omega))
    · by_cases hj' : 24 * x ≤ j ∧ j < 24 * x + 24
      · rw [jv_fl_i hj'.1 hj'.2] at e2; exact absurd e2.symm (jv_neg1 (by omega))
      · rw [jv_fl_o (by omega)] at e1 e2
        exact u6 i j b hi hj hbb e1 e2
/-- an entry of a directory names another inode -/
theorem jv_nself {ck cl cp cn cb cm : Nat → Int32} {d a x : Nat} (h : jv_UI ck cl cp cn cb cm) (hd : d < 16) (ha : a < 64) (hx : x < 16) (hk : ck d = 2) (he : cn (64 * d + a) = nI x) : d ≠ x := by
  intro e
  subst e
  obtain ⟨u1, u2, u3, ⟨ρ, u4⟩, u5, u6⟩ := h
  have h1 := u1 _ d (by omega) hd he
  obtain ⟨d0, a0, e1, e2, e3, e4, e5, e6⟩ := u3 d h1.1 hd hk
  have := e6 _ (by omega) he
  have ed : d0 = d := by omega
  subst ed
  have := u4 d0 d0 h1.1 hd hk hd e3
  omega
section
variable {xc xr xs xg xd xm xt xw xo : Int32} {aw ap aa av ae af ab al an aq : Nat → Int32}
theorem xk_rem_r {post : Int32 → SX → Prop} {ck : Nat → Int32} {v1 v2 : Int32} (hk : ∀ x, x < 16 → aw (24 * x) = ck x) (h : ¬ xd = 0 ∨ (∀ d, d < 16 → v1 = nI d → ¬ ck d = 2) ∨ (∀ a, a < 64 → ¬ v2 = nI a)) (K : post (-1) (xc, xr, xs, xg, xd, xm, xt, xw, xo, aw, ap, aa, av, ae, af, ab, al, an, aq)) : wpX_remove post (xc, xr, xs, xg, xd, xm, xt, xw, xo, aw, ap, aa, av, ae, af, ab, al, an, aq) v1 v2 := by
  have K' : wX_remove_23 post v1 xc xr xs xg xd xm xt xw xo aw ap aa av ae af ab al an aq := by
    unfold wX_remove_23 wX_remove_33
    exact br_f (by decide) K
  unfold wpX_remove; dsimp only
  refine br_c (fun hd => ?_) (fun _ => K')
  refine xk_kind_v hk (fun d hd1 e => br_c (fun h2 => ?_) (fun _ => K')) (fun _ => br_f (by decide) K')
  refine xk_name_v (fun a ha e2 => ?_) (fun _ => br_t rfl K')
  rcases h with h | h | h
  · exact absurd hd h
  · exact absurd h2 (h d hd1 e)
  · exact absurd e2 (h a ha)
/-- up to the entry -/
theorem xk_rem_i {post : Int32 → SX → Prop} {d a n : Nat} {N I : Nat → Nat} {f : Nat → Int32} (hd : d < 16) (ha : a < 64) (hk : aw (24 * d) = 2) (hW : jv_DW aw d n N I) (hF : jv_DF f n N I)
    (K0 : (∀ i, i < n → ¬ N i = a) → post (-1) (xc, xr, xs, xg, 0, xm, xt, xw, xo, aw, ap, aa, av, ae, af, ab, al, an, aq)) (K1 : ∀ i, i < n → N i = a → wpX_kind (fun r_24 => (r_24 = 2 → (vp_in (nI (24 * I i + 2)) 450 ∧ ((aw (24 * I i + 2) ≤ 0 → wX_remove_80 post (nI d) (nI i) (nI (I i)) (nI (24 * I i)) xc xr xs xg 0 xm xt xw xo aw ap aa av ae af ab al an aq) ∧ (¬ aw (24 * I i + 2) ≤ 0 → post (-4) (xc, xr, xs, xg, 0, xm, xt, xw, xo, aw, ap, aa, av, ae, af, ab, al, an, aq))))) ∧ (¬ r_24 = 2 → wX_remove_80 post (nI d) (nI i) (nI (I i)) (nI (24 * I i)) xc xr xs xg 0 xm xt xw xo aw ap aa av ae af ab al an aq)) (xc, xr, xs, xg, 0, xm, xt, xw, xo, aw, ap, aa, av, ae, af, ab, al, an, aq) (nI (I i))) :
    wpX_remove post (xc, xr, xs, xg, 0, xm, xt, xw, xo, aw, ap, aa, av, ae, af, ab, al, an, aq) (nI d) (nI a) := by
  have h10 := hF.1
  unfold wpX_remove; dsimp only
  refine br_t rfl (xk_kind_i hd ?_)
  rw [hk]
  refine br_t rfl (xk_name_i ha (br_f (by decide) ?_))
  refine xk_seek hd ha hW hF (fun i hi e => ?_) (fun k hk2 h1 h2 => ?_)
  · unfold wX_remove_33
    refine br_t (nI_pos' (by omega)) (xk_named hd (by omega) ?_)
    have hI := (hF.2.1 i hi).2.1
    rw [(hW.2 i hi).2]
    refine xk_base ?_
    rw [ad_p2, nI_clamp (by omega)]
    exact K1 i hi e
  · unfold wX_remove_33
    refine br_f (Int32.not_le.mpr (pk_sneg (a := k) (b := 100) (by decide) (by omega))) (K0 (fun i hi e => ?_))
    rcases Nat.lt_or_ge i k with q | q
    · have := h1 i q; rw [e] at this; omega
    · have := h2 i q hi; rw [e] at this; omega
end
end
section
/-! remove, the walks and the call -/
section
variable {xc xr xs xg xd xm xt xw xo : Int32} {aw ap aa av ae af ab al an aq : Nat → Int32}
theorem xk_rem80 {d n i x r : Nat} {N I : Nat → Nat} {lv : Int32} (hd : d < 16) (hx : x < 16) (hdx : d ≠ x) (hn : n ≤ 10) (hi : i < n) (hr : r < 24) (hW : jv_DW aw d n N I) (hl : aw (24 * x + 1) = lv) :
    ∃ w1, jv_DW w1 d (n - 1) (jv_del N i) (jv_del I i) ∧ jv_Fr d aw w1 ∧
      ∀ (post : Int32 → SX → Prop) (m : Nat), jv_J 1 aa av ap m 0 aw aa av m →
        (lv - 1 = 0 → ∀ aa2 av2 m2, jv_J 1 aa av ap m 20 (upd w1 (24 * x + 1) (lv - 1)) aa2 av2 m2 → wpX_free (fun u => match u with | (xc, xr, xs, xg, xd, xm, xt, xw, xo, aw, ap, aa, av, ae, af, ab, al, an, aq) => wX_remove_139 post (nI x) xc xr xs xg xd xm xt xw xo aw ap aa av ae af ab al an aq) (nI m2, nI r, xs, 1, 0, xm, xt, xw, xo, upd w1 (24 * x + 1) (lv - 1), ap, aa2, av2, ae, af, ab, al, an, aq) (nI x)) →
        (¬ lv - 1 = 0 → ∀ aa2 av2 m2, jv_J 1 aa av ap m 20 (upd w1 (24 * x + 1) (lv - 1)) aa2 av2 m2 → wX_remove_139 post (nI x) (nI m2) (nI r) xs 1 0 xm xt xw xo (upd w1 (24 * x + 1) (lv - 1)) ap aa2 av2 ae af ab al an aq) →
        wX_remove_80 post (nI d) (nI i) (nI x) (nI (24 * x)) (nI m) (nI r) xs xg 0 xm xt xw xo aw ap aa av ae af ab al an aq := by
  obtain ⟨w1, k1, k2, k3⟩ := xk_extract (xs := xs) (xm := xm) (xt := xt) (xw := xw) (xo := xo) (ap := ap) (ae := ae) (af := af) (ab := ab) (al := al) (an := an) (aq := aq) (xr := nI r) (xg := 1) (xd := 0) (aw := aw) hd hn hi hW
  refine ⟨w1, k1, k2, fun post m J K1 K0 => ?_⟩
  unfold wX_remove_80
  refine pk_eq r 24 (fun h => absurd h (by omega)) (fun _ => xk_begin ?_)
  dsimp only
  refine k3 _ aa av m 0 aa av m (by omega) J (fun aa1 av1 m1 J1 => ?_)
  dsimp only
  have el : w1 (24 * x + 1) = lv := by rw [k2 _ (by omega)]; exact hl
  have v : vp_in (nI (24 * x + 1)) 450 := vp_in_nI (by omega) (by decide)
  rw [ad_p1, nI_clamp (by omega), el]
  refine ⟨v, xk_put rfl (by omega) (by omega) J1 (fun aa2 av2 m2 J2 => ?_)⟩
  dsimp only
  rw [pk_us]
  exact ⟨v, br_c (fun g => K1 g aa2 av2 m2 J2) (fun g => K0 g aa2 av2 m2 J2)⟩
theorem xk_rem139 {post : Int32 → SX → Prop} {x r m : Nat} (hr : r < 24) (hm : m < 32768) (K : post (nI x) (nI m, nI (r + 1), xs, 0, xd, xm, xt, xw, xo, aw, ap, aa, av, upd ae (r + 1) (nI m), af, ab, al, an, aq)) : wX_remove_139 post (nI x) (nI m) (nI r) xs xg xd xm xt xw xo aw ap aa av ae af ab al an aq := by
  unfold wX_remove_139
  exact xk_end hr hm K
end
section
variable {yr ys yd yh yt : Int32} {ck cl cp cn cb cv cm ok ol op on ob ov om ac au yf yo yu ym : Nat → Int32}
theorem yk_rem_r {post : Int32 → SY → Prop} {v1 v2 : Int32} (h : ¬ yd = 0 ∨ (∀ d, d < 16 → v1 = nI d → ¬ ck d = 2) ∨ (∀ a, a < 64 → ¬ v2 = nI a)) (K : post (-1) (yr, ys, yd, yh, yt, ck, cl, cp, cn, cb, cv, cm, ok, ol, op, on, ob, ov, om, ac, au, yf, yo, yu, ym)) : wpY_remove post (yr, ys, yd, yh, yt, ck, cl, cp, cn, cb, cv, cm, ok, ol, op, on, ob, ov, om, ac, au, yf, yo, yu, ym) v1 v2 := by
  unfold wpY_remove; dsimp only
  refine br_c (fun hd => ?_) (fun _ => K)
  refine yk_is_v (fun d hd1 e hk => br_f (by decide) ?_) (fun _ => br_t rfl K)
  refine yk_in_v (b := 63) rfl (by decide) (fun a ha e2 => ?_) (fun _ => br_t rfl K)
  rcases h with h | h | h
  · exact absurd hd h
  · exact absurd hk (h d hd1 e)
  · exact absurd e2 (h a ha)
theorem yk_rem_0 {post : Int32 → SY → Prop} {d a : Nat} (hd : d < 16) (ha : a < 64) (hk : ck d = 2) (he : cn (64 * d + a) = -1) (K : post (-1) (yr, ys, 0, yh, yt, ck, cl, cp, cn, cb, cv, cm, ok, ol, op, on, ob, ov, om, ac, au, yf, yo, yu, ym)) : wpY_remove post (yr, ys, 0, yh, yt, ck, cl, cp, cn, cb, cv, cm, ok, ol, op, on, ob, ov, om, ac, au, yf, yo, yu, ym) (nI d) (nI a) := by
  unfold wpY_remove; dsimp only
  refine br_t rfl (yk_is hd (fun _ => br_f (by decide) ?_) (fun h => absurd hk h))
  refine yk_in (x := a) (a := 0) (b := 63) rfl rfl rfl (by omega) (by decide) (by decide) (fun _ _ => br_f (by decide) ?_) (fun h => by omega)
  rw [ad_n, nI_clamp (by omega), he]
  exact ⟨vp_in_nI (by omega) (by decide), br_f jv_m1n0 K⟩
theorem yk_rem_1 {post : Int32 → SY → Prop} {d a x : Nat} (hd : d < 16) (ha : a < 64) (hx : x < 16) (hk : ck d = 2) (he : cn (64 * d + a) = nI x)
    (K2 : ck x = 2 → wpY_entries (fun r_97 => (r_97 ≤ 0 → wY_remove_75 post (nI d) (nI a) (nI x) yr ys 0 yh yt ck cl cp cn cb cv cm ok ol op on ob ov om ac au yf yo yu ym) ∧ (¬ r_97 ≤ 0 → post (-4) (yr, ys, 0, yh, yt, ck, cl, cp, cn, cb, cv, cm, ok, ol, op, on, ob, ov, om, ac, au, yf, yo, yu, ym))) (yr, ys, 0, yh, yt, ck, cl, cp, cn, cb, cv, cm, ok, ol, op, on, ob, ov, om, ac, au, yf, yo, yu, ym) (nI x)) (K1 : ¬ ck x = 2 → wY_remove_75 post (nI d) (nI a) (nI x) yr ys 0 yh yt ck cl cp cn cb cv cm ok ol op on ob ov om ac au yf yo yu ym) : wpY_remove post (yr, ys, 0, yh, yt, ck, cl, cp, cn, cb, cv, cm, ok, ol, op, on, ob, ov, om, ac, au, yf, yo, yu, ym) (nI d) (nI a) := by
  unfold wpY_remove; dsimp only
  refine br_t rfl (yk_is hd (fun _ => br_f (by decide) ?_) (fun h => absurd hk h))
  refine yk_in (x := a) (a := 0) (b := 63) rfl rfl rfl (by omega) (by decide) (by decide) (fun _ _ => br_f (by decide) ?_) (fun h => by omega)
  have v : vp_in (nI (64 * d + a)) 1024 := vp_in_nI (by omega) (by decide)
  rw [ad_n, nI_clamp (by omega), he]
  refine ⟨v, br_t (nI_pos' (by omega)) ⟨v, nm_e ?_⟩⟩
  rw [nI_clamp (by omega)]
  exact ⟨vp_in_nI hx (by decide), br_c K2 K1⟩
theorem yk_rem_go {post : Int32 → SY → Prop} {d a x : Nat} (hd : d < 16) (ha : a < 64) (hx : x < 16) (hk : ck d = 2) (he : cn (64 * d + a) = nI x) (hb : ∀ a, a < 64 → cn (64 * x + a) = -1)
    (K : wY_remove_75 post (nI d) (nI a) (nI x) yr ys 0 yh yt ck cl cp cn cb cv cm ok ol op on ob ov om ac au yf yo yu ym) : wpY_remove post (yr, ys, 0, yh, yt, ck, cl, cp, cn, cb, cv, cm, ok, ol, op, on, ob, ov, om, ac, au, yf, yo, yu, ym) (nI d) (nI a) := by
  refine yk_rem_1 hd ha hx hk he (fun _ => ?_) (fun _ => K)
  exact yk_entries (n := 0) (N := fun _ => 0) (I := fun _ => 0) hx ⟨by omega, fun i hi => by omega, fun i j _ hj => by omega, fun a ha _ => hb a ha⟩ (br_t (by decide) K)
theorem yk_rem75_24 {post : Int32 → SY → Prop} {d a x : Int32} (K : post (-3) (nI 24, ys, yd, yh, yt, ck, cl, cp, cn, cb, cv, cm, ok, ol, op, on, ob, ov, om, ac, au, yf, yo, yu, ym)) : wY_remove_75 post d a x (nI 24) ys yd yh yt ck cl cp cn cb cv cm ok ol op on ob ov om ac au yf yo yu ym := by
  unfold wY_remove_75
  exact br_t rfl K
theorem yk_rem75_n {post : Int32 → SY → Prop} {d a x k : Nat} (hd : d < 16) (ha : a < 64) (hx : x < 16) (hk : k < 24) (hl : ¬ cl x - 1 = 0)
    (K : post (nI x) (nI (k + 1), ys, yd, yh, yt, ck, upd cl x (cl x - 1), cp, upd cn (64 * d + a) (-1), cb, cv, cm, ok, ol, op, on, ob, ov, om, upd ac k 2, jv_nt au k (nI d) (nI a) 0 0, yf, yo, yu, ym)) : wY_remove_75 post (nI d) (nI a) (nI x) (nI k) ys yd yh yt ck cl cp cn cb cv cm ok ol op on ob ov om ac au yf yo yu ym := by
  unfold wY_remove_75
  refine pk_eq k 24 (fun h => absurd h (by omega)) (fun _ => yk_note hk ?_)
  dsimp only
  have vx : vp_in (nI x) 16 := vp_in_nI hx (by decide)
  rw [ad_n, nI_clamp (by omega), nI_clamp (by omega)]
  exact ⟨vp_in_nI (by omega) (by decide), nm_e ⟨vx, vx, nm_e ⟨vx, br_f (by rw [pk_us]; exact hl) K⟩⟩⟩
theorem yk_rem75_f {post : Int32 → SY → Prop} {d a x k : Nat} {cF : Nat → Int32} (hd : d < 16) (ha : a < 64) (hx : x < 16) (hk : k < 24) (hl : cl x - 1 = 0)
    (hv : ∀ i, i < 24 → cb (24 * x + i) = -1 ∨ ∃ b, b < 64 ∧ cb (24 * x + i) = nI b) (hF : jv_um cb (24 * x) 24 cm cF)
    (K : post (nI x) (nI (k + 1), ys, yd, yh, yt, upd ck x 0, upd (upd cl x (cl x - 1)) x 0, cp, jv_fl (upd cn (64 * d + a) (-1)) (64 * x) 64 (-1), jv_fl cb (24 * x) 24 (-1), cv, cF, ok, ol, op, on, ob, ov, om, upd ac k 2, jv_nt au k (nI d) (nI a) 0 0, yf, yo, yu, ym)) : wY_remove_75 post (nI d) (nI a) (nI x) (nI k) ys yd yh yt ck cl cp cn cb cv cm ok ol op on ob ov om ac au yf yo yu ym := by
  unfold wY_remove_75
  refine pk_eq k 24 (fun h => absurd h (by omega)) (fun _ => yk_note hk ?_)
  dsimp only
  have vx : vp_in (nI x) 16 := vp_in_nI hx (by decide)
  rw [ad_n, nI_clamp (by omega), nI_clamp (by omega)]
  refine ⟨vp_in_nI (by omega) (by decide), nm_e ⟨vx, vx, nm_e ⟨vx, br_t (by rw [pk_us]; exact hl) ?_⟩⟩⟩
  exact yk_free hx hv hF K
end
/-- a call done again reads its numbers -/
theorem jv_again {q a b c d : Int32} {k : Nat} {post : SY → Prop} {yr ys yd yh yt : Int32} {ck cl cp cn cb cv cm ok ol op on ob ov om ac au yf yo yu ym : Nat → Int32} (hk : k < 24) (e1 : ac k = q) (e2 : au (4 * k) = a) (e3 : au (4 * k + 1) = b) (e4 : au (4 * k + 2) = c) (e5 : au (4 * k + 3) = d)
    (h : ((q = 0 → (((c = 1 → (wY_again_67 post 1 b a yr ys yd yh yt ck cl cp cn cb cv cm ok ol op on ob ov om ac au yf yo yu ym)) ∧ (¬ c = 1 → (wY_again_67 post 0 b a yr ys yd yh yt ck cl cp cn cb cv cm ok ol op on ob ov om ac au yf yo yu ym))))) ∧ (¬ q = 0 → (vp_in (nI k) 24 ∧ (((q = 1 → (wpY_link (fun r_123 u => match u with | (yr, ys, yd, yh, yt, ck, cl, cp, cn, cb, cv, cm, ok, ol, op, on, ob, ov, om, ac, au, yf, yo, yu, ym) => (post (yr, ys, yd, yh, yt, ck, cl, cp, cn, cb, cv, cm, ok, ol, op, on, ob, ov, om, ac, au, yf, yo, yu, ym))) (yr, ys, yd, yh, yt, ck, cl, cp, cn, cb, cv, cm, ok, ol, op, on, ob, ov, om, ac, au, yf, yo, yu, ym) a b c)) ∧ (¬ q = 1 → (vp_in (nI k) 24 ∧ (((q = 2 → (wpY_remove (fun r_97 u => match u with | (yr, ys, yd, yh, yt, ck, cl, cp, cn, cb, cv, cm, ok, ol, op, on, ob, ov, om, ac, au, yf, yo, yu, ym) => (post (yr, ys, yd, yh, yt, ck, cl, cp, cn, cb, cv, cm, ok, ol, op, on, ob, ov, om, ac, au, yf, yo, yu, ym))) (yr, ys, yd, yh, yt, ck, cl, cp, cn, cb, cv, cm, ok, ol, op, on, ob, ov, om, ac, au, yf, yo, yu, ym) a b)) ∧ (¬ q = 2 → (vp_in (nI k) 24 ∧ (((q = 3 → (wpY_move (fun r_71 u => match u with | (yr, ys, yd, yh, yt, ck, cl, cp, cn, cb, cv, cm, ok, ol, op, on, ob, ov, om, ac, au, yf, yo, yu, ym) => (post (yr, ys, yd, yh, yt, ck, cl, cp, cn, cb, cv, cm, ok, ol, op, on, ob, ov, om, ac, au, yf, yo, yu, ym))) (yr, ys, yd, yh, yt, ck, cl, cp, cn, cb, cv, cm, ok, ol, op, on, ob, ov, om, ac, au, yf, yo, yu, ym) a b c d)) ∧ (¬ q = 3 → (vp_in (nI k) 24 ∧ (((q = 4 → (wpY_write (fun r_45 u => match u with | (yr, ys, yd, yh, yt, ck, cl, cp, cn, cb, cv, cm, ok, ol, op, on, ob, ov, om, ac, au, yf, yo, yu, ym) => (post (yr, ys, yd, yh, yt, ck, cl, cp, cn, cb, cv, cm, ok, ol, op, on, ob, ov, om, ac, au, yf, yo, yu, ym))) (yr, ys, yd, yh, yt, ck, cl, cp, cn, cb, cv, cm, ok, ol, op, on, ob, ov, om, ac, au, yf, yo, yu, ym) a b c)) ∧ (¬ q = 4 → (wpY_punch (fun r_19 u => match u with | (yr, ys, yd, yh, yt, ck, cl, cp, cn, cb, cv, cm, ok, ol, op, on, ob, ov, om, ac, au, yf, yo, yu, ym) => (post (yr, ys, yd, yh, yt, ck, cl, cp, cn, cb, cv, cm, ok, ol, op, on, ob, ov, om, ac, au, yf, yo, yu, ym))) (yr, ys, yd, yh, yt, ck, cl, cp, cn, cb, cv, cm, ok, ol, op, on, ob, ov, om, ac, au, yf, yo, yu, ym) a b c)))))))))))))))))))) :
    wpY_again post (yr, ys, yd, yh, yt, ck, cl, cp, cn, cb, cv, cm, ok, ol, op, on, ob, ov, om, ac, au, yf, yo, yu, ym) (nI k) := by
  unfold wpY_again; dsimp only
  rw [ad_4, ad_p1, ad_p2, ad_p3, nI_clamp (n := 4 * k) (by omega), nI_clamp (n := 4 * k + 1) (by omega), nI_clamp (n := 4 * k + 2) (by omega), nI_clamp (n := 4 * k + 3) (by omega), nI_clamp (n := k) (by omega), e1, e2, e3, e4, e5]
  exact ⟨vp_in_nI (by omega) (by decide), nm_e ⟨vp_in_nI (by omega) (by decide), nm_e ⟨vp_in_nI (by omega) (by decide), nm_e ⟨vp_in_nI (by omega) (by decide), nm_e ⟨vp_in_nI (by omega) (by decide), h⟩⟩⟩⟩⟩
theorem i_vc_remove {k : Nat} {u : SX} {v : SY} (I : i_Rel k u v) (hk : k + 5 ≤ 2560) (v1 : Int32) (v2 : Int32) : wpX_remove (fun r u' => wpY_remove (fun r' v' => r' = r ∧ i_Rel (k + 5) u' v') v v1 v2) u v1 v2 := by
  refine zz_el (Q := fun u v => wpX_remove (fun r u' => wpY_remove (fun r' v' => r' = r ∧ i_Rel (k + 5) u' v') v v1 v2) u v1 v2) ?_ I
  intro xc xr xs xg xd xm xt xw xo aw ap aa av ae af ab al an aq yr ys yd yh yt ck cl cp cn cb cv cm ok ol op on ob ov om ac au yf yo yu ym R
  obtain ⟨r, s, m, h1, h2, rfl, rfl, rfl, rfl, rfl, rfl, rfl, hf, hRW, hd, hU, hJ, hP⟩ := jv_open R
  have hK := jv_kd hRW
  by_cases hb : ¬ yd = 0 ∨ (∀ d, d < 16 → v1 = nI d → ¬ ck d = 2) ∨ (∀ a, a < 64 → ¬ v2 = nI a)
  · exact xk_rem_r hK hb (yk_rem_r hb ⟨rfl, R⟩)
  · have hd0 : yd = 0 := Classical.byContradiction (fun g => hb (Or.inl g))
    have hA : ∃ d, d < 16 ∧ v1 = nI d ∧ ck d = 2 := Classical.byContradiction (fun g => hb (Or.inr (Or.inl (fun d h1 h2 h3 => g ⟨d, h1, h2, h3⟩))))
    have hB : ∃ a, a < 64 ∧ v2 = nI a := Classical.byContradiction (fun g => hb (Or.inr (Or.inr (fun d h1 h2 => g ⟨d, h1, h2⟩))))
    obtain ⟨d, hd1, rfl, hkd⟩ := hA
    obtain ⟨a, ha, rfl⟩ := hB
    subst hd0
    obtain ⟨_, _, _, g4, _, _, _⟩ := hRW.1 d hd1
    obtain ⟨_, n, N, I', hW, hF⟩ := g4 hkd
    have hUI := hU rfl
    refine xk_rem_i hd1 ha (by rw [hK d hd1]; exact hkd) hW hF (fun hno => ?_) (fun i hi ei => ?_)
    · exact yk_rem_0 hd1 ha hkd (jv_fn hF ha hno) ⟨rfl, R⟩
    · obtain ⟨_, hxI, _⟩ := hF.2.1 i hi
      have he : cn (64 * d + a) = nI (I' i) := by rw [← ei]; exact jv_fy hF hi
      have hj0 : 64 * d + a < 1024 := by omega
      have hdx := jv_nself hUI hd1 ha hxI hkd he
      obtain ⟨hx1, hxk⟩ := hUI.1 _ _ hj0 hxI he
      obtain ⟨q1, q2, q3, q4, q5, q6, q7⟩ := hRW.1 (I' i) hxI
      have hlx : aw (24 * I' i + 1) = cl (I' i) := q3 hxk
      have go : (∀ b, b < 64 → cn (64 * I' i + b) = -1) → wX_remove_80 (fun r0 u' => wpY_remove (fun r' v' => r' = r0 ∧ i_Rel (k + 5) u' v') (nI r, nI s, 0, yh, yt, ck, cl, cp, cn, cb, cv, cm, ok, ol, op, on, ob, ov, om, ac, au, yf, yo, yu, ym) (nI d) (nI a)) (nI d) (nI i) (nI (I' i)) (nI (24 * I' i)) (nI m) (nI r) (nI s) 0 0 xm xt xw xo aw ap aa av ae af ab al an aq := by
        intro hb0
        by_cases h24 : r = 24
        · subst h24
          unfold wX_remove_80
          exact br_t rfl (yk_rem_go hd1 ha hxI hkd he hb0 (yk_rem75_24 ⟨rfl, R⟩))
        · have hr : r < 24 := by omega
          obtain ⟨w1, k1, k2, k3⟩ := xk_rem80 (xm := xm) (xt := xt) (xw := xw) (xo := xo) (ap := ap) (aa := aa) (av := av) (ae := ae) (af := af) (ab := ab) (al := al) (an := an) (aq := aq) (xs := nI s) (xg := 0) (aw := aw) hd1 hxI hdx hF.1 hi hr hW hlx
          have hRW1 := jv_RW_del hRW hd1 hkd hF hi k1 k2
          rw [ei] at hRW1
          have hRW2 := jv_RW_lk hRW1 hxI (cl (I' i) - 1)
          have hv : ∀ i', i' < 24 → cb (24 * I' i + i') = -1 ∨ ∃ b, b < 64 ∧ cb (24 * I' i + i') = nI b := fun i' hi' => jv_bv hRW (by omega)
          obtain ⟨cF, hum⟩ := jv_um_ex (cb := cb) (cm := cm) (j0 := 24 * I' i) 24 hv
          -- the end where the inode is free
          have fin : ∀ (w' aa' av' : Nat → Int32) (m' : Nat) (xm' : Int32) (af' ab' al' : Nat → Int32), cl (I' i) - 1 = 0 → jv_J 1 aa av ap m 58 w' aa' av' m' →
              jv_RW w' (upd ck (I' i) 0) (upd (upd cl (I' i) (cl (I' i) - 1)) (I' i) 0) cp (jv_fl (upd cn (64 * d + a) (-1)) (64 * I' i) 64 (-1)) (jv_fl cb (24 * I' i) 24 (-1)) cv cF →
              wX_remove_139 (fun r0 u' => wpY_remove (fun r' v' => r' = r0 ∧ i_Rel (k + 5) u' v') (nI r, nI s, 0, yh, yt, ck, cl, cp, cn, cb, cv, cm, ok, ol, op, on, ob, ov, om, ac, au, yf, yo, yu, ym) (nI d) (nI a)) (nI (I' i)) (nI m') (nI r) (nI s) 1 0 xm' xt xw xo w' ap aa' av' ae af' ab' al' an aq := by
            intro w' aa' av' m' xm' af' ab' al' hl J' hRW'
            refine xk_rem139 hr (jv_J_lt J' (by omega)) ?_
            have hUI' := jv_rem2_UI hUI hj0 hxI he (by omega) hl (cl' := upd (upd cl (I' i) (cl (I' i) - 1)) (I' i) 0) (fun j hj => by rw [pk_un hj, pk_un hj]) hb0 hum
            have hRd : jv_Redo 2 (nI d) (nI a) 0 0 (ck, cl, cp, cn, cb, cv, cm) (upd ck (I' i) 0, upd (upd cl (I' i) (cl (I' i) - 1)) (I' i) 0, cp, jv_fl (upd cn (64 * d + a) (-1)) (64 * I' i) 64 (-1), jv_fl cb (24 * I' i) 24 (-1), cv, cF) := by
              intro k ys yh yt ok ol op on ob ov om ac au yf yo yu ym post hk e1 e2 e3 e4 e5 K
              have vk : vp_in (nI k) 24 := vp_in_nI (by omega) (by decide)
              refine jv_again hk e1 e2 e3 e4 e5 (br_f (by decide) ⟨vk, br_f (by decide) ⟨vk, br_t rfl ?_⟩⟩)
              refine yk_rem_go hd1 ha hxI hkd he hb0 (yk_rem75_f hd1 ha hxI hk hl hv hum ?_)
              rw [jv_upd_id e1, jv_nt_id e2 e3 e4 e5]
              exact K
            obtain ⟨_, R'⟩ := hP w' aa' av' m' 2 (nI d) (nI a) 0 0 _ _ _ _ _ _ _ hr rfl J' hRW' hUI' hRd (jv_R_cp R)
            exact yk_rem_go hd1 ha hxI hkd he hb0 (yk_rem75_f hd1 ha hxI hr hl hv hum ⟨rfl, R'⟩)
          refine k3 _ m (hJ hr 0) (fun hl aa2 av2 m2 J2 => ?_) (fun hl aa2 av2 m2 J2 => ?_)
          · -- freed
            by_cases hk1 : ck (I' i) = 1
            · obtain ⟨nx, P, B, L, hnx, hXW, hEx⟩ := (hRW2.1 (I' i) hxI).2.2.2.2.2.1 hk1
              obtain ⟨w3, af3, ab3, al3, f1, f2, f3, f4⟩ := xk_free (xt := xt) (xw := xw) (xo := xo) (ap := ap) (ae := ae) (af := af) (ab := ab) (al := al) (an := an) (aq := aq) (xr := nI r) (xs := nI s) (xg := 1) (xd := 0) (aw := upd w1 (24 * I' i + 1) (cl (I' i) - 1)) hxI (by rw [(hRW2.1 (I' i) hxI).1]; exact hk1) hnx hEx.1 hXW
              refine f4 _ aa av m 20 aa2 av2 m2 (by omega) J2 (fun aa3 av3 m3 J3 => ?_)
              refine fin w3 aa3 av3 m3 _ _ _ _ hl (jv_J_up J3 (by omega)) ?_
              refine jv_RW_free hRW2 hxI hx1 (fun q a1 a2 a3 => f2 q (by omega) a2 a3) f1 (fun j hj => pk_un hj) (fun b hb => ?_) (fun j hj => by rw [hum.2.2 j hj]; exact hRW.2.2.2.2.2.2.2.2.2.2.2 j hj)
              rw [f3 b hb]
              by_cases ex : ∃ p, p < 24 ∧ cb (24 * I' i + p) = nI b
              · obtain ⟨j, hj, b1, b2⟩ := (jv_EF_b hEx.1 hEx.2.2 hb).mpr ex
                rw [hum.1 b hb ex, decide_eq_false (fun z => z j hj ⟨b1, b2⟩), Bool.and_false]; rfl
              · have hno : ∀ p, p < 24 → ¬ cb (24 * I' i + p) = nI b := fun p hp e => ex ⟨p, hp, e⟩
                rw [hum.2.1 b hb hno, decide_eq_true (show ∀ j, j < nx → ¬ (B j ≤ b ∧ b < B j + L j) from fun j hj z => ex ((jv_EF_b hEx.1 hEx.2.2 hb).mp ⟨j, hj, z⟩)), Bool.and_true]
                exact hRW2.2.2.1 b hb
            · refine xk_free_d hxI (by rw [(hRW2.1 (I' i) hxI).1]; exact hk1) (by omega) J2 (fun aa3 av3 m3 J3 => ?_)
              refine fin _ aa3 av3 m3 _ _ _ _ hl (jv_J_up J3 (by omega)) ?_
              refine jv_RW_free hRW2 hxI hx1 (fun q a1 a2 a3 => by rw [pk_un (by omega), pk_un (by omega), pk_un (by omega)]) pk_us (fun j hj => pk_un hj) (fun b hb => ?_) (fun j hj => by rw [hum.2.2 j hj]; exact hRW.2.2.2.2.2.2.2.2.2.2.2 j hj)
              rw [hum.2.1 b hb (fun p hp e => by rw [q7 hk1 p hp] at e; exact jv_neg1 (by omega) e.symm), jv_M_fr (w := upd w1 (24 * I' i + 1) (cl (I' i) - 1)) (by rw [pk_un (by omega), pk_un (by omega), pk_un (by omega)]) (by rw [pk_un (by omega), pk_un (by omega), pk_un (by omega)])]
              exact hRW2.2.2.1 b hb
          · -- not freed
            refine xk_rem139 hr (jv_J_lt J2 (by omega)) ?_
            have hUI' := jv_rem1_UI hUI hj0 hxI he hl
            have hRd : jv_Redo 2 (nI d) (nI a) 0 0 (ck, cl, cp, cn, cb, cv, cm) (ck, upd cl (I' i) (cl (I' i) - 1), cp, upd cn (64 * d + a) (-1), cb, cv, cm) := by
              intro k ys yh yt ok ol op on ob ov om ac au yf yo yu ym post hk e1 e2 e3 e4 e5 K
              have vk : vp_in (nI k) 24 := vp_in_nI (by omega) (by decide)
              refine jv_again hk e1 e2 e3 e4 e5 (br_f (by decide) ⟨vk, br_f (by decide) ⟨vk, br_t rfl ?_⟩⟩)
              refine yk_rem_go hd1 ha hxI hkd he hb0 (yk_rem75_n hd1 ha hxI hk hl ?_)
              rw [jv_upd_id e1, jv_nt_id e2 e3 e4 e5]
              exact K
            obtain ⟨_, R'⟩ := hP _ aa2 av2 m2 2 (nI d) (nI a) 0 0 _ _ _ _ _ _ _ hr rfl (jv_J_up J2 (by omega)) hRW2 hUI' hRd (jv_R_cp R)
            exact yk_rem_go hd1 ha hxI hkd he hb0 (yk_rem75_n hd1 ha hxI hr hl ⟨rfl, R'⟩)
      refine xk_kind_i hxI ?_
      rw [q1]
      refine br_c (fun hk2 => ?_) (fun hk2 => go (q5 hk2))
      obtain ⟨_, nx, Nx, Ix, hWx, hFx⟩ := q4 hk2
      have hnx := hFx.1
      rw [hWx.1]
      refine ⟨vp_in_nI (by omega) (by decide), pk_le nx 0 (fun hz => ?_) (fun hz => ?_)⟩
      · exact go (fun b hb => hFx.2.2.2 b hb (fun j hj => by omega))
      · refine yk_rem_1 hd1 ha hxI hkd he (fun _ => yk_entries hxI hFx (pk_le nx 0 (fun h => absurd h (by omega)) (fun _ => ⟨rfl, R⟩))) (fun h => absurd hk2 h)
end
section
/-! move -/
noncomputable def jv_pi (p : Prop) : Nat := @ite Nat p (Classical.propDecidable p) 1 0
theorem jv_pi_t {p : Prop} (h : p) : jv_pi p = 1 := @if_pos p (Classical.propDecidable p) h Nat 1 0
theorem jv_pi_f {p : Prop} (h : ¬ p) : jv_pi p = 0 := @if_neg p (Classical.propDecidable p) h Nat 1 0
/-- x is y, or above it, by at most n steps -/
def jv_ab (cp : Nat → Int32) (x : Nat) : Nat → Nat → Prop
  | 0, y => y = x
  | n + 1, y => y = x ∨ (y ≠ 0 ∧ jv_ab cp x n (cp y).toNatClampNeg)
def jv_T (cp : Nat → Int32) (x y : Nat) : Prop := ∃ n, jv_ab cp x n y
theorem jv_T_s {cp : Nat → Int32} {x y d : Nat} (hd : d < 16) (hy : y ≠ 0) (hx : y ≠ x) (e : cp y = nI d) : jv_T cp x y ↔ jv_T cp x d := by
  have ec : (cp y).toNatClampNeg = d := by rw [e]; exact nI_clamp (by omega)
  constructor
  · rintro ⟨n, h⟩
    cases n with
    | zero => exact absurd h hx
    | succ n =>
      rcases h with h | h
      · exact absurd h hx
      · rw [ec] at h; exact ⟨n, h.2⟩
  · rintro ⟨n, h⟩
    exact ⟨n + 1, Or.inr ⟨hy, by rw [ec]; exact h⟩⟩
theorem jv_T_0 {cp : Nat → Int32} {x : Nat} (hx : 0 ≠ x) : ¬ jv_T cp x 0 := by
  rintro ⟨n, h⟩
  cases n with
  | zero => exact hx h
  | succ n =>
    rcases h with h | h
    · exact hx h
    · exact h.1 rfl
section
variable {xc xr xs xg xd xm xt xw xo : Int32} {aw ap aa av ae af ab al an aq : Nat → Int32}
theorem zk_above {ck cp cn : Nat → Int32} {x : Nat} {ρ : Nat → Nat} (hx : x < 16) (hP : ∀ y, y < 16 → ck y = 2 → aw (24 * y + 3) = cp y) (u3 : jv_U3 ck cp cn) (u4 : ∀ y d, 1 ≤ y → y < 16 → ck y = 2 → d < 16 → cp y = nI d → ρ d < ρ y) :
    ∀ (M y : Nat), ρ y < M → y < 16 → ck y = 2 → ∃ r : Int32, (r = 0 → ¬ jv_T cp x y) ∧ (∀ (post : Int32 → Prop) (fuel : Nat), M ≤ fuel → post r → wX_isAbove_2 post (nI x) xc xr xs xg xd xm xt xw xo aw ap aa av ae af ab al an aq fuel (nI y)) ∧
      (∀ (yr ys yd yh yt : Int32) (cl cb cv cm ok ol op on ob ov om ac au yf yo yu ym : Nat → Int32) (post : Int32 → Prop) (fuel : Nat), M ≤ fuel → post r → wY_isAbove_2 post (nI x) yr ys yd yh yt ck cl cp cn cb cv cm ok ol op on ob ov om ac au yf yo yu ym fuel (nI y)) := by
  intro M
  induction M with
  | zero => intro y h; omega
  | succ M ih =>
    intro y hM hy hk
    by_cases e : y = x
    · subst e
      refine ⟨1, fun h => absurd h (by decide), fun post fuel hf K => ?_, ?_⟩
      · obtain ⟨fuel, rfl⟩ : ∃ g, fuel = g + 1 := ⟨fuel - 1, by omega⟩
        rw [wX_isAbove_2]
        refine br_t rfl ?_
        unfold wX_isAbove_26
        exact br_t rfl K
      · intro yr ys yd yh yt cl cb cv cm ok ol op on ob ov om ac au yf yo yu ym post fuel hf K
        obtain ⟨fuel, rfl⟩ : ∃ g, fuel = g + 1 := ⟨fuel - 1, by omega⟩
        rw [wY_isAbove_2]
        refine br_t rfl ?_
        unfold wY_isAbove_21
        exact br_t rfl K
    · have ne : ¬ nI y = nI x := fun q => e (jv_nI16 hy hx q)
      by_cases z : y = 0
      · subst z
        refine ⟨0, fun _ => jv_T_0 e, fun post fuel hf K => ?_, ?_⟩
        · obtain ⟨fuel, rfl⟩ : ∃ g, fuel = g + 1 := ⟨fuel - 1, by omega⟩
          rw [wX_isAbove_2]
          refine br_f ne (br_t rfl ?_)
          unfold wX_isAbove_26
          exact br_f ne K
        · intro yr ys yd yh yt cl cb cv cm ok ol op on ob ov om ac au yf yo yu ym post fuel hf K
          obtain ⟨fuel, rfl⟩ : ∃ g, fuel = g + 1 := ⟨fuel - 1, by omega⟩
          rw [wY_isAbove_2]
          refine br_f ne (br_t rfl ?_)
          unfold wY_isAbove_21
          exact br_f ne K
      · obtain ⟨d, a0, e1, e2, e3, e4, _⟩ := u3 y (by omega) hy hk
        have hr := u4 y d (by omega) hy hk e1 e3
        have nz : ¬ nI y = 0 := nI_ne0 (by omega) (by omega)
        obtain ⟨r, r1, r2, r3⟩ := ih d (by omega) e1 e4
        refine ⟨r, fun h => fun t => r1 h ((jv_T_s e1 z e e3).mp t), fun post fuel hf K => ?_, ?_⟩
        · obtain ⟨fuel, rfl⟩ : ∃ g, fuel = g + 1 := ⟨fuel - 1, by omega⟩
          rw [wX_isAbove_2]
          refine br_f ne (br_f nz (xk_base ?_))
          rw [ad_p3, nI_clamp (by omega), hP y hy hk, e3]
          exact ⟨vp_in_nI (by omega) (by decide), nm_e (r2 post fuel (by omega) K)⟩
        · intro yr ys yd yh yt cl cb cv cm ok ol op on ob ov om ac au yf yo yu ym post fuel hf K
          obtain ⟨fuel, rfl⟩ : ∃ g, fuel = g + 1 := ⟨fuel - 1, by omega⟩
          rw [wY_isAbove_2]
          refine br_f ne (br_f nz ?_)
          rw [nI_clamp (by omega), e3]
          exact ⟨vp_in_nI hy (by decide), nm_e (r3 yr ys yd yh yt cl cb cv cm ok ol op on ob ov om ac au yf yo yu ym post fuel (by omega) K)⟩
end
theorem jv_move_UI {ck cl cp cn cb cm cp' : Nat → Int32} {d a t b x : Nat} (h : jv_UI ck cl cp cn cb cm) (hd : d < 16) (ha : a < 64) (ht : t < 16) (hb : b < 64) (hx : x < 16) (hkt : ck t = 2) (he : cn (64 * d + a) = nI x) (hn : cn (64 * t + b) = -1)
    (hp : (ck x = 2 ∧ cp' = upd cp x (nI t)) ∨ (¬ ck x = 2 ∧ cp' = cp)) (hT : ck x = 2 → ¬ jv_T cp x t) :
    jv_UI ck cl cp' (upd (upd cn (64 * d + a) (-1)) (64 * t + b) (nI x)) cb cm := by
  obtain ⟨u1, u2, u3, ⟨ρ, u4⟩, u5, u6⟩ := h
  have hm1 : ∀ y, y < 16 → ¬ (-1 : Int32) = nI y := fun y hy e => jv_neg1 (by omega) e.symm
  have hj0 : 64 * d + a < 1024 := by omega
  have hj1 : 64 * t + b < 1024 := by omega
  have hx1 := (u1 _ x hj0 hx he).1
  have hne : 64 * t + b ≠ 64 * d + a := fun q => by rw [q, he] at hn; exact hm1 x hx hn.symm
  have old : ∀ j y, j < 1024 → y < 16 → (upd (upd cn (64 * d + a) (-1)) (64 * t + b) (nI x) j = nI y ↔ ((j = 64 * t + b ∧ y = x) ∨ (j ≠ 64 * t + b ∧ j ≠ 64 * d + a ∧ cn j = nI y))) := fun j y hj hy => by
    by_cases e1 : j = 64 * t + b
    · rw [e1, pk_us]
      exact ⟨fun q => Or.inl ⟨rfl, (jv_nI16 hx hy q).symm⟩, fun q => by
        rcases q with q | q
        · rw [q.2]
        · exact absurd rfl q.1⟩
    · rw [pk_un e1]
      by_cases e2 : j = 64 * d + a
      · rw [e2, pk_us]
        exact ⟨fun q => absurd q (hm1 y hy), fun q => by
          rcases q with q | q
          · exact absurd q.1.symm hne
          · exact absurd rfl q.2.1⟩
      · rw [pk_un e2]
        exact ⟨fun q => Or.inr ⟨e1, e2, q⟩, fun q => by
          rcases q with q | q
          · exact absurd q.1 e1
          · exact q.2.2⟩
  have cpo : ∀ y, y ≠ x → cp' y = cp y := fun y hy => by
    rcases hp with q | q
    · rw [q.2, pk_un hy]
    · rw [q.2]
  refine ⟨fun j y hj hy e => ?_, fun y hy hk => ?_, fun y hy1 hy h2 => ?_, ⟨fun y => ρ y + jv_pi (ck x = 2 ∧ jv_T cp x y) * (ρ t + 1), fun y d' hy1 hy h2 hd' e => ?_⟩, u5, u6⟩
  · rcases (old j y hj hy).mp e with q | q
    · rw [q.2]; exact u1 _ x hj0 hx he
    · exact u1 j y hj hy q.2.2
  · by_cases ey : y = x
    · subst ey
      rw [jv_lk_add hj1 (by rw [pk_un hne, hn]; exact hm1 y hy), ← jv_lk_del hj0 he (hm1 y hy)]
      exact u2 y hy hk
    · rw [jv_lk_same (cn := cn) (fun j hj => ?_)]
      · exact u2 y hy hk
      · rw [old j y hj hy]
        refine ⟨fun q => ?_, fun q => Or.inr ⟨fun e => ?_, fun e => ?_, q⟩⟩
        · rcases q with q | q
          · exact absurd q.2 ey
          · exact q.2.2
        · rw [e, hn] at q; exact hm1 y hy q
        · rw [e, he] at q; exact ey (jv_nI16 hx hy q).symm
  · by_cases ey : y = x
    · subst ey
      obtain ⟨d0, a0, e1, e2, e3, e4, e5, e6⟩ := u3 y hy1 hy h2
      have ecp : cp' y = nI t := by
        rcases hp with q | q
        · rw [q.2, pk_us]
        · exact absurd h2 q.1
      refine ⟨t, b, ht, hb, ecp, hkt, pk_us, fun j hj e => ?_⟩
      rcases (old j y hj hy).mp e with q | q
      · exact q.1
      · exact absurd ((e6 j hj q.2.2).trans (e6 _ hj0 he).symm) q.2.1
    · obtain ⟨d0, a0, e1, e2, e3, e4, e5, e6⟩ := u3 y hy1 hy h2
      refine ⟨d0, a0, e1, e2, by rw [cpo y ey]; exact e3, e4, (old _ y (by omega) hy).mpr (Or.inr ⟨fun e => ?_, fun e => ?_, e5⟩), fun j hj e => ?_⟩
      · rw [e, hn] at e5; exact hm1 y hy e5
      · rw [e, he] at e5; exact ey (jv_nI16 hx hy e5).symm
      · rcases (old j y hj hy).mp e with q | q
        · exact absurd q.2 ey
        · exact e6 j hj q.2.2
  · dsimp only
    by_cases ey : y = x
    · subst ey
      have ecp : cp' y = nI t := by
        rcases hp with q | q
        · rw [q.2, pk_us]
        · exact absurd h2 q.1
      have : d' = t := jv_nI16 hd' ht (e.symm.trans ecp)
      subst this
      rw [jv_pi_f (fun q => hT h2 q.2), jv_pi_t ⟨h2, 0, rfl⟩]
      omega
    · rw [cpo y ey] at e
      have h5 := u4 y d' hy1 hy h2 hd' e
      have hs := jv_T_s (x := x) hd' (show y ≠ 0 by omega) ey e
      by_cases q : ck x = 2 ∧ jv_T cp x y
      · rw [jv_pi_t q, jv_pi_t ⟨q.1, hs.mp q.2⟩]; omega
      · rw [jv_pi_f q, jv_pi_f (fun g => q ⟨g.1, hs.mpr g.2⟩)]; omega
/-- refused -/
def jv_mbad (g : Int32) (ck : Nat → Int32) (v1 v2 v3 v4 : Int32) : Prop :=
  ¬ g = 0 ∨ (∀ d, d < 16 → v1 = nI d → ¬ ck d = 2) ∨ (∀ a, a < 64 → ¬ v2 = nI a) ∨ (∀ d, d < 16 → v3 = nI d → ¬ ck d = 2) ∨ (∀ a, a < 64 → ¬ v4 = nI a)
section
variable {xc xr xs xg xd xm xt xw xo : Int32} {aw ap aa av ae af ab al an aq : Nat → Int32}
theorem xk_mv_r {post : Int32 → SX → Prop} {ck : Nat → Int32} {v1 v2 v3 v4 : Int32} (hk : ∀ x, x < 16 → aw (24 * x) = ck x) (h : jv_mbad xd ck v1 v2 v3 v4) (K : post (-1) (xc, xr, xs, xg, xd, xm, xt, xw, xo, aw, ap, aa, av, ae, af, ab, al, an, aq)) : wpX_move post (xc, xr, xs, xg, xd, xm, xt, xw, xo, aw, ap, aa, av, ae, af, ab, al, an, aq) v1 v2 v3 v4 := by
  have K' : wX_move_40 post v1 v3 v4 xc xr xs xg xd xm xt xw xo aw ap aa av ae af ab al an aq := by
    unfold wX_move_40 wX_move_50
    exact br_f (by decide) K
  unfold wpX_move; dsimp only
  refine br_c (fun hd => ?_) (fun _ => K')
  refine xk_kind_v hk (fun d hd1 e => br_c (fun h2 => ?_) (fun _ => K')) (fun _ => br_f (by decide) K')
  refine xk_kind_v hk (fun d3 hd3 e3 => br_c (fun h3 => ?_) (fun _ => K')) (fun _ => br_f (by decide) K')
  refine xk_name_v (fun a ha e2 => br_f (by decide) ?_) (fun _ => br_t rfl K')
  refine xk_name_v (fun b hb e4 => ?_) (fun _ => br_t rfl K')
  rcases h with h | h | h | h | h
  · exact absurd hd h
  · exact absurd h2 (h d hd1 e)
  · exact absurd e2 (h a ha)
  · exact absurd h3 (h d3 hd3 e3)
  · exact absurd e4 (h b hb)
theorem xk_mv_i {post : Int32 → SX → Prop} {d a t b n nt : Nat} {N I Nt It : Nat → Nat} {f ft : Nat → Int32} (hd : d < 16) (ha : a < 64) (ht : t < 16) (hb : b < 64) (hk : aw (24 * d) = 2) (hkt : aw (24 * t) = 2) (hW : jv_DW aw d n N I) (hF : jv_DF f n N I) (hWt : jv_DW aw t nt Nt It) (hFt : jv_DF ft nt Nt It)
    (K0 : (∀ i, i < n → ¬ N i = a) → post (-1) (xc, xr, xs, xg, 0, xm, xt, xw, xo, aw, ap, aa, av, ae, af, ab, al, an, aq)) (K2 : ∀ i, i < n → N i = a → (∃ i', i' < nt ∧ Nt i' = b) → post (-2) (xc, xr, xs, xg, 0, xm, xt, xw, xo, aw, ap, aa, av, ae, af, ab, al, an, aq))
    (K1 : ∀ i, i < n → N i = a → (∀ i', i' < nt → ¬ Nt i' = b) → wpX_kind (fun r_44 => (r_44 = 2 → wpX_isAbove (fun r_209 => (r_209 = 0 → wX_move_104 post (nI d) (nI t) (nI b) (nI i) (nI (I i)) xc xr xs xg 0 xm xt xw xo aw ap aa av ae af ab al an aq) ∧ (¬ r_209 = 0 → post (-5) (xc, xr, xs, xg, 0, xm, xt, xw, xo, aw, ap, aa, av, ae, af, ab, al, an, aq))) (xc, xr, xs, xg, 0, xm, xt, xw, xo, aw, ap, aa, av, ae, af, ab, al, an, aq) (nI (I i)) (nI t)) ∧ (¬ r_44 = 2 → wX_move_104 post (nI d) (nI t) (nI b) (nI i) (nI (I i)) xc xr xs xg 0 xm xt xw xo aw ap aa av ae af ab al an aq)) (xc, xr, xs, xg, 0, xm, xt, xw, xo, aw, ap, aa, av, ae, af, ab, al, an, aq) (nI (I i))) :
    wpX_move post (xc, xr, xs, xg, 0, xm, xt, xw, xo, aw, ap, aa, av, ae, af, ab, al, an, aq) (nI d) (nI a) (nI t) (nI b) := by
  have h10 := hF.1
  have h10t := hFt.1
  unfold wpX_move; dsimp only
  refine br_t rfl (xk_kind_i hd ?_)
  rw [hk]
  refine br_t rfl (xk_kind_i ht ?_)
  rw [hkt]
  refine br_t rfl (xk_name_i ha (br_f (by decide) (xk_name_i hb (br_f (by decide) ?_))))
  refine xk_seek hd ha hW hF (fun i hi e => ?_) (fun k hk2 h1 h2 => ?_)
  · unfold wX_move_50
    refine br_t (nI_pos' (by omega)) (xk_named hd (by omega) ?_)
    rw [(hW.2 i hi).2]
    refine xk_seek ht hb hWt hFt (fun i' hi' e' => ?_) (fun k hk2 h1 h2 => ?_)
    · exact br_f (nI_pos (by omega)) (K2 i hi e ⟨i', hi', e'⟩)
    · refine br_t (pk_sneg (a := k) (b := 100) (by decide) (by omega)) (K1 i hi e (fun i' hi' e' => ?_))
      rcases Nat.lt_or_ge i' k with q | q
      · have := h1 i' q; rw [e'] at this; omega
      · have := h2 i' q hi'; rw [e'] at this; omega
  · unfold wX_move_50
    refine br_f (Int32.not_le.mpr (pk_sneg (a := k) (b := 100) (by decide) (by omega))) (K0 (fun i hi e => ?_))
    rcases Nat.lt_or_ge i k with q | q
    · have := h1 i q; rw [e] at this; omega
    · have := h2 i q hi; rw [e] at this; omega
theorem xk_mv104 {post : Int32 → SX → Prop} {d t nt : Nat} {b i x : Int32} (hd : d < 16) (ht : t < 16) (hn : aw (24 * t + 2) = nI nt) (hn2 : nt ≤ 10) (K3 : d ≠ t → nt = 10 → post (-3) (xc, xr, xs, xg, xd, xm, xt, xw, xo, aw, ap, aa, av, ae, af, ab, al, an, aq)) (K : d = t ∨ nt ≠ 10 → wX_move_117 post (nI d) (nI t) b i x xc xr xs xg xd xm xt xw xo aw ap aa av ae af ab al an aq) : wX_move_104 post (nI d) (nI t) b i x xc xr xs xg xd xm xt xw xo aw ap aa av ae af ab al an aq := by
  unfold wX_move_104
  exact pk_eq d t (fun e => K (Or.inl e)) (fun e => xk_isFull ht hn hn2 (fun e2 => br_f (by decide) (K3 e e2)) (fun e2 => br_t rfl (K (Or.inr e2))))
end
section
variable {yr ys yd yh yt : Int32} {ck cl cp cn cb cv cm ok ol op on ob ov om ac au yf yo yu ym : Nat → Int32}
theorem yk_mv_r {post : Int32 → SY → Prop} {v1 v2 v3 v4 : Int32} (h : jv_mbad yd ck v1 v2 v3 v4) (K : post (-1) (yr, ys, yd, yh, yt, ck, cl, cp, cn, cb, cv, cm, ok, ol, op, on, ob, ov, om, ac, au, yf, yo, yu, ym)) (hv : ∀ d a, d < 16 → a < 64 → v1 = nI d → v2 = nI a → cn (64 * d + a) = -1 ∨ ∃ x, x < 16 ∧ cn (64 * d + a) = nI x) : wpY_move post (yr, ys, yd, yh, yt, ck, cl, cp, cn, cb, cv, cm, ok, ol, op, on, ob, ov, om, ac, au, yf, yo, yu, ym) v1 v2 v3 v4 := by
  unfold wpY_move; dsimp only
  refine br_c (fun hd => ?_) (fun _ => K)
  refine yk_is_v (fun d hd1 e hk => br_f (by decide) ?_) (fun _ => br_t rfl K)
  refine yk_in_v (b := 63) rfl (by decide) (fun a ha e2 => br_f (by decide) ?_) (fun _ => br_t rfl K)
  subst e e2
  rw [ad_n, nI_clamp (by omega)]
  refine ⟨vp_in_nI (by omega) (by decide), br_c (fun _ => K) (fun _ => ?_)⟩
  refine yk_is_v (fun d3 hd3 e3 hk3 => br_f (by decide) ?_) (fun _ => br_t rfl K)
  refine yk_in_v (b := 63) rfl (by decide) (fun b hb e4 => ?_) (fun _ => br_t rfl K)
  rcases h with h | h | h | h | h
  · exact absurd hd h
  · exact absurd hk (h d hd1 rfl)
  · exact absurd rfl (h a ha)
  · exact absurd hk3 (h d3 hd3 e3)
  · exact absurd e4 (h b hb)
theorem yk_mv_0 {post : Int32 → SY → Prop} {d a : Nat} {v3 v4 : Int32} (hd : d < 16) (ha : a < 64) (hk : ck d = 2) (he : cn (64 * d + a) = -1) (K : post (-1) (yr, ys, 0, yh, yt, ck, cl, cp, cn, cb, cv, cm, ok, ol, op, on, ob, ov, om, ac, au, yf, yo, yu, ym)) : wpY_move post (yr, ys, 0, yh, yt, ck, cl, cp, cn, cb, cv, cm, ok, ol, op, on, ob, ov, om, ac, au, yf, yo, yu, ym) (nI d) (nI a) v3 v4 := by
  unfold wpY_move; dsimp only
  refine br_t rfl (yk_is hd (fun _ => br_f (by decide) ?_) (fun h => absurd hk h))
  refine yk_in (x := a) (a := 0) (b := 63) rfl rfl rfl (by omega) (by decide) (by decide) (fun _ _ => br_f (by decide) ?_) (fun h => by omega)
  rw [ad_n, nI_clamp (by omega), he]
  exact ⟨vp_in_nI (by omega) (by decide), br_t jv_m1neg K⟩
theorem yk_mv_i {post : Int32 → SY → Prop} {d a t b x : Nat} (hd : d < 16) (ha : a < 64) (ht : t < 16) (hb : b < 64) (hx : x < 16) (hk : ck d = 2) (hkt : ck t = 2) (he : cn (64 * d + a) = nI x)
    (K2 : ¬ cn (64 * t + b) < 0 → post (-2) (yr, ys, 0, yh, yt, ck, cl, cp, cn, cb, cv, cm, ok, ol, op, on, ob, ov, om, ac, au, yf, yo, yu, ym))
    (Kd : cn (64 * t + b) < 0 → ck x = 2 → wpY_isAbove (fun r => (r = 0 → wY_move_117 post (nI d) (nI a) (nI t) (nI b) (nI x) yr ys 0 yh yt ck cl cp cn cb cv cm ok ol op on ob ov om ac au yf yo yu ym) ∧ (¬ r = 0 → post (-5) (yr, ys, 0, yh, yt, ck, cl, cp, cn, cb, cv, cm, ok, ol, op, on, ob, ov, om, ac, au, yf, yo, yu, ym))) (yr, ys, 0, yh, yt, ck, cl, cp, cn, cb, cv, cm, ok, ol, op, on, ob, ov, om, ac, au, yf, yo, yu, ym) (nI x) (nI t))
    (Kf : cn (64 * t + b) < 0 → ¬ ck x = 2 → wY_move_117 post (nI d) (nI a) (nI t) (nI b) (nI x) yr ys 0 yh yt ck cl cp cn cb cv cm ok ol op on ob ov om ac au yf yo yu ym) : wpY_move post (yr, ys, 0, yh, yt, ck, cl, cp, cn, cb, cv, cm, ok, ol, op, on, ob, ov, om, ac, au, yf, yo, yu, ym) (nI d) (nI a) (nI t) (nI b) := by
  unfold wpY_move; dsimp only
  refine br_t rfl (yk_is hd (fun _ => br_f (by decide) ?_) (fun h => absurd hk h))
  refine yk_in (x := a) (a := 0) (b := 63) rfl rfl rfl (by omega) (by decide) (by decide) (fun _ _ => br_f (by decide) ?_) (fun h => by omega)
  have v : vp_in (nI (64 * d + a)) 1024 := vp_in_nI (by omega) (by decide)
  rw [ad_n, nI_clamp (by omega), he]
  refine ⟨v, br_f (nI_pos (by omega)) ?_⟩
  refine yk_is ht (fun _ => br_f (by decide) ?_) (fun h => absurd hkt h)
  refine yk_in (x := b) (a := 0) (b := 63) rfl rfl rfl (by omega) (by decide) (by decide) (fun _ _ => br_f (by decide) ?_) (fun h => by omega)
  rw [ad_n, nI_clamp (by omega)]
  refine ⟨vp_in_nI (by omega) (by decide), br_c (fun g => ⟨v, nm_e ?_⟩) K2⟩
  rw [nI_clamp (by omega)]
  exact ⟨vp_in_nI hx (by decide), br_c (Kd g) (Kf g)⟩
theorem yk_mv117 {post : Int32 → SY → Prop} {d t k n : Nat} {a b x : Int32} {N I : Nat → Nat} (hd : d < 16) (ht : t < 16) (hk : k ≤ 24) (hF : jv_DF (fun a => cn (64 * t + a)) n N I) (K3 : (k = 24 ∨ (d ≠ t ∧ n = 10)) → post (-3) (nI k, ys, yd, yh, yt, ck, cl, cp, cn, cb, cv, cm, ok, ol, op, on, ob, ov, om, ac, au, yf, yo, yu, ym))
    (K : k ≠ 24 → (d = t ∨ n ≠ 10) → wY_move_144 post (nI d) a (nI t) b x (nI k) ys yd yh yt ck cl cp cn cb cv cm ok ol op on ob ov om ac au yf yo yu ym) : wY_move_117 post (nI d) a (nI t) b x (nI k) ys yd yh yt ck cl cp cn cb cv cm ok ol op on ob ov om ac au yf yo yu ym := by
  have := hF.1
  unfold wY_move_117
  exact pk_eq k 24 (fun e => K3 (Or.inl e)) (fun e => pk_eq t d (fun e2 => K e (Or.inl e2.symm)) (fun e2 => yk_entries ht hF (pk_eq n 10 (fun e3 => K3 (Or.inr ⟨fun q => e2 q.symm, e3⟩)) (fun e3 => K e (Or.inr e3)))))
theorem yk_mv144 {post : Int32 → SY → Prop} {d a t b x k : Nat} {cp' : Nat → Int32} (hd : d < 16) (ha : a < 64) (ht : t < 16) (hb : b < 64) (hx : x < 16) (hk : k < 24) (hp : (ck x = 2 ∧ cp' = upd cp x (nI t)) ∨ (¬ ck x = 2 ∧ cp' = cp))
    (K : post (nI x) (nI (k + 1), ys, yd, yh, yt, ck, cl, cp', upd (upd cn (64 * d + a) (-1)) (64 * t + b) (nI x), cb, cv, cm, ok, ol, op, on, ob, ov, om, upd ac k 3, jv_nt au k (nI d) (nI a) (nI t) (nI b), yf, yo, yu, ym)) : wY_move_144 post (nI d) (nI a) (nI t) (nI b) (nI x) (nI k) ys yd yh yt ck cl cp cn cb cv cm ok ol op on ob ov om ac au yf yo yu ym := by
  unfold wY_move_144
  refine yk_note hk ?_
  dsimp only
  have vx : vp_in (nI x) 16 := vp_in_nI hx (by decide)
  rw [ad_n, ad_n, nI_clamp (n := 64 * d + a) (by omega), nI_clamp (n := 64 * t + b) (by omega), nI_clamp (n := x) (by omega)]
  refine ⟨vp_in_nI (by omega) (by decide), nm_e ⟨vp_in_nI (by omega) (by decide), nm_e ⟨vx, ?_⟩⟩⟩
  rcases hp with ⟨h1, h2⟩ | ⟨h1, h2⟩
  · subst h2; exact br_t h1 ⟨vx, nm_e K⟩
  · subst h2; exact br_f h1 K
end
end
section
/-! move: the call -/
theorem i_vc_move {k : Nat} {u : SX} {v : SY} (I : i_Rel k u v) (hk : k + 5 ≤ 2560) (v1 : Int32) (v2 : Int32) (v3 : Int32) (v4 : Int32) : wpX_move (fun r u' => wpY_move (fun r' v' => r' = r ∧ i_Rel (k + 5) u' v') v v1 v2 v3 v4) u v1 v2 v3 v4 := by
  refine zz_el (Q := fun u v => wpX_move (fun r u' => wpY_move (fun r' v' => r' = r ∧ i_Rel (k + 5) u' v') v v1 v2 v3 v4) u v1 v2 v3 v4) ?_ I
  intro xc xr xs xg xd xm xt xw xo aw ap aa av ae af ab al an aq yr ys yd yh yt ck cl cp cn cb cv cm ok ol op on ob ov om ac au yf yo yu ym R
  obtain ⟨r, s, m, h1, h2, rfl, rfl, rfl, rfl, rfl, rfl, rfl, hf, hRW, hd, hU, hJ, hP⟩ := jv_open R
  have hK := jv_kd hRW
  by_cases hb : jv_mbad yd ck v1 v2 v3 v4
  · exact xk_mv_r hK hb (yk_mv_r hb ⟨rfl, R⟩ (fun d a hd1 ha _ _ => jv_nv hRW (by omega)))
  · have hd0 : yd = 0 := Classical.byContradiction (fun g => hb (Or.inl g))
    have hA : ∃ d, d < 16 ∧ v1 = nI d ∧ ck d = 2 := Classical.byContradiction (fun g => hb (Or.inr (Or.inl (fun d h1 h2 h3 => g ⟨d, h1, h2, h3⟩))))
    have hB : ∃ a, a < 64 ∧ v2 = nI a := Classical.byContradiction (fun g => hb (Or.inr (Or.inr (Or.inl (fun d h1 h2 => g ⟨d, h1, h2⟩)))))
    have hC : ∃ d, d < 16 ∧ v3 = nI d ∧ ck d = 2 := Classical.byContradiction (fun g => hb (Or.inr (Or.inr (Or.inr (Or.inl (fun d h1 h2 h3 => g ⟨d, h1, h2, h3⟩))))))
    have hD : ∃ a, a < 64 ∧ v4 = nI a := Classical.byContradiction (fun g => hb (Or.inr (Or.inr (Or.inr (Or.inr (fun d h1 h2 => g ⟨d, h1, h2⟩))))))
    obtain ⟨d, hd1, rfl, hkd⟩ := hA
    obtain ⟨a, ha, rfl⟩ := hB
    obtain ⟨t, ht, rfl, hkt⟩ := hC
    obtain ⟨b, hb1, rfl⟩ := hD
    subst hd0
    obtain ⟨_, n, N, I', hW, hF⟩ := (hRW.1 d hd1).2.2.2.1 hkd
    obtain ⟨_, nt, Nt, It, hWt, hFt⟩ := (hRW.1 t ht).2.2.2.1 hkt
    have hUI := hU rfl
    refine xk_mv_i hd1 ha ht hb1 (by rw [hK d hd1]; exact hkd) (by rw [hK t ht]; exact hkt) hW hF hWt hFt (fun hno => ?_) (fun i hi ei hex => ?_) (fun i hi ei hno => ?_)
    · exact yk_mv_0 hd1 ha hkd (jv_fn hF ha hno) ⟨rfl, R⟩
    · obtain ⟨i', hi', e'⟩ := hex
      have he : cn (64 * d + a) = nI (I' i) := by rw [← ei]; exact jv_fy hF hi
      have he2 : cn (64 * t + b) = nI (It i') := by rw [← e']; exact jv_fy hFt hi'
      have hI := (hF.2.1 i hi).2.1
      have hI2 := (hFt.2.1 i' hi').2.1
      have hng : ¬ cn (64 * t + b) < 0 := by rw [he2]; exact nI_pos (by omega)
      exact yk_mv_i hd1 ha ht hb1 hI hkd hkt he (fun _ => ⟨rfl, R⟩) (fun g => absurd g hng) (fun g => absurd g hng)
    · have he : cn (64 * d + a) = nI (I' i) := by rw [← ei]; exact jv_fy hF hi
      have hnn : cn (64 * t + b) = -1 := jv_fn hFt hb1 hno
      have hng : cn (64 * t + b) < 0 := by rw [hnn]; exact jv_m1neg
      have hxI := (hF.2.1 i hi).2.1
      have hj0 : 64 * d + a < 1024 := by omega
      have hdx := jv_nself hUI hd1 ha hxI hkd he
      obtain ⟨hx1, hxk⟩ := hUI.1 _ _ hj0 hxI he
      have hkx := hK (I' i) hxI
      have hne : 64 * t + b ≠ 64 * d + a := fun q => by rw [q, he] at hnn; exact jv_neg1 (by omega) hnn
      obtain ⟨cp', hp⟩ : ∃ cp', (ck (I' i) = 2 ∧ cp' = upd cp (I' i) (nI t)) ∨ (¬ ck (I' i) = 2 ∧ cp' = cp) := by
        by_cases q : ck (I' i) = 2
        · exact ⟨_, Or.inl ⟨q, rfl⟩⟩
        · exact ⟨_, Or.inr ⟨q, rfl⟩⟩
      -- from 104 on: X's walk, given how Y comes to 117
      have go : (ck (I' i) = 2 → ¬ jv_T cp (I' i) t) →
          (∀ (yr ys yh yt : Int32) (ok ol op on ob ov om ac au yf yo yu ym : Nat → Int32) (post : Int32 → SY → Prop), wY_move_117 post (nI d) (nI a) (nI t) (nI b) (nI (I' i)) yr ys 0 yh yt ck cl cp cn cb cv cm ok ol op on ob ov om ac au yf yo yu ym → wpY_move post (yr, ys, 0, yh, yt, ck, cl, cp, cn, cb, cv, cm, ok, ol, op, on, ob, ov, om, ac, au, yf, yo, yu, ym) (nI d) (nI a) (nI t) (nI b)) →
          wX_move_104 (fun r0 u' => wpY_move (fun r' v' => r' = r0 ∧ i_Rel (k + 5) u' v') (nI r, nI s, 0, yh, yt, ck, cl, cp, cn, cb, cv, cm, ok, ol, op, on, ob, ov, om, ac, au, yf, yo, yu, ym) (nI d) (nI a) (nI t) (nI b)) (nI d) (nI t) (nI b) (nI i) (nI (I' i)) (nI m) (nI r) (nI s) 0 0 xm xt xw xo aw ap aa av ae af ab al an aq := by
        intro hT hY
        refine xk_mv104 hd1 ht hWt.1 hFt.1 (fun e1 e2 => ?_) (fun hfl => ?_)
        · refine hY (nI r) (nI s) yh yt ok ol op on ob ov om ac au yf yo yu ym _ ?_
          exact yk_mv117 hd1 ht h1 hFt (fun _ => ⟨rfl, R⟩) (fun _ q => by
            rcases q with q | q
            · exact absurd q e1
            · exact absurd e2 q)
        · by_cases h24 : r = 24
          · subst h24
            unfold wX_move_117
            refine br_t rfl (hY (nI 24) (nI s) yh yt ok ol op on ob ov om ac au yf yo yu ym _ ?_)
            exact yk_mv117 hd1 ht h1 hFt (fun _ => ⟨rfl, R⟩) (fun q _ => absurd rfl q)
          · have hr : r < 24 := by omega
            obtain ⟨w1, k1, k2, k3⟩ := xk_extract (xm := xm) (xt := xt) (xw := xw) (xo := xo) (ap := ap) (ae := ae) (af := af) (ab := ab) (al := al) (an := an) (aq := aq) (xr := nI r) (xs := nI s) (xg := 1) (xd := 0) (aw := aw) hd1 hF.1 hi hW
            have hRW1 := jv_RW_del hRW hd1 hkd hF hi k1 k2
            rw [ei] at hRW1
            obtain ⟨_, n1, N1, I1, hW1, hF1⟩ := (hRW1.1 t ht).2.2.2.1 hkt
            have hF1' := hF1.1
            have hn1 : n1 ≤ 9 := by
              by_cases q : t = d
              · subst q
                have a1 := hW1.1
                rw [k1.1, nI_eq (by have := hF.1; omega) (by omega)] at a1
                have := hF.1
                omega
              · have a1 := hW1.1
                rw [k2 _ (by omega), hWt.1, nI_eq (by have := hFt.1; omega) (by omega)] at a1
                rcases hfl with g | g
                · exact absurd g.symm q
                · have := hFt.1; omega
            have hno1 : ∀ i', i' < n1 → ¬ N1 i' = b := fun i' hi' e => by
              have a1 := jv_fy hF1 hi'
              have a2 := (hF1.2.1 i' hi').2.1
              rw [e, pk_un hne, hnn] at a1
              exact jv_neg1 (by omega) a1.symm
            obtain ⟨w2, kk, j1, j2, j3, j4, j5, j6⟩ := xk_insert (xm := xm) (xt := xt) (xw := xw) (xo := xo) (ap := ap) (ae := ae) (af := af) (ab := ab) (al := al) (an := an) (aq := aq) (xr := nI r) (xs := nI s) (xg := 1) (xd := 0) (aw := w1) (y := I' i) ht hn1 hb1 hW1 hF1 hno1
            have hRW2 := jv_RW_ins hRW1 ht hb1 hxI hkt hn1 hF1 j1 j2 j3 j4 j5
            have hkx2 := jv_kd hRW2 (I' i) hxI
            have hUI' := jv_move_UI hUI hd1 ha ht hb1 hxI hkt he hnn hp hT
            have hRd : jv_Redo 3 (nI d) (nI a) (nI t) (nI b) (ck, cl, cp, cn, cb, cv, cm) (ck, cl, cp', upd (upd cn (64 * d + a) (-1)) (64 * t + b) (nI (I' i)), cb, cv, cm) := by
              intro k ys yh yt ok ol op on ob ov om ac au yf yo yu ym post hk e1 e2 e3 e4 e5 K
              have vk : vp_in (nI k) 24 := vp_in_nI (by omega) (by decide)
              refine jv_again hk e1 e2 e3 e4 e5 (br_f (by decide) ⟨vk, br_f (by decide) ⟨vk, br_f (by decide) ⟨vk, br_t rfl ?_⟩⟩⟩)
              refine hY (nI k) ys yh yt ok ol op on ob ov om ac au yf yo yu ym _ ?_
              refine yk_mv117 hd1 ht (show k ≤ 24 by omega) hFt (fun q => ?_) (fun _ _ => yk_mv144 hd1 ha ht hb1 hxI hk hp ?_)
              · rcases q with q | q
                · omega
                · rcases hfl with g | g
                  · exact absurd g q.1
                  · exact absurd q.2 g
              · rw [jv_upd_id e1, jv_nt_id e2 e3 e4 e5]
                exact K
            have fin : ∀ (w' aa' av' : Nat → Int32) (m' : Nat), jv_J 1 aa av ap m 58 w' aa' av' m' → jv_RW w' ck cl cp' (upd (upd cn (64 * d + a) (-1)) (64 * t + b) (nI (I' i))) cb cv cm →
                wX_move_167 (fun r0 u' => wpY_move (fun r' v' => r' = r0 ∧ i_Rel (k + 5) u' v') (nI r, nI s, 0, yh, yt, ck, cl, cp, cn, cb, cv, cm, ok, ol, op, on, ob, ov, om, ac, au, yf, yo, yu, ym) (nI d) (nI a) (nI t) (nI b)) (nI (I' i)) (nI m') (nI r) (nI s) 1 0 xm xt xw xo w' ap aa' av' ae af ab al an aq := by
              intro w' aa' av' m' J' hRW'
              unfold wX_move_167
              refine xk_end hr (jv_J_lt J' (by omega)) ?_
              obtain ⟨_, R'⟩ := hP w' aa' av' m' 3 (nI d) (nI a) (nI t) (nI b) _ _ _ _ _ _ _ hr rfl J' hRW' hUI' hRd (by
                have := jv_R_cp R
                rcases hp with q | q
                · rw [q.2, pk_un (by omega)]; exact this
                · rw [q.2]; exact this)
              refine hY (nI r) (nI s) yh yt ok ol op on ob ov om ac au yf yo yu ym _ ?_
              refine yk_mv117 hd1 ht h1 hFt (fun q => ?_) (fun _ _ => yk_mv144 hd1 ha ht hb1 hxI hr hp ⟨rfl, R'⟩)
              rcases q with q | q
              · omega
              · rcases hfl with g | g
                · exact absurd g q.1
                · exact absurd q.2 g
            unfold wX_move_117
            refine pk_eq r 24 (fun h => absurd h h24) (fun _ => xk_begin ?_)
            dsimp only
            refine k3 _ aa av m 0 aa av m (by omega) (hJ hr 0) (fun aa1 av1 m1 J1 => ?_)
            dsimp only
            refine j6 _ aa av m _ aa1 av1 m1 (by omega) J1 (fun aa2 av2 m2 J2 => ?_)
            dsimp only
            refine xk_kind_i hxI ?_
            rw [hkx2]
            rcases hp with ⟨p1, p2⟩ | ⟨p1, p2⟩
            · subst p2
              refine br_t p1 (xk_set (f := 3) (by omega) (by omega) J2 (fun aa3 av3 m3 J3 => ?_))
              exact fin _ aa3 av3 m3 (jv_J_up J3 (by omega)) (jv_RW_pa hRW2 hxI (nI t))
            · subst p2
              exact br_f p1 (fin _ aa2 av2 m2 (jv_J_up J2 (by omega)) hRW2)
      refine xk_kind_i hxI ?_
      rw [hkx]
      refine br_c (fun hk2 => ?_) (fun hk2 => go (fun h => absurd h hk2) (fun yr ys yh yt ok ol op on ob ov om ac au yf yo yu ym post K => yk_mv_i hd1 ha ht hb1 hxI hkd hkt he (fun g => absurd hng g) (fun _ g => absurd g hk2) (fun _ _ => K)))
      obtain ⟨_, _, u3, ⟨ρ, u4⟩, _, _⟩ := hUI
      obtain ⟨r0, q1, q2, q3⟩ := zk_above (xm := xm) (xt := xt) (xw := xw) (xo := xo) (ap := ap) (aa := aa) (av := av) (ae := ae) (af := af) (ab := ab) (al := al) (an := an) (aq := aq) (xc := nI m) (xr := nI r) (xs := nI s) (xg := 0) (xd := 0) (aw := aw) hxI (fun y hy hyk => ((hRW.1 y hy).2.2.2.1 hyk).1) u3 u4 (ρ t + 1) t (by omega) ht hkt
      unfold wpX_isAbove; dsimp only
      refine ⟨ρ t + 1, q2 _ _ (Nat.le_refl _) (br_c (fun hz => ?_) (fun hz => ?_))⟩
      · refine go (fun _ => q1 hz) (fun yr ys yh yt ok ol op on ob ov om ac au yf yo yu ym post K => yk_mv_i hd1 ha ht hb1 hxI hkd hkt he (fun g => absurd hng g) (fun _ _ => ?_) (fun _ g => absurd hk2 g))
        unfold wpY_isAbove; dsimp only
        exact ⟨ρ t + 1, q3 _ _ _ _ _ _ _ _ _ _ _ _ _ _ _ _ _ _ _ _ _ _ _ _ (Nat.le_refl _) (br_t hz K)⟩
      · refine yk_mv_i hd1 ha ht hb1 hxI hkd hkt he (fun g => absurd hng g) (fun _ _ => ?_) (fun _ g => absurd hk2 g)
        unfold wpY_isAbove; dsimp only
        exact ⟨ρ t + 1, q3 _ _ _ _ _ _ _ _ _ _ _ _ _ _ _ _ _ _ _ _ _ _ _ _ (Nat.le_refl _) (br_f hz ⟨rfl, R⟩)⟩
end
section
/-! write -/
theorem jv_wr_UI {ck cl cp cn cb cm : Nat → Int32} {j0 b : Nat} (h : jv_UI ck cl cp cn cb cm) (hj0 : j0 < 384) (hb : b < 64) (hcm : cm b = 0) : jv_UI ck cl cp cn (upd cb j0 (nI b)) (upd cm b 1) := by
  obtain ⟨u1, u2, u3, u4, u5, u6⟩ := h
  have hno : ∀ j, j < 384 → ¬ cb j = nI b := fun j hj e => by have := u5 j b hj hb e; rw [hcm] at this; exact absurd this (by decide)
  refine ⟨u1, u2, u3, u4, fun j c hj hc e => ?_, fun i j c hi hj hc e1 e2 => ?_⟩
  · by_cases q : c = b
    · rw [q, pk_us]
    · rw [pk_un q]
      by_cases ej : j = j0
      · rw [ej, pk_us, nI_eq (by omega) (by omega)] at e; exact absurd e.symm q
      · rw [pk_un ej] at e; exact u5 j c hj hc e
  · by_cases q1 : i = j0
    · by_cases q2 : j = j0
      · rw [q1, q2]
      · rw [q1, pk_us, nI_eq (by omega) (by omega)] at e1
        rw [pk_un q2, ← e1] at e2
        exact absurd e2 (hno j hj)
    · rw [pk_un q1] at e1
      by_cases q2 : j = j0
      · rw [q2, pk_us, nI_eq (by omega) (by omega)] at e2
        rw [← e2] at e1
        exact absurd e1 (hno i hi)
      · rw [pk_un q2] at e2; exact u6 i j c hi hj hc e1 e2
theorem jv_upd_back {f : Nat → Int32} {k : Nat} {x y : Int32} (h : f k = y) : upd (upd f k x) k y = f := by
  funext j
  by_cases e : j = k
  · rw [e, pk_us, h]
  · rw [pk_un e, pk_un e]
def jv_wbad (g : Int32) (ck : Nat → Int32) (v1 v2 : Int32) : Prop :=
  ¬ g = 0 ∨ (∀ d, d < 16 → v1 = nI d → ¬ ck d = 1) ∨ (∀ a, a < 24 → ¬ v2 = nI a)
section
variable {xc xr xs xg xd xm xt xw xo : Int32} {aw ap aa av ae af ab al an aq : Nat → Int32}
theorem xk_wr_r {post : Int32 → SX → Prop} {ck : Nat → Int32} {v1 v2 v3 : Int32} (hk : ∀ x, x < 16 → aw (24 * x) = ck x) (h : jv_wbad xd ck v1 v2) (K : post (-1) (xc, xr, xs, xg, xd, xm, xt, xw, xo, aw, ap, aa, av, ae, af, ab, al, an, aq)) : wpX_write post (xc, xr, xs, xg, xd, xm, xt, xw, xo, aw, ap, aa, av, ae, af, ab, al, an, aq) v1 v2 v3 := by
  unfold wpX_write; dsimp only
  refine br_c (fun hd => ?_) (fun _ => K)
  refine xk_kind_v hk (fun d hd1 e => br_c (fun h2 => ?_) (fun _ => K)) (fun _ => br_f (by decide) K)
  refine xk_pos_v (fun a ha e2 => ?_) (fun _ => br_t rfl K)
  rcases h with h | h | h
  · exact absurd hd h
  · exact absurd h2 (h d hd1 e)
  · exact absurd e2 (h a ha)
theorem xk_wr_i {post : Int32 → SX → Prop} {x p r : Nat} {v : Int32} (hx : x < 16) (hp : p < 24) (hr : r ≤ 24) (hk : aw (24 * x) = 1) (K24 : r = 24 → post (-3) (xc, nI r, xs, xg, 0, xm, xt, xw, xo, aw, ap, aa, av, ae, af, ab, al, an, aq))
    (K : r ≠ 24 → wpX_load (fun u => match u with | (xc, xr, xs, xg, xd, xm, xt, xw, xo, aw, ap, aa, av, ae, af, ab, al, an, aq) => wpX_mapped (fun r_46 => (0 ≤ r_46 → wX_write_59 post (nI x) (nI p) v r_46 0 xc xr xs xg xd xm xt xw xo aw ap aa av ae af ab al an aq) ∧ (¬ 0 ≤ r_46 → wX_write_59 post (nI x) (nI p) v r_46 1 xc xr xs xg xd xm xt xw xo aw ap aa av ae af ab al an aq)) (xc, xr, xs, xg, xd, xm, xt, xw, xo, aw, ap, aa, av, ae, af, ab, al, an, aq) (nI p)) (xc, nI r, xs, xg, 0, xm, xt, xw, xo, aw, ap, aa, av, ae, af, ab, al, an, aq) (nI x)) :
    wpX_write post (xc, nI r, xs, xg, 0, xm, xt, xw, xo, aw, ap, aa, av, ae, af, ab, al, an, aq) (nI x) (nI p) v := by
  unfold wpX_write; dsimp only
  refine br_t rfl (xk_kind_i hx ?_)
  rw [hk]
  exact br_t rfl (xk_pos_i hp (br_f (by decide) (pk_eq r 24 K24 K)))
theorem xk_wr121 {post : Int32 → SX → Prop} {b r m m0 c : Nat} {v : Int32} {A0 V0 : Nat → Int32} (hb : b < 64) (hr : r < 24) (hc : c + 1 ≤ 58) (J : jv_J 1 A0 V0 ap m0 c aw aa av m)
    (K : ∀ aa' av' m', jv_J 1 A0 V0 ap m0 (c + 1) (upd aw (386 + b) v) aa' av' m' → post (nI b) (nI m', nI (r + 1), xs, 0, xd, xm, xt, xw, xo, upd aw (386 + b) v, ap, aa', av', upd ae (r + 1) (nI m'), af, ab, al, an, aq)) :
    wX_write_121 post v (nI b) (nI m) (nI r) xs 1 xd xm xt xw xo aw ap aa av ae af ab al an aq := by
  unfold wX_write_121
  refine xk_put (a := 386 + b) (nI_add 386 b) (by omega) (by omega) J (fun aa1 av1 m1 J1 => ?_)
  dsimp only
  exact xk_end hr (jv_J_lt J1 (by omega)) (K aa1 av1 m1 J1)
end
section
variable {yr ys yd yh yt : Int32} {ck cl cp cn cb cv cm ok ol op on ob ov om ac au yf yo yu ym : Nat → Int32}
theorem yk_wr_r {post : Int32 → SY → Prop} {v1 v2 v3 : Int32} (h : jv_wbad yd ck v1 v2) (K : post (-1) (yr, ys, yd, yh, yt, ck, cl, cp, cn, cb, cv, cm, ok, ol, op, on, ob, ov, om, ac, au, yf, yo, yu, ym)) : wpY_write post (yr, ys, yd, yh, yt, ck, cl, cp, cn, cb, cv, cm, ok, ol, op, on, ob, ov, om, ac, au, yf, yo, yu, ym) v1 v2 v3 := by
  unfold wpY_write; dsimp only
  refine br_c (fun hd => ?_) (fun _ => K)
  refine yk_is_v (fun d hd1 e hk => br_f (by decide) ?_) (fun _ => br_t rfl K)
  refine yk_in_v (b := 23) rfl (by decide) (fun a ha e2 => ?_) (fun _ => br_t rfl K)
  rcases h with h | h | h
  · exact absurd hd h
  · exact absurd hk (h d hd1 e)
  · exact absurd e2 (h a ha)
theorem yk_wr_i {post : Int32 → SY → Prop} {x p k : Nat} {v : Int32} (hx : x < 16) (hp : p < 24) (hk24 : k ≤ 24) (hk : ck x = 1) (K24 : k = 24 → post (-3) (nI k, ys, 0, yh, yt, ck, cl, cp, cn, cb, cv, cm, ok, ol, op, on, ob, ov, om, ac, au, yf, yo, yu, ym))
    (K1 : k ≠ 24 → 0 ≤ cb (24 * x + p) → wY_write_112 post (nI x) (nI p) v (nI (24 * x + p)) (nI k) ys 0 yh yt ck cl cp cn cb cv cm ok ol op on ob ov om ac au yf yo yu ym)
    (K0 : k ≠ 24 → ¬ 0 ≤ cb (24 * x + p) → wpY_choose (fun r_65 => (0 ≤ r_65 → (vp_in (nI (24 * x + p)) 384 ∧ ∀ a_block_93 : Nat → Int32, a_block_93 = upd cb (24 * x + p) r_65 → wpY_extents (fun r_94 => (r_94 ≤ 5 → (vp_in r_65 64 ∧ ∀ a_mark_122 : Nat → Int32, a_mark_122 = upd cm r_65.toNatClampNeg 1 → wY_write_112 post (nI x) (nI p) v (nI (24 * x + p)) (nI k) ys 0 yh yt ck cl cp cn a_block_93 cv a_mark_122 ok ol op on ob ov om ac au yf yo yu ym)) ∧ (¬ r_94 ≤ 5 → (vp_in (nI (24 * x + p)) 384 ∧ ∀ a_block_124 : Nat → Int32, a_block_124 = upd a_block_93 (24 * x + p) (-1) → post (-3) (nI k, ys, 0, yh, yt, ck, cl, cp, cn, a_block_124, cv, cm, ok, ol, op, on, ob, ov, om, ac, au, yf, yo, yu, ym)))) (nI k, ys, 0, yh, yt, ck, cl, cp, cn, a_block_93, cv, cm, ok, ol, op, on, ob, ov, om, ac, au, yf, yo, yu, ym) (nI x))) ∧ (¬ 0 ≤ r_65 → post (-3) (nI k, ys, 0, yh, yt, ck, cl, cp, cn, cb, cv, cm, ok, ol, op, on, ob, ov, om, ac, au, yf, yo, yu, ym))) (nI k, ys, 0, yh, yt, ck, cl, cp, cn, cb, cv, cm, ok, ol, op, on, ob, ov, om, ac, au, yf, yo, yu, ym) (nI (24 * x + p)) (nI p)) :
    wpY_write post (nI k, ys, 0, yh, yt, ck, cl, cp, cn, cb, cv, cm, ok, ol, op, on, ob, ov, om, ac, au, yf, yo, yu, ym) (nI x) (nI p) v := by
  unfold wpY_write; dsimp only
  refine br_t rfl (yk_is hx (fun _ => br_f (by decide) ?_) (fun h => absurd hk h))
  refine yk_in (x := p) (a := 0) (b := 23) rfl rfl rfl (by omega) (by decide) (by decide) (fun _ _ => br_f (by decide) ?_) (fun h => by omega)
  refine pk_eq k 24 K24 (fun h => nm_r (ad_b x p) ?_)
  rw [nI_clamp (n := 24 * x + p) (by omega)]
  exact ⟨vp_in_nI (by omega) (by decide), br_c (K1 h) (K0 h)⟩
theorem yk_wr112 {post : Int32 → SY → Prop} {x p b k : Nat} {v : Int32} (hx : x < 16) (hp : p < 24) (hb : b < 64) (hk : k < 24) (he : cb (24 * x + p) = nI b)
    (K : post (nI b) (nI (k + 1), ys, yd, yh, yt, ck, cl, cp, cn, cb, upd cv b v, cm, ok, ol, op, on, ob, ov, om, upd ac k 4, jv_nt au k (nI x) (nI p) v 0, yf, yo, yu, ym)) : wY_write_112 post (nI x) (nI p) v (nI (24 * x + p)) (nI k) ys yd yh yt ck cl cp cn cb cv cm ok ol op on ob ov om ac au yf yo yu ym := by
  unfold wY_write_112
  have vj : vp_in (nI (24 * x + p)) 384 := vp_in_nI (by omega) (by decide)
  rw [nI_clamp (n := 24 * x + p) (by omega), he, nI_clamp (by omega)]
  refine ⟨vj, vp_in_nI hb (by decide), nm_e (yk_note hk ?_)⟩
  dsimp only
  rw [he]
  exact ⟨vj, K⟩
end
theorem i_vc_write {k : Nat} {u : SX} {v : SY} (I : i_Rel k u v) (hk : k + 5 ≤ 2560) (v1 : Int32) (v2 : Int32) (v3 : Int32) : wpX_write (fun r u' => wpY_write (fun r' v' => r' = r ∧ i_Rel (k + 5) u' v') v v1 v2 v3) u v1 v2 v3 := by
  refine zz_el (Q := fun u v => wpX_write (fun r u' => wpY_write (fun r' v' => r' = r ∧ i_Rel (k + 5) u' v') v v1 v2 v3) u v1 v2 v3) ?_ I
  intro xc xr xs xg xd xm xt xw xo aw ap aa av ae af ab al an aq yr ys yd yh yt ck cl cp cn cb cv cm ok ol op on ob ov om ac au yf yo yu ym R
  obtain ⟨r, s, m, h1, h2, rfl, rfl, rfl, rfl, rfl, rfl, rfl, hf, hRW, hd, hU, hJ, hP⟩ := jv_open R
  have hK := jv_kd hRW
  by_cases hb : jv_wbad yd ck v1 v2
  · exact xk_wr_r hK hb (yk_wr_r hb ⟨rfl, R⟩)
  · have hd0 : yd = 0 := Classical.byContradiction (fun g => hb (Or.inl g))
    have hA : ∃ d, d < 16 ∧ v1 = nI d ∧ ck d = 1 := Classical.byContradiction (fun g => hb (Or.inr (Or.inl (fun d h1 h2 h3 => g ⟨d, h1, h2, h3⟩))))
    have hB : ∃ a, a < 24 ∧ v2 = nI a := Classical.byContradiction (fun g => hb (Or.inr (Or.inr (fun d h1 h2 => g ⟨d, h1, h2⟩))))
    obtain ⟨x, hx, rfl, hkx⟩ := hA
    obtain ⟨p, hp, rfl⟩ := hB
    subst hd0
    have hUI := hU rfl
    obtain ⟨n, P, B, L, hn, hXW, hEx⟩ := (hRW.1 x hx).2.2.2.2.2.1 hkx
    obtain ⟨af1, ab1, al1, hEW, hl⟩ := xk_load (xt := xt) (xw := xw) (xo := xo) (ap := ap) (ae := ae) (af := af) (ab := ab) (al := al) (an := an) (aq := aq) (xr := nI r) (xs := nI s) (xg := 0) (xd := 0) (xm := xm) (aw := aw) hx (show n ≤ 6 by omega) (fun i hi => by have := hEx.1.1 i hi; omega) hXW
    refine xk_wr_i hx hp h1 (by rw [hK x hx]; exact hkx) (fun h24 => ?_) (fun h24 => ?_)
    · exact yk_wr_i hx hp h1 hkx (fun _ => ⟨rfl, R⟩) (fun q => absurd h24 q) (fun q => absurd h24 q)
    · have hr : r < 24 := by omega
      refine hl _ _ _ _ ?_
      dsimp only
      refine xk_mapped (show n ≤ 11 by omega) hEx.1 hEx.2.2 hEW hp ?_
      have hj : 24 * x + p < 384 := by omega
      rcases jv_bv hRW hj with e | ⟨b, hbb, e⟩
      · -- a hole
        rw [e]
        refine br_f (by decide) ?_
        unfold wX_write_59
        refine br_f (by decide) ?_
        obtain ⟨rb, c1, c2, c3⟩ := zk_choose (xt := xt) (xw := xw) (xo := xo) (aw := aw) (ap := ap) (aa := aa) (av := av) (ae := ae) (an := an) (aq := aq) (xc := nI m) (xr := nI r) (xs := nI s) (xg := 0) (xd := 0) (cb := cb) hx hp (show n ≤ 11 by omega) hEx hEW hRW.2.2.1
        refine c2 _ ?_
        have h0 : ¬ 0 ≤ cb (24 * x + p) := by rw [e]; exact jv_m1n0
        rcases c1 with e1 | ⟨b, hbb, e1, hcm⟩
        · subst e1
          refine br_f (by decide) ?_
          exact yk_wr_i hx hp h1 hkx (fun q => absurd q h24) (fun _ q => absurd q h0) (fun _ _ => c3 _ _ _ _ _ _ _ _ _ _ _ _ _ _ _ _ _ _ _ _ _ _ _ _ (br_f (by decide) ⟨rfl, R⟩))
        · subst e1
          refine br_t (nI_pos' (by omega)) ?_
          obtain ⟨n2, P2, B2, L2, af2, ab2, al2, s1, s2, s3, s4⟩ := xk_squeeze (xt := xt) (xw := xw) (xo := xo) (aw := aw) (ap := ap) (aa := aa) (av := av) (ae := ae) (an := an) (aq := aq) (xc := nI m) (xr := nI r) (xs := nI s) (xg := 0) (xd := 0) (b0 := b) hn hp hbb hEx e hEW
          have hEx2 : jv_Ex (fun q => upd cb (24 * x + p) (nI b) (24 * x + q)) n2 P2 B2 L2 := by rw [jv_off]; exact s3
          refine s4 _ ?_
          dsimp only
          -- Y comes to the count of extents
          have hY : ∀ (ys yh yt : Int32) (ok ol op on ob ov om ac au yf yo yu ym : Nat → Int32) (k : Nat) (post : Int32 → SY → Prop), k < 24 → (n2 ≤ 5 → wY_write_112 post (nI x) (nI p) v3 (nI (24 * x + p)) (nI k) ys 0 yh yt ck cl cp cn (upd cb (24 * x + p) (nI b)) cv (upd cm b 1) ok ol op on ob ov om ac au yf yo yu ym) → (¬ n2 ≤ 5 → post (-3) (nI k, ys, 0, yh, yt, ck, cl, cp, cn, cb, cv, cm, ok, ol, op, on, ob, ov, om, ac, au, yf, yo, yu, ym)) → wpY_write post (nI k, ys, 0, yh, yt, ck, cl, cp, cn, cb, cv, cm, ok, ol, op, on, ob, ov, om, ac, au, yf, yo, yu, ym) (nI x) (nI p) v3 := by
            intro ys yh yt ok ol op on ob ov om ac au yf yo yu ym k post hk K1 K2
            refine yk_wr_i hx hp (by omega) hkx (fun q => by omega) (fun _ q => absurd q h0) (fun _ _ => c3 _ _ _ _ _ _ _ _ _ _ _ _ _ _ _ _ _ _ _ _ _ _ _ _ (br_t (nI_pos' (by omega)) ⟨vp_in_nI hj (by decide), nm_e ?_⟩))
            refine yk_extents hx hEx2 (pk_le n2 5 (fun g => ⟨vp_in_nI hbb (by decide), ?_⟩) (fun g => ⟨vp_in_nI hj (by decide), nm_e ?_⟩))
            · rw [nI_clamp (by omega)]
              exact nm_e (K1 g)
            · rw [jv_upd_back e]
              exact K2 (by omega)
          refine pk_le n2 5 (fun g => ?_) (fun g => ?_)
          · unfold wX_write_99
            refine xk_begin ?_
            dsimp only
            refine br_f (by decide) ?_
            obtain ⟨w1, t1, t2, t3⟩ := xk_store (xt := xt) (xw := xw) (xo := xo) (ap := ap) (ae := ae) (an := an) (aq := aq) (xr := nI r) (xs := nI s) (xg := 1) (xd := 0) (aw := aw) hx g s2
            refine t3 _ aa av m 0 aa av m (by omega) (hJ hr 0) (fun aa2 av2 m2 J2 => ?_)
            dsimp only
            refine xk_mark1 (n := 1) hbb (by decide) (by omega) J2 (fun aa3 av3 m3 J3 => ?_)
            refine xk_wr121 hbb hr (by omega) J3 (fun aa4 av4 m4 J4 => ?_)
            have hRW1 := jv_RW_file (cb' := upd cb (24 * x + p) (nI b)) hRW hx hkx t2 g t1 hEx2 (fun j hj' => pk_un (by omega))
            have hRW2 := jv_RW_mk (w' := jv_sm w1 (jv_M w1 ||| jv_rw b 1)) (cm' := upd cm b 1) hRW1 (fun q q1 q2 => jv_sm_n q1 q2) (fun c hc => by
              rw [jv_sm_M, jv_lb_or, jv_rw_lb _ _ hc]
              by_cases q : c = b
              · rw [q, pk_us, decide_eq_true (by omega), Bool.or_true]; rfl
              · rw [pk_un q, decide_eq_false (by omega), Bool.or_false]; exact hRW1.2.2.1 c hc) (fun i hi => by rw [pk_un (by omega)]; exact hRW.2.2.2.2.2.2.2.2.2.2.2 i hi)
            have hRW3 := jv_RW_vl hRW2 hbb v3
            have hUI' := jv_wr_UI hUI hj hbb hcm
            have hRd : jv_Redo 4 (nI x) (nI p) v3 0 (ck, cl, cp, cn, cb, cv, cm) (ck, cl, cp, cn, upd cb (24 * x + p) (nI b), upd cv b v3, upd cm b 1) := by
              intro k ys yh yt ok ol op on ob ov om ac au yf yo yu ym post hk e1 e2 e3 e4 e5 K
              have vk : vp_in (nI k) 24 := vp_in_nI (by omega) (by decide)
              refine jv_again hk e1 e2 e3 e4 e5 (br_f (by decide) ⟨vk, br_f (by decide) ⟨vk, br_f (by decide) ⟨vk, br_f (by decide) ⟨vk, br_t rfl ?_⟩⟩⟩⟩)
              refine hY ys yh yt ok ol op on ob ov om ac au yf yo yu ym k _ hk (fun _ => yk_wr112 hx hp hbb hk pk_us ?_) (fun q => absurd g q)
              rw [jv_upd_id e1, jv_nt_id e2 e3 e4 e5]
              exact K
            obtain ⟨_, R'⟩ := hP _ aa4 av4 m4 4 (nI x) (nI p) v3 0 _ _ _ _ _ _ _ hr rfl (jv_J_up J4 (by omega)) hRW3 hUI' hRd (jv_R_cp R)
            exact hY (nI s) yh yt ok ol op on ob ov om ac au yf yo yu ym r _ hr (fun _ => yk_wr112 hx hp hbb hr pk_us ⟨rfl, R'⟩) (fun q => absurd g q)
          · exact hY (nI s) yh yt ok ol op on ob ov om ac au yf yo yu ym r _ hr (fun q => by omega) (fun _ => ⟨rfl, R⟩)
      · -- mapped
        rw [e]
        refine br_t (nI_pos' (by omega)) ?_
        unfold wX_write_59
        refine br_t rfl ?_
        unfold wX_write_99
        refine xk_begin ?_
        dsimp only
        refine br_t rfl ?_
        refine xk_wr121 (c := 0) hbb hr (by omega) (hJ hr 0) (fun aa4 av4 m4 J4 => ?_)
        have h0 : 0 ≤ cb (24 * x + p) := by rw [e]; exact nI_pos' (by omega)
        have hRW3 := jv_RW_vl hRW hbb v3
        have hRd : jv_Redo 4 (nI x) (nI p) v3 0 (ck, cl, cp, cn, cb, cv, cm) (ck, cl, cp, cn, cb, upd cv b v3, cm) := by
          intro k ys yh yt ok ol op on ob ov om ac au yf yo yu ym post hk e1 e2 e3 e4 e5 K
          have vk : vp_in (nI k) 24 := vp_in_nI (by omega) (by decide)
          refine jv_again hk e1 e2 e3 e4 e5 (br_f (by decide) ⟨vk, br_f (by decide) ⟨vk, br_f (by decide) ⟨vk, br_f (by decide) ⟨vk, br_t rfl ?_⟩⟩⟩⟩)
          refine yk_wr_i hx hp (show k ≤ 24 by omega) hkx (fun q => by omega) (fun _ _ => yk_wr112 hx hp hbb hk e ?_) (fun _ q => absurd h0 q)
          rw [jv_upd_id e1, jv_nt_id e2 e3 e4 e5]
          exact K
        obtain ⟨_, R'⟩ := hP _ aa4 av4 m4 4 (nI x) (nI p) v3 0 _ _ _ _ _ _ _ hr rfl (jv_J_up J4 (by omega)) hRW3 hUI hRd (jv_R_cp R)
        exact yk_wr_i hx hp h1 hkx (fun q => absurd q h24) (fun _ _ => yk_wr112 hx hp hbb hr e ⟨rfl, R'⟩) (fun _ q => absurd h0 q)
end
section
/-! what a punch leaves of extents -/
def jv_ht (a b p : Nat) : Bool := decide (a ≤ p ∧ p < b)
def jv_pc (f : Nat → Int32) (a b e : Nat) : Nat → Int32 := fun p => if p < e ∧ ¬ (a ≤ p ∧ p < b) then f p else -1
theorem jv_pc_skip {f : Nat → Int32} {a b e e2 m : Nat} {P B L : Nat → Nat} (h : jv_Ex (jv_pc f a b e) m P B L) (he : e ≤ e2) (hs : ∀ p, e ≤ p → p < e2 → p < 24 → (f p = -1 ∨ (a ≤ p ∧ p < b))) : jv_Ex (jv_pc f a b e2) m P B L := by
  refine jv_Ex_cg h (fun p hp => ?_)
  unfold jv_pc
  by_cases h1 : p < e
  · by_cases h2 : a ≤ p ∧ p < b
    · rw [if_neg (by omega), if_neg (by omega)]
    · rw [if_pos (by omega), if_pos (by omega)]
  · rw [if_neg (show ¬ (p < e ∧ ¬ (a ≤ p ∧ p < b)) by omega)]
    by_cases h3 : p < e2 ∧ ¬ (a ≤ p ∧ p < b)
    · rw [if_pos h3]
      rcases hs p (by omega) h3.1 hp with g | g
      · exact g
      · exact absurd g h3.2
    · rw [if_neg h3]
theorem jv_pc_add {f : Nat → Int32} {a b e b0 l0 m : Nat} {P B L : Nat → Nat} (h : jv_Ex (jv_pc f a b e) m P B L) (hE : ∀ i, i < m → P i + L i ≤ e) (h1 : 1 ≤ l0) (h2 : e + l0 ≤ 24) (h3 : b0 + l0 ≤ 64)
    (hm : ∀ m1, m = m1 + 1 → ¬ (P m1 + L m1 = e ∧ B m1 + L m1 = b0)) (hf : ∀ d, d < l0 → f (e + d) = nI (b0 + d)) (hh : ∀ d, d < l0 → ¬ (a ≤ e + d ∧ e + d < b)) :
    jv_Ex (jv_pc f a b (e + l0)) (m + 1) (jv_up P m e) (jv_up B m b0) (jv_up L m l0) := by
  refine jv_Ex_new h hE h1 h2 h3 hm (fun d hd => ?_) (fun p hp ho => ?_)
  · unfold jv_pc
    rw [if_pos ⟨by omega, hh d hd⟩]; exact hf d hd
  · unfold jv_pc
    by_cases q : p < e ∧ ¬ (a ≤ p ∧ p < b)
    · rw [if_pos q, if_pos ⟨by omega, q.2⟩]
    · rw [if_neg q, if_neg (by omega)]
/-- the beginning of an old extent is side by side with no piece -/
theorem jv_nmg {f g : Nat → Int32} {m p0 b0 : Nat} {P B L : Nat → Nat} (h : jv_Ex g m P B L) (hg : ∀ p, p < 24 → g p = -1 ∨ g p = f p) (h0 : f p0 = nI b0) (hb0 : b0 < 64) (hb : jv_bg f p0 = true) :
    ∀ m1, m = m1 + 1 → ¬ (P m1 + L m1 = p0 ∧ B m1 + L m1 = b0) := by
  rintro m1 rfl ⟨e1, e2⟩
  have a1 := h.1.1 m1 (by omega)
  have a2 := h.2.2.1 m1 (by omega) (L m1 - 1) (by omega)
  rw [show P m1 + (L m1 - 1) = p0 - 1 by omega, show B m1 + (L m1 - 1) = b0 - 1 by omega] at a2
  have a3 : f (p0 - 1) = nI (b0 - 1) := by
    rcases hg (p0 - 1) (by omega) with q | q
    · rw [q] at a2; exact absurd a2.symm (jv_neg1 (by omega))
    · rw [← q]; exact a2
  unfold jv_bg at hb
  have hb' := of_decide_eq_true hb
  rcases hb'.2 with q | q | q
  · omega
  · rw [a3] at q; exact nI_pos (by omega) q
  · apply q
    rw [a3, h0, nI_1]
    exact congrArg nI (by omega)
theorem jv_pc_or {f : Nat → Int32} {a b e p : Nat} : jv_pc f a b e p = -1 ∨ jv_pc f a b e p = f p := by
  unfold jv_pc
  by_cases q : p < e ∧ ¬ (a ≤ p ∧ p < b)
  · rw [if_pos q]; exact Or.inr rfl
  · rw [if_neg q]; exact Or.inl rfl
/-- pieces behind the first s -/
def jv_Pi (af ab al : Nat → Int32) (s m : Nat) (P B L : Nat → Nat) : Prop := ∀ i, i < m → af (s + i) = nI (P i) ∧ ab (s + i) = nI (B i) ∧ al (s + i) = nI (L i)
theorem jv_Pi_add {af ab al : Nat → Int32} {s m p b l : Nat} {P B L : Nat → Nat} (h : jv_Pi af ab al s m P B L) : jv_Pi (upd af (s + m) (nI p)) (upd ab (s + m) (nI b)) (upd al (s + m) (nI l)) s (m + 1) (jv_up P m p) (jv_up B m b) (jv_up L m l) := by
  intro i hi
  by_cases q : i = m
  · rw [q, pk_us, pk_us, pk_us, jv_up_s, jv_up_s, jv_up_s]; exact ⟨rfl, rfl, rfl⟩
  · rw [pk_un (by omega), pk_un (by omega), pk_un (by omega), jv_up_n q, jv_up_n q, jv_up_n q]; exact h i (by omega)
theorem jv_EW_add {af ab al : Nat → Int32} {s m : Nat} {p b l : Int32} {P B L : Nat → Nat} (h : jv_EW af ab al s P B L) : jv_EW (upd af (s + m) p) (upd ab (s + m) b) (upd al (s + m) l) s P B L := by
  intro i hi
  rw [pk_un (by omega), pk_un (by omega), pk_un (by omega)]; exact h i hi
section
variable {xc xr xs xg xd xm xt xw xo : Int32} {aw ap aa av ae af ab al an aq : Nat → Int32}
theorem xk_cut128 {post : Int64 → SX → Prop} {s k lo hi : Nat} {P B L : Nat → Nat} (hE : jv_EW af ab al s P B L) (hk : k < s) (hs : s ≤ 5) (h0 : 1 ≤ L k ∧ P k + L k ≤ 24 ∧ B k + L k ≤ 64) (h1 : P k ≤ lo) (h2 : lo < hi) (h3 : hi ≤ P k + L k) (K : post (jv_rw (B k + (lo - P k)) (hi - lo)) (xc, xr, xs, xg, xd, xm, xt, xw, xo, aw, ap, aa, av, ae, af, ab, al, an, aq)) :
    wX_cut_128 post (nI k) (nI (P k)) (nI lo) (nI hi) xc xr xs xg xd xm xt xw xo aw ap aa av ae af ab al an aq := by
  unfold wX_cut_128
  obtain ⟨e1, e2, e3⟩ := hE k hk
  rw [nI_clamp (by omega), e2, nI_add, pk_sub (by omega), pk_sub (by omega), show B k + lo - P k = B k + (lo - P k) by omega]
  exact ⟨vp_in_nI (by omega) (by decide), xk_row (by omega) (by omega) K⟩
/-- the outcome of one cut -/
def jv_co (f : Nat → Int32) (s k a b m : Nat) (P B L : Nat → Nat) (m' : Nat) (P2 B2 L2 : Nat → Nat) (af' ab' al' : Nat → Int32) (G : Int64) : Prop :=
  jv_EW af' ab' al' s P B L ∧ jv_Pi af' ab' al' s m' P2 B2 L2 ∧ jv_Ex (jv_pc f a b (P k + L k)) m' P2 B2 L2 ∧ (∀ i, i < m' → P2 i + L2 i ≤ P k + L k) ∧ (m' ≤ m + 1 ∨ (m' ≤ m + 2 ∧ P k < a ∧ b < P k + L k)) ∧
  (∀ c, c < 64 → (jv_lb G c = true ↔ ∃ p, P k ≤ p ∧ p < P k + L k ∧ a ≤ p ∧ p < b ∧ f p = nI c))
theorem jv_G {f : Nat → Int32} {s k a b lo hi : Nat} {P B L : Nat → Nat} (hX : jv_Ex f s P B L) (hk : k < s) (l1 : P k ≤ lo) (l2 : a ≤ lo) (l3 : lo = P k ∨ lo = a) (u1 : hi ≤ P k + L k) (u2 : hi ≤ b) (u3 : hi = P k + L k ∨ hi = b) (hlt : lo < hi) :
    ∀ c, c < 64 → (jv_lb (jv_rw (B k + (lo - P k)) (hi - lo)) c = true ↔ ∃ p, P k ≤ p ∧ p < P k + L k ∧ a ≤ p ∧ p < b ∧ f p = nI c) := by
  intro c hc
  have h0 := hX.1.1 k hk
  rw [jv_rw_lb _ _ hc, decide_eq_true_iff]
  constructor
  · rintro ⟨g1, g2⟩
    refine ⟨P k + (c - B k), by omega, by omega, by omega, by omega, ?_⟩
    rw [hX.2.2.1 k hk (c - B k) (by omega), show B k + (c - B k) = c by omega]
  · rintro ⟨p, p1, p2, p3, p4, p5⟩
    rw [jv_EF_in hX.2.2 hk p1 p2, nI_eq (by omega) (by omega)] at p5
    omega
theorem xk_cut45 {f : Nat → Int32} {s k m a b e lo hi : Nat} {P B L P' B' L' : Nat → Nat} (hX : jv_Ex f s P B L) (hs : s ≤ 5) (hk : k < s) (ha24 : a < 24) (hE : jv_EW af ab al s P B L) (hQ : jv_Pi af ab al s m P' B' L') (hm : s + m + 2 ≤ 12 ∨ (s + m + 1 ≤ 12 ∧ (a ≤ P k ∨ P k + L k ≤ b)))
    (hX' : jv_Ex (jv_pc f a b e) m P' B' L') (hE' : ∀ i, i < m → P' i + L' i ≤ e) (he : e ≤ P k) (heh : ∀ p, e ≤ p → p < P k → f p = -1)
    (l1 : P k ≤ lo) (l2 : a ≤ lo) (l3 : lo = P k ∨ lo = a) (u1 : hi ≤ P k + L k) (u2 : hi ≤ b) (u3 : hi = P k + L k ∨ hi = b) :
    ∃ m' P2 B2 L2 af' ab' al' G, jv_co f s k a b m P B L m' P2 B2 L2 af' ab' al' G ∧
      ∀ (post : Int64 → SX → Prop), post G (xc, xr, xs, xg, xd, nI (s + m'), xt, xw, xo, aw, ap, aa, av, ae, af', ab', al', an, aq) → wX_cut_45 post (nI k) (nI (P k)) (nI (P k + L k)) (nI lo) (nI hi) xc xr xs xg xd (nI (s + m)) xt xw xo aw ap aa av ae af ab al an aq := by
  have h0 := hX.1.1 k hk
  have hk0 : ∀ d, d < L k → f (P k + d) = nI (B k + d) := fun d hd => hX.2.2.1 k hk d hd
  have hbg : jv_bg f (P k) = true := (jv_Ex_bg hX (by omega)).mpr ⟨k, hk, rfl⟩
  have hf0 : f (P k) = nI (B k) := hk0 0 (by omega)
  have hS := jv_pc_skip (e2 := P k) hX' he (fun p p1 p2 _ => Or.inl (heh p p1 p2))
  have hS' : ∀ i, i < m → P' i + L' i ≤ P k := fun i hi => by have := hE' i hi; omega
  have hnm := jv_nmg hS (fun p _ => jv_pc_or) hf0 (by omega) hbg
  obtain ⟨e1, e2, e3⟩ := hE k hk
  have vk : vp_in (nI k) 12 := vp_in_nI (by omega) (by decide)
  by_cases hlt : lo < hi
  · -- cut
    have hGb := jv_G hX hk l1 l2 l3 u1 u2 u3 hlt
    by_cases hL : lo ≤ P k
    · have el : lo = P k := by omega
      by_cases hR : P k + L k ≤ hi
      · -- nothing is left
        have eh : hi = P k + L k := by omega
        refine ⟨m, P', B', L', af, ab, al, _, ⟨hE, hQ, jv_pc_skip hS (by omega) (fun p p1 p2 _ => Or.inr (by omega)), fun i hi => by have := hS' i hi; omega, Or.inl (by omega), hGb⟩, fun post K => ?_⟩
        unfold wX_cut_45
        refine pk_lt lo hi (fun _ => pk_le lo (P k) (fun _ => ?_) (fun h => absurd h (by omega))) (fun h => absurd h (by omega))
        unfold wX_cut_98
        refine pk_le (P k + L k) hi (fun _ => ?_) (fun h => absurd h (by omega))
        exact xk_cut128 hE hk hs h0 l1 hlt u1 K
      · -- the right part
        have eh : hi = b := by omega
        have hS2 := jv_pc_skip (e2 := hi) hS (by omega) (fun p p1 p2 _ => Or.inr (by omega))
        have hA := jv_pc_add (b0 := B k + (hi - P k)) (l0 := P k + L k - hi) hS2 (fun i hi => by have := hS' i hi; omega) (by omega) (by omega) (by omega) (fun m1 em h => by have := hS' m1 (by omega); omega)
          (fun d hd => by
            have := hk0 (hi - P k + d) (by omega)
            rw [show P k + (hi - P k + d) = hi + d by omega, show B k + (hi - P k + d) = B k + (hi - P k) + d by omega] at this
            exact this) (fun d hd => by omega)
        rw [show hi + (P k + L k - hi) = P k + L k by omega] at hA
        refine ⟨m + 1, _, _, _, _, _, _, _, ⟨jv_EW_add hE, jv_Pi_add hQ, hA, fun i hi' => ?_, Or.inl (by omega), hGb⟩, fun post K => ?_⟩
        · by_cases q : i = m
          · rw [q, jv_up_s, jv_up_s]; omega
          · rw [jv_up_n q, jv_up_n q]; have := hS' i (by omega); omega
        · unfold wX_cut_45
          refine pk_lt lo hi (fun _ => pk_le lo (P k) (fun _ => ?_) (fun h => absurd h (by omega))) (fun h => absurd h (by omega))
          unfold wX_cut_98
          refine pk_le (P k + L k) hi (fun h => absurd h (by omega)) (fun _ => ?_)
          rw [nI_clamp (by omega), e2, nI_add, pk_sub (show P k ≤ B k + hi by omega), pk_sub (show hi ≤ P k + L k by omega), show B k + hi - P k = B k + (hi - P k) by omega]
          refine ⟨vk, xk_more (by omega) (by omega) (by omega) (by omega) ?_⟩
          exact xk_cut128 (jv_EW_add hE) hk hs h0 l1 hlt u1 K
    · have el : lo = a := by omega
      have hA := jv_pc_add (b0 := B k) (l0 := lo - P k) hS hS' (by omega) (by omega) (by omega) hnm (fun d hd => hk0 d (by omega)) (fun d hd => by omega)
      rw [show P k + (lo - P k) = lo by omega] at hA
      have hEA : ∀ i, i < m + 1 → jv_up P' m (P k) i + jv_up L' m (lo - P k) i ≤ lo := fun i hi' => by
        by_cases q : i = m
        · rw [q, jv_up_s, jv_up_s]; omega
        · rw [jv_up_n q, jv_up_n q]; have := hS' i (by omega); omega
      have hS3 := jv_pc_skip (e2 := hi) hA (by omega) (fun p p1 p2 _ => Or.inr (by omega))
      by_cases hR : P k + L k ≤ hi
      · have eh : hi = P k + L k := by omega
        rw [eh] at hS3
        refine ⟨m + 1, _, _, _, _, _, _, _, ⟨jv_EW_add hE, jv_Pi_add hQ, hS3, fun i hi' => by have := hEA i hi'; omega, Or.inl (by omega), hGb⟩, fun post K => ?_⟩
        unfold wX_cut_45
        refine pk_lt lo hi (fun _ => pk_le lo (P k) (fun h => absurd h (by omega)) (fun _ => ?_)) (fun h => absurd h (by omega))
        rw [nI_clamp (by omega), e2, pk_sub (show P k ≤ lo by omega)]
        refine ⟨vk, xk_more (by omega) (by omega) (by omega) (by omega) ?_⟩
        dsimp only
        unfold wX_cut_98
        refine pk_le (P k + L k) hi (fun _ => ?_) (fun h => absurd h (by omega))
        exact xk_cut128 (jv_EW_add hE) hk hs h0 l1 hlt u1 K
      · have eh : hi = b := by omega
        have hB := jv_pc_add (b0 := B k + (hi - P k)) (l0 := P k + L k - hi) hS3 (fun i hi' => by have := hEA i hi'; omega) (by omega) (by omega) (by omega) (fun m1 em h => by have := hEA m1 (by omega); omega)
          (fun d hd => by
            have := hk0 (hi - P k + d) (by omega)
            rw [show P k + (hi - P k + d) = hi + d by omega, show B k + (hi - P k + d) = B k + (hi - P k) + d by omega] at this
            exact this) (fun d hd => by omega)
        rw [show hi + (P k + L k - hi) = P k + L k by omega] at hB
        have hEB := jv_EW_add (m := m + 1) (p := nI hi) (b := nI (B k + (hi - P k))) (l := nI (P k + L k - hi)) (jv_EW_add (m := m) (p := nI (P k)) (b := nI (B k)) (l := nI (lo - P k)) hE)
        refine ⟨m + 2, _, _, _, _, _, _, _, ⟨hEB, jv_Pi_add (jv_Pi_add hQ), hB, fun i hi' => ?_, Or.inr ⟨by omega, by omega, by omega⟩, hGb⟩, fun post K => ?_⟩
        · by_cases q : i = m + 1
          · rw [q, jv_up_s, jv_up_s]; omega
          · rw [jv_up_n q, jv_up_n q]; have := hEA i (by omega); omega
        · unfold wX_cut_45
          refine pk_lt lo hi (fun _ => pk_le lo (P k) (fun h => absurd h (by omega)) (fun _ => ?_)) (fun h => absurd h (by omega))
          rw [nI_clamp (by omega), e2, pk_sub (show P k ≤ lo by omega)]
          refine ⟨vk, xk_more (by omega) (by omega) (by omega) (by omega) ?_⟩
          dsimp only
          unfold wX_cut_98
          refine pk_le (P k + L k) hi (fun h => absurd h (by omega)) (fun _ => ?_)
          obtain ⟨_, e2', _⟩ := (jv_EW_add (m := m) (p := nI (P k)) (b := nI (B k)) (l := nI (lo - P k)) hE) k hk
          rw [nI_clamp (by omega), e2', nI_add, pk_sub (show P k ≤ B k + hi by omega), pk_sub (show hi ≤ P k + L k by omega), show B k + hi - P k = B k + (hi - P k) by omega]
          refine ⟨vk, xk_more (n := s + m + 1) (by omega) (by omega) (by omega) (by omega) ?_⟩
          exact xk_cut128 hEB hk hs h0 l1 hlt u1 K
  · -- it stays whole
    have hA := jv_pc_add (b0 := B k) (l0 := L k) hS hS' (by omega) (by omega) (by omega) hnm hk0 (fun d hd => by omega)
    refine ⟨m + 1, _, _, _, _, _, _, 0, ⟨jv_EW_add hE, jv_Pi_add hQ, hA, fun i hi' => ?_, Or.inl (by omega), fun c hc => ?_⟩, fun post K => ?_⟩
    · by_cases q : i = m
      · rw [q, jv_up_s, jv_up_s]; omega
      · rw [jv_up_n q, jv_up_n q]; have := hS' i (by omega); omega
    · rw [jv_lb_0]
      exact ⟨fun h => absurd h (by decide), fun ⟨p, p1, p2, p3, p4, _⟩ => by omega⟩
    · unfold wX_cut_45
      refine pk_lt lo hi (fun h => absurd h hlt) (fun _ => ?_)
      rw [nI_clamp (by omega), e2, e3]
      exact ⟨vk, vk, xk_more (by omega) (by omega) (by omega) (by omega) K⟩
theorem xk_cut {f : Nat → Int32} {s k m a b e : Nat} {P B L P' B' L' : Nat → Nat} (hX : jv_Ex f s P B L) (hs : s ≤ 5) (hk : k < s) (hb : b ≤ 24) (ha : a < b) (hE : jv_EW af ab al s P B L) (hQ : jv_Pi af ab al s m P' B' L') (hm : s + m + 2 ≤ 12 ∨ (s + m + 1 ≤ 12 ∧ (a ≤ P k ∨ P k + L k ≤ b)))
    (hX' : jv_Ex (jv_pc f a b e) m P' B' L') (hE' : ∀ i, i < m → P' i + L' i ≤ e) (he : e ≤ P k) (heh : ∀ p, e ≤ p → p < P k → f p = -1) :
    ∃ m' P2 B2 L2 af' ab' al' G, jv_co f s k a b m P B L m' P2 B2 L2 af' ab' al' G ∧
      ∀ (post : Int64 → SX → Prop), post G (xc, xr, xs, xg, xd, nI (s + m'), xt, xw, xo, aw, ap, aa, av, ae, af', ab', al', an, aq) → wpX_cut post (xc, xr, xs, xg, xd, nI (s + m), xt, xw, xo, aw, ap, aa, av, ae, af, ab, al, an, aq) (nI k) (nI a) (nI b) := by
  have h0 := hX.1.1 k hk
  obtain ⟨e1, e2, e3⟩ := hE k hk
  obtain ⟨lo, l1, l2, l3⟩ : ∃ lo, P k ≤ lo ∧ a ≤ lo ∧ (lo = P k ∨ lo = a) := ⟨max (P k) a, by omega, by omega, by omega⟩
  obtain ⟨hi, u1, u2, u3⟩ : ∃ hi, hi ≤ P k + L k ∧ hi ≤ b ∧ (hi = P k + L k ∨ hi = b) := ⟨min (P k + L k) b, by omega, by omega, by omega⟩
  obtain ⟨m', P2, B2, L2, af', ab', al', G, hco, hw⟩ := xk_cut45 (xc := xc) (xr := xr) (xs := xs) (xg := xg) (xd := xd) (xt := xt) (xw := xw) (xo := xo) (aw := aw) (ap := ap) (aa := aa) (av := av) (ae := ae) (an := an) (aq := aq) hX hs hk (by omega) hE hQ hm hX' hE' he heh l1 l2 l3 u1 u2 u3
  refine ⟨m', P2, B2, L2, af', ab', al', G, hco, fun post K => ?_⟩
  have K' := hw post K
  have vk : vp_in (nI k) 12 := vp_in_nI (by omega) (by decide)
  have r31 : ∀ z, z = nI lo → wX_cut_31 post (nI k) (nI b) (nI (P k)) (nI (P k + L k)) z xc xr xs xg xd (nI (s + m)) xt xw xo aw ap aa av ae af ab al an aq := by
    intro z ez
    subst ez
    unfold wX_cut_31
    refine pk_le b (P k + L k) (fun h => ?_) (fun h => ?_)
    · rw [show b = hi by omega]; exact K'
    · have : P k + L k = hi := by omega
      rw [this] at K' ⊢; exact K'
  unfold wpX_cut; dsimp only
  rw [nI_clamp (by omega), e1, e3]
  refine ⟨vk, nm_e ⟨vk, nm_r (nI_add _ _) (pk_le (P k) a (fun h => r31 _ (congrArg nI ?_)) (fun h => r31 _ (congrArg nI ?_)))⟩⟩
  · omega
  · omega
end
end
section
/-! punch: the walks -/
def jv_pu (f : Nat → Int32) (a b : Nat) : Nat → Int32 := fun p => if a ≤ p ∧ p < b then -1 else f p
section
variable {xc xr xs xg xd xm xt xw xo : Int32} {aw ap aa av ae af ab al an aq : Nat → Int32}
theorem xk_p67 {f : Nat → Int32} {s a b c : Nat} {P B L : Nat → Nat} (hX : jv_Ex f s P B L) (hs : s ≤ 5) (ha : a < b) (hb : b ≤ 24) (hc : a + c = b) :
    ∀ (d k m e : Nat) (G : Int64) (af ab al : Nat → Int32) (P' B' L' : Nat → Nat), k + d = s → jv_EW af ab al s P B L → jv_Pi af ab al s m P' B' L' → (m ≤ k ∨ (m ≤ k + 1 ∧ ∃ i, i < k ∧ b < P i + L i)) →
      jv_Ex (jv_pc f a b e) m P' B' L' → (∀ i, i < m → P' i + L' i ≤ e) → (∀ i, i < k → P i + L i ≤ e) → (∀ i, k ≤ i → i < s → e ≤ P i) → (∀ q, q < 64 → (jv_lb G q = true ↔ ∃ p, p < e ∧ a ≤ p ∧ p < b ∧ f p = nI q)) →
    ∃ m' P2 B2 L2 af' ab' al' G', jv_Pi af' ab' al' s m' P2 B2 L2 ∧ jv_Ex (jv_pu f a b) m' P2 B2 L2 ∧ m' ≤ s + 1 ∧ (∀ q, q < 64 → (jv_lb G' q = true ↔ ∃ p, a ≤ p ∧ p < b ∧ f p = nI q)) ∧
      ∀ (post : Int32 → SX → Prop) (x1 : Int32) (fuel : Nat), d < fuel → (m' ≤ 5 → ∃ n, wX_punch_113 post x1 (nI s) G' xc xr xs xg xd (nI (s + m')) xt xw xo n (nI s) aw ap aa av ae af' ab' al' an aq) → (¬ m' ≤ 5 → post (-3) (xc, xr, xs, xg, xd, nI (s + m'), xt, xw, xo, aw, ap, aa, av, ae, af', ab', al', an, aq)) →
        wX_punch_67 post x1 (nI a) (nI c) (nI s) fuel G (nI k) xc xr xs xg xd (nI (s + m)) xt xw xo aw ap aa av ae af ab al an aq := by
  intro d
  induction d with
  | zero =>
    intro k m e G af ab al P' B' L' hk hE hQ hm hX' hE' he1 he2 hG
    have ek : k = s := by omega
    subst ek
    have hm6 : m ≤ k + 1 := by
      rcases hm with g | g
      · omega
      · exact g.1
    clear hm
    have hz : ∀ p, e ≤ p → p < 24 → f p = -1 := fun p p1 p2 => hX.2.2.2 p p2 (fun i hi hh => by have := he1 i hi; omega)
    refine ⟨m, P', B', L', af, ab, al, G, hQ, jv_Ex_cg hX' (fun p hp => ?_), by omega, fun q hq => ?_, fun post x1 fuel hf K5 K3 => ?_⟩
    · unfold jv_pu jv_pc
      by_cases h1 : a ≤ p ∧ p < b
      · rw [if_pos h1, if_neg (by omega)]
      · rw [if_neg h1]
        by_cases h2 : p < e
        · rw [if_pos ⟨h2, h1⟩]
        · rw [if_neg (by omega)]; exact hz p (by omega) hp
    · rw [hG q hq]
      refine ⟨fun ⟨p, _, h⟩ => ⟨p, h⟩, fun ⟨p, h1, h2, h3⟩ => ⟨p, ?_, h1, h2, h3⟩⟩
      rcases Nat.lt_or_ge p e with g | g
      · exact g
      · rw [hz p g (by omega)] at h3; exact absurd h3.symm (jv_neg1 (by omega))
    · obtain ⟨fuel, rfl⟩ : ∃ g, fuel = g + 1 := ⟨fuel - 1, by omega⟩
      rw [wX_punch_67]
      refine pk_le k k (fun _ => ?_) (fun h => absurd h (by omega))
      rw [pk_sub (show k ≤ k + m by omega), show k + m - k = m by omega]
      exact pk_le m 5 K5 (fun h => K3 (by omega))
  | succ d ih =>
    intro k m e G af ab al P' B' L' hk hE hQ hm hX' hE' he1 he2 hG
    have hks : k < s := by omega
    have h0 := hX.1.1 k hks
    have heh : ∀ p, e ≤ p → p < P k → f p = -1 := fun p p1 p2 => hX.2.2.2 p (by omega) (fun i hi hh => by
      rcases Nat.lt_or_ge i k with q | q
      · have := he1 i q; omega
      · by_cases q2 : i = k
        · rw [q2] at hh; omega
        · have := hX.1.2 k i (by omega) hi; omega)
    have hek := he2 k (Nat.le_refl k) hks
    have hmm : s + m + 2 ≤ 12 ∨ (s + m + 1 ≤ 12 ∧ (a ≤ P k ∨ P k + L k ≤ b)) := by
      rcases hm with g | ⟨g, i, hi, g2⟩
      · left; omega
      · have := he1 i hi
        right; exact ⟨by omega, Or.inl (by omega)⟩
    obtain ⟨m1, P1, B1, L1, af1, ab1, al1, G1, ⟨c1, c2, c3, c4, c5, c6⟩, hw⟩ := xk_cut (xc := xc) (xr := xr) (xs := xs) (xg := xg) (xd := xd) (xt := xt) (xw := xw) (xo := xo) (aw := aw) (ap := ap) (aa := aa) (av := av) (ae := ae) (an := an) (aq := aq) hX hs hks hb ha hE hQ hmm hX' hE' hek heh
    obtain ⟨m', P2, B2, L2, af', ab', al', G', r1, r2, r3, r4, r5⟩ := ih (k + 1) m1 (P k + L k) (G ||| G1) af1 ab1 al1 P1 B1 L1 (by omega) c1 c2
      (by
        rcases hm with g | ⟨g, i, hi, g2⟩
        · rcases c5 with q | q
          · left; omega
          · right; exact ⟨by omega, k, by omega, q.2.2⟩
        · have := he1 i hi
          rcases c5 with q | q
          · right; exact ⟨by omega, i, by omega, g2⟩
          · omega) c3 c4
      (fun i hi => by
        by_cases q : i = k
        · rw [q]; exact Nat.le_refl _
        · have := he1 i (by omega); omega) (fun i hi hi2 => hX.1.2 k i (by omega) hi2)
      (fun q hq => by
        rw [jv_lb_or, Bool.or_eq_true, hG q hq, c6 q hq]
        constructor
        · rintro (⟨p, p1, p2⟩ | ⟨p, p1, p2, p3⟩)
          · exact ⟨p, by omega, p2⟩
          · exact ⟨p, p2, p3⟩
        · rintro ⟨p, p1, p2, p3, p4⟩
          rcases Nat.lt_or_ge p e with g | g
          · exact Or.inl ⟨p, g, p2, p3, p4⟩
          · rcases Nat.lt_or_ge p (P k) with g2 | g2
            · rw [heh p g g2] at p4; exact absurd p4.symm (jv_neg1 (by omega))
            · exact Or.inr ⟨p, g2, p1, p2, p3, p4⟩)
    refine ⟨m', P2, B2, L2, af', ab', al', G', r1, r2, r3, r4, fun post x1 fuel hf K5 K3 => ?_⟩
    obtain ⟨fuel, rfl⟩ : ∃ g, fuel = g + 1 := ⟨fuel - 1, by omega⟩
    rw [wX_punch_67]
    refine pk_le s k (fun h => absurd h (by omega)) (fun _ => ?_)
    rw [nI_add, hc]
    refine hw _ ?_
    dsimp only
    exact nm_e (nm_r (nI_1 k) (r5 post x1 fuel (by omega) K5 K3))
theorem xk_p113 {s m : Nat} {P B L : Nat → Nat} (hs : s ≤ 5) (hm : m ≤ 5) (hb : ∀ i, i < m → P i < 128 ∧ B i < 128 ∧ L i < 128) : ∀ (d i : Nat) (af ab al : Nat → Int32), i + d = m → jv_EW af ab al i P B L →
      (∀ j, i ≤ j → j < m → af (s + j) = nI (P j) ∧ ab (s + j) = nI (B j) ∧ al (s + j) = nI (L j)) →
    ∃ af' ab' al', jv_EW af' ab' al' m P B L ∧ ∀ (post : Int32 → SX → Prop) (x1 : Int32) (G : Int64) (fuel : Nat), d < fuel →
      wpX_begin (fun u => match u with | (xc, xr, xs, xg, xd, xm, xt, xw, xo, aw, ap, aa, av, ae, af, ab, al, an, aq) => wpX_store (fun u => match u with | (xc, xr, xs, xg, xd, xm, xt, xw, xo, aw, ap, aa, av, ae, af, ab, al, an, aq) => wpX_unmark (fun u => match u with | (xc, xr, xs, xg, xd, xm, xt, xw, xo, aw, ap, aa, av, ae, af, ab, al, an, aq) => wpX_end (fun u => match u with | (xc, xr, xs, xg, xd, xm, xt, xw, xo, aw, ap, aa, av, ae, af, ab, al, an, aq) => wpX_ones (fun r => post r (xc, xr, xs, xg, xd, xm, xt, xw, xo, aw, ap, aa, av, ae, af, ab, al, an, aq)) G) (xc, xr, xs, xg, xd, xm, xt, xw, xo, aw, ap, aa, av, ae, af, ab, al, an, aq)) (xc, xr, xs, xg, xd, xm, xt, xw, xo, aw, ap, aa, av, ae, af, ab, al, an, aq) G) (xc, xr, xs, xg, xd, xm, xt, xw, xo, aw, ap, aa, av, ae, af, ab, al, an, aq) x1) (xc, xr, xs, xg, xd, nI m, xt, xw, xo, aw, ap, aa, av, ae, af', ab', al', an, aq) →
      wX_punch_113 post x1 (nI s) G xc xr xs xg xd (nI (s + m)) xt xw xo fuel (nI (s + i)) aw ap aa av ae af ab al an aq := by
  intro d
  induction d with
  | zero =>
    intro i af ab al e hE hI
    have ei : i = m := by omega
    subst ei
    refine ⟨af, ab, al, hE, fun post x1 G fuel hf K => ?_⟩
    obtain ⟨fuel, rfl⟩ : ∃ g, fuel = g + 1 := ⟨fuel - 1, by omega⟩
    rw [wX_punch_113]
    refine pk_le (s + i) (s + i) (fun _ => nm_r (e' := nI i) ?_ K) (fun h => absurd h (by omega))
    rw [pk_sub (show s ≤ s + i by omega), show s + i - s = i by omega]
  | succ d ih =>
    intro i af ab al e hE hI
    obtain ⟨g1, g2, g3⟩ := hI i (Nat.le_refl i) (by omega)
    obtain ⟨b1, b2, b3⟩ := hb i (by omega)
    obtain ⟨af', ab', al', r1, r2⟩ := ih (i + 1) (upd af i (nI (P i))) (upd ab i (nI (B i))) (upd al i (nI (L i))) (by omega)
      (fun j hj => by
        by_cases q : j = i
        · rw [q, pk_us, pk_us, pk_us]; exact ⟨rfl, rfl, rfl⟩
        · rw [pk_un q, pk_un q, pk_un q]; exact hE j (by omega))
      (fun j hj hj2 => by rw [pk_un (by omega), pk_un (by omega), pk_un (by omega)]; exact hI j (by omega) hj2)
    refine ⟨af', ab', al', r1, fun post x1 G fuel hf K => ?_⟩
    obtain ⟨fuel, rfl⟩ : ∃ g, fuel = g + 1 := ⟨fuel - 1, by omega⟩
    rw [wX_punch_113]
    refine pk_le (s + m) (s + i) (fun h => absurd h (by omega)) (fun _ => ?_)
    have v1 : vp_in (nI (s + i)) 12 := vp_in_nI (by omega) (by decide)
    have v2 : vp_in (nI i) 12 := vp_in_nI (by omega) (by decide)
    rw [pk_sub (show s ≤ s + i by omega), show s + i - s = i by omega, nI_clamp (n := s + i) (by omega), nI_clamp (n := i) (by omega), g1, g2, g3, jv_byte1 b1, jv_byte1 b2, jv_byte1 b3]
    exact ⟨v1, v2, nm_e ⟨v1, v2, nm_e ⟨v1, v2, nm_e (nm_r (nI_1 _) (r2 post x1 G fuel (by omega) K))⟩⟩⟩
end
/-! Y's counts -/
def jv_gp (f : Nat → Int32) (a b p : Nat) : Bool := decide ((a ≤ p ∧ p < b) ∧ ¬ f p < 0)
def jv_rp (f : Nat → Int32) (a b p : Nat) : Bool := decide (¬ (a ≤ p ∧ p < b) ∧ (jv_bg f p = true ∨ (p = b ∧ ¬ f p < 0)))
theorem jv_rp_bg {f : Nat → Int32} {a b : Nat} (ha : a < b) (p : Nat) : jv_rp f a b p = jv_bg (jv_pu f a b) p := by
  unfold jv_rp jv_bg
  refine decide_eq_decide.mpr ?_
  rw [decide_eq_true_iff]
  unfold jv_pu
  by_cases h : a ≤ p ∧ p < b
  · rw [if_pos h]
    exact ⟨fun g => absurd h g.1, fun g => absurd jv_m1neg g.1⟩
  · rw [if_neg h]
    by_cases e : p = b
    · rw [if_pos (show a ≤ p - 1 ∧ p - 1 < b by omega)]
      exact ⟨fun g => by
        rcases g.2 with q | q
        · exact ⟨q.1, Or.inr (Or.inl jv_m1neg)⟩
        · exact ⟨q.2, Or.inr (Or.inl jv_m1neg)⟩, fun g => ⟨h, Or.inr ⟨e, g.1⟩⟩⟩
    · by_cases z : p = 0
      · exact ⟨fun g => by
          rcases g.2 with q | q
          · exact ⟨q.1, Or.inl z⟩
          · exact absurd q.1 e, fun g => ⟨h, Or.inl ⟨g.1, Or.inl z⟩⟩⟩
      · rw [if_neg (show ¬ (a ≤ p - 1 ∧ p - 1 < b) by omega)]
        exact ⟨fun g => by
          rcases g.2 with q | q
          · exact q
          · exact absurd q.1 e, fun g => ⟨h, Or.inl g⟩⟩
/-- blocks gone are as many as positions gone -/
def jv_be (f : Nat → Int32) (a b : Nat) : Nat → Nat → Bool
  | 0, _ => false
  | q + 1, c => jv_be f a b q c || decide ((a ≤ q ∧ q < b) ∧ f q = nI c)
theorem jv_be_iff {f : Nat → Int32} {a b c : Nat} : ∀ q, jv_be f a b q c = true ↔ ∃ p, p < q ∧ a ≤ p ∧ p < b ∧ f p = nI c := by
  intro q
  induction q with
  | zero => exact ⟨fun h => absurd h Bool.false_ne_true, fun ⟨p, h, _⟩ => by omega⟩
  | succ q ih =>
    show (jv_be f a b q c || decide ((a ≤ q ∧ q < b) ∧ f q = nI c)) = true ↔ _
    rw [Bool.or_eq_true, ih, decide_eq_true_iff]
    constructor
    · rintro (⟨p, p1, p2⟩ | ⟨h1, h2⟩)
      · exact ⟨p, by omega, p2⟩
      · exact ⟨q, by omega, h1.1, h1.2, h2⟩
    · rintro ⟨p, p1, p2, p3, p4⟩
      by_cases e : p = q
      · subst e; exact Or.inr ⟨⟨p2, p3⟩, p4⟩
      · exact Or.inl ⟨p, by omega, p2, p3, p4⟩
theorem jv_be_ct {f : Nat → Int32} {a b : Nat} (hv : ∀ p, p < 24 → f p = -1 ∨ ∃ c, c < 64 ∧ f p = nI c) (hi : ∀ p q c, p < 24 → q < 24 → c < 64 → f p = nI c → f q = nI c → p = q) : ∀ q, q ≤ 24 → jv_ct (jv_be f a b q) 64 = jv_ct (jv_gp f a b) q := by
  intro q
  induction q with
  | zero => intro _; exact jv_ct_0 64 (fun _ _ => rfl)
  | succ q ih =>
    intro hq
    have h1 := ih (by omega)
    rcases hv q (by omega) with e | ⟨c, hc, e⟩
    · have g : jv_gp f a b q = false := decide_eq_false (fun z => z.2 (by rw [e]; exact jv_m1neg))
      rw [jv_ct_f g, ← h1]
      refine jv_ct_cg 64 (fun i hi2 => ?_)
      show (jv_be f a b q i || decide ((a ≤ q ∧ q < b) ∧ f q = nI i)) = _
      rw [decide_eq_false (fun z => by rw [e] at z; exact jv_neg1 (by omega) z.2.symm), Bool.or_false]
    · by_cases hh : a ≤ q ∧ q < b
      · have g : jv_gp f a b q = true := decide_eq_true ⟨hh, by rw [e]; exact nI_pos (by omega)⟩
        rw [jv_ct_t g, ← h1]
        have key : jv_ct (jv_be f a b (q + 1)) 64 = jv_ct (fun i => jv_be f a b q i || decide (i = c)) 64 := jv_ct_cg 64 (fun i hi2 => by
          show (jv_be f a b q i || decide ((a ≤ q ∧ q < b) ∧ f q = nI i)) = _
          congr 1
          refine decide_eq_decide.mpr ⟨fun z => ?_, fun z => ⟨hh, by rw [e, z]⟩⟩
          rw [e, nI_eq (by omega) (by omega)] at z
          exact z.2.symm)
        rw [key]
        have hcf : jv_be f a b q c = false := by
          cases z : jv_be f a b q c with
          | false => rfl
          | true =>
            obtain ⟨p, p1, p2, p3, p4⟩ := (jv_be_iff q).mp z
            have := hi p q c (by omega) (by omega) hc p4 e
            omega
        refine jv_ct_1 (a := c) (by rw [decide_eq_true rfl, Bool.or_true]) hcf (fun i hne => ?_) 64 hc
        rw [decide_eq_false hne, Bool.or_false]
      · have g : jv_gp f a b q = false := decide_eq_false (fun z => hh z.1)
        rw [jv_ct_f g, ← h1]
        refine jv_ct_cg 64 (fun i hi2 => ?_)
        show (jv_be f a b q i || decide ((a ≤ q ∧ q < b) ∧ f q = nI i)) = _
        rw [decide_eq_false (fun z => hh z.1), Bool.or_false]
section
variable {yr ys yd yh yt : Int32} {ck cl cp cn cb cv cm ok ol op on ob ov om ac au yf yo yu ym : Nat → Int32}
theorem yk_p150 {post : Int32 → SY → Prop} {J62 : Int32 → Int32 → Int32 → Prop} {x a c x4 x8 z : Int32} {c5 p : Nat} (Kt : x8 = 0 → ¬ z = 0 → J62 x4 (nI (c5 + 1)) (nI (p + 1))) (Kf : (¬ x8 = 0 ∨ z = 0) → J62 x4 (nI c5) (nI (p + 1))) :
    wY_punch_150 post J62 x a c x4 (nI c5) (nI p) x8 z yr ys yd yh yt ck cl cp cn cb cv cm ok ol op on ob ov om ac au yf yo yu ym := by
  unfold wY_punch_150
  exact br_c (fun h => br_c (fun h2 => nm_r (nI_1 _) (Kf (Or.inr h2))) (fun h2 => nm_r (nI_1 _) (nm_r (nI_1 _) (Kt h h2)))) (fun h => nm_r (nI_1 _) (Kf (Or.inl h)))
theorem yk_p117 {post : Int32 → SY → Prop} {J62 : Int32 → Int32 → Int32 → Prop} {x a c p c5 : Nat} {x4 x8 : Int32} (hx : x < 16) (hp : p < 24) (hac : a + c ≤ 24)
    (Kt : x8 = 0 → (jv_bg (fun q => cb (24 * x + q)) p = true ∨ (p = a + c ∧ ¬ cb (24 * x + p) < 0)) → J62 x4 (nI (c5 + 1)) (nI (p + 1)))
    (Kf : (¬ x8 = 0 ∨ ¬ (jv_bg (fun q => cb (24 * x + q)) p = true ∨ (p = a + c ∧ ¬ cb (24 * x + p) < 0))) → J62 x4 (nI c5) (nI (p + 1))) :
    wY_punch_117 post J62 (nI x) (nI a) (nI c) x4 (nI c5) (nI p) (nI (24 * x + p)) x8 yr ys yd yh yt ck cl cp cn cb cv cm ok ol op on ob ov om ac au yf yo yu ym := by
  have t145 : (jv_bg (fun q => cb (24 * x + q)) p = true ∨ (p = a + c ∧ ¬ cb (24 * x + p) < 0)) → wY_punch_145 post J62 (nI x) (nI a) (nI c) x4 (nI c5) (nI p) x8 yr ys yd yh yt ck cl cp cn cb cv cm ok ol op on ob ov om ac au yf yo yu ym := fun h => by
    unfold wY_punch_145
    exact yk_p150 (fun h1 _ => Kt h1 h) (fun h1 => Kf (by
      rcases h1 with q | q
      · exact Or.inl q
      · exact absurd q (by decide)))
  have t149 : ¬ (jv_bg (fun q => cb (24 * x + q)) p = true ∨ (p = a + c ∧ ¬ cb (24 * x + p) < 0)) → wY_punch_149 post J62 (nI x) (nI a) (nI c) x4 (nI c5) (nI p) x8 yr ys yd yh yt ck cl cp cn cb cv cm ok ol op on ob ov om ac au yf yo yu ym := fun h => by
    unfold wY_punch_149
    exact yk_p150 (fun _ h2 => absurd rfl h2) (fun _ => Kf (Or.inr h))
  unfold wY_punch_117
  refine yk_begins hx hp (fun h => br_f (by decide) (t145 (Or.inl h))) (fun h => br_t rfl ?_)
  rw [nI_add, nI_clamp (by omega)]
  have nb : ¬ jv_bg (fun q => cb (24 * x + q)) p = true := by rw [h]; decide
  refine pk_eq p (a + c) (fun e => ⟨vp_in_nI (by omega) (by decide), br_c (fun g => t149 ?_) (fun g => t145 (Or.inr ⟨e, g⟩))⟩) (fun e => t149 ?_)
  · rintro (q | q)
    · exact nb q
    · exact q.2 g
  · rintro (q | q)
    · exact nb q
    · exact e q.1
theorem yk_p62 {post : Int32 → SY → Prop} {x a c : Nat} (hx : x < 16) (hac : a + c ≤ 24) (hc : 1 ≤ c)
    (K5 : jv_ct (jv_rp (fun q => cb (24 * x + q)) a (a + c)) 24 ≤ 5 → ∃ n, wY_punch_183 post (nI x) (nI a) (nI c) (nI (jv_ct (jv_gp (fun q => cb (24 * x + q)) a (a + c)) 24)) n (nI a) yr ys yd yh yt ck cl cp cn cb cv cm ok ol op on ob ov om ac au yf yo yu ym)
    (K3 : ¬ jv_ct (jv_rp (fun q => cb (24 * x + q)) a (a + c)) 24 ≤ 5 → post (-3) (yr, ys, yd, yh, yt, ck, cl, cp, cn, cb, cv, cm, ok, ol, op, on, ob, ov, om, ac, au, yf, yo, yu, ym)) : ∀ (d p : Nat), p + d = 24 → ∀ fuel, d < fuel →
    wY_punch_62 post (nI x) (nI a) (nI c) yr ys yd yh yt ck cl cp cn cb cv cm ok ol op on ob ov om ac au yf yo yu ym fuel (nI (jv_ct (jv_gp (fun q => cb (24 * x + q)) a (a + c)) p)) (nI (jv_ct (jv_rp (fun q => cb (24 * x + q)) a (a + c)) p)) (nI p) := by
  intro d
  induction d with
  | zero =>
    intro p e fuel hf
    obtain ⟨fuel, rfl⟩ : ∃ g, fuel = g + 1 := ⟨fuel - 1, by omega⟩
    have : p = 24 := by omega
    subst this
    have := jv_ct_le (jv_rp (fun q => cb (24 * x + q)) a (a + c)) 24
    rw [wY_punch_62]
    exact br_t (nI_le (a := 24) (b := 24) (by omega) (by decide)) (pk_le _ 5 K5 (fun h => K3 (by omega)))
  | succ d ih =>
    intro p e fuel hf
    obtain ⟨fuel, rfl⟩ : ∃ g, fuel = g + 1 := ⟨fuel - 1, by omega⟩
    have h0 := ih (p + 1) (by omega) fuel (by omega)
    rw [wY_punch_62]
    refine pk_le 24 p (fun h => absurd h (by omega)) (fun _ => nm_r (ad_b x p) ?_)
    -- not hit
    have no : ¬ (a ≤ p ∧ p < a + c) → wY_punch_96 post (wY_punch_62 post (nI x) (nI a) (nI c) yr ys yd yh yt ck cl cp cn cb cv cm ok ol op on ob ov om ac au yf yo yu ym fuel) (nI x) (nI a) (nI c) (nI (jv_ct (jv_gp (fun q => cb (24 * x + q)) a (a + c)) p)) (nI (jv_ct (jv_rp (fun q => cb (24 * x + q)) a (a + c)) p)) (nI p) (nI (24 * x + p)) yr ys yd yh yt ck cl cp cn cb cv cm ok ol op on ob ov om ac au yf yo yu ym := fun hn => by
      rw [jv_ct_f (p := jv_gp (fun q => cb (24 * x + q)) a (a + c)) (n := p) (decide_eq_false (fun z => hn z.1))] at h0
      unfold wY_punch_96 wY_punch_97
      refine br_t rfl (yk_p117 hx (by omega) hac (fun _ g => ?_) (fun g => ?_))
      · rw [jv_ct_t (p := jv_rp (fun q => cb (24 * x + q)) a (a + c)) (n := p) (decide_eq_true ⟨hn, g⟩)] at h0; exact h0
      · rw [jv_ct_f (p := jv_rp (fun q => cb (24 * x + q)) a (a + c)) (n := p) (decide_eq_false (fun z => by
          rcases g with q | q
          · exact q rfl
          · exact q z.2))] at h0
        exact h0
    refine pk_lt p a (fun h => no (by omega)) (fun h => ?_)
    rw [nI_add]
    refine pk_le (a + c) p (fun h2 => no (by omega)) (fun h2 => ?_)
    rw [jv_ct_f (p := jv_rp (fun q => cb (24 * x + q)) a (a + c)) (n := p) (decide_eq_false (fun z => z.1 ⟨h, h2⟩))] at h0
    unfold wY_punch_97
    rw [nI_clamp (by omega)]
    refine br_f (by decide) ⟨vp_in_nI (by omega) (by decide), br_c (fun g => ?_) (fun g => nm_r (nI_1 _) ?_)⟩
    · rw [jv_ct_f (p := jv_gp (fun q => cb (24 * x + q)) a (a + c)) (n := p) (decide_eq_false (fun z => z.2 g))] at h0
      exact yk_p117 hx (by omega) hac (fun z _ => absurd z (by decide)) (fun _ => h0)
    · rw [jv_ct_t (p := jv_gp (fun q => cb (24 * x + q)) a (a + c)) (n := p) (decide_eq_true ⟨⟨h, h2⟩, g⟩)] at h0
      exact yk_p117 hx (by omega) hac (fun z _ => absurd z (by decide)) (fun _ => h0)
theorem yk_p183 {post : Int32 → SY → Prop} {x a c k : Nat} {x4 : Int32} {cF : Nat → Int32} (hx : x < 16) (hac : a + c ≤ 24) (hk : k < 24) (hv : ∀ i, i < 24 → cb (24 * x + i) = -1 ∨ ∃ b, b < 64 ∧ cb (24 * x + i) = nI b) (hF : jv_um cb (24 * x + a) c cm cF)
    (K : post x4 (nI (k + 1), ys, yd, yh, yt, ck, cl, cp, cn, jv_fl cb (24 * x + a) c (-1), cv, cF, ok, ol, op, on, ob, ov, om, upd ac k 5, jv_nt au k (nI x) (nI a) (nI c) 0, yf, yo, yu, ym)) : ∀ (d i : Nat) (q : Nat → Int32), i + d = c → jv_um cb (24 * x + a) i cm q → ∀ fuel, d < fuel →
    wY_punch_183 post (nI x) (nI a) (nI c) x4 fuel (nI (a + i)) (nI k) ys yd yh yt ck cl cp cn (jv_fl cb (24 * x + a) i (-1)) cv q ok ol op on ob ov om ac au yf yo yu ym := by
  intro d
  induction d with
  | zero =>
    intro i q e hq fuel hf
    obtain ⟨fuel, rfl⟩ : ∃ g, fuel = g + 1 := ⟨fuel - 1, by omega⟩
    have : i = c := by omega
    subst this
    rw [wY_punch_183, jv_um_un hq hF]
    refine br_t ?_ (yk_note hk K)
    rw [nI_add]; exact nI_le (Nat.le_refl _) (by omega)
  | succ d ih =>
    intro i q e hq fuel hf
    obtain ⟨fuel, rfl⟩ : ∃ g, fuel = g + 1 := ⟨fuel - 1, by omega⟩
    rw [wY_punch_183]
    refine br_f ?_ ?_
    · rw [nI_add]; exact nI_ge (by omega) (by omega)
    · have ev : jv_fl cb (24 * x + a) i (-1) (24 * x + a + i) = cb (24 * x + a + i) := jv_fl_o (by omega)
      have ev2 := hv (a + i) (by omega)
      rw [show 24 * x + (a + i) = 24 * x + a + i by omega] at ev2
      rw [ad_b, show 24 * x + (a + i) = 24 * x + a + i by omega]
      refine yk_unmap (by omega) (by rw [ev]; exact ev2) (fun g => ?_) (fun b hb g => ?_)
      · dsimp only
        rw [jv_fl_s]
        rw [ev] at g
        exact nm_r (nI_1 _) (ih (i + 1) q (by omega) (jv_um_n hq g) fuel (by omega))
      · dsimp only
        rw [jv_fl_s]
        rw [ev] at g
        exact nm_r (nI_1 _) (ih (i + 1) _ (by omega) (jv_um_b hq hb g) fuel (by omega))
end
end
section
/-! punch: the call -/
def jv_pbad (g : Int32) (ck : Nat → Int32) (v1 v2 v3 : Int32) : Prop :=
  ¬ g = 0 ∨ (∀ d, d < 16 → v1 = nI d → ¬ ck d = 1) ∨ (∀ a, a < 24 → v2 = nI a → ∀ c, 1 ≤ c → a + c ≤ 24 → ¬ v3 = nI c)
theorem jv_cnt {v : Int32} {a : Nat} (ha : a < 24) (h1 : ¬ v < 1) (h2 : v ≤ 24 - nI a) : ∃ c, 1 ≤ c ∧ a + c ≤ 24 ∧ v = nI c := by
  have h0 : ¬ v < 0 := fun g => h1 (Int32.lt_trans g (by decide))
  obtain ⟨c, hc, rfl⟩ := nI_of h0
  have e : (24 : Int32) - nI a = nI (24 - a) := pk_sub (a := 24) (b := a) (by omega)
  rw [e, nI_leI hc (by omega)] at h2
  refine ⟨c, ?_, by omega, rfl⟩
  rcases Nat.lt_or_ge c 1 with g | g
  · exact absurd (nI_lt (a := c) (b := 1) g (by decide)) h1
  · exact g
section
variable {xc xr xs xg xd xm xt xw xo : Int32} {aw ap aa av ae af ab al an aq : Nat → Int32}
theorem xk_pn_r {post : Int32 → SX → Prop} {ck : Nat → Int32} {v1 v2 v3 : Int32} (hk : ∀ x, x < 16 → aw (24 * x) = ck x) (h : jv_pbad xd ck v1 v2 v3) (K : post (-1) (xc, xr, xs, xg, xd, xm, xt, xw, xo, aw, ap, aa, av, ae, af, ab, al, an, aq)) : wpX_punch post (xc, xr, xs, xg, xd, xm, xt, xw, xo, aw, ap, aa, av, ae, af, ab, al, an, aq) v1 v2 v3 := by
  unfold wpX_punch; dsimp only
  refine br_c (fun hd => ?_) (fun _ => K)
  refine xk_kind_v hk (fun d hd1 e => br_c (fun h2 => ?_) (fun _ => K)) (fun _ => br_f (by decide) K)
  refine xk_pos_v (fun a ha e2 => br_f (by decide) (br_c (fun _ => K) (fun g1 => br_c (fun g2 => ?_) (fun _ => K)))) (fun _ => br_t rfl K)
  subst e2
  obtain ⟨c, c1, c2, c3⟩ := jv_cnt ha g1 g2
  rcases h with h | h | h
  · exact absurd hd h
  · exact absurd h2 (h d hd1 e)
  · exact absurd c3 (h a ha rfl c c1 c2)
theorem xk_pn_i {post : Int32 → SX → Prop} {x a c r : Nat} (hx : x < 16) (hc : 1 ≤ c) (hac : a + c ≤ 24) (hr : r ≤ 24) (hk : aw (24 * x) = 1) (K24 : r = 24 → post (-3) (xc, nI r, xs, xg, 0, xm, xt, xw, xo, aw, ap, aa, av, ae, af, ab, al, an, aq))
    (K : r ≠ 24 → wpX_load (fun u => match u with | (xc, xr, xs, xg, xd, xm, xt, xw, xo, aw, ap, aa, av, ae, af, ab, al, an, aq) => ∃ n67 : Nat, wX_punch_67 post (nI x) (nI a) (nI c) xm n67 0 0 xc xr xs xg xd xm xt xw xo aw ap aa av ae af ab al an aq) (xc, nI r, xs, xg, 0, xm, xt, xw, xo, aw, ap, aa, av, ae, af, ab, al, an, aq) (nI x)) : wpX_punch post (xc, nI r, xs, xg, 0, xm, xt, xw, xo, aw, ap, aa, av, ae, af, ab, al, an, aq) (nI x) (nI a) (nI c) := by
  unfold wpX_punch; dsimp only
  refine br_t rfl (xk_kind_i hx ?_)
  rw [hk]
  have e : (24 : Int32) - nI a = nI (24 - a) := pk_sub (a := 24) (b := a) (by omega)
  rw [e]
  exact br_t rfl (xk_pos_i (by omega) (br_f (by decide) (br_f (nI_nlt (a := c) (b := 1) hc (by omega)) (br_t (nI_le (by omega) (by omega)) (pk_eq r 24 K24 K)))))
end
section
variable {yr ys yd yh yt : Int32} {ck cl cp cn cb cv cm ok ol op on ob ov om ac au yf yo yu ym : Nat → Int32}
theorem yk_pn_r {post : Int32 → SY → Prop} {v1 v2 v3 : Int32} (h : jv_pbad yd ck v1 v2 v3) (K : post (-1) (yr, ys, yd, yh, yt, ck, cl, cp, cn, cb, cv, cm, ok, ol, op, on, ob, ov, om, ac, au, yf, yo, yu, ym)) : wpY_punch post (yr, ys, yd, yh, yt, ck, cl, cp, cn, cb, cv, cm, ok, ol, op, on, ob, ov, om, ac, au, yf, yo, yu, ym) v1 v2 v3 := by
  unfold wpY_punch; dsimp only
  refine br_c (fun hd => ?_) (fun _ => K)
  refine yk_is_v (fun d hd1 e hk => br_f (by decide) ?_) (fun _ => br_t rfl K)
  refine yk_in_v (b := 23) rfl (by decide) (fun a ha e2 => br_f (by decide) (br_c (fun _ => K) (fun g1 => br_c (fun g2 => ?_) (fun _ => K)))) (fun _ => br_t rfl K)
  subst e2
  obtain ⟨c, c1, c2, c3⟩ := jv_cnt ha g1 g2
  rcases h with h | h | h
  · exact absurd hd h
  · exact absurd hk (h d hd1 e)
  · exact absurd c3 (h a ha rfl c c1 c2)
theorem yk_pn_i {post : Int32 → SY → Prop} {x a c k : Nat} (hx : x < 16) (hc : 1 ≤ c) (hac : a + c ≤ 24) (hk24 : k ≤ 24) (hk : ck x = 1) (K24 : k = 24 → post (-3) (nI k, ys, 0, yh, yt, ck, cl, cp, cn, cb, cv, cm, ok, ol, op, on, ob, ov, om, ac, au, yf, yo, yu, ym))
    (K5 : k ≠ 24 → jv_ct (jv_rp (fun q => cb (24 * x + q)) a (a + c)) 24 ≤ 5 → ∃ n, wY_punch_183 post (nI x) (nI a) (nI c) (nI (jv_ct (jv_gp (fun q => cb (24 * x + q)) a (a + c)) 24)) n (nI a) (nI k) ys 0 yh yt ck cl cp cn cb cv cm ok ol op on ob ov om ac au yf yo yu ym)
    (K3 : k ≠ 24 → ¬ jv_ct (jv_rp (fun q => cb (24 * x + q)) a (a + c)) 24 ≤ 5 → post (-3) (nI k, ys, 0, yh, yt, ck, cl, cp, cn, cb, cv, cm, ok, ol, op, on, ob, ov, om, ac, au, yf, yo, yu, ym)) : wpY_punch post (nI k, ys, 0, yh, yt, ck, cl, cp, cn, cb, cv, cm, ok, ol, op, on, ob, ov, om, ac, au, yf, yo, yu, ym) (nI x) (nI a) (nI c) := by
  unfold wpY_punch; dsimp only
  refine br_t rfl (yk_is hx (fun _ => br_f (by decide) ?_) (fun h => absurd hk h))
  refine yk_in (x := a) (a := 0) (b := 23) rfl rfl rfl (by omega) (by decide) (by decide) (fun _ _ => br_f (by decide) ?_) (fun h => by omega)
  have e : (24 : Int32) - nI a = nI (24 - a) := pk_sub (a := 24) (b := a) (by omega)
  rw [e]
  exact br_f (nI_nlt (a := c) (b := 1) hc (by omega)) (br_t (nI_le (by omega) (by omega)) (pk_eq k 24 K24 (fun h => ⟨25, yk_p62 hx hac hc (K5 h) (K3 h) 24 0 (by omega) 25 (by omega)⟩)))
end
theorem jv_pn_UI {ck cl cp cn cb cm cm' : Nat → Int32} {j0 n : Nat} (h : jv_UI ck cl cp cn cb cm) (hj : j0 + n ≤ 384) (hm : jv_um cb j0 n cm cm') : jv_UI ck cl cp cn (jv_fl cb j0 n (-1)) cm' := by
  obtain ⟨u1, u2, u3, u4, u5, u6⟩ := h
  refine ⟨u1, u2, u3, u4, fun j b hj hbb e => ?_, fun i j b hi hj hbb e1 e2 => ?_⟩
  · by_cases hi : j0 ≤ j ∧ j < j0 + n
    · rw [jv_fl_i hi.1 hi.2] at e; exact absurd e.symm (jv_neg1 (by omega))
    · rw [jv_fl_o (by omega)] at e
      rw [hm.2.1 b hbb (fun i hi2 e3 => hi (by have := u6 j (j0 + i) b hj (by omega) hbb e e3; omega))]
      exact u5 j b hj hbb e
  · by_cases hi' : j0 ≤ i ∧ i < j0 + n
    · rw [jv_fl_i hi'.1 hi'.2] at e1; exact absurd e1.symm (jv_neg1 (by omega))
    · by_cases hj' : j0 ≤ j ∧ j < j0 + n
      · rw [jv_fl_i hj'.1 hj'.2] at e2; exact absurd e2.symm (jv_neg1 (by omega))
      · rw [jv_fl_o (by omega)] at e1 e2
        exact u6 i j b hi hj hbb e1 e2
theorem jv_fl_pu {cb : Nat → Int32} {x a c : Nat} : (fun p => jv_fl cb (24 * x + a) c (-1) (24 * x + p)) = jv_pu (fun p => cb (24 * x + p)) a (a + c) := by
  funext p
  unfold jv_fl jv_pu
  by_cases h : a ≤ p ∧ p < a + c
  · rw [if_pos h, if_pos (by omega)]
  · rw [if_neg h, if_neg (by omega)]
theorem i_vc_punch {k : Nat} {u : SX} {v : SY} (I : i_Rel k u v) (hk : k + 5 ≤ 2560) (v1 : Int32) (v2 : Int32) (v3 : Int32) : wpX_punch (fun r u' => wpY_punch (fun r' v' => r' = r ∧ i_Rel (k + 5) u' v') v v1 v2 v3) u v1 v2 v3 := by
  refine zz_el (Q := fun u v => wpX_punch (fun r u' => wpY_punch (fun r' v' => r' = r ∧ i_Rel (k + 5) u' v') v v1 v2 v3) u v1 v2 v3) ?_ I
  intro xc xr xs xg xd xm xt xw xo aw ap aa av ae af ab al an aq yr ys yd yh yt ck cl cp cn cb cv cm ok ol op on ob ov om ac au yf yo yu ym R
  obtain ⟨r, s, m, h1, h2, rfl, rfl, rfl, rfl, rfl, rfl, rfl, hf, hRW, hd, hU, hJ, hP⟩ := jv_open R
  have hK := jv_kd hRW
  by_cases hb : jv_pbad yd ck v1 v2 v3
  · exact xk_pn_r hK hb (yk_pn_r hb ⟨rfl, R⟩)
  · have hd0 : yd = 0 := Classical.byContradiction (fun g => hb (Or.inl g))
    have hA : ∃ d, d < 16 ∧ v1 = nI d ∧ ck d = 1 := Classical.byContradiction (fun g => hb (Or.inr (Or.inl (fun d h1 h2 h3 => g ⟨d, h1, h2, h3⟩))))
    have hB : ∃ a c, v2 = nI a ∧ v3 = nI c ∧ 1 ≤ c ∧ a + c ≤ 24 := Classical.byContradiction (fun g => hb (Or.inr (Or.inr (fun a _ h2 c h3 h4 h5 => g ⟨a, c, h2, h5, h3, h4⟩))))
    obtain ⟨x, hx, rfl, hkx⟩ := hA
    obtain ⟨a, c, rfl, rfl, hc1, hac⟩ := hB
    subst hd0
    have hUI := hU rfl
    obtain ⟨n, P, B, L, hn, hXW, hEx⟩ := (hRW.1 x hx).2.2.2.2.2.1 hkx
    obtain ⟨af1, ab1, al1, hEW, hl⟩ := xk_load (xt := xt) (xw := xw) (xo := xo) (ap := ap) (ae := ae) (af := af) (ab := ab) (al := al) (an := an) (aq := aq) (xr := nI r) (xs := nI s) (xg := 0) (xd := 0) (xm := xm) (aw := aw) hx (show n ≤ 6 by omega) (fun i hi => by have := hEx.1.1 i hi; omega) hXW
    have hv : ∀ i, i < 24 → cb (24 * x + i) = -1 ∨ ∃ b, b < 64 ∧ cb (24 * x + i) = nI b := fun i hi => jv_bv hRW (by omega)
    refine xk_pn_i hx hc1 hac h1 (by rw [hK x hx]; exact hkx) (fun h24 => ?_) (fun h24 => ?_)
    · exact yk_pn_i hx hc1 hac h1 hkx (fun _ => ⟨rfl, R⟩) (fun q => absurd h24 q) (fun q => absurd h24 q)
    · have hr : r < 24 := by omega
      refine hl _ _ _ _ ?_
      dsimp only
      obtain ⟨m', P2, B2, L2, af2, ab2, al2, G, p1, p2, p3, p4, p5⟩ := xk_p67 (xt := xt) (xw := xw) (xo := xo) (aw := aw) (ap := ap) (aa := aa) (av := av) (ae := ae) (an := an) (aq := aq) (xc := nI m) (xr := nI r) (xs := nI s) (xg := 0) (xd := 0) (c := c) hEx hn (show a < a + c by omega) hac rfl n 0 0 0 0 af1 ab1 al1 P B L (by omega) hEW (fun i hi => by omega) (Or.inl (by omega)) (jv_Ex_nil (fun p _ => if_neg (by omega))) (fun i hi => by omega) (fun i hi => by omega) (fun i _ _ => by omega)
        (fun q _ => ⟨fun h => by rw [jv_lb_0] at h; exact absurd h (by decide), fun ⟨p, h, _⟩ => by omega⟩)
      have ect : jv_ct (jv_rp (fun q => cb (24 * x + q)) a (a + c)) 24 = m' := by
        rw [jv_ct_cg (q := jv_bg (jv_pu (fun q => cb (24 * x + q)) a (a + c))) 24 (fun p _ => jv_rp_bg (by omega) p)]
        exact jv_Ex_ct p2
      refine ⟨n + 1, p5 _ _ (n + 1) (by omega) (fun g5 => ?_) (fun g5 => ?_)⟩
      · obtain ⟨af3, ab3, al3, t1, t2⟩ := xk_p113 (xt := xt) (xw := xw) (xo := xo) (aw := aw) (ap := ap) (aa := aa) (av := av) (ae := ae) (an := an) (aq := aq) (xc := nI m) (xr := nI r) (xs := nI s) (xg := 0) (xd := 0) hn g5 (fun i hi => by have := p2.1.1 i hi; omega) m' 0 af2 ab2 al2 (by omega) (fun i hi => by omega) (fun j _ hj => p1 j hj)
        refine ⟨m' + 1, t2 _ _ _ (m' + 1) (by omega) (xk_begin ?_)⟩
        dsimp only
        obtain ⟨w1, s1, s2, s3⟩ := xk_store (xt := xt) (xw := xw) (xo := xo) (ap := ap) (ae := ae) (an := an) (aq := aq) (xr := nI r) (xs := nI s) (xg := 1) (xd := 0) (aw := aw) hx g5 t1
        refine s3 _ aa av m 0 aa av m (by omega) (hJ hr 0) (fun aa2 av2 m2 J2 => ?_)
        dsimp only
        refine xk_unmark (by omega) J2 (fun aa3 av3 m3 J3 => ?_)
        dsimp only
        refine xk_end hr (jv_J_lt J3 (by omega)) ?_
        dsimp only
        refine xk_ones ?_
        obtain ⟨cF, hum⟩ := jv_um_ex (cb := cb) (cm := cm) (j0 := 24 * x + a) c (fun i hi => by
          have := hv (a + i) (by omega)
          rw [show 24 * x + (a + i) = 24 * x + a + i by omega] at this
          exact this)
        have hRW1 := jv_RW_file (cb' := jv_fl cb (24 * x + a) c (-1)) hRW hx hkx s2 g5 s1 (by rw [jv_fl_pu]; exact p2) (fun j hj' => jv_fl_o (by omega))
        have hRW2 := jv_RW_mk (w' := jv_sm w1 (jv_M w1 &&& (G ^^^ (-1)))) (cm' := cF) hRW1 (fun q q1 q2 => jv_sm_n q1 q2) (fun b hb => by
          rw [jv_sm_M, jv_lb_and, jv_lb_not _ hb]
          by_cases q : ∃ i, i < c ∧ cb (24 * x + a + i) = nI b
          · have : jv_lb G b = true := (p4 b hb).mpr (by
              obtain ⟨i, hi, e⟩ := q
              refine ⟨a + i, by omega, by omega, ?_⟩
              show cb (24 * x + (a + i)) = nI b
              rw [show 24 * x + (a + i) = 24 * x + a + i by omega]; exact e)
            rw [hum.1 b hb q, this, Bool.not_true, Bool.and_false]; rfl
          · have : jv_lb G b = false := by
              cases z : jv_lb G b with
              | false => rfl
              | true =>
                obtain ⟨p, y1, y2, y3⟩ := (p4 b hb).mp z
                exact absurd ⟨p - a, by omega, by rw [show 24 * x + a + (p - a) = 24 * x + p by omega]; exact y3⟩ q
            rw [hum.2.1 b hb (fun i hi e => q ⟨i, hi, e⟩), this, Bool.not_false, Bool.and_true]
            exact hRW1.2.2.1 b hb) (fun i hi => by rw [hum.2.2 i hi]; exact hRW.2.2.2.2.2.2.2.2.2.2.2 i hi)
        have hUI' := jv_pn_UI hUI (show 24 * x + a + c ≤ 384 by omega) hum
        have hgone : jv_ct (jv_lb G) 64 = jv_ct (jv_gp (fun q => cb (24 * x + q)) a (a + c)) 24 := by
          rw [← jv_be_ct (f := fun q => cb (24 * x + q)) (a := a) (b := a + c) hv (fun p q b hp hq hb e1 e2 => by
            have := hUI.2.2.2.2.2 _ _ b (show 24 * x + p < 384 by omega) (show 24 * x + q < 384 by omega) hb e1 e2
            omega) 24 (Nat.le_refl 24)]
          refine jv_ct_cg 64 (fun b hb => ?_)
          refine Bool.eq_iff_iff.mpr ?_
          rw [p4 b hb, jv_be_iff]
          exact ⟨fun ⟨p, y1, y2, y3⟩ => ⟨p, by omega, y1, y2, y3⟩, fun ⟨p, _, y⟩ => ⟨p, y⟩⟩
        have hY : ∀ (ys yh yt : Int32) (ok ol op on ob ov om ac au yf yo yu ym : Nat → Int32) (k : Nat) (post : Int32 → SY → Prop), k < 24 → post (nI (jv_ct (jv_gp (fun q => cb (24 * x + q)) a (a + c)) 24)) (nI (k + 1), ys, 0, yh, yt, ck, cl, cp, cn, jv_fl cb (24 * x + a) c (-1), cv, cF, ok, ol, op, on, ob, ov, om, upd ac k 5, jv_nt au k (nI x) (nI a) (nI c) 0, yf, yo, yu, ym) → wpY_punch post (nI k, ys, 0, yh, yt, ck, cl, cp, cn, cb, cv, cm, ok, ol, op, on, ob, ov, om, ac, au, yf, yo, yu, ym) (nI x) (nI a) (nI c) := by
          intro ys yh yt ok ol op on ob ov om ac au yf yo yu ym k post hk K
          refine yk_pn_i hx hc1 hac (by omega) hkx (fun q => by omega) (fun _ _ => ⟨c + 1, ?_⟩) (fun _ q => absurd (by rw [ect]; exact g5) q)
          have := yk_p183 (ys := ys) (yh := yh) (yt := yt) (ck := ck) (cl := cl) (cp := cp) (cn := cn) (cv := cv) (ok := ok) (ol := ol) (op := op) (on := on) (ob := ob) (ov := ov) (om := om) (ac := ac) (au := au) (yf := yf) (yo := yo) (yu := yu) (ym := ym) (yd := 0) hx hac hk hv hum K c 0 cm (by omega) jv_um_0 (c + 1) (by omega)
          rw [jv_fl_0] at this
          exact this
        have hRd : jv_Redo 5 (nI x) (nI a) (nI c) 0 (ck, cl, cp, cn, cb, cv, cm) (ck, cl, cp, cn, jv_fl cb (24 * x + a) c (-1), cv, cF) := by
          intro k ys yh yt ok ol op on ob ov om ac au yf yo yu ym post hk e1 e2 e3 e4 e5 K
          have vk : vp_in (nI k) 24 := vp_in_nI (by omega) (by decide)
          refine jv_again hk e1 e2 e3 e4 e5 (br_f (by decide) ⟨vk, br_f (by decide) ⟨vk, br_f (by decide) ⟨vk, br_f (by decide) ⟨vk, br_f (by decide) ?_⟩⟩⟩⟩)
          refine hY ys yh yt ok ol op on ob ov om ac au yf yo yu ym k _ hk ?_
          rw [jv_upd_id e1, jv_nt_id e2 e3 e4 e5]
          exact K
        obtain ⟨_, R'⟩ := hP _ aa3 av3 m3 5 (nI x) (nI a) (nI c) 0 _ _ _ _ _ _ _ hr rfl (jv_J_up J3 (by omega)) hRW2 hUI' hRd (jv_R_cp R)
        rw [hgone]
        exact hY (nI s) yh yt ok ol op on ob ov om ac au yf yo yu ym r _ hr ⟨rfl, R'⟩
      · exact yk_pn_i hx hc1 hac h1 hkx (fun q => absurd q h24) (fun _ q => absurd (by rw [← ect]; exact q) g5) (fun _ _ => ⟨rfl, R⟩)
end
section
/-! sync, checkpoint, crash -/
theorem jv_R_fresh {xd : Int32} {w aa av ae an ac au yf ck cl cp cn cb cv cm : Nat → Int32} (h : jv_RW w ck cl cp cn cb cv cm) (hc : cp 0 = 0) (hd : (xd = 0 ∧ jv_UI ck cl cp cn cb cm) ∨ xd = 1) (he : ae 0 = 0) (hf : ∀ i, i < 5 → an i = yf i) :
    jv_R 0 0 0 0 xd 0 0 xd w w aa av ae an ac au yf (ck, cl, cp, cn, cb, cv, cm) (ck, cl, cp, cn, cb, cv, cm) := by
  refine ⟨0, 0, fun _ => 0, fun _ => (ck, cl, cp, cn, cb, cv, cm), by omega, by omega, rfl, rfl, rfl, rfl, rfl, rfl, rfl, rfl, fun j hj => by omega, fun j hj => ?_, fun i hi => absurd hi (Nat.not_lt_zero i), rfl, rfl, rfl, fun j _ => ⟨h, hc⟩, fun j hj => by omega, ?_, hf⟩
  · have : j = 0 := by omega
    subst this; exact he
  · rcases hd with g | g
    · exact Or.inl ⟨g.1, fun _ _ => g.2⟩
    · exact Or.inr ⟨g, rfl⟩
theorem jv_R_ae {xc xr xs xg xd yr ys yd : Int32} {aw ap aa av ae an ac au yf : Nat → Int32} {C O : jv_C} (h : jv_R xc xr xs xg xd yr ys yd aw ap aa av ae an ac au yf C O) : ae 0 = 0 := by
  obtain ⟨r, s, e, V, h1, h2, h3, h4, h5, h6, h7, h8, h9, h10, h11, h12, _⟩ := h
  rw [h12 0 (by omega), h10]; rfl
/-- nothing was recorded: the old is the new -/
theorem jv_R_r0 {xc xs xg xd yr ys yd : Int32} {aw ap aa av ae an ac au yf : Nat → Int32} {C O : jv_C} (h : jv_R xc (nI 0) xs xg xd yr ys yd aw ap aa av ae an ac au yf C O) : C = O ∧ aw = ap ∧ xs = 0 ∧ ys = 0 ∧ xc = 0 := by
  obtain ⟨r, s, e, V, h1, h2, h3, h4, h5, h6, h7, h8, h9, h10, h11, h12, h13, h14, h15, h16, _⟩ := h
  have hr : r = 0 := ((nI_eq (by decide) (by omega)).mp h3).symm
  subst hr
  have hs : s = 0 := by omega
  subst hs
  rw [h10] at h14 h8
  exact ⟨h16.symm.trans h15, h14, h5, h6, h8⟩
/-- what lies beyond the ends, now and in place -/
theorem jv_R_Z {xc xr xs xg xd yr ys yd : Int32} {aw ap aa av ae an ac au yf ck cl cp cn cb cv cm ok ol op on ob ov om : Nat → Int32} (h : jv_R xc xr xs xg xd yr ys yd aw ap aa av ae an ac au yf (ck, cl, cp, cn, cb, cv, cm) (ok, ol, op, on, ob, ov, om)) :
    (∀ j, 450 ≤ j → aw j = 0) ∧ (∀ j, 450 ≤ j → ap j = 0) ∧ jv_Z ck cl cp cn cb cv cm ∧ jv_Z ok ol op on ob ov om := by
  obtain ⟨r, s, e, V, h1, h2, h3, h4, h5, h6, h7, h8, h9, h10, h11, h12, h13, h14, h15, h16, h17, _⟩ := h
  have a1 := h17 r (Nat.le_refl r)
  have a2 := h17 0 (by omega)
  rw [h16, ← h14] at a1
  rw [h15, h10] at a2
  exact ⟨a1.1.2.2.2.2.1, a2.1.2.2.2.2.1, a1.1.2.2.2.2.2, a2.1.2.2.2.2.2⟩
theorem i_vc_sync {k : Nat} {u : SX} {v : SY} (I : i_Rel k u v) (hk : k + 5 ≤ 2560) : wpX_sync (fun r u' => wpY_sync (fun r' v' => r' = r ∧ i_Rel (k + 5) u' v') v) u := by
  refine zz_el (Q := fun u v => wpX_sync (fun r u' => wpY_sync (fun r' v' => r' = r ∧ i_Rel (k + 5) u' v') v) u) ?_ I
  intro xc xr xs xg xd xm xt xw xo aw ap aa av ae af ab al an aq yr ys yd yh yt ck cl cp cn cb cv cm ok ol op on ob ov om ac au yf yo yu ym R
  obtain ⟨r, s, e, V, h1, h2, h3, h4, h5, h6, h7, h8, h9, h10, h11, h12, h13, h14, h15, h16, h17, h18, h19, h20⟩ := R
  unfold wpX_sync; dsimp only
  refine nm_e ?_
  unfold wpY_sync; dsimp only
  refine nm_e ⟨by rw [h3, h4, h5, h6], ?_⟩
  exact ⟨r, r, e, V, h1, Nat.le_refl r, h3, h4, h3, h4, h7, h8, h9, h10, h11, h12, h13, h14, h15, h16, h17, h18, h19, h20⟩
theorem i_vc_checkpoint {k : Nat} {u : SX} {v : SY} (I : i_Rel k u v) (hk : k + 5 ≤ 2560) : wpX_checkpoint (fun r u' => wpY_checkpoint (fun r' v' => r' = r ∧ i_Rel (k + 5) u' v') v) u := by
  refine zz_el (Q := fun u v => wpX_checkpoint (fun r u' => wpY_checkpoint (fun r' v' => r' = r ∧ i_Rel (k + 5) u' v') v) u) ?_ I
  intro xc xr xs xg xd xm xt xw xo aw ap aa av ae af ab al an aq yr ys yd yh yt ck cl cp cn cb cv cm ok ol op on ob ov om ac au yf yo yu ym R
  obtain ⟨z1, z2, z3, z4⟩ := jv_R_Z R
  obtain ⟨r, s, m, h1, h2, rfl, rfl, rfl, rfl, rfl, rfl, rfl, hf, hRW, hd, hU, hJ, hP⟩ := jv_open R
  have hF := jv_R_fresh (aa := aa) (av := av) (ac := ac) (au := au) hRW (jv_R_cp R) (xd := yd) (by
    rcases hd with g | g
    · exact Or.inl ⟨g, hU g⟩
    · exact Or.inr g.1) (jv_R_ae R) hf
  refine xk_checkpoint (fun j hj => by rw [z1 j hj, z2 j hj]) ?_
  unfold wpY_checkpoint; dsimp only
  refine pk_le r 0 (fun h => ?_) (fun h => ?_)
  · have hr : r = 0 := by omega
    subst hr
    have hO := (jv_R_r0 R).1
    refine ⟨rfl, ?_⟩
    show jv_R 0 0 0 0 yd 0 0 yd aw aw aa av ae an ac au yf _ (ok, ol, op, on, ob, ov, om)
    rw [← hO]
    exact hF
  · exact yk_place z3 z4 ⟨rfl, hF⟩
theorem jv_Redo_p {q a b c d : Int32} {V V' : jv_C} (h : jv_Redo q a b c d V V') (k : Nat) (ys yh yt : Int32) (ok ol op on ob ov om ac au yf yo yu ym : Nat → Int32) (post : SY → Prop) (hk : k < 24)
    (e1 : ac k = q) (e2 : au (4 * k) = a) (e3 : au (4 * k + 1) = b) (e4 : au (4 * k + 2) = c) (e5 : au (4 * k + 3) = d)
    (K : post (nI (k + 1), ys, 0, yh, yt, V'.1, V'.2.1, V'.2.2.1, V'.2.2.2.1, V'.2.2.2.2.1, V'.2.2.2.2.2.1, V'.2.2.2.2.2.2, ok, ol, op, on, ob, ov, om, ac, au, yf, yo, yu, ym)) :
    wpY_again post (nI k, ys, 0, yh, yt, V.1, V.2.1, V.2.2.1, V.2.2.2.1, V.2.2.2.2.1, V.2.2.2.2.2.1, V.2.2.2.2.2.2, ok, ol, op, on, ob, ov, om, ac, au, yf, yo, yu, ym) (nI k) := by
  obtain ⟨a1, a2, a3, a4, a5, a6, a7⟩ := V
  obtain ⟨b1, b2, b3, b4, b5, b6, b7⟩ := V'
  exact h k ys yh yt ok ol op on ob ov om ac au yf yo yu ym post hk e1 e2 e3 e4 e5 K
section
variable {yr ys yd yh yt : Int32} {ck cl cp cn cb cv cm ok ol op on ob ov om ac au yf yo yu ym : Nat → Int32}
theorem yk_cr129 {post : Int32 → SY → Prop} {r t : Nat} {V : Nat → jv_C} (hr : r ≤ 24) (ht : t ≤ r) (hd : 0 < t → yd = 0) (hR : ∀ j, j < t → jv_Redo (ac j) (au (4 * j)) (au (4 * j + 1)) (au (4 * j + 2)) (au (4 * j + 3)) (V j) (V (j + 1)))
    (K : post (nI (r - t)) (nI t, nI t, yd, yh, yt, (V t).1, (V t).2.1, (V t).2.2.1, (V t).2.2.2.1, (V t).2.2.2.2.1, (V t).2.2.2.2.2.1, (V t).2.2.2.2.2.2, ok, ol, op, on, ob, ov, om, ac, au, yf, yo, yu, ym)) :
    ∀ (d j : Nat), j + d = t → ∀ fuel, d < fuel → wY_crash_129 post (nI r) (nI t) fuel (nI j) (nI j) ys yd yh yt ((V j).1) ((V j).2.1) ((V j).2.2.1) ((V j).2.2.2.1) ((V j).2.2.2.2.1) ((V j).2.2.2.2.2.1) ((V j).2.2.2.2.2.2) ok ol op on ob ov om ac au yf yo yu ym := by
  intro d
  induction d with
  | zero =>
    intro j e fuel hf
    obtain ⟨fuel, rfl⟩ : ∃ g, fuel = g + 1 := ⟨fuel - 1, by omega⟩
    have : j = t := by omega
    subst this
    rw [wY_crash_129, pk_sub ht]
    exact br_t (nI_le (Nat.le_refl _) (by omega)) K
  | succ d ih =>
    intro j e fuel hf
    obtain ⟨fuel, rfl⟩ : ∃ g, fuel = g + 1 := ⟨fuel - 1, by omega⟩
    have h0 := hd (by omega)
    subst h0
    rw [wY_crash_129]
    refine br_f (nI_ge (by omega) (by omega)) ?_
    refine jv_Redo_p (hR j (by omega)) j _ _ _ _ _ _ _ _ _ _ _ _ _ _ _ _ _ (by omega) rfl rfl rfl rfl rfl ?_
    exact nm_r (nI_1 j) (ih (j + 1) (by omega) fuel (by omega))
end
theorem i_vc_crash {k : Nat} {u : SX} {v : SY} (I : i_Rel k u v) (hk : k + 5 ≤ 2560) (v1 : Int32) : wpX_crash (fun r u' => wpY_crash (fun r' v' => r' = r ∧ i_Rel (k + 5) u' v') v v1) u v1 := by
  refine zz_el (Q := fun u v => wpX_crash (fun r u' => wpY_crash (fun r' v' => r' = r ∧ i_Rel (k + 5) u' v') v v1) u v1) ?_ I
  intro xc xr xs xg xd xm xt xw xo aw ap aa av ae af ab al an aq yr ys yd yh yt ck cl cp cn cb cv cm ok ol op on ob ov om ac au yf yo yu ym R
  obtain ⟨z1, z2, z3, z4⟩ := jv_R_Z R
  have R0 := R
  obtain ⟨r, s, e, V, h1, h2, rfl, rfl, rfl, rfl, rfl, rfl, rfl, h10, h11, h12, h13, h14, h15, h16, h17, h18, h19, h20⟩ := R
  by_cases hb : ∃ j, j ≤ 24 ∧ v1 = nI j
  · obtain ⟨j, hj, rfl⟩ := hb
    have hE := jv_e_le h10 h11
    -- for t kept records
    have go : ∀ t, t ≤ r → ∀ post : Int32 → SX → Prop, (∀ r0 u', wY_crash_43 (fun r' v' => r' = r0 ∧ i_Rel (k + 5) u' v') (nI r) (nI t) (nI r) (nI s) yd yh yt ck cl cp cn cb cv cm ok ol op on ob ov om ac au yf yo yu ym → post r0 u') → wX_crash_38 post (nI t) (nI (e r)) (nI r) (nI s) 0 yd xm xt xw xo aw ap aa av ae af ab al an aq := by
      intro t ht post hpost
      have het := hE t ht
      have hmo := jv_e_mono h11 (r - t) t (by omega)
      rw [show t + (r - t) = r by omega] at hmo
      refine xk_crash h1 ht (show e t ≤ 1400 by omega) (h12 t ht) (fun i hi => h13 i (by omega)) (fun q hq => by rw [z1 q hq, z2 q hq]) (hpost _ _ ?_)
      have hd : 0 < t → yd = 0 := fun h => by
        rcases h19 with g | g
        · exact g.1
        · omega
      refine yk_back z3 z4 ⟨t + 1, ?_⟩
      have := yk_cr129 (yd := yd) (yh := yh) (yt := yt) (ok := ok) (ol := ol) (op := op) (on := on) (ob := ob) (ov := ov) (om := om) (ac := ac) (au := au) (yf := yf) (yo := yo) (yu := yu) (ym := ym) (ys := nI s) (post := fun r' v' => r' = nI (r - t) ∧ i_Rel (k + 5) (nI (e t), nI t, nI t, 0, yd, xm, xt, xw, xo, jv_rep ap aa av (e t), ap, aa, av, ae, af, ab, al, an, aq) v') h1 ht hd (fun q hq => h18 q (by omega)) ⟨rfl, ?_⟩ t 0 (by omega) (t + 1) (by omega)
      · rw [h15] at this
        exact this
      · exact ⟨t, t, e, V, by omega, Nat.le_refl t, rfl, rfl, rfl, rfl, rfl, rfl, rfl, h10, fun q hq => h11 q (by omega), fun q hq => h12 q (by omega), fun i hi => h13 i (by omega), rfl, h15, rfl, fun q hq => h17 q (by omega), fun q hq => h18 q (by omega), by
          rcases h19 with g | g
          · exact Or.inl ⟨g.1, fun q hq => g.2 q (by omega)⟩
          · exact Or.inr ⟨g.1, by omega⟩, h20⟩
    have hY : ∀ (post : Int32 → SY → Prop), (j ≤ r - s → wY_crash_43 post (nI r) (nI (s + j)) (nI r) (nI s) yd yh yt ck cl cp cn cb cv cm ok ol op on ob ov om ac au yf yo yu ym) → (¬ j ≤ r - s → wY_crash_43 post (nI r) (nI r) (nI r) (nI s) yd yh yt ck cl cp cn cb cv cm ok ol op on ob ov om ac au yf yo yu ym) → wpY_crash post (nI r, nI s, yd, yh, yt, ck, cl, cp, cn, cb, cv, cm, ok, ol, op, on, ob, ov, om, ac, au, yf, yo, yu, ym) (nI j) := by
      intro post K1 K2
      unfold wpY_crash; dsimp only
      refine yk_in (x := j) (a := 0) (b := 24) rfl rfl rfl (by omega) (by decide) (by decide) (fun _ _ => br_f (by decide) ?_) (fun h => by omega)
      rw [pk_sub h2, nI_add]
      exact pk_le j (r - s) K1 (fun h => K2 (by omega))
    unfold wpX_crash; dsimp only
    rw [pk_sub h2, nI_add]
    refine br_f (nI_pos (by omega)) (br_t (nI_le (a := j) (b := 24) hj (by decide)) (pk_le j (r - s) (fun h => ?_) (fun h => ?_)))
    · exact go (s + j) (by omega) _ (fun r0 u' K => hY _ (fun _ => K) (fun q => absurd h q))
    · exact go r (Nat.le_refl r) _ (fun r0 u' K => hY _ (fun q => by omega) (fun _ => K))
  · have hn : ∀ d, d < 24 + 1 → ¬ v1 = nI d := fun d hd e => hb ⟨d, by omega, e⟩
    have hY : wpY_crash (fun r' v' => r' = -1 ∧ i_Rel (k + 5) (nI (e r), nI r, nI s, 0, yd, xm, xt, xw, xo, aw, ap, aa, av, ae, af, ab, al, an, aq) v') (nI r, nI s, yd, yh, yt, ck, cl, cp, cn, cb, cv, cm, ok, ol, op, on, ob, ov, om, ac, au, yf, yo, yu, ym) v1 := by
      unfold wpY_crash; dsimp only
      exact yk_in_v (b := 24) rfl (by decide) (fun a ha e => absurd e (hn a ha)) (fun _ => br_t rfl ⟨rfl, R0⟩)
    unfold wpX_crash; dsimp only
    refine br_c (fun _ => hY) (fun g1 => br_c (fun g2 => ?_) (fun _ => hY))
    obtain ⟨d, hd, rfl⟩ := nI_of g1
    have : d ≤ 24 := (nI_leI hd (by decide)).mp g2
    exact absurd rfl (hn d (by omega))
end
section
/-! answers -/
theorem i_vc_mended {k : Nat} {u : SX} {v : SY} (I : i_Rel k u v) (hk : k + 5 ≤ 2560) (v1 : Int32) : wpX_mended (fun r => wpY_mended (fun r' => r' = r ∧ i_Rel (k + 5) u v) v v1) u v1 := by
  refine zz_el (Q := fun u v => wpX_mended (fun r => wpY_mended (fun r' => r' = r ∧ i_Rel (k + 5) u v) v v1) u v1) ?_ I
  intro xc xr xs xg xd xm xt xw xo aw ap aa av ae af ab al an aq yr ys yd yh yt ck cl cp cn cb cv cm ok ol op on ob ov om ac au yf yo yu ym R
  obtain ⟨r, s, m, h1, h2, rfl, rfl, rfl, rfl, rfl, rfl, rfl, hf, hRW, hd, hU, hJ, hP⟩ := jv_open R
  by_cases hb : ∃ j, j < 5 ∧ v1 = nI j
  · obtain ⟨j, hj, rfl⟩ := hb
    unfold wpX_mended; dsimp only
    have v5 : vp_in (nI j) 5 := vp_in_nI hj (by decide)
    refine br_f (nI_pos (by omega)) (br_f (nI_ge (b := 5) hj (by decide)) ⟨v5, ?_⟩)
    unfold wpY_mended; dsimp only
    refine yk_in (x := j) (a := 0) (b := 4) rfl rfl rfl (by omega) (by decide) (by decide) (fun _ _ => br_f (by decide) ⟨v5, ?_, R⟩) (fun h => by omega)
    rw [nI_clamp (by omega)]; exact (hf j hj).symm
  · have hn : ∀ d, d < 4 + 1 → ¬ v1 = nI d := fun d hd e => hb ⟨d, by omega, e⟩
    have hY : wpY_mended (fun r' => r' = -1 ∧ i_Rel (k + 5) (nI m, nI r, nI s, 0, yd, xm, xt, xw, xo, aw, ap, aa, av, ae, af, ab, al, an, aq) (nI r, nI s, yd, yh, yt, ck, cl, cp, cn, cb, cv, cm, ok, ol, op, on, ob, ov, om, ac, au, yf, yo, yu, ym)) (nI r, nI s, yd, yh, yt, ck, cl, cp, cn, cb, cv, cm, ok, ol, op, on, ob, ov, om, ac, au, yf, yo, yu, ym) v1 := by
      unfold wpY_mended; dsimp only
      exact yk_in_v (b := 4) rfl (by decide) (fun a ha e => absurd e (hn a ha)) (fun _ => br_t rfl ⟨rfl, R⟩)
    unfold wpX_mended; dsimp only
    refine br_c (fun _ => hY) (fun g1 => br_c (fun _ => hY) (fun g2 => ?_))
    rcases pk_ix v1 (n := 5) (by decide) with g | g | ⟨j, hj, rfl⟩
    · exact absurd g g1
    · exact absurd g g2
    · exact absurd rfl (hn j (by omega))
theorem i_vc_find {k : Nat} {u : SX} {v : SY} (I : i_Rel k u v) (hk : k + 5 ≤ 2560) (v1 : Int32) (v2 : Int32) : wpX_find (fun r => wpY_find (fun r' => r' = r ∧ i_Rel (k + 5) u v) v v1 v2) u v1 v2 := by
  refine zz_el (Q := fun u v => wpX_find (fun r => wpY_find (fun r' => r' = r ∧ i_Rel (k + 5) u v) v v1 v2) u v1 v2) ?_ I
  intro xc xr xs xg xd xm xt xw xo aw ap aa av ae af ab al an aq yr ys yd yh yt ck cl cp cn cb cv cm ok ol op on ob ov om ac au yf yo yu ym R
  obtain ⟨r, s, m, h1, h2, rfl, rfl, rfl, rfl, rfl, rfl, rfl, hf, hRW, hd, hU, hJ, hP⟩ := jv_open R
  have hK := jv_kd hRW
  have hno : ((∀ d, d < 16 → v1 = nI d → ¬ ck d = 2) ∨ (∀ a, a < 64 → ¬ v2 = nI a)) → wX_find_25 (fun r0 => wpY_find (fun r' => r' = r0 ∧ i_Rel (k + 5) (nI m, nI r, nI s, 0, yd, xm, xt, xw, xo, aw, ap, aa, av, ae, af, ab, al, an, aq) (nI r, nI s, yd, yh, yt, ck, cl, cp, cn, cb, cv, cm, ok, ol, op, on, ob, ov, om, ac, au, yf, yo, yu, ym)) (nI r, nI s, yd, yh, yt, ck, cl, cp, cn, cb, cv, cm, ok, ol, op, on, ob, ov, om, ac, au, yf, yo, yu, ym) v1 v2) v1 (nI m) (nI r) (nI s) 0 yd xm xt xw xo aw ap aa av ae af ab al an aq := by
    intro h
    unfold wX_find_25 wX_find_26
    refine br_f (by decide) ?_
    unfold wpY_find; dsimp only
    refine yk_is_v (fun d hd1 e hk => br_f (by decide) ?_) (fun _ => br_t rfl ⟨rfl, R⟩)
    refine yk_in_v (b := 63) rfl (by decide) (fun a ha e2 => ?_) (fun _ => br_t rfl ⟨rfl, R⟩)
    rcases h with h | h
    · exact absurd hk (h d hd1 e)
    · exact absurd e2 (h a ha)
  unfold wpX_find; dsimp only
  refine xk_kind_v hK (fun d hd1 e => br_c (fun h2 => ?_) (fun h2 => hno (Or.inl (fun d' hd' e' => ?_)))) (fun h => br_f (by decide) (hno (Or.inl (fun d hd1 e => absurd e (h d hd1)))))
  · subst e
    refine xk_name_v (fun a ha e2 => br_f (by decide) ?_) (fun h => br_t rfl (hno (Or.inr h)))
    subst e2
    obtain ⟨_, n, N, I', hW, hF⟩ := (hRW.1 d hd1).2.2.2.1 h2
    have h10 := hF.1
    have hY : ∀ r0, r0 = cn (64 * d + a) → wpY_find (fun r' => r' = r0 ∧ i_Rel (k + 5) (nI m, nI r, nI s, 0, yd, xm, xt, xw, xo, aw, ap, aa, av, ae, af, ab, al, an, aq) (nI r, nI s, yd, yh, yt, ck, cl, cp, cn, cb, cv, cm, ok, ol, op, on, ob, ov, om, ac, au, yf, yo, yu, ym)) (nI r, nI s, yd, yh, yt, ck, cl, cp, cn, cb, cv, cm, ok, ol, op, on, ob, ov, om, ac, au, yf, yo, yu, ym) (nI d) (nI a) := by
      intro r0 e0
      unfold wpY_find; dsimp only
      refine yk_is hd1 (fun _ => br_f (by decide) ?_) (fun h => absurd h2 h)
      refine yk_in (x := a) (a := 0) (b := 63) rfl rfl rfl (by omega) (by decide) (by decide) (fun _ _ => br_f (by decide) ?_) (fun h => by omega)
      rw [ad_n, nI_clamp (by omega)]
      exact ⟨vp_in_nI (by omega) (by decide), e0.symm, R⟩
    refine xk_seek hd1 ha hW hF (fun i hi e => ?_) (fun k' hk2 g1 g2 => ?_)
    · unfold wX_find_26
      refine br_t (nI_pos' (by omega)) (xk_named hd1 (by omega) (hY _ ?_))
      rw [(hW.2 i hi).2, ← e]; exact (jv_fy hF hi).symm
    · unfold wX_find_26
      refine br_f (Int32.not_le.mpr (pk_sneg (a := k') (b := 100) (by decide) (by omega))) (hY _ (jv_fn hF ha (fun i hi e => ?_)).symm)
      rcases Nat.lt_or_ge i k' with q | q
      · have := g1 i q; rw [e] at this; omega
      · have := g2 i q hi; rw [e] at this; omega
  · rw [jv_nI16 hd' hd1 (e'.symm.trans e)]; exact h2
theorem i_vc_entry {k : Nat} {u : SX} {v : SY} (I : i_Rel k u v) (hk : k + 5 ≤ 2560) (v1 : Int32) (v2 : Int32) (v3 : Int32) : wpX_entry (fun r => wpY_entry (fun r' => r' = r ∧ i_Rel (k + 5) u v) v v1 v2 v3) u v1 v2 v3 := by
  refine zz_el (Q := fun u v => wpX_entry (fun r => wpY_entry (fun r' => r' = r ∧ i_Rel (k + 5) u v) v v1 v2 v3) u v1 v2 v3) ?_ I
  intro xc xr xs xg xd xm xt xw xo aw ap aa av ae af ab al an aq yr ys yd yh yt ck cl cp cn cb cv cm ok ol op on ob ov om ac au yf yo yu ym R
  obtain ⟨r, s, m, h1, h2, rfl, rfl, rfl, rfl, rfl, rfl, rfl, hf, hRW, hd, hU, hJ, hP⟩ := jv_open R
  have hK := jv_kd hRW
  generalize hP : i_Rel (k + 5) (nI m, nI r, nI s, 0, yd, xm, xt, xw, xo, aw, ap, aa, av, ae, af, ab, al, an, aq) (nI r, nI s, yd, yh, yt, ck, cl, cp, cn, cb, cv, cm, ok, ol, op, on, ob, ov, om, ac, au, yf, yo, yu, ym) = RR
  have hRR : RR := by rw [← hP]; exact R
  have y22 : ∀ z, wY_entry_22 (fun r' => r' = -1 ∧ RR) z v3 (nI r) (nI s) yd yh yt ck cl cp cn cb cv cm ok ol op on ob ov om ac au yf yo yu ym := fun z => by
    unfold wY_entry_22 wY_entry_23
    exact br_t (by decide) ⟨rfl, hRR⟩
  by_cases hA : ∃ d, d < 16 ∧ v1 = nI d ∧ ck d = 2
  · obtain ⟨d, hd1, rfl, hkd⟩ := hA
    obtain ⟨_, n, N, I', hW, hF⟩ := (hRW.1 d hd1).2.2.2.1 hkd
    have h10 := hF.1
    have hY0 : ((∀ i, i < n → ¬ v2 = nI i) ∨ (∀ w, w < 2 → ¬ v3 = nI w)) → wpY_entry (fun r' => r' = -1 ∧ RR) (nI r, nI s, yd, yh, yt, ck, cl, cp, cn, cb, cv, cm, ok, ol, op, on, ob, ov, om, ac, au, yf, yo, yu, ym) (nI d) v2 v3 := by
      intro h
      unfold wpY_entry; dsimp only
      refine yk_is hd1 (fun _ => br_f (by decide) (br_c (fun _ => y22 _) (fun _ => ?_))) (fun h => absurd hkd h)
      refine yk_nameOf hd1 hF (fun i hi e => ?_) (fun _ => ?_)
      · have hN := (hF.2.1 i hi).1
        unfold wY_entry_23
        refine br_f (nI_pos (by omega)) (yk_in_v (b := 1) rfl (by decide) (fun w hw e2 => ?_) (fun _ => br_t rfl ⟨rfl, hRR⟩))
        rcases h with h | h
        · exact absurd e (h i hi)
        · exact absurd e2 (h w hw)
      · unfold wY_entry_23
        exact br_t (by decide) ⟨rfl, hRR⟩
    unfold wpX_entry; dsimp only
    refine xk_kind_i hd1 ?_
    rw [hK d hd1]
    refine br_t hkd (br_c (fun g => hY0 (Or.inl (fun i hi e => ?_))) (fun g => xk_base ?_))
    · rw [e] at g; exact nI_pos (by omega) g
    · obtain ⟨j, hj, rfl⟩ := nI_of g
      rw [ad_p2, nI_clamp (by omega), hW.1]
      refine ⟨vp_in_nI (by omega) (by decide), pk_le n j (fun h => hY0 (Or.inl (fun i hi e => ?_))) (fun h => br_c (fun g3 => hY0 (Or.inr (fun w hw e => ?_))) (fun g3 => br_c (fun g4 => xk_base ?_) (fun g4 => hY0 (Or.inr (fun w hw e => ?_)))))⟩
      · rw [nI_eq hj (by omega)] at e; omega
      · rw [e] at g3; exact nI_pos (by omega) g3
      · obtain ⟨w, hw, rfl⟩ := nI_of g3
        have hw1 : w ≤ 1 := (nI_leI hw (by decide)).mp g4
        have hN := hF.2.1 j h
        rw [ad_e, nI_add, nI_clamp (by omega)]
        refine ⟨vp_in_nI (by omega) (by decide), ?_⟩
        unfold wpY_entry; dsimp only
        refine yk_is hd1 (fun _ => br_f (by decide) (br_f (nI_pos hj) ?_)) (fun h => absurd hkd h)
        refine yk_nameOf hd1 hF (fun i hi e => ?_) (fun g => absurd rfl (g j h))
        have : j = i := (nI_eq hj (by omega)).mp e
        subst this
        unfold wY_entry_23
        refine br_f (nI_pos (by omega)) (yk_in (x := w) (a := 0) (b := 1) rfl rfl rfl hw (by decide) (by decide) (fun _ _ => br_f (by decide) ?_) (fun h => by omega))
        have hw2 := hW.2 j h
        rcases Nat.lt_or_ge w 1 with q | q
        · have : w = 0 := by omega
          subst this
          exact br_t rfl ⟨hw2.1.symm, hRR⟩
        · have : w = 1 := by omega
          subst this
          refine br_f (by decide) ?_
          rw [ad_n, nI_clamp (by omega)]
          exact ⟨vp_in_nI (by omega) (by decide), by rw [hw2.2]; exact jv_fy hF h, hRR⟩
      · rw [e] at g4; exact g4 (nI_le (a := w) (b := 1) (by omega) (by decide))
  · have hY0 : wpY_entry (fun r' => r' = -1 ∧ RR) (nI r, nI s, yd, yh, yt, ck, cl, cp, cn, cb, cv, cm, ok, ol, op, on, ob, ov, om, ac, au, yf, yo, yu, ym) v1 v2 v3 := by
      unfold wpY_entry; dsimp only
      exact yk_is_v (fun d hd1 e hk => absurd ⟨d, hd1, e, hk⟩ hA) (fun _ => br_t rfl (y22 _))
    unfold wpX_entry; dsimp only
    exact xk_kind_v hK (fun d hd1 e => br_c (fun h2 => absurd ⟨d, hd1, e, h2⟩ hA) (fun _ => hY0)) (fun _ => br_f (by decide) hY0)
theorem i_vc_extent {k : Nat} {u : SX} {v : SY} (I : i_Rel k u v) (hk : k + 5 ≤ 2560) (v1 : Int32) (v2 : Int32) (v3 : Int32) : wpX_extent (fun r => wpY_extent (fun r' => r' = r ∧ i_Rel (k + 5) u v) v v1 v2 v3) u v1 v2 v3 := by
  refine zz_el (Q := fun u v => wpX_extent (fun r => wpY_extent (fun r' => r' = r ∧ i_Rel (k + 5) u v) v v1 v2 v3) u v1 v2 v3) ?_ I
  intro xc xr xs xg xd xm xt xw xo aw ap aa av ae af ab al an aq yr ys yd yh yt ck cl cp cn cb cv cm ok ol op on ob ov om ac au yf yo yu ym R
  obtain ⟨r, s, m, h1, h2, rfl, rfl, rfl, rfl, rfl, rfl, rfl, hf, hRW, hd, hU, hJ, hP⟩ := jv_open R
  have hK := jv_kd hRW
  generalize hP : i_Rel (k + 5) (nI m, nI r, nI s, 0, yd, xm, xt, xw, xo, aw, ap, aa, av, ae, af, ab, al, an, aq) (nI r, nI s, yd, yh, yt, ck, cl, cp, cn, cb, cv, cm, ok, ol, op, on, ob, ov, om, ac, au, yf, yo, yu, ym) = RR
  have hRR : RR := by rw [← hP]; exact R
  have y22 : ∀ z, wY_extent_22 (fun r' => r' = -1 ∧ RR) z v3 (nI r) (nI s) yd yh yt ck cl cp cn cb cv cm ok ol op on ob ov om ac au yf yo yu ym := fun z => by
    unfold wY_extent_22 wY_extent_23
    exact br_t (by decide) ⟨rfl, hRR⟩
  by_cases hA : ∃ d, d < 16 ∧ v1 = nI d ∧ ck d = 1
  · obtain ⟨d, hd1, rfl, hkd⟩ := hA
    obtain ⟨n, P, B, L, hn, hW, hX⟩ := (hRW.1 d hd1).2.2.2.2.2.1 hkd
    have hY0 : ((∀ i, i < n → ¬ v2 = nI i) ∨ (∀ w, w < 3 → ¬ v3 = nI w)) → wpY_extent (fun r' => r' = -1 ∧ RR) (nI r, nI s, yd, yh, yt, ck, cl, cp, cn, cb, cv, cm, ok, ol, op, on, ob, ov, om, ac, au, yf, yo, yu, ym) (nI d) v2 v3 := by
      intro h
      unfold wpY_extent; dsimp only
      refine yk_is hd1 (fun _ => br_f (by decide) (br_c (fun _ => y22 _) (fun _ => ?_))) (fun h => absurd hkd h)
      refine yk_extentAt hd1 (by omega) hX (fun i hi e => ?_) (fun _ => ?_)
      · have hN := hX.1.1 i hi
        unfold wY_extent_23
        refine br_f (nI_pos (by omega)) (yk_in_v (b := 2) rfl (by decide) (fun w hw e2 => ?_) (fun _ => br_t rfl ⟨rfl, hRR⟩))
        rcases h with h | h
        · exact absurd e (h i hi)
        · exact absurd e2 (h w hw)
      · unfold wY_extent_23
        exact br_t (by decide) ⟨rfl, hRR⟩
    unfold wpX_extent; dsimp only
    refine xk_kind_i hd1 ?_
    rw [hK d hd1]
    refine br_t hkd (br_c (fun g => hY0 (Or.inl (fun i hi e => ?_))) (fun g => xk_base ?_))
    · rw [e] at g; exact nI_pos (by omega) g
    · obtain ⟨j, hj, rfl⟩ := nI_of g
      rw [ad_p2, nI_clamp (by omega), hW.1]
      refine ⟨vp_in_nI (by omega) (by decide), pk_le n j (fun h => hY0 (Or.inl (fun i hi e => ?_))) (fun h => br_c (fun g3 => hY0 (Or.inr (fun w hw e => ?_))) (fun g3 => br_c (fun g4 => xk_base ?_) (fun g4 => hY0 (Or.inr (fun w hw e => ?_)))))⟩
      · rw [nI_eq hj (by omega)] at e; omega
      · rw [e] at g3; exact nI_pos (by omega) g3
      · obtain ⟨w, hw, rfl⟩ := nI_of g3
        have hw1 : w ≤ 2 := (nI_leI hw (by decide)).mp g4
        have hN := hX.1.1 j h
        rw [ad_x, nI_add, nI_clamp (by omega)]
        refine ⟨vp_in_nI (by omega) (by decide), ?_⟩
        unfold wpY_extent; dsimp only
        refine yk_is hd1 (fun _ => br_f (by decide) (br_f (nI_pos hj) ?_)) (fun h => absurd hkd h)
        refine yk_extentAt hd1 (by omega) hX (fun i hi e => ?_) (fun g => absurd rfl (g j h))
        have : j = i := (nI_eq hj (by omega)).mp e
        subst this
        unfold wY_extent_23
        refine br_f (nI_pos (by omega)) (yk_in (x := w) (a := 0) (b := 2) rfl rfl rfl hw (by decide) (by decide) (fun _ _ => br_f (by decide) ?_) (fun h => by omega))
        have hw2 := hW.2 j h
        rcases (show w = 0 ∨ w = 1 ∨ w = 2 by omega) with q | q | q
        · subst q
          exact br_t rfl ⟨hw2.1.symm, hRR⟩
        · subst q
          refine br_f (by decide) (br_t rfl ?_)
          rw [ad_b, nI_clamp (by omega)]
          exact ⟨vp_in_nI (by omega) (by decide), by rw [hw2.2.1]; exact hX.2.2.1 j h 0 (by omega), hRR⟩
        · subst q
          exact br_f (by decide) (br_f (by decide) (yk_lengthAt hd1 hX h ⟨hw2.2.2.symm, hRR⟩))
      · rw [e] at g4; exact g4 (nI_le (a := w) (b := 2) (by omega) (by decide))
  · have hY0 : wpY_extent (fun r' => r' = -1 ∧ RR) (nI r, nI s, yd, yh, yt, ck, cl, cp, cn, cb, cv, cm, ok, ol, op, on, ob, ov, om, ac, au, yf, yo, yu, ym) v1 v2 v3 := by
      unfold wpY_extent; dsimp only
      exact yk_is_v (fun d hd1 e hk => absurd ⟨d, hd1, e, hk⟩ hA) (fun _ => br_t rfl (y22 _))
    unfold wpX_extent; dsimp only
    exact xk_kind_v hK (fun d hd1 e => br_c (fun h2 => absurd ⟨d, hd1, e, h2⟩ hA) (fun _ => hY0)) (fun _ => br_f (by decide) hY0)
theorem i_vc_read {k : Nat} {u : SX} {v : SY} (I : i_Rel k u v) (hk : k + 5 ≤ 2560) (v1 : Int32) (v2 : Int32) : wpX_read (fun r u' => wpY_read (fun r' => r' = r ∧ i_Rel (k + 5) u' v) v v1 v2) u v1 v2 := by
  refine zz_el (Q := fun u v => wpX_read (fun r u' => wpY_read (fun r' => r' = r ∧ i_Rel (k + 5) u' v) v v1 v2) u v1 v2) ?_ I
  intro xc xr xs xg xd xm xt xw xo aw ap aa av ae af ab al an aq yr ys yd yh yt ck cl cp cn cb cv cm ok ol op on ob ov om ac au yf yo yu ym R
  obtain ⟨r, s, m, h1, h2, rfl, rfl, rfl, rfl, rfl, rfl, rfl, hf, hRW, hd, hU, hJ, hP⟩ := jv_open R
  have hK := jv_kd hRW
  by_cases hA : (∃ d, d < 16 ∧ v1 = nI d ∧ ck d = 1) ∧ (∃ p, p < 24 ∧ v2 = nI p)
  · obtain ⟨⟨x, hx, rfl, hkx⟩, p, hp, rfl⟩ := hA
    obtain ⟨n, P, B, L, hn, hW, hEx⟩ := (hRW.1 x hx).2.2.2.2.2.1 hkx
    obtain ⟨af1, ab1, al1, hEW, hl⟩ := xk_load (xt := xt) (xw := xw) (xo := xo) (ap := ap) (ae := ae) (af := af) (ab := ab) (al := al) (an := an) (aq := aq) (xr := nI r) (xs := nI s) (xg := 0) (xd := yd) (xm := xm) (aw := aw) hx (show n ≤ 6 by omega) (fun i hi => by have := hEx.1.1 i hi; omega) hW
    unfold wpX_read; dsimp only
    refine xk_kind_i hx ?_
    rw [hK x hx]
    refine br_t hkx (xk_pos_i hp (br_f (by decide) (hl _ _ _ _ ?_)))
    dsimp only
    refine xk_mapped (show n ≤ 11 by omega) hEx.1 hEx.2.2 hEW hp ?_
    have hj : 24 * x + p < 384 := by omega
    have vj : vp_in (nI (24 * x + p)) 384 := vp_in_nI hj (by decide)
    have hY : ∀ post : Int32 → Prop, (vp_in (nI (24 * x + p)) 384 ∧ (((0 ≤ cb (24 * x + p) → (vp_in (nI (24 * x + p)) 384 ∧ (vp_in (cb (24 * x + p)) 64 ∧ post (cv (cb (24 * x + p)).toNatClampNeg))))) ∧ (¬ 0 ≤ cb (24 * x + p) → post 0))) → wpY_read post (nI r, nI s, yd, yh, yt, ck, cl, cp, cn, cb, cv, cm, ok, ol, op, on, ob, ov, om, ac, au, yf, yo, yu, ym) (nI x) (nI p) := by
      intro post K
      unfold wpY_read; dsimp only
      refine yk_is hx (fun _ => br_f (by decide) ?_) (fun h => absurd hkx h)
      refine yk_in (x := p) (a := 0) (b := 23) rfl rfl rfl (by omega) (by decide) (by decide) (fun _ _ => br_f (by decide) ?_) (fun h => by omega)
      rw [ad_b, nI_clamp (by omega)]
      exact K
    rcases jv_bv hRW hj with e | ⟨b, hbb, e⟩
    · rw [e]
      refine br_f (by decide) (hY _ ⟨vj, br_f (by rw [e]; exact jv_m1n0) ⟨rfl, R⟩⟩)
    · rw [e, show (386 : Int32) + nI b = nI (386 + b) from nI_add 386 b, nI_clamp (by omega)]
      refine br_t (nI_pos' (by omega)) ⟨vp_in_nI (by omega) (by decide), hY _ ⟨vj, br_t (by rw [e]; exact nI_pos' (by omega)) ⟨vj, ?_⟩⟩⟩
      rw [e, nI_clamp (by omega)]
      exact ⟨vp_in_nI hbb (by decide), (hRW.2.2.2.1 b hbb).symm, R⟩
  · have hY : wpY_read (fun r' => r' = 0 ∧ i_Rel (k + 5) (nI m, nI r, nI s, 0, yd, xm, xt, xw, xo, aw, ap, aa, av, ae, af, ab, al, an, aq) (nI r, nI s, yd, yh, yt, ck, cl, cp, cn, cb, cv, cm, ok, ol, op, on, ob, ov, om, ac, au, yf, yo, yu, ym)) (nI r, nI s, yd, yh, yt, ck, cl, cp, cn, cb, cv, cm, ok, ol, op, on, ob, ov, om, ac, au, yf, yo, yu, ym) v1 v2 := by
      unfold wpY_read; dsimp only
      refine yk_is_v (fun d hd1 e hk => br_f (by decide) ?_) (fun _ => br_t rfl ⟨rfl, R⟩)
      exact yk_in_v (b := 23) rfl (by decide) (fun a ha e2 => absurd ⟨⟨d, hd1, e, hk⟩, a, ha, e2⟩ hA) (fun _ => br_t rfl ⟨rfl, R⟩)
    unfold wpX_read; dsimp only
    refine xk_kind_v hK (fun d hd1 e => br_c (fun h2 => ?_) (fun _ => hY)) (fun _ => br_f (by decide) hY)
    exact xk_pos_v (fun a ha e2 => absurd ⟨⟨d, hd1, e, h2⟩, a, ha, e2⟩ hA) (fun _ => br_t rfl hY)
end
section
/-! of, state -/
def jv_sL (L : Nat → Nat) : Nat → Nat
  | 0 => 0
  | n + 1 => jv_sL L n + L n
theorem jv_sL_f (L : Nat → Nat) : ∀ n : Nat, (List.range n).foldl (fun s i => s + L i) 0 = jv_sL L n := by
  intro n
  induction n with
  | zero => rfl
  | succ n ih => rw [List.range_succ, List.foldl_append, ih]; rfl
section
variable {xc xr xs xg xd xm xt xw xo : Int32} {aw ap aa av ae af ab al an aq : Nat → Int32}
theorem xk_of77 {post : Int32 → SX → Prop} {n : Nat} {P B L : Nat → Nat} (hn : n ≤ 11) (hE : jv_EW af ab al n P B L) (K : post (nI (jv_sL L n)) (xc, xr, xs, xg, xd, nI n, xt, xw, xo, aw, ap, aa, av, ae, af, ab, al, an, aq)) : ∀ (d i : Nat), i + d = n → ∀ fuel, d < fuel → wX_of_77 post xc xr xs xg xd (nI n) xt xw xo aw ap aa av ae af ab al an aq fuel (nI (jv_sL L i)) (nI i) := by
  intro d
  induction d with
  | zero =>
    intro i e fuel hf
    obtain ⟨fuel, rfl⟩ : ∃ g, fuel = g + 1 := ⟨fuel - 1, by omega⟩
    have : i = n := by omega
    subst this
    rw [wX_of_77]
    exact br_t (nI_le (Nat.le_refl _) (by omega)) K
  | succ d ih =>
    intro i e fuel hf
    obtain ⟨fuel, rfl⟩ : ∃ g, fuel = g + 1 := ⟨fuel - 1, by omega⟩
    rw [wX_of_77]
    refine br_f (nI_ge (by omega) (by omega)) ?_
    rw [nI_clamp (by omega), (hE i (by omega)).2.2]
    exact ⟨vp_in_nI (by omega) (by decide), nm_r (nI_add _ _) (nm_r (nI_1 i) (ih (i + 1) (by omega) fuel (by omega)))⟩
end
section
variable {yr ys yd yh yt : Int32} {ck cl cp cn cb cv cm ok ol op on ob ov om ac au yf yo yu ym : Nat → Int32}
theorem yk_of116 {post : Int32 → Prop} {x : Nat} (hx : x < 16) (K : (ck x = 1 → post (nI (jv_ct (fun p => decide (¬ cb (24 * x + p) < 0)) 24))) ∧ (¬ ck x = 1 → wpY_entries (fun r => post r) (yr, ys, yd, yh, yt, ck, cl, cp, cn, cb, cv, cm, ok, ol, op, on, ob, ov, om, ac, au, yf, yo, yu, ym) (nI x))) : ∀ (d p : Nat), p + d = 24 → ∀ fuel, d < fuel →
    wY_of_116 post (nI x) yr ys yd yh yt ck cl cp cn cb cv cm ok ol op on ob ov om ac au yf yo yu ym fuel (nI (jv_ct (fun p => decide (¬ cb (24 * x + p) < 0)) p)) (nI (24 * x + p)) := by
  intro d
  induction d with
  | zero =>
    intro p e fuel hf
    obtain ⟨fuel, rfl⟩ : ∃ g, fuel = g + 1 := ⟨fuel - 1, by omega⟩
    have : p = 24 := by omega
    subst this
    rw [wY_of_116]
    dsimp only
    have e1 : 24 * nI x + 24 = nI (24 * x + 24) := ad_b x 24
    rw [nI_clamp (n := x) (by omega)]
    refine br_t ?_ ⟨vp_in_nI hx (by decide), K⟩
    rw [e1]; exact nI_le (Nat.le_refl _) (by omega)
  | succ d ih =>
    intro p e fuel hf
    obtain ⟨fuel, rfl⟩ : ∃ g, fuel = g + 1 := ⟨fuel - 1, by omega⟩
    have h0 := ih (p + 1) (by omega) fuel (by omega)
    rw [wY_of_116]
    dsimp only
    have e1 : 24 * nI x + 24 = nI (24 * x + 24) := ad_b x 24
    rw [nI_clamp (n := 24 * x + p) (by omega)]
    refine br_f (by rw [e1]; exact nI_ge (by omega) (by omega)) ⟨vp_in_nI (by omega) (by decide), br_c (fun g => nm_r (nI_1 _) ?_) (fun g => nm_r (nI_1 _) (nm_r (nI_1 _) ?_))⟩
    · rw [jv_ct_f (p := fun p => decide (¬ cb (24 * x + p) < 0)) (n := p) (decide_eq_false (fun z => z g))] at h0; exact h0
    · rw [jv_ct_t (p := fun p => decide (¬ cb (24 * x + p) < 0)) (n := p) (decide_eq_true g)] at h0; exact h0
theorem yk_of_i {post : Int32 → Prop} {x w : Nat} (hx : x < 16) (hw : w ≤ 4) (K0 : w = 0 → post (ck x)) (Kf : w ≠ 0 → (ck x = 0 ∨ (w = 3 ∧ ¬ ck x = 1) ∨ (w = 4 ∧ ¬ ck x = 2)) → post (-1))
    (K : w ≠ 0 → ¬ ck x = 0 → (w = 3 → ck x = 1) → (w = 4 → ck x = 2) → wY_of_73 post (nI x) (nI w) yr ys yd yh yt ck cl cp cn cb cv cm ok ol op on ob ov om ac au yf yo yu ym) : wpY_of post (yr, ys, yd, yh, yt, ck, cl, cp, cn, cb, cv, cm, ok, ol, op, on, ob, ov, om, ac, au, yf, yo, yu, ym) (nI x) (nI w) := by
  unfold wpY_of; dsimp only
  have vx : vp_in (nI x) 16 := vp_in_nI hx (by decide)
  refine yk_in (x := x) (a := 0) (b := 15) rfl rfl rfl (by omega) (by decide) (by decide) (fun _ _ => br_f (by decide) ?_) (fun h => by omega)
  refine yk_in (x := w) (a := 0) (b := 4) rfl rfl rfl (by omega) (by decide) (by decide) (fun _ _ => br_f (by decide) ?_) (fun h => by omega)
  rw [nI_clamp (n := x) (by omega)]
  refine pk_eq w 0 (fun e => ⟨vx, K0 e⟩) (fun e => ⟨vx, br_c (fun g => Kf e (Or.inl g)) (fun g => ?_)⟩)
  have h56 : (w = 3 → ck x = 1) → wY_of_56 post (nI x) (nI w) yr ys yd yh yt ck cl cp cn cb cv cm ok ol op on ob ov om ac au yf yo yu ym := fun h3 => by
    unfold wY_of_56
    rw [nI_clamp (n := x) (by omega)]
    exact pk_eq w 4 (fun e4 => ⟨vx, br_c (fun g4 => K e g h3 (fun _ => g4)) (fun g4 => Kf e (Or.inr (Or.inr ⟨e4, g4⟩)))⟩) (fun e4 => K e g h3 (fun q => absurd q e4))
  exact pk_eq w 3 (fun e3 => ⟨vx, br_c (fun g3 => h56 (fun _ => g3)) (fun g3 => Kf e (Or.inr (Or.inl ⟨e3, g3⟩)))⟩) (fun e3 => h56 (fun q => absurd q e3))
end
section
variable {xc xr xs xg xd xm xt xw xo : Int32} {aw ap aa av ae af ab al an aq : Nat → Int32}
theorem xk_of_i {post : Int32 → SX → Prop} {ck : Nat → Int32} {x w : Nat} (hx : x < 16) (hw : w ≤ 4) (hk : aw (24 * x) = ck x) (K0 : w = 0 → post (ck x) (xc, xr, xs, xg, xd, xm, xt, xw, xo, aw, ap, aa, av, ae, af, ab, al, an, aq)) (Kf : w ≠ 0 → (ck x = 0 ∨ (w = 3 ∧ ¬ ck x = 1) ∨ (w = 4 ∧ ¬ ck x = 2)) → post (-1) (xc, xr, xs, xg, xd, xm, xt, xw, xo, aw, ap, aa, av, ae, af, ab, al, an, aq))
    (K : w ≠ 0 → ¬ ck x = 0 → (w = 3 → ck x = 1) → (w = 4 → ck x = 2) → wX_of_56 post (nI x) (nI w) (ck x) xc xr xs xg xd xm xt xw xo aw ap aa av ae af ab al an aq) : wpX_of post (xc, xr, xs, xg, xd, xm, xt, xw, xo, aw, ap, aa, av, ae, af, ab, al, an, aq) (nI x) (nI w) := by
  unfold wpX_of; dsimp only
  refine xk_inode_i hx (br_f (by decide) (br_f (nI_pos (by omega)) (br_t (nI_le (a := w) (b := 4) hw (by decide)) (xk_kind_i hx ?_))))
  rw [hk]
  refine pk_eq w 0 (fun e => K0 e) (fun e => br_c (fun g => Kf e (Or.inl g)) (fun g => ?_))
  have h44 : (w = 3 → ck x = 1) → wX_of_44 post (nI x) (nI w) (ck x) xc xr xs xg xd xm xt xw xo aw ap aa av ae af ab al an aq := fun h3 => by
    unfold wX_of_44
    exact pk_eq w 4 (fun e4 => br_c (fun g4 => K e g h3 (fun _ => g4)) (fun g4 => Kf e (Or.inr (Or.inr ⟨e4, g4⟩)))) (fun e4 => K e g h3 (fun q => absurd q e4))
  exact pk_eq w 3 (fun e3 => br_c (fun g3 => h44 (fun _ => g3)) (fun g3 => Kf e (Or.inr (Or.inl ⟨e3, g3⟩)))) (fun e3 => h44 (fun q => absurd q e3))
end
theorem i_vc_of {k : Nat} {u : SX} {v : SY} (I : i_Rel k u v) (hk : k + 5 ≤ 2560) (v1 : Int32) (v2 : Int32) : wpX_of (fun r u' => wpY_of (fun r' => r' = r ∧ i_Rel (k + 5) u' v) v v1 v2) u v1 v2 := by
  refine zz_el (Q := fun u v => wpX_of (fun r u' => wpY_of (fun r' => r' = r ∧ i_Rel (k + 5) u' v) v v1 v2) u v1 v2) ?_ I
  intro xc xr xs xg xd xm xt xw xo aw ap aa av ae af ab al an aq yr ys yd yh yt ck cl cp cn cb cv cm ok ol op on ob ov om ac au yf yo yu ym R
  obtain ⟨r, s, m, h1, h2, rfl, rfl, rfl, rfl, rfl, rfl, rfl, hf, hRW, hd, hU, hJ, hP⟩ := jv_open R
  have hK := jv_kd hRW
  by_cases hA : (∃ d, d < 16 ∧ v1 = nI d) ∧ (∃ w, w ≤ 4 ∧ v2 = nI w)
  · obtain ⟨⟨x, hx, rfl⟩, w, hw, rfl⟩ := hA
    have vx : vp_in (nI x) 16 := vp_in_nI hx (by decide)
    obtain ⟨q1, q2, q3, q4, q5, q6, q7⟩ := hRW.1 x hx
    refine xk_of_i hx hw q1 (fun e => ?_) (fun e g => ?_) (fun e g g3 g4 => ?_)
    · exact yk_of_i hx hw (fun _ => ⟨rfl, R⟩) (fun q => absurd e q) (fun q => absurd e q)
    · refine yk_of_i hx hw (fun q => absurd q e) (fun _ _ => ⟨rfl, R⟩) (fun _ z1 z2 z3 => ?_)
      rcases g with g | g | g
      · exact absurd g z1
      · exact absurd (z2 g.1) g.2
      · exact absurd (z3 g.1) g.2
    · have hY : ∀ (post : Int32 → Prop), wY_of_73 post (nI x) (nI w) (nI r) (nI s) yd yh yt ck cl cp cn cb cv cm ok ol op on ob ov om ac au yf yo yu ym → wpY_of post (nI r, nI s, yd, yh, yt, ck, cl, cp, cn, cb, cv, cm, ok, ol, op, on, ob, ov, om, ac, au, yf, yo, yu, ym) (nI x) (nI w) := fun post K => by
        refine yk_of_i hx hw (fun q => absurd q e) (fun _ z => ?_) (fun _ _ _ _ => K)
        rcases z with z | z | z
        · exact absurd z g
        · exact absurd (g3 z.1) z.2
        · exact absurd (g4 z.1) z.2
      have h107 : ∀ post : Int32 → SX → Prop, (w = 1 → post (aw (24 * x + 1)) (nI m, nI r, nI s, 0, yd, xm, xt, xw, xo, aw, ap, aa, av, ae, af, ab, al, an, aq)) → (w = 4 → post (aw (24 * x + 3)) (nI m, nI r, nI s, 0, yd, xm, xt, xw, xo, aw, ap, aa, av, ae, af, ab, al, an, aq)) → (w ≠ 1 → w ≠ 4 → post (aw (24 * x + 2)) (nI m, nI r, nI s, 0, yd, xm, xt, xw, xo, aw, ap, aa, av, ae, af, ab, al, an, aq)) → wX_of_107 post (nI x) (nI w) (nI m) (nI r) (nI s) 0 yd xm xt xw xo aw ap aa av ae af ab al an aq := fun post K1 K4 K2 => by
        unfold wX_of_107
        refine xk_base ?_
        rw [ad_p1, ad_p2, ad_p3, nI_clamp (n := 24 * x + 1) (by omega), nI_clamp (n := 24 * x + 2) (by omega), nI_clamp (n := 24 * x + 3) (by omega)]
        exact pk_eq w 1 (fun e1 => ⟨vp_in_nI (by omega) (by decide), K1 e1⟩) (fun e1 => pk_eq w 4 (fun e4 => ⟨vp_in_nI (by omega) (by decide), K4 e4⟩) (fun e4 => ⟨vp_in_nI (by omega) (by decide), K2 e1 e4⟩))
      unfold wX_of_56
      rcases (show w = 1 ∨ w = 2 ∨ w = 3 ∨ w = 4 by omega) with q | q | q | q
      · subst q
        refine br_f (by decide) (h107 _ (fun _ => hY _ ?_) (fun z => absurd z (by decide)) (fun z => absurd rfl z))
        unfold wY_of_73
        rw [nI_clamp (n := x) (by omega)]
        exact br_t rfl ⟨vx, (q3 g).symm, R⟩
      · subst q
        refine br_t rfl (br_c (fun hk1 => ?_) (fun hk1 => h107 _ (fun z => absurd z (by decide)) (fun z => absurd z (by decide)) (fun _ _ => hY _ ?_)))
        · obtain ⟨n, P, B, L, hn, hW, hEx⟩ := q6 hk1
          obtain ⟨af1, ab1, al1, hEW, hl⟩ := xk_load (xt := xt) (xw := xw) (xo := xo) (ap := ap) (ae := ae) (af := af) (ab := ab) (al := al) (an := an) (aq := aq) (xr := nI r) (xs := nI s) (xg := 0) (xd := yd) (xm := xm) (aw := aw) hx (show n ≤ 6 by omega) (fun i hi => by have := hEx.1.1 i hi; omega) hW
          refine hl _ _ _ _ ?_
          dsimp only
          refine ⟨n + 1, xk_of77 (by omega) hEW (hY _ ?_) n 0 (by omega) (n + 1) (by omega)⟩
          unfold wY_of_73
          refine br_f (by decide) (br_f (by decide) (br_f (by decide) (nm_r (e' := nI (24 * x + 0)) (ad_24 x) ⟨25, yk_of116 hx ⟨fun _ => ⟨?_, R⟩, fun z => absurd hk1 z⟩ 24 0 (by omega) 25 (by omega)⟩)))
          have := jv_EF_ct hEx.1 hEx.2.2 n (Nat.le_refl n) 24 (Nat.le_refl 24) (fun i hi => (hEx.1.1 i hi).2.1) (fun i h1 h2 => by omega)
          rw [jv_sL_f] at this
          exact congrArg nI this
        · have hk2 : ck x = 2 := by
            rcases q2 with z | z | z
            · exact absurd z g
            · exact absurd z hk1
            · exact z
          obtain ⟨_, n, N, I', hW, hF⟩ := q4 hk2
          unfold wY_of_73
          refine br_f (by decide) (br_f (by decide) (br_f (by decide) (nm_r (e' := nI (24 * x + 0)) (ad_24 x) ⟨25, yk_of116 hx ⟨fun z => absurd z hk1, fun _ => yk_entries hx hF ⟨hW.1.symm, R⟩⟩ 24 0 (by omega) 25 (by omega)⟩)))
      · subst q
        obtain ⟨n, P, B, L, hn, hW, hEx⟩ := q6 (g3 rfl)
        refine br_f (by decide) (h107 _ (fun z => absurd z (by decide)) (fun z => absurd z (by decide)) (fun _ _ => hY _ ?_))
        unfold wY_of_73
        exact br_f (by decide) (br_t rfl (yk_extents hx hEx ⟨hW.1.symm, R⟩))
      · subst q
        refine br_f (by decide) (h107 _ (fun z => absurd z (by decide)) (fun _ => hY _ ?_) (fun _ z => absurd rfl z))
        unfold wY_of_73
        rw [nI_clamp (n := x) (by omega)]
        exact br_f (by decide) (br_f (by decide) (br_t rfl ⟨vx, (q4 (g4 rfl)).1.symm, R⟩))
  · have hY : wpY_of (fun r' => r' = -1 ∧ i_Rel (k + 5) (nI m, nI r, nI s, 0, yd, xm, xt, xw, xo, aw, ap, aa, av, ae, af, ab, al, an, aq) (nI r, nI s, yd, yh, yt, ck, cl, cp, cn, cb, cv, cm, ok, ol, op, on, ob, ov, om, ac, au, yf, yo, yu, ym)) (nI r, nI s, yd, yh, yt, ck, cl, cp, cn, cb, cv, cm, ok, ol, op, on, ob, ov, om, ac, au, yf, yo, yu, ym) v1 v2 := by
      unfold wpY_of; dsimp only
      refine yk_in_v (b := 15) rfl (by decide) (fun d hd1 e => br_f (by decide) ?_) (fun _ => br_t rfl ⟨rfl, R⟩)
      exact yk_in_v (b := 4) rfl (by decide) (fun a ha e2 => absurd ⟨⟨d, by omega, e⟩, a, by omega, e2⟩ hA) (fun _ => br_t rfl ⟨rfl, R⟩)
    unfold wpX_of; dsimp only
    refine xk_inode_v (fun d hd1 e => br_f (by decide) (br_c (fun _ => hY) (fun g1 => br_c (fun g2 => ?_) (fun _ => hY)))) (fun _ => br_t rfl hY)
    obtain ⟨j, hj, rfl⟩ := nI_of g1
    exact absurd ⟨⟨d, hd1, e⟩, j, (nI_leI hj (by decide)).mp g2, rfl⟩ hA
section
variable {yr ys yd yh yt : Int32} {ck cl cp cn cb cv cm ok ol op on ob ov om ac au yf yo yu ym : Nat → Int32}
theorem yk_st33 {post : Int32 → Prop} {x1 x2 : Int32} (K : ((x1 < 0 → (post (-1))) ∧ (¬ x1 < 0 → (((5 < x1 → (post (-1))) ∧ (¬ 5 < x1 → (((x1 = 0 → (post x2)) ∧ (¬ x1 = 0 → (((x1 = 1 → (wpY_longest (fun r_7 => (post r_7)) (yr, ys, yd, yh, yt, ck, cl, cp, cn, cb, cv, cm, ok, ol, op, on, ob, ov, om, ac, au, yf, yo, yu, ym) 1)) ∧ (¬ x1 = 1 → (((x1 = 2 → (post yr)) ∧ (¬ x1 = 2 → (((x1 = 3 → (post ys)) ∧ (¬ x1 = 3 → (((x1 = 4 → (post (nI (jv_ct (fun x => decide (¬ ck x = 0)) 16)))) ∧ (¬ x1 = 4 → (((x1 = 5 → (((yd = 0 → (post 0)) ∧ (¬ yd = 0 → (post 1))))) ∧ (¬ x1 = 5 → (True))))))))))))))))))))))))) : ∀ (d x : Nat), x + d = 16 → ∀ fuel, d < fuel →
    wY_state_33 post x1 x2 yr ys yd yh yt ck cl cp cn cb cv cm ok ol op on ob ov om ac au yf yo yu ym fuel (nI (jv_ct (fun x => decide (¬ ck x = 0)) x)) (nI x) := by
  intro d
  induction d with
  | zero =>
    intro x e fuel hf
    obtain ⟨fuel, rfl⟩ : ∃ g, fuel = g + 1 := ⟨fuel - 1, by omega⟩
    have : x = 16 := by omega
    subst this
    rw [wY_state_33]
    dsimp only
    exact br_t (nI_le (a := 16) (b := 16) (by omega) (by decide)) K
  | succ d ih =>
    intro x e fuel hf
    obtain ⟨fuel, rfl⟩ : ∃ g, fuel = g + 1 := ⟨fuel - 1, by omega⟩
    have h0 := ih (x + 1) (by omega) fuel (by omega)
    rw [wY_state_33]
    dsimp only
    rw [nI_clamp (n := x) (by omega)]
    refine br_f (nI_ge (b := 16) (by omega) (by decide)) ⟨vp_in_nI (by omega) (by decide), br_c (fun g => nm_r (nI_1 _) ?_) (fun g => nm_r (nI_1 _) (nm_r (nI_1 _) ?_))⟩
    · rw [jv_ct_f (p := fun x => decide (¬ ck x = 0)) (n := x) (decide_eq_false (fun z => z g))] at h0; exact h0
    · rw [jv_ct_t (p := fun x => decide (¬ ck x = 0)) (n := x) (decide_eq_true g)] at h0; exact h0
theorem yk_st4 {post : Int32 → Prop} {x1 : Int32} (K : ∃ n, wY_state_33 post x1 (nI (jv_ct (fun b => decide (cm b = 0)) 64)) yr ys yd yh yt ck cl cp cn cb cv cm ok ol op on ob ov om ac au yf yo yu ym n 0 0) : ∀ (d b : Nat), b + d = 64 → ∀ fuel, d < fuel →
    wY_state_4 post x1 yr ys yd yh yt ck cl cp cn cb cv cm ok ol op on ob ov om ac au yf yo yu ym fuel (nI (jv_ct (fun b => decide (cm b = 0)) b)) (nI b) := by
  intro d
  induction d with
  | zero =>
    intro x e fuel hf
    obtain ⟨fuel, rfl⟩ : ∃ g, fuel = g + 1 := ⟨fuel - 1, by omega⟩
    have : x = 64 := by omega
    subst this
    rw [wY_state_4]
    dsimp only
    exact br_t (nI_le (a := 64) (b := 64) (by omega) (by decide)) K
  | succ d ih =>
    intro x e fuel hf
    obtain ⟨fuel, rfl⟩ : ∃ g, fuel = g + 1 := ⟨fuel - 1, by omega⟩
    have h0 := ih (x + 1) (by omega) fuel (by omega)
    rw [wY_state_4]
    dsimp only
    rw [nI_clamp (n := x) (by omega)]
    refine br_f (nI_ge (b := 64) (by omega) (by decide)) ⟨vp_in_nI (by omega) (by decide), br_c (fun g => nm_r (nI_1 _) (nm_r (nI_1 _) ?_)) (fun g => nm_r (nI_1 _) ?_)⟩
    · rw [jv_ct_t (p := fun b => decide (cm b = 0)) (n := x) (decide_eq_true g)] at h0; exact h0
    · rw [jv_ct_f (p := fun b => decide (cm b = 0)) (n := x) (decide_eq_false g)] at h0; exact h0
end
section
variable {xc xr xs xg xd xm xt xw xo : Int32} {aw ap aa av ae af ab al an aq : Nat → Int32}
theorem xk_st74 {post : Int32 → Prop} {ck : Nat → Int32} (hk : ∀ x, x < 16 → aw (24 * x) = ck x) (K : post (nI (jv_ct (fun x => decide (¬ ck x = 0)) 16))) : ∀ (d x : Nat), x + d = 16 → ∀ fuel, d < fuel → wX_state_74 post xc xr xs xg xd xm xt xw xo aw ap aa av ae af ab al an aq fuel (nI (jv_ct (fun x => decide (¬ ck x = 0)) x)) (nI x) := by
  intro d
  induction d with
  | zero =>
    intro x e fuel hf
    obtain ⟨fuel, rfl⟩ : ∃ g, fuel = g + 1 := ⟨fuel - 1, by omega⟩
    have : x = 16 := by omega
    subst this
    rw [wX_state_74]
    exact br_t (nI_le (a := 16) (b := 16) (by omega) (by decide)) K
  | succ d ih =>
    intro x e fuel hf
    obtain ⟨fuel, rfl⟩ : ∃ g, fuel = g + 1 := ⟨fuel - 1, by omega⟩
    have h0 := ih (x + 1) (by omega) fuel (by omega)
    rw [wX_state_74]
    refine br_f (nI_ge (b := 16) (by omega) (by decide)) (xk_kind_i (by omega) ?_)
    rw [hk x (by omega)]
    refine br_c (fun g => nm_r (nI_1 _) ?_) (fun g => nm_r (nI_1 _) (nm_r (nI_1 _) ?_))
    · rw [jv_ct_f (p := fun x => decide (¬ ck x = 0)) (n := x) (decide_eq_false (fun z => z g))] at h0; exact h0
    · rw [jv_ct_t (p := fun x => decide (¬ ck x = 0)) (n := x) (decide_eq_true g)] at h0; exact h0
end
theorem i_vc_state {k : Nat} {u : SX} {v : SY} (I : i_Rel k u v) (hk : k + 5 ≤ 2560) (v1 : Int32) : wpX_state (fun r => wpY_state (fun r' => r' = r ∧ i_Rel (k + 5) u v) v v1) u v1 := by
  refine zz_el (Q := fun u v => wpX_state (fun r => wpY_state (fun r' => r' = r ∧ i_Rel (k + 5) u v) v v1) u v1) ?_ I
  intro xc xr xs xg xd xm xt xw xo aw ap aa av ae af ab al an aq yr ys yd yh yt ck cl cp cn cb cv cm ok ol op on ob ov om ac au yf yo yu ym R
  obtain ⟨r, s, m, h1, h2, rfl, rfl, rfl, rfl, rfl, rfl, rfl, hf, hRW, hd, hU, hJ, hP⟩ := jv_open R
  have hK := jv_kd hRW
  obtain ⟨o1, o2⟩ := jv_op hRW.2.2.1
  have hY : ∀ post : Int32 → Prop, (((v1 < 0 → (post (-1))) ∧ (¬ v1 < 0 → (((5 < v1 → (post (-1))) ∧ (¬ 5 < v1 → (((v1 = 0 → (post (nI (jv_ct (fun b => decide (cm b = 0)) 64)))) ∧ (¬ v1 = 0 → (((v1 = 1 → (wpY_longest (fun r_7 => (post r_7)) (nI r, nI s, yd, yh, yt, ck, cl, cp, cn, cb, cv, cm, ok, ol, op, on, ob, ov, om, ac, au, yf, yo, yu, ym) 1)) ∧ (¬ v1 = 1 → (((v1 = 2 → (post (nI r))) ∧ (¬ v1 = 2 → (((v1 = 3 → (post (nI s))) ∧ (¬ v1 = 3 → (((v1 = 4 → (post (nI (jv_ct (fun x => decide (¬ ck x = 0)) 16)))) ∧ (¬ v1 = 4 → (((v1 = 5 → (((yd = 0 → (post 0)) ∧ (¬ yd = 0 → (post 1))))) ∧ (¬ v1 = 5 → (True))))))))))))))))))))))))) → wpY_state post (nI r, nI s, yd, yh, yt, ck, cl, cp, cn, cb, cv, cm, ok, ol, op, on, ob, ov, om, ac, au, yf, yo, yu, ym) v1 := by
    intro post K
    unfold wpY_state; dsimp only
    exact ⟨65, yk_st4 ⟨17, yk_st33 K 16 0 (by omega) 17 (by omega)⟩ 64 0 (by omega) 65 (by omega)⟩
  unfold wpX_state; dsimp only
  refine xk_marks (nm_e ?_)
  refine br_c (fun g0 => hY _ (br_t g0 ⟨rfl, R⟩)) (fun g0 => br_c (fun g5 => hY _ (br_f g0 (br_t g5 ⟨rfl, R⟩))) (fun g5 => ?_))
  refine br_c (fun e0 => xk_ones (hY _ (br_f g0 (br_f g5 (br_t e0 ⟨?_, R⟩))))) (fun e0 => ?_)
  · exact congrArg nI (jv_ct_cg 64 (fun b hb => Bool.eq_iff_iff.mpr (by rw [decide_eq_true_iff, o1 b hb])))
  refine br_c (fun e1 => ?_) (fun e1 => ?_)
  · obtain ⟨l, l1, l2, l3⟩ := xk_longest (jv_M aw ^^^ (-1))
    obtain ⟨l', z, y1, y2, y3, y4⟩ := yk_longest (cm := cm) o1 o2
    have el : l' = l := jv_Lg_u y2 l2
    subst el
    refine l3 _ (hY _ (br_f g0 (br_f g5 (br_f e0 (br_t e1 ?_)))))
    exact (y4 _ _ _ _ _ _ _ _ _ _ _ _ _ _ _ _ _ _ _ _ _ _ _ _ _).2 ⟨rfl, R⟩
  refine br_c (fun e2 => hY _ (br_f g0 (br_f g5 (br_f e0 (br_f e1 (br_t e2 ⟨rfl, R⟩)))))) (fun e2 => ?_)
  refine br_c (fun e3 => hY _ (br_f g0 (br_f g5 (br_f e0 (br_f e1 (br_f e2 (br_t e3 ⟨rfl, R⟩))))))) (fun e3 => ?_)
  refine br_c (fun e4 => ⟨17, xk_st74 hK (hY _ (br_f g0 (br_f g5 (br_f e0 (br_f e1 (br_f e2 (br_f e3 (br_t e4 ⟨rfl, R⟩)))))))) 16 0 (by omega) 17 (by omega)⟩) (fun e4 => ?_)
  refine br_c (fun e5 => ?_) (fun _ => trivial)
  refine br_c (fun g => hY _ (br_f g0 (br_f g5 (br_f e0 (br_f e1 (br_f e2 (br_f e3 (br_f e4 (br_t e5 (br_t g ⟨rfl, R⟩)))))))))) (fun g => hY _ (br_f g0 (br_f g5 (br_f e0 (br_f e1 (br_f e2 (br_f e3 (br_f e4 (br_t e5 (br_f g ⟨rfl, R⟩))))))))))
end
section
/-! the two new objects -/
section
variable {yr ys yd yh yt : Int32} {ck cl cp cn cb cv cm ok ol op on ob ov om ac au yf yo yu ym : Nat → Int32}
theorem yk_in191 {post : SY → Prop} (K : wpY_place (fun u => match u with | (yr, ys, yd, yh, yt, ck, cl, cp, cn, cb, cv, cm, ok, ol, op, on, ob, ov, om, ac, au, yf, yo, yu, ym) => post (yr, ys, yd, yh, yt, ck, cl, cp, cn, cb, cv, cm, ok, ol, op, on, ob, ov, om, ac, au, yf, yo, yu, ym)) (yr, ys, yd, yh, yt, upd ck 0 2, cl, cp, cn, jv_fl cb 0 384 (-1), cv, cm, ok, ol, op, on, ob, ov, om, ac, au, yf, yo, yu, ym)) : ∀ (d i : Nat), i + d = 384 → ∀ fuel, d < fuel → wY_init_191 post yr ys yd yh yt fuel (nI i) ck cl cp cn (jv_fl cb 0 i (-1)) cv cm ok ol op on ob ov om ac au yf yo yu ym := by
  intro d
  induction d with
  | zero =>
    intro i e fuel hf
    obtain ⟨fuel, rfl⟩ : ∃ g, fuel = g + 1 := ⟨fuel - 1, by omega⟩
    have : i = 384 := by omega
    subst this
    rw [wY_init_191]
    exact br_t (nI_le (a := 384) (b := 384) (by omega) (by decide)) (nm_e K)
  | succ d ih =>
    intro i e fuel hf
    obtain ⟨fuel, rfl⟩ : ∃ g, fuel = g + 1 := ⟨fuel - 1, by omega⟩
    have h0 := ih (i + 1) (by omega) fuel (by omega)
    rw [wY_init_191]
    dsimp only
    have es : upd (jv_fl cb 0 i (-1)) i (-1) = jv_fl cb 0 (i + 1) (-1) := by
      have := jv_fl_s (f := cb) (b := 0) (n := i) (v := -1)
      rw [Nat.zero_add] at this
      exact this
    rw [nI_clamp (by omega), es]
    exact br_f (nI_ge (b := 384) (by omega) (by decide)) ⟨vp_in_nI (by omega) (by decide), nm_e (nm_r (nI_1 i) h0)⟩
theorem yk_in169 {post : SY → Prop} (K : ∃ n, wY_init_191 post yr ys yd yh yt n 0 ck cl cp (jv_fl cn 0 1024 (-1)) cb cv cm ok ol op on ob ov om ac au yf yo yu ym) : ∀ (d i : Nat), i + d = 1024 → ∀ fuel, d < fuel → wY_init_169 post yr ys yd yh yt fuel (nI i) ck cl cp (jv_fl cn 0 i (-1)) cb cv cm ok ol op on ob ov om ac au yf yo yu ym := by
  intro d
  induction d with
  | zero =>
    intro i e fuel hf
    obtain ⟨fuel, rfl⟩ : ∃ g, fuel = g + 1 := ⟨fuel - 1, by omega⟩
    have : i = 1024 := by omega
    subst this
    rw [wY_init_169]
    exact br_t (nI_le (a := 1024) (b := 1024) (by omega) (by decide)) K
  | succ d ih =>
    intro i e fuel hf
    obtain ⟨fuel, rfl⟩ : ∃ g, fuel = g + 1 := ⟨fuel - 1, by omega⟩
    have h0 := ih (i + 1) (by omega) fuel (by omega)
    rw [wY_init_169]
    dsimp only
    have es : upd (jv_fl cn 0 i (-1)) i (-1) = jv_fl cn 0 (i + 1) (-1) := by
      have := jv_fl_s (f := cn) (b := 0) (n := i) (v := -1)
      rw [Nat.zero_add] at this
      exact this
    rw [nI_clamp (by omega), es]
    exact br_f (nI_ge (b := 1024) (by omega) (by decide)) ⟨vp_in_nI (by omega) (by decide), nm_e (nm_r (nI_1 i) h0)⟩
end
theorem jv_init_RW : jv_RW (upd (fun _ => 0) 0 2) (upd (fun _ => 0) 0 2) (fun _ => 0) (fun _ => 0) (jv_fl (fun _ => 0) 0 1024 (-1)) (jv_fl (fun _ => 0) 0 384 (-1)) (fun _ => 0) (fun _ => 0) := by
  have wz : ∀ q, q ≠ 0 → upd (fun _ => (0 : Int32)) 0 2 q = 0 := fun q hq => pk_un hq
  refine ⟨fun x hx => ?_, pk_us, fun b hb => ?_, fun b hb => wz _ (by omega), fun q hq => wz _ (by omega), fun i hi => wz _ (by omega), fun _ _ => rfl, fun _ _ => rfl, fun i hi => jv_fl_o (by omega), fun i hi => jv_fl_o (by omega), fun _ _ => rfl, fun _ _ => rfl⟩
  · have e1 : ∀ a, a < 64 → jv_fl (fun _ => (0 : Int32)) 0 1024 (-1) (64 * x + a) = -1 := fun a ha => jv_fl_i (by omega) (by omega)
    have e2 : ∀ p, p < 24 → jv_fl (fun _ => (0 : Int32)) 0 384 (-1) (24 * x + p) = -1 := fun a ha => jv_fl_i (by omega) (by omega)
    by_cases z : x = 0
    · subst z
      refine ⟨rfl, Or.inr (Or.inr pk_us), fun _ => wz _ (by omega), fun _ => ⟨wz _ (by omega), 0, fun _ => 0, fun _ => 0, ⟨wz _ (by omega), fun i hi => by omega⟩, by omega, fun i hi => by omega, fun i j _ hj => by omega, fun a ha _ => e1 a ha⟩, fun h => absurd pk_us h, fun h => ?_, fun _ => e2⟩
      rw [pk_us] at h; exact absurd h (by decide)
    · have ek : upd (fun _ => (0 : Int32)) 0 2 x = 0 := wz x z
      unfold jv_Nd
      rw [ek, wz _ (by omega)]
      exact ⟨rfl, Or.inl rfl, fun h => absurd rfl h, fun h => absurd h (by decide), fun _ => e1, fun h => absurd h (by decide), fun _ => e2⟩
  · have : jv_lb (jv_M (upd (fun _ => (0 : Int32)) 0 2)) b = false := by
      rw [jv_M_lb _ hb, wz _ (by omega), wz _ (by omega)]
      have hz : ∀ i, (0 : Int32).toBitVec.getLsbD i = false := fun i => BitVec.getLsbD_zero
      rw [hz, hz]
      by_cases q : b < 32
      · rw [if_pos q]
      · rw [if_neg q]
    rw [this]; rfl
theorem jv_init_UI : jv_UI (upd (fun _ => 0) 0 2) (fun _ => 0) (fun _ => 0) (jv_fl (fun _ => 0) 0 1024 (-1)) (jv_fl (fun _ => 0) 0 384 (-1)) (fun _ => 0) := by
  have e1 : ∀ j, j < 1024 → jv_fl (fun _ => (0 : Int32)) 0 1024 (-1) j = -1 := fun a ha => jv_fl_i (by omega) (by omega)
  have e2 : ∀ p, p < 384 → jv_fl (fun _ => (0 : Int32)) 0 384 (-1) p = -1 := fun a ha => jv_fl_i (by omega) (by omega)
  refine ⟨fun j x hj hx e => ?_, fun x hx hk => ?_, fun x hx1 hx h2 => ?_, ⟨fun _ => 0, fun x d hx1 hx h2 => ?_⟩, fun j b hj hb e => ?_, fun i j b hi hj hb e _ => ?_⟩
  · rw [e1 j hj] at e; exact absurd e.symm (jv_neg1 (by omega))
  · have : jv_lk (jv_fl (fun _ => (0 : Int32)) 0 1024 (-1)) x = 0 := jv_ct_0 1024 (fun j hj => decide_eq_false (fun e => by rw [e1 j hj] at e; exact absurd e.symm (jv_neg1 (by omega))))
    rw [this]; rfl
  · rw [pk_un (by omega)] at h2; exact absurd h2 (by decide)
  · rw [pk_un (by omega)] at h2; exact absurd h2 (by decide)
  · rw [e2 j hj] at e; exact absurd e.symm (jv_neg1 (by omega))
  · rw [e2 i hi] at e; exact absurd e.symm (jv_neg1 (by omega))
theorem i_vc0 : wpX_init (fun u => wpY_init (fun v => i_Rel 0 u v)) := by
  unfold wpX_init
  refine nm_e (nm_e ?_)
  unfold wpY_init
  have hz : jv_Z (fun _ => (0 : Int32)) (fun _ => 0) (fun _ => 0) (fun _ => 0) (fun _ => 0) (fun _ => 0) (fun _ => 0) := ⟨fun _ _ => rfl, fun _ _ => rfl, fun _ _ => rfl, fun _ _ => rfl, fun _ _ => rfl, fun _ _ => rfl, fun _ _ => rfl⟩
  have hR := jv_R_fresh (xd := 0) (aa := fun _ => 0) (av := fun _ => 0) (ae := fun _ => 0) (an := fun _ => 0) (ac := fun _ => 0) (au := fun _ => 0) (yf := fun _ => 0) jv_init_RW rfl (Or.inl ⟨rfl, jv_init_UI⟩) rfl (fun _ _ => rfl)
  have h191 := yk_in191 (post := fun v => i_Rel 0 (0, 0, 0, 0, 0, 0, 0, 0, 0, upd (fun _ => 0) 0 2, upd (fun _ => 0) 0 2, (fun _ => 0), (fun _ => 0), (fun _ => 0), (fun _ => 0), (fun _ => 0), (fun _ => 0), (fun _ => 0), (fun _ => 0)) v) (yr := 0) (ys := 0) (yd := 0) (yh := 0) (yt := 0) (ck := fun _ => 0) (cl := fun _ => 0) (cp := fun _ => 0) (cn := jv_fl (fun _ => 0) 0 1024 (-1)) (cb := fun _ => 0) (cv := fun _ => 0) (cm := fun _ => 0) (ok := fun _ => 0) (ol := fun _ => 0) (op := fun _ => 0) (on := fun _ => 0) (ob := fun _ => 0) (ov := fun _ => 0) (om := fun _ => 0) (ac := fun _ => 0) (au := fun _ => 0) (yf := fun _ => 0) (yo := fun _ => 0) (yu := fun _ => 0) (ym := fun _ => 0)
    (yk_place jv_init_RW.2.2.2.2.2 hz hR) 384 0 (by omega) 385 (by omega)
  rw [jv_fl_0] at h191
  have h169 := yk_in169 (cn := fun _ => 0) ⟨385, h191⟩ 1024 0 (by omega) 1025 (by omega)
  rw [jv_fl_0] at h169
  exact ⟨1025, h169⟩
end
section
/-! damage: what is asked -/
def jv_g0 (ck : Nat → Int32) (v2 v3 : Int32) : Prop := ∃ a n, a < 16 ∧ v2 = nI a ∧ ¬ ck a = 0 ∧ n < 10 ∧ v3 = nI n
def jv_g1 (v2 v3 : Int32) : Prop := ∃ b, b < 64 ∧ v2 = nI b ∧ (v3 = 0 ∨ v3 = 1)
def jv_g4 (ck : Nat → Int32) (v2 : Int32) : Prop := ∃ a, 1 ≤ a ∧ a < 16 ∧ v2 = nI a ∧ ¬ ck a = 0
def jv_g2 (ck aw : Nat → Int32) (v2 v3 v4 : Int32) : Prop := ∃ a j c n l, a < 16 ∧ v2 = nI a ∧ ck a = 1 ∧ aw (24 * a + 2) = nI n ∧ n ≤ 5 ∧ j < n ∧ v3 = nI j ∧ aw (24 * a + 4 + 3 * j + 2) = nI l ∧ l ≤ 64 ∧ c + l ≤ 64 ∧ v4 = nI c
def jv_g3 (ck aw : Nat → Int32) (v2 v3 v4 : Int32) : Prop := ∃ a j c n, a < 16 ∧ v2 = nI a ∧ ck a = 2 ∧ aw (24 * a + 2) = nI n ∧ n ≤ 10 ∧ j < n ∧ v3 = nI j ∧ c < 16 ∧ v4 = nI c
section
variable {xc xr xs xg xd xm xt xw xo : Int32} {aw ap aa av ae af ab al an aq : Nat → Int32}
theorem xk_d0 {post : Int32 → SX → Prop} {a b c d : Int32} (K : post 0 (xc, xr, xs, xg, xd, xm, xt, xw, xo, aw, ap, aa, av, ae, af, ab, al, an, aq)) : wX_damage_235 post a b c d 0 xc xr xs xg xd xm xt xw xo aw ap aa av ae af ab al an aq := by
  unfold wX_damage_235
  exact br_t rfl K
theorem xk_dm0 {post : Int32 → SX → Prop} {ck : Nat → Int32} {v2 v3 v4 : Int32} (hk : ∀ x, x < 16 → aw (24 * x) = ck x) (Kn : ¬ jv_g0 ck v2 v3 → post 0 (xc, 0, xs, xg, xd, xm, xt, xw, xo, aw, ap, aa, av, ae, af, ab, al, an, aq)) (Ky : jv_g0 ck v2 v3 → wX_damage_235 post 0 v2 v3 v4 1 xc 0 xs xg xd xm xt xw xo aw ap aa av ae af ab al an aq) : wpX_damage post (xc, 0, xs, xg, xd, xm, xt, xw, xo, aw, ap, aa, av, ae, af, ab, al, an, aq) 0 v2 v3 v4 := by
  unfold wpX_damage; dsimp only
  refine br_t (by decide) (br_f (by decide) (br_f (by decide) (br_t rfl ?_)))
  have no : ¬ jv_g0 ck v2 v3 → wX_damage_62 post 0 v2 v3 v4 xc 0 xs xg xd xm xt xw xo aw ap aa av ae af ab al an aq := fun h => by
    unfold wX_damage_62 wX_damage_63
    exact xk_d0 (Kn h)
  refine xk_kind_v hk (fun a ha e => br_c (fun h0 => no ?_) (fun h0 => br_c (fun h1 => no ?_) (fun h1 => br_c (fun h2 => no ?_) (fun h2 => ?_)))) (fun h => br_t rfl (no ?_))
  · rintro ⟨a', n, q1, q2, q3, _⟩
    rw [jv_nI16 q1 ha (q2.symm.trans e)] at q3
    exact q3 h0
  · rintro ⟨a', n, _, _, _, q4, q5⟩
    rw [q5] at h1; exact nI_pos (by omega) h1
  · rintro ⟨a', n, _, _, _, q4, q5⟩
    rw [q5] at h2; exact nI_ge (b := 10) q4 (by decide) h2
  · unfold wX_damage_63
    rcases pk_ix v3 (n := 10) (by decide) with g | g | ⟨n, hn, g⟩
    · exact absurd g h1
    · exact absurd g h2
    · exact Ky ⟨a, n, ha, e, h0, hn, g⟩
  · rintro ⟨a', n, q1, q2, _⟩
    exact h a' q1 q2
theorem xk_dm1 {post : Int32 → SX → Prop} {v2 v3 v4 : Int32} (Kn : ¬ jv_g1 v2 v3 → post 0 (xc, 0, xs, xg, xd, xm, xt, xw, xo, aw, ap, aa, av, ae, af, ab, al, an, aq)) (Ky : jv_g1 v2 v3 → wX_damage_235 post 1 v2 v3 v4 1 xc 0 xs xg xd xm xt xw xo aw ap aa av ae af ab al an aq) : wpX_damage post (xc, 0, xs, xg, xd, xm, xt, xw, xo, aw, ap, aa, av, ae, af, ab, al, an, aq) 1 v2 v3 v4 := by
  unfold wpX_damage; dsimp only
  refine br_t (by decide) (br_f (by decide) (br_f (by decide) (br_f (by decide) (br_t rfl ?_))))
  have no : ¬ jv_g1 v2 v3 → wX_damage_91 post 1 v2 v3 v4 xc 0 xs xg xd xm xt xw xo aw ap aa av ae af ab al an aq := fun h => by
    unfold wX_damage_91 wX_damage_92
    exact xk_d0 (Kn h)
  have yes : jv_g1 v2 v3 → wX_damage_87 post 1 v2 v3 v4 xc 0 xs xg xd xm xt xw xo aw ap aa av ae af ab al an aq := fun h => by
    unfold wX_damage_87 wX_damage_92
    exact Ky h
  refine br_c (fun h1 => no ?_) (fun h1 => br_c (fun h2 => no ?_) (fun h2 => ?_))
  · rintro ⟨b, q1, q2, _⟩
    rw [q2] at h1; exact nI_pos (by omega) h1
  · rintro ⟨b, q1, q2, _⟩
    rw [q2] at h2; exact nI_ge (b := 64) q1 (by decide) h2
  · rcases pk_ix v2 (n := 64) (by decide) with g | g | ⟨n, hn, g⟩
    · exact absurd g h1
    · exact absurd g h2
    · refine br_c (fun h3 => yes ⟨n, hn, g, Or.inl h3⟩) (fun h3 => br_c (fun h4 => yes ⟨n, hn, g, Or.inr h4⟩) (fun h4 => no ?_))
      rintro ⟨b, q1, q2, q3 | q3⟩
      · exact h3 q3
      · exact h4 q3
theorem xk_dm4 {post : Int32 → SX → Prop} {ck : Nat → Int32} {v2 v3 v4 : Int32} (hk : ∀ x, x < 16 → aw (24 * x) = ck x) (Kn : ¬ jv_g4 ck v2 → post 0 (xc, 0, xs, xg, xd, xm, xt, xw, xo, aw, ap, aa, av, ae, af, ab, al, an, aq)) (Ky : jv_g4 ck v2 → wX_damage_235 post 4 v2 v3 v4 1 xc 0 xs xg xd xm xt xw xo aw ap aa av ae af ab al an aq) : wpX_damage post (xc, 0, xs, xg, xd, xm, xt, xw, xo, aw, ap, aa, av, ae, af, ab, al, an, aq) 4 v2 v3 v4 := by
  unfold wpX_damage; dsimp only
  refine br_t (by decide) (br_f (by decide) (br_t (by decide) (br_t rfl ?_)))
  have no : ¬ jv_g4 ck v2 → wX_damage_232 post 4 v2 v3 v4 xc 0 xs xg xd xm xt xw xo aw ap aa av ae af ab al an aq := fun h => by
    unfold wX_damage_232 wX_damage_233
    exact xk_d0 (Kn h)
  refine br_c (fun h0 => no ?_) (fun h0 => xk_kind_v hk (fun a ha e => br_c (fun h1 => no ?_) (fun h1 => ?_)) (fun h => br_t rfl (no ?_)))
  · rintro ⟨a, q1, q2, q3, _⟩
    rw [h0] at q3
    have := (nI_eq (a := 0) (by decide) (by omega)).mp q3
    omega
  · rintro ⟨a', q1, q2, q3, q4⟩
    rw [jv_nI16 q2 ha (q3.symm.trans e)] at q4
    exact q4 h1
  · unfold wX_damage_233
    refine Ky ⟨a, ?_, ha, e, h1⟩
    rcases Nat.eq_zero_or_pos a with q | q
    · rw [e, q] at h0; exact absurd rfl h0
    · exact q
  · rintro ⟨a, q1, q2, q3, _⟩
    exact h a q2 q3
theorem xk_dmx {post : Int32 → SX → Prop} {v1 v2 v3 v4 : Int32} (h : ∀ w, w < 5 → ¬ v1 = nI w) (K : post 0 (xc, 0, xs, xg, xd, xm, xt, xw, xo, aw, ap, aa, av, ae, af, ab, al, an, aq)) : wpX_damage post (xc, 0, xs, xg, xd, xm, xt, xw, xo, aw, ap, aa, av, ae, af, ab, al, an, aq) v1 v2 v3 v4 := by
  have n4 : ¬ v1 = 4 := h 4 (by omega)
  have no : wX_damage_232 post v1 v2 v3 v4 xc 0 xs xg xd xm xt xw xo aw ap aa av ae af ab al an aq := by
    unfold wX_damage_232 wX_damage_233
    exact xk_d0 K
  unfold wpX_damage; dsimp only
  refine br_t (by decide) (br_c (fun _ => br_f n4 no) (fun g0 => br_c (fun _ => br_f n4 no) (fun g3 => ?_)))
  exfalso
  obtain ⟨w, hw, rfl⟩ := nI_of g0
  have : ¬ 3 < w := fun q => g3 (nI_lt (a := 3) (b := w) q hw)
  exact h w (by omega) rfl
theorem xk_dm2 {post : Int32 → SX → Prop} {ck : Nat → Int32} {v2 v3 v4 : Int32} (hk : ∀ x, x < 16 → aw (24 * x) = ck x) (hF : ∀ a, a < 16 → ck a = 1 → ∃ n, ∃ P B L : Nat → Nat, n ≤ 5 ∧ jv_XW aw a n P B L ∧ (∀ i, i < n → L i ≤ 64))
    (Kn : ¬ jv_g2 ck aw v2 v3 v4 → post 0 (xc, 0, xs, xg, xd, xm, xt, xw, xo, aw, ap, aa, av, ae, af, ab, al, an, aq)) (Ky : jv_g2 ck aw v2 v3 v4 → wX_damage_235 post 2 v2 v3 v4 1 xc 0 xs xg xd xm xt xw xo aw ap aa av ae af ab al an aq) : wpX_damage post (xc, 0, xs, xg, xd, xm, xt, xw, xo, aw, ap, aa, av, ae, af, ab, al, an, aq) 2 v2 v3 v4 := by
  unfold wpX_damage; dsimp only
  refine br_t (by decide) (br_f (by decide) (br_f (by decide) (br_f (by decide) (br_f (by decide) (br_t rfl ?_)))))
  have no : ¬ jv_g2 ck aw v2 v3 v4 → wX_damage_159 post 2 v2 v3 v4 xc 0 xs xg xd xm xt xw xo aw ap aa av ae af ab al an aq := fun h => by
    unfold wX_damage_159 wX_damage_160
    exact xk_d0 (Kn h)
  refine xk_kind_v hk (fun a ha e => br_c (fun h1 => ?_) (fun h1 => no ?_)) (fun h => br_f (by decide) (no ?_))
  · obtain ⟨n, P, B, L, hn, hW, hL⟩ := hF a ha h1
    subst e
    refine br_c (fun g3 => no ?_) (fun g3 => xk_base ?_)
    · rintro ⟨a', j, c, n', l, q1, q2, q3, q4, q5, q6, q7, _⟩
      rw [q7] at g3; exact nI_pos (by omega) g3
    obtain ⟨j, hj, rfl⟩ := nI_of g3
    rw [ad_p2, nI_clamp (n := 24 * a + 2) (by omega), hW.1]
    have same : ∀ a' j' c n' l : Nat, a' < 16 → nI a = nI a' → aw (24 * a' + 2) = nI n' → n' ≤ 5 → j' < n' → nI j = nI j' → a' = a ∧ n' = n ∧ j' = j := fun a' j' c n' l q1 q2 q4 q5 q6 q7 => by
      have e1 := jv_nI16 ha q1 q2
      subst e1
      rw [hW.1, nI_eq (by omega) (by omega)] at q4
      rw [nI_eq hj (by omega)] at q7
      exact ⟨rfl, q4.symm, q7.symm⟩
    refine ⟨vp_in_nI (by omega) (by decide), pk_le n j (fun h => no ?_) (fun hjn => br_c (fun g4 => no ?_) (fun g4 => xk_base ?_))⟩
    · rintro ⟨a', j', c, n', l, q1, q2, q3, q4, q5, q6, q7, _⟩
      have := same a' j' c n' l q1 q2 q4 q5 q6 q7
      omega
    · rintro ⟨a', j', c, n', l, q1, q2, q3, q4, q5, q6, q7, q8, q9, q10, q11⟩
      rw [q11] at g4; exact nI_pos (by omega) g4
    obtain ⟨c, hc, rfl⟩ := nI_of g4
    have hLj := hL j hjn
    rw [ad_x2, nI_clamp (n := 24 * a + 4 + 3 * j + 2) (by omega), (hW.2 j hjn).2.2, show (64 : Int32) - nI (L j) = nI (64 - L j) from pk_sub (a := 64) (b := L j) hLj]
    refine ⟨vp_in_nI (by omega) (by decide), pk_lt (64 - L j) c (fun h => no ?_) (fun h => ?_)⟩
    · rintro ⟨a', j', c', n', l, q1, q2, q3, q4, q5, q6, q7, q8, q9, q10, q11⟩
      obtain ⟨e1, e2, e3⟩ := same a' j' c n' l q1 q2 q4 q5 q6 q7
      subst e1 e3
      rw [(hW.2 _ hjn).2.2, nI_eq (by omega) (by omega)] at q8
      rw [nI_eq hc (by omega)] at q11
      omega
    · unfold wX_damage_160
      exact Ky ⟨a, j, c, n, L j, ha, rfl, h1, hW.1, hn, hjn, rfl, (hW.2 j hjn).2.2, hLj, by omega, rfl⟩
  · rintro ⟨a', j', c', n', l, q1, q2, q3, _⟩
    rw [jv_nI16 q1 ha (q2.symm.trans e)] at q3
    exact h1 q3
  · rintro ⟨a', j', c', n', l, q1, q2, q3, _⟩
    exact h a' q1 q2
theorem xk_dm3 {post : Int32 → SX → Prop} {ck : Nat → Int32} {v2 v3 v4 : Int32} (hk : ∀ x, x < 16 → aw (24 * x) = ck x) (hF : ∀ a, a < 16 → ck a = 2 → ∃ n, n ≤ 10 ∧ aw (24 * a + 2) = nI n)
    (Kn : ¬ jv_g3 ck aw v2 v3 v4 → post 0 (xc, 0, xs, xg, xd, xm, xt, xw, xo, aw, ap, aa, av, ae, af, ab, al, an, aq)) (Ky : jv_g3 ck aw v2 v3 v4 → wX_damage_235 post 3 v2 v3 v4 1 xc 0 xs xg xd xm xt xw xo aw ap aa av ae af ab al an aq) : wpX_damage post (xc, 0, xs, xg, xd, xm, xt, xw, xo, aw, ap, aa, av, ae, af, ab, al, an, aq) 3 v2 v3 v4 := by
  unfold wpX_damage; dsimp only
  refine br_t (by decide) (br_f (by decide) (br_f (by decide) (br_f (by decide) (br_f (by decide) (br_f (by decide) (br_t rfl ?_))))))
  have no : ¬ jv_g3 ck aw v2 v3 v4 → wX_damage_205 post 3 v2 v3 v4 xc 0 xs xg xd xm xt xw xo aw ap aa av ae af ab al an aq := fun h => by
    unfold wX_damage_205 wX_damage_206
    exact xk_d0 (Kn h)
  refine xk_kind_v hk (fun a ha e => br_c (fun h1 => ?_) (fun h1 => no ?_)) (fun h => br_f (by decide) (no ?_))
  · obtain ⟨n, hn, hW⟩ := hF a ha h1
    subst e
    refine br_c (fun g3 => no ?_) (fun g3 => xk_base ?_)
    · rintro ⟨a', j, c, n', q1, q2, q3, q4, q5, q6, q7, _⟩
      rw [q7] at g3; exact nI_pos (by omega) g3
    obtain ⟨j, hj, rfl⟩ := nI_of g3
    rw [ad_p2, nI_clamp (n := 24 * a + 2) (by omega), hW]
    refine ⟨vp_in_nI (by omega) (by decide), pk_le n j (fun h => no ?_) (fun hjn => xk_inode_v (fun c hc e => br_f (by decide) ?_) (fun h => br_t rfl (no ?_)))⟩
    · rintro ⟨a', j', c, n', q1, q2, q3, q4, q5, q6, q7, _⟩
      have e1 := jv_nI16 ha q1 q2
      subst e1
      rw [hW, nI_eq (by omega) (by omega)] at q4
      rw [nI_eq hj (by omega)] at q7
      omega
    · unfold wX_damage_206
      exact Ky ⟨a, j, c, n, ha, rfl, h1, hW, hn, hjn, rfl, hc, e⟩
    · rintro ⟨a', j', c, n', q1, q2, q3, q4, q5, q6, q7, q8, q9⟩
      exact h c q8 q9
  · rintro ⟨a', j', c', n', q1, q2, q3, _⟩
    rw [jv_nI16 q1 ha (q2.symm.trans e)] at q3
    exact h1 q3
  · rintro ⟨a', j', c', n', q1, q2, q3, _⟩
    exact h a' q1 q2
/-- the good end: harm is done, and a checkpoint -/
theorem xk_d1 {post : Int32 → SX → Prop} {a b c d : Int32} (K : wpX_harm (fun u => match u with | (xc, xr, xs, xg, xd, xm, xt, xw, xo, aw, ap, aa, av, ae, af, ab, al, an, aq) => wpX_checkpoint (fun r_26 u => match u with | (xc, xr, xs, xg, xd, xm, xt, xw, xo, aw, ap, aa, av, ae, af, ab, al, an, aq) => post 1 (xc, xr, xs, xg, xd, xm, xt, xw, xo, aw, ap, aa, av, ae, af, ab, al, an, aq)) (xc, xr, xs, xg, xd, xm, xt, xw, xo, aw, ap, aa, av, ae, af, ab, al, an, aq)) (xc, xr, xs, xg, 1, xm, xt, xw, xo, aw, ap, aa, av, ae, af, ab, al, an, aq) a b c d) : wX_damage_235 post a b c d 1 xc xr xs xg xd xm xt xw xo aw ap aa av ae af ab al an aq := by
  unfold wX_damage_235
  exact br_f (by decide) K
end
section
variable {yr ys yd yh yt : Int32} {ck cl cp cn cb cv cm ok ol op on ob ov om ac au yf yo yu ym : Nat → Int32}
theorem yk_d0 {post : Int32 → SY → Prop} (K : post 0 (yr, ys, yd, yh, yt, ck, cl, cp, cn, cb, cv, cm, ok, ol, op, on, ob, ov, om, ac, au, yf, yo, yu, ym)) : wY_damage_86 post 0 yr ys yd yh yt ck cl cp cn cb cv cm ok ol op on ob ov om ac au yf yo yu ym := by
  unfold wY_damage_86
  exact br_t rfl K
theorem yk_d1 {post : Int32 → SY → Prop} (h : jv_Z ck cl cp cn cb cv cm) (h' : jv_Z ok ol op on ob ov om) (K : post 1 (yr, ys, 1, yh, yt, ck, cl, cp, cn, cb, cv, cm, ck, cl, cp, cn, cb, cv, cm, ac, au, yf, yo, yu, ym)) : wY_damage_86 post 1 yr ys yd yh yt ck cl cp cn cb cv cm ok ol op on ob ov om ac au yf yo yu ym := by
  unfold wY_damage_86
  exact br_f (by decide) (yk_place h h' K)
theorem yk_dm0 {post : Int32 → SY → Prop} {v2 v3 v4 : Int32} (Kn : ¬ jv_g0 ck v2 v3 → post 0 (0, ys, yd, yh, yt, ck, cl, cp, cn, cb, cv, cm, ok, ol, op, on, ob, ov, om, ac, au, yf, yo, yu, ym)) (Ky : ∀ a, a < 16 → v2 = nI a → jv_g0 ck v2 v3 → wY_damage_86 post 1 0 ys yd yh yt ck (upd cl a v3) cp cn cb cv cm ok ol op on ob ov om ac au yf yo yu ym) : wpY_damage post (0, ys, yd, yh, yt, ck, cl, cp, cn, cb, cv, cm, ok, ol, op, on, ob, ov, om, ac, au, yf, yo, yu, ym) 0 v2 v3 v4 := by
  unfold wpY_damage; dsimp only
  refine br_t (by decide) (br_t rfl ?_)
  unfold wpY_countWrong; dsimp only
  refine yk_in_v (b := 15) rfl (by decide) (fun a ha e => br_f (by decide) ?_) (fun h => br_t rfl (yk_d0 (Kn ?_)))
  · subst e
    rw [nI_clamp (n := a) (by omega)]
    have va : vp_in (nI a) 16 := vp_in_nI (by omega) (by decide)
    refine ⟨va, br_c (fun h0 => yk_d0 (Kn ?_)) (fun h0 => yk_in_v (b := 9) rfl (by decide) (fun n hn e2 => br_f (by decide) ⟨va, nm_e ?_⟩) (fun h => br_t rfl (yk_d0 (Kn ?_))))⟩
    · rintro ⟨a', n, q1, q2, q3, _⟩
      rw [jv_nI16 q1 (by omega) q2.symm] at q3
      exact q3 h0
    · exact Ky a (by omega) rfl ⟨a, n, by omega, rfl, h0, hn, e2⟩
    · rintro ⟨a', n, _, _, _, q4, q5⟩
      exact h n (by omega) q5
  · rintro ⟨a', n, q1, q2, _⟩
    exact h a' (by omega) q2
theorem yk_dm1 {post : Int32 → SY → Prop} {v2 v3 v4 : Int32} (Kn : ¬ jv_g1 v2 v3 → post 0 (0, ys, yd, yh, yt, ck, cl, cp, cn, cb, cv, cm, ok, ol, op, on, ob, ov, om, ac, au, yf, yo, yu, ym)) (Ky : ∀ b, b < 64 → v2 = nI b → jv_g1 v2 v3 → wY_damage_86 post 1 0 ys yd yh yt ck cl cp cn cb cv (upd cm b v3) ok ol op on ob ov om ac au yf yo yu ym) : wpY_damage post (0, ys, yd, yh, yt, ck, cl, cp, cn, cb, cv, cm, ok, ol, op, on, ob, ov, om, ac, au, yf, yo, yu, ym) 1 v2 v3 v4 := by
  unfold wpY_damage; dsimp only
  refine br_t (by decide) (br_f (by decide) (br_t rfl ?_))
  unfold wpY_markWrong; dsimp only
  refine yk_in_v (b := 63) rfl (by decide) (fun a ha e => br_f (by decide) ?_) (fun h => br_t rfl (yk_d0 (Kn ?_)))
  · subst e
    rw [nI_clamp (n := a) (by omega)]
    have va : vp_in (nI a) 64 := vp_in_nI (by omega) (by decide)
    refine yk_in_v (b := 1) rfl (by decide) (fun n hn e2 => br_f (by decide) ⟨va, nm_e ?_⟩) (fun h => br_t rfl (yk_d0 (Kn ?_)))
    · refine Ky a (by omega) rfl ⟨a, by omega, rfl, ?_⟩
      rcases (show n = 0 ∨ n = 1 by omega) with q | q
      · rw [e2, q]; exact Or.inl rfl
      · rw [e2, q]; exact Or.inr rfl
    · rintro ⟨b, _, _, q3 | q3⟩
      · exact h 0 (by omega) q3
      · exact h 1 (by omega) q3
  · rintro ⟨b, q1, q2, _⟩
    exact h b (by omega) q2
theorem yk_dmx {post : Int32 → SY → Prop} {v1 v2 v3 v4 : Int32} (h : ∀ w, w < 5 → ¬ v1 = nI w) (K : post 0 (0, ys, yd, yh, yt, ck, cl, cp, cn, cb, cv, cm, ok, ol, op, on, ob, ov, om, ac, au, yf, yo, yu, ym)) : wpY_damage post (0, ys, yd, yh, yt, ck, cl, cp, cn, cb, cv, cm, ok, ol, op, on, ob, ov, om, ac, au, yf, yo, yu, ym) v1 v2 v3 v4 := by
  unfold wpY_damage; dsimp only
  refine br_t (by decide) (br_f (h 0 (by omega)) (br_f (h 1 (by omega)) (br_f (h 2 (by omega)) (br_f (h 3 (by omega)) (br_f (h 4 (by omega)) ?_)))))
  unfold wY_damage_85
  exact yk_d0 K
theorem yk_ls69 {post : Int32 → SY → Prop} {x : Nat} (hx : x < 16) (K : post 1 (yr, ys, yd, yh, yt, ck, cl, cp, cn, jv_fl cb (24 * x) 24 (-1), cv, cm, ok, ol, op, on, ob, ov, om, ac, au, yf, yo, yu, ym)) : ∀ (d i : Nat), i + d = 24 → ∀ fuel, d < fuel → wY_lose_69 post (nI x) yr ys yd yh yt fuel (nI (24 * x + i)) ck cl cp cn (jv_fl cb (24 * x) i (-1)) cv cm ok ol op on ob ov om ac au yf yo yu ym := by
  intro d
  induction d with
  | zero =>
    intro i e fuel hf
    obtain ⟨fuel, rfl⟩ : ∃ g, fuel = g + 1 := ⟨fuel - 1, by omega⟩
    have : i = 24 := by omega
    subst this
    rw [wY_lose_69]
    have e1 : 24 * nI x + 24 = nI (24 * x + 24) := ad_b x 24
    refine br_t ?_ K
    rw [e1]; exact nI_le (Nat.le_refl _) (by omega)
  | succ d ih =>
    intro i e fuel hf
    obtain ⟨fuel, rfl⟩ : ∃ g, fuel = g + 1 := ⟨fuel - 1, by omega⟩
    rw [wY_lose_69]
    have e1 : 24 * nI x + 24 = nI (24 * x + 24) := ad_b x 24
    refine br_f ?_ ?_
    · rw [e1]; exact nI_ge (by omega) (by omega)
    · rw [nI_clamp (by omega), jv_fl_s]
      exact ⟨vp_in_nI (by omega) (by decide), nm_e (nm_r (nI_1 _) (ih (i + 1) (by omega) fuel (by omega)))⟩
theorem yk_ls40 {post : Int32 → SY → Prop} {x : Nat} (hx : x < 16) (K : ∃ n, wY_lose_69 post (nI x) yr ys yd yh yt n (nI (24 * x)) ck cl cp (jv_fl cn (64 * x) 64 (-1)) cb cv cm ok ol op on ob ov om ac au yf yo yu ym) : ∀ (d i : Nat), i + d = 64 → ∀ fuel, d < fuel → wY_lose_40 post (nI x) yr ys yd yh yt fuel (nI (64 * x + i)) ck cl cp (jv_fl cn (64 * x) i (-1)) cb cv cm ok ol op on ob ov om ac au yf yo yu ym := by
  intro d
  induction d with
  | zero =>
    intro i e fuel hf
    obtain ⟨fuel, rfl⟩ : ∃ g, fuel = g + 1 := ⟨fuel - 1, by omega⟩
    have : i = 64 := by omega
    subst this
    rw [wY_lose_40]
    have e1 : 64 * nI x + 64 = nI (64 * x + 64) := ad_n x 64
    refine br_t ?_ (nm_r (ad_24 x) K)
    rw [e1]; exact nI_le (Nat.le_refl _) (by omega)
  | succ d ih =>
    intro i e fuel hf
    obtain ⟨fuel, rfl⟩ : ∃ g, fuel = g + 1 := ⟨fuel - 1, by omega⟩
    rw [wY_lose_40]
    have e1 : 64 * nI x + 64 = nI (64 * x + 64) := ad_n x 64
    refine br_f ?_ ?_
    · rw [e1]; exact nI_ge (by omega) (by omega)
    · rw [nI_clamp (by omega), jv_fl_s]
      exact ⟨vp_in_nI (by omega) (by decide), nm_e (nm_r (nI_1 _) (ih (i + 1) (by omega) fuel (by omega)))⟩
theorem yk_dm4 {post : Int32 → SY → Prop} {v2 v3 v4 : Int32} (Kn : ¬ jv_g4 ck v2 → post 0 (0, ys, yd, yh, yt, ck, cl, cp, cn, cb, cv, cm, ok, ol, op, on, ob, ov, om, ac, au, yf, yo, yu, ym)) (Ky : ∀ a, 1 ≤ a → a < 16 → v2 = nI a → jv_g4 ck v2 → wY_damage_86 post 1 0 ys yd yh yt (upd ck a 0) (upd cl a 0) cp (jv_fl cn (64 * a) 64 (-1)) (jv_fl cb (24 * a) 24 (-1)) cv cm ok ol op on ob ov om ac au yf yo yu ym) : wpY_damage post (0, ys, yd, yh, yt, ck, cl, cp, cn, cb, cv, cm, ok, ol, op, on, ob, ov, om, ac, au, yf, yo, yu, ym) 4 v2 v3 v4 := by
  have no : ¬ jv_g4 ck v2 → wY_damage_85 post 0 ys yd yh yt ck cl cp cn cb cv cm ok ol op on ob ov om ac au yf yo yu ym := fun h => by
    unfold wY_damage_85
    exact yk_d0 (Kn h)
  unfold wpY_damage; dsimp only
  refine br_t (by decide) (br_f (by decide) (br_f (by decide) (br_f (by decide) (br_f (by decide) (br_t rfl ?_)))))
  unfold wpY_lose; dsimp only
  by_cases hr : ∃ a, 1 ≤ a ∧ a < 16 ∧ v2 = nI a
  · obtain ⟨a, h1, h2, rfl⟩ := hr
    refine yk_in (x := a) (a := 1) (b := 15) rfl rfl rfl (by omega) (by decide) (by decide) (fun _ _ => br_f (by decide) ?_) (fun h => by omega)
    rw [nI_clamp (n := a) (by omega)]
    have va : vp_in (nI a) 16 := vp_in_nI h2 (by decide)
    refine ⟨va, br_c (fun h0 => br_t rfl (no ?_)) (fun h0 => ⟨va, nm_e ⟨va, nm_e (nm_r (e' := nI (64 * a + 0)) (ad_64 a) ⟨65, ?_⟩)⟩⟩)⟩
    · rintro ⟨a', q1, q2, q3, q4⟩
      rw [jv_nI16 q2 h2 q3.symm] at q4
      exact q4 h0
    · have K1 := Ky a h1 h2 rfl ⟨a, h1, h2, rfl, h0⟩
      have h69 := yk_ls69 (ys := ys) (yd := yd) (yh := yh) (yt := yt) (cp := cp) (cb := cb) (cv := cv) (cm := cm) (ok := ok) (ol := ol) (op := op) (on := on) (ob := ob) (ov := ov) (om := om) (ac := ac) (au := au) (yf := yf) (yo := yo) (yu := yu) (ym := ym) (yr := 0) (ck := upd ck a 0) (cl := upd cl a 0) (cn := jv_fl cn (64 * a) 64 (-1)) (post := fun r_34 u => match u with | (yr, ys, yd, yh, yt, ck, cl, cp, cn, cb, cv, cm, ok, ol, op, on, ob, ov, om, ac, au, yf, yo, yu, ym) => ((r_34 = 0 → (wY_damage_85 post yr ys yd yh yt ck cl cp cn cb cv cm ok ol op on ob ov om ac au yf yo yu ym)) ∧ (¬ r_34 = 0 → (wY_damage_86 post 1 yr ys yd yh yt ck cl cp cn cb cv cm ok ol op on ob ov om ac au yf yo yu ym)))) h2 (br_f (by decide) K1) 24 0 (by omega) 25 (by omega)
      rw [jv_fl_0] at h69
      have h40 := yk_ls40 h2 ⟨25, h69⟩ 64 0 (by omega) 65 (by omega)
      rw [jv_fl_0] at h40
      exact h40
  · have hn : ∀ a, 1 ≤ a → a < 16 → ¬ v2 = nI a := fun a h1 h2 e => hr ⟨a, h1, h2, e⟩
    have K0 : ¬ jv_g4 ck v2 := fun ⟨a, q1, q2, q3, _⟩ => hn a q1 q2 q3
    unfold wpY_in
    refine br_c (fun _ => br_t rfl (br_t rfl (no K0))) (fun g1 => br_c (fun _ => br_t rfl (br_t rfl (no K0))) (fun g2 => ?_))
    exfalso
    have g0 : ¬ v2 < 0 := fun q => g1 (Int32.lt_trans q (by decide))
    obtain ⟨a, ha, rfl⟩ := nI_of g0
    have a1 : ¬ a < 1 := fun q => g1 (nI_lt (a := a) (b := 1) q (by decide))
    have a2 : ¬ 15 < a := fun q => g2 (nI_lt (a := 15) (b := a) q ha)
    exact hn a (by omega) (by omega) rfl
end
end
section
/-! damage: maps and names, what it does -/
def jv_mp (cb : Nat → Int32) (b n c : Nat) : Nat → Int32 := fun q => if b ≤ q ∧ q < b + n then nI (c + (q - b)) else cb q
theorem jv_mp_0 {cb : Nat → Int32} {b c : Nat} : jv_mp cb b 0 c = cb := by
  funext q; unfold jv_mp; rw [if_neg (by omega)]
theorem jv_mp_s {cb : Nat → Int32} {b n c : Nat} : upd (jv_mp cb b n c) (b + n) (nI (c + n)) = jv_mp cb b (n + 1) c := by
  funext q
  unfold jv_mp
  by_cases e : q = b + n
  · rw [e, pk_us, if_pos (by omega), show b + n - b = n by omega]
  · rw [pk_un e]
    by_cases h : b ≤ q ∧ q < b + n
    · rw [if_pos h, if_pos (by omega)]
    · rw [if_neg h, if_neg (by omega)]
theorem jv_mp_o {cb : Nat → Int32} {b n c q : Nat} (h : q < b ∨ b + n ≤ q) : jv_mp cb b n c q = cb q := if_neg (by omega)
section
variable {yr ys yd yh yt : Int32} {ck cl cp cn cb cv cm ok ol op on ob ov om ac au yf yo yu ym : Nat → Int32}
theorem yk_mp55 {post : Int32 → SY → Prop} {a c p n : Nat} (ha : a < 16) (hp : p + n ≤ 24) (K : post 1 (yr, ys, yd, yh, yt, ck, cl, cp, cn, jv_mp cb (24 * a + p) n c, cv, cm, ok, ol, op, on, ob, ov, om, ac, au, yf, yo, yu, ym)) : ∀ (d i : Nat), i + d = n → ∀ fuel, d < fuel → wY_mapWrong_55 post (nI a) (nI c) (nI p) (nI n) yr ys yd yh yt fuel (nI i) ck cl cp cn (jv_mp cb (24 * a + p) i c) cv cm ok ol op on ob ov om ac au yf yo yu ym := by
  intro d
  induction d with
  | zero =>
    intro i e fuel hf
    obtain ⟨fuel, rfl⟩ : ∃ g, fuel = g + 1 := ⟨fuel - 1, by omega⟩
    have : i = n := by omega
    subst this
    rw [wY_mapWrong_55]
    exact br_t (nI_le (Nat.le_refl _) (by omega)) K
  | succ d ih =>
    intro i e fuel hf
    obtain ⟨fuel, rfl⟩ : ∃ g, fuel = g + 1 := ⟨fuel - 1, by omega⟩
    rw [wY_mapWrong_55]
    dsimp only
    rw [ad_b, nI_add, nI_add, nI_clamp (by omega), jv_mp_s]
    exact br_f (nI_ge (by omega) (by omega)) ⟨vp_in_nI (by omega) (by decide), nm_e (nm_r (nI_1 i) (ih (i + 1) (by omega) fuel (by omega)))⟩
theorem yk_dm2 {post : Int32 → SY → Prop} {aw : Nat → Int32} {v2 v3 v4 : Int32} (hF : ∀ a, a < 16 → ck a = 1 → ∃ n, ∃ P B L : Nat → Nat, n ≤ 5 ∧ jv_XW aw a n P B L ∧ jv_Ex (fun q => cb (24 * a + q)) n P B L)
    (Kn : ¬ jv_g2 ck aw v2 v3 v4 → post 0 (0, ys, yd, yh, yt, ck, cl, cp, cn, cb, cv, cm, ok, ol, op, on, ob, ov, om, ac, au, yf, yo, yu, ym)) (Ky : ∀ a j c n (P B L : Nat → Nat), a < 16 → v2 = nI a → ck a = 1 → n ≤ 5 → jv_XW aw a n P B L → jv_Ex (fun q => cb (24 * a + q)) n P B L → j < n → v3 = nI j → c + L j ≤ 64 → v4 = nI c → wY_damage_86 post 1 0 ys yd yh yt ck cl cp cn (jv_mp cb (24 * a + P j) (L j) c) cv cm ok ol op on ob ov om ac au yf yo yu ym) :
    wpY_damage post (0, ys, yd, yh, yt, ck, cl, cp, cn, cb, cv, cm, ok, ol, op, on, ob, ov, om, ac, au, yf, yo, yu, ym) 2 v2 v3 v4 := by
  unfold wpY_damage; dsimp only
  refine br_t (by decide) (br_f (by decide) (br_f (by decide) (br_t rfl ?_)))
  unfold wpY_mapWrong; dsimp only
  refine yk_is_v (fun a ha e hk => br_f (by decide) ?_) (fun h => br_t rfl ?_)
  · subst e
    obtain ⟨n, P, B, L, hn, hW, hX⟩ := hF a ha hk
    refine yk_extentAt ha (by omega) hX (fun j hj e => ?_) (fun h => ?_)
    · subst e
      have h0 := hX.1.1 j hj
      unfold wY_mapWrong_19
      refine br_t (nI_pos' (by omega)) (yk_lengthAt ha hX hj ?_)
      rw [show (64 : Int32) - nI (L j) = nI (64 - L j) from pk_sub (a := 64) (b := L j) (by omega)]
      refine yk_in_v (b := 64 - L j) rfl (by omega) (fun c hc e => br_f (by decide) ?_) (fun h => br_t rfl (yk_d0 (Kn ?_)))
      · subst e
        have K1 := Ky a j c n P B L ha rfl hk hn hW hX hj rfl (by omega) rfl
        have := yk_mp55 (ys := ys) (yd := yd) (yh := yh) (yt := yt) (ck := ck) (cl := cl) (cp := cp) (cn := cn) (cb := cb) (cv := cv) (cm := cm) (ok := ok) (ol := ol) (op := op) (on := on) (ob := ob) (ov := ov) (om := om) (ac := ac) (au := au) (yf := yf) (yo := yo) (yu := yu) (ym := ym) (yr := 0) (post := fun r_87 u => match u with | (yr, ys, yd, yh, yt, ck, cl, cp, cn, cb, cv, cm, ok, ol, op, on, ob, ov, om, ac, au, yf, yo, yu, ym) => wY_damage_86 post r_87 yr ys yd yh yt ck cl cp cn cb cv cm ok ol op on ob ov om ac au yf yo yu ym) (c := c) ha h0.2.1 K1 (L j) 0 (by omega) (L j + 1) (by omega)
        rw [jv_mp_0] at this
        exact ⟨L j + 1, this⟩
      · rintro ⟨a', j', c', n', l, q1, q2, q3, q4, q5, q6, q7, q8, q9, q10, q11⟩
        have e1 := jv_nI16 ha q1 q2
        subst e1
        have e2 : j = j' := (nI_eq (by omega) (by omega)).mp q7
        subst e2
        rw [(hW.2 j hj).2.2, nI_eq (by omega) (by omega)] at q8
        exact h c' (by omega) q11
    · unfold wY_mapWrong_19
      refine br_f (by decide) (yk_d0 (Kn ?_))
      rintro ⟨a', j', c', n', l, q1, q2, q3, q4, q5, q6, q7, _⟩
      have e1 := jv_nI16 ha q1 q2
      subst e1
      rw [hW.1, nI_eq (by omega) (by omega)] at q4
      exact h j' (by omega) q7
  · unfold wY_mapWrong_19
    refine br_f (by decide) (yk_d0 (Kn ?_))
    rintro ⟨a', j', c', n', l, q1, q2, q3, _⟩
    exact h a' q1 q2 q3
theorem yk_dm3 {post : Int32 → SY → Prop} {aw : Nat → Int32} {v2 v3 v4 : Int32} (hF : ∀ a, a < 16 → ck a = 2 → ∃ n, ∃ N I : Nat → Nat, jv_DW aw a n N I ∧ jv_DF (fun q => cn (64 * a + q)) n N I)
    (Kn : ¬ jv_g3 ck aw v2 v3 v4 → post 0 (0, ys, yd, yh, yt, ck, cl, cp, cn, cb, cv, cm, ok, ol, op, on, ob, ov, om, ac, au, yf, yo, yu, ym)) (Ky : ∀ a j c n (N I : Nat → Nat), a < 16 → v2 = nI a → ck a = 2 → jv_DW aw a n N I → jv_DF (fun q => cn (64 * a + q)) n N I → j < n → v3 = nI j → c < 16 → v4 = nI c → wY_damage_86 post 1 0 ys yd yh yt ck cl cp (upd cn (64 * a + N j) (nI c)) cb cv cm ok ol op on ob ov om ac au yf yo yu ym) :
    wpY_damage post (0, ys, yd, yh, yt, ck, cl, cp, cn, cb, cv, cm, ok, ol, op, on, ob, ov, om, ac, au, yf, yo, yu, ym) 3 v2 v3 v4 := by
  unfold wpY_damage; dsimp only
  refine br_t (by decide) (br_f (by decide) (br_f (by decide) (br_f (by decide) (br_t rfl ?_))))
  unfold wpY_nameWrong; dsimp only
  refine yk_is_v (fun a ha e hk => br_f (by decide) ?_) (fun h => br_t rfl ?_)
  · subst e
    obtain ⟨n, N, I, hW, hX⟩ := hF a ha hk
    have hn := hX.1
    refine yk_nameOf ha hX (fun j hj e => ?_) (fun h => ?_)
    · subst e
      have h0 := hX.2.1 j hj
      unfold wY_nameWrong_19
      refine br_f (nI_pos (by omega)) (yk_in_v (b := 15) rfl (by omega) (fun c hc e => br_f (by decide) ?_) (fun h => br_t rfl (yk_d0 (Kn ?_))))
      · subst e
        rw [ad_n, nI_clamp (by omega)]
        exact ⟨vp_in_nI (by omega) (by decide), nm_e (Ky a j c n N I ha rfl hk hW hX hj rfl hc rfl)⟩
      · rintro ⟨a', j', c', n', q1, q2, q3, q4, q5, q6, q7, q8, q9⟩
        exact h c' (by omega) q9
    · unfold wY_nameWrong_19
      refine br_t (by decide) (yk_d0 (Kn ?_))
      rintro ⟨a', j', c', n', q1, q2, q3, q4, q5, q6, q7, _⟩
      have e1 := jv_nI16 ha q1 q2
      subst e1
      rw [hW.1, nI_eq (by omega) (by omega)] at q4
      exact h j' (by omega) q7
  · unfold wY_nameWrong_19
    refine br_t (by decide) (yk_d0 (Kn ?_))
    rintro ⟨a', j', c', n', q1, q2, q3, _⟩
    exact h a' q1 q2 q3
end
section
variable {xc xr xs xg xd xm xt xw xo : Int32} {aw ap aa av ae af ab al an aq : Nat → Int32}
/-- no logging: one put -/
theorem xk_set0 {post : SX → Prop} {x f m : Nat} {v : Int32} (ha : 24 * x + f < 450) (K : post (nI m, xr, xs, 0, xd, xm, xt, xw, xo, upd aw (24 * x + f) v, ap, aa, av, ae, af, ab, al, an, aq)) : wpX_set post (nI m, xr, xs, 0, xd, xm, xt, xw, xo, aw, ap, aa, av, ae, af, ab, al, an, aq) (nI x) (nI f) v := by
  refine xk_set (A0 := aa) (V0 := av) (m0 := m) (c := 0) ha (by omega) jv_J_i0 (fun aa' av' m' J => ?_)
  obtain ⟨e1, e2, e3⟩ := jv_J_0 J
  subst e1 e2 e3
  exact K
theorem xk_h0 {post : SX → Prop} {a m : Nat} {v3 v4 : Int32} (ha : a < 16) (K : post (nI m, xr, xs, 0, xd, xm, xt, xw, xo, upd aw (24 * a + 1) v3, ap, aa, av, ae, af, ab, al, an, aq)) : wpX_harm post (nI m, xr, xs, 0, xd, xm, xt, xw, xo, aw, ap, aa, av, ae, af, ab, al, an, aq) 0 (nI a) v3 v4 := by
  unfold wpX_harm; dsimp only
  refine br_f (by decide) (br_f (by decide) (br_t rfl ?_))
  exact xk_set0 (f := 1) (by omega) K
theorem xk_h4 {post : SX → Prop} {a m : Nat} {v3 v4 : Int32} (ha : a < 16) (K : post (nI m, xr, xs, 0, xd, xm, xt, xw, xo, upd (upd aw (24 * a) 0) (24 * a + 2) 0, ap, aa, av, ae, af, ab, al, an, aq)) : wpX_harm post (nI m, xr, xs, 0, xd, xm, xt, xw, xo, aw, ap, aa, av, ae, af, ab, al, an, aq) 4 (nI a) v3 v4 := by
  unfold wpX_harm; dsimp only
  refine br_f (by decide) (br_t (by decide) ?_)
  refine xk_set0 (f := 0) (by omega) ?_
  dsimp only
  exact xk_set0 (f := 2) (by omega) K
theorem xk_h3 {post : SX → Prop} {a j m : Nat} {v4 : Int32} (ha : a < 16) (hj : j < 10) (K : post (nI m, xr, xs, 0, xd, xm, xt, xw, xo, upd aw (24 * a + 4 + 2 * j + 1) v4, ap, aa, av, ae, af, ab, al, an, aq)) : wpX_harm post (nI m, xr, xs, 0, xd, xm, xt, xw, xo, aw, ap, aa, av, ae, af, ab, al, an, aq) 3 (nI a) (nI j) v4 := by
  unfold wpX_harm; dsimp only
  refine br_f (by decide) (br_f (by decide) (br_f (by decide) (br_f (by decide) (br_f (by decide) (br_t rfl ?_)))))
  have e : (4 : Int32) + 2 * nI j + 1 = nI (4 + 2 * j + 1) := by
    show nI 4 + nI 2 * nI j + nI 1 = _
    rw [pk_mul, nI_add, nI_add]
  rw [e]
  refine xk_set0 (f := 4 + 2 * j + 1) (by omega) ?_
  rw [show 24 * a + (4 + 2 * j + 1) = 24 * a + 4 + 2 * j + 1 by omega]
  exact K
theorem xk_h1 {post : SX → Prop} {b m : Nat} {v3 v4 : Int32} (hb : b < 64) (hv : v3 = 0 ∨ v3 = 1) (K : ∀ M, (∀ c, c < 64 → (jv_lb M c = if c = b then decide (v3 = 1) else jv_lb (jv_M aw) c)) → post (nI m, xr, xs, 0, xd, xm, xt, xw, xo, jv_sm aw M, ap, aa, av, ae, af, ab, al, an, aq)) : wpX_harm post (nI m, xr, xs, 0, xd, xm, xt, xw, xo, aw, ap, aa, av, ae, af, ab, al, an, aq) 1 (nI b) v3 v4 := by
  unfold wpX_harm; dsimp only
  refine br_f (by decide) (br_f (by decide) (br_f (by decide) (br_t rfl ?_)))
  rcases hv with e | e
  · subst e
    refine br_f (by decide) ?_
    unfold wX_harm_55
    refine xk_mark0 (n := 1) (A0 := aa) (V0 := av) (m0 := m) (c := 0) hb (by decide) (by omega) jv_J_i0 (fun aa' av' m' J => ?_)
    obtain ⟨e1, e2, e3⟩ := jv_J_0 J
    subst e1 e2 e3
    refine K _ (fun c hc => ?_)
    rw [jv_lb_and, jv_lb_not _ hc, jv_rw_lb _ _ hc]
    by_cases q : c = b
    · rw [if_pos q, decide_eq_true (by omega), Bool.not_true, Bool.and_false]; rfl
    · rw [if_neg q, decide_eq_false (by omega), Bool.not_false, Bool.and_true]
  · subst e
    refine br_t rfl ?_
    unfold wX_harm_55
    refine xk_mark1 (n := 1) (A0 := aa) (V0 := av) (m0 := m) (c := 0) hb (by decide) (by omega) jv_J_i0 (fun aa' av' m' J => ?_)
    obtain ⟨e1, e2, e3⟩ := jv_J_0 J
    subst e1 e2 e3
    refine K _ (fun c hc => ?_)
    rw [jv_lb_or, jv_rw_lb _ _ hc]
    by_cases q : c = b
    · rw [if_pos q, decide_eq_true (by omega), Bool.or_true]; rfl
    · rw [if_neg q, decide_eq_false (by omega), Bool.or_false]
theorem xk_h2 {f : Nat → Int32} {a j c n m : Nat} {P B L : Nat → Nat} (ha : a < 16) (hn : n ≤ 5) (hj : j < n) (hc : c + L j ≤ 64) (hW : jv_XW aw a n P B L) (h0 : jv_E0 n P B L) (hF : jv_EF f n P (jv_up B j c) L) :
    ∃ w' n' P2 B2 L2 af' ab' al', n' ≤ 5 ∧ jv_XW w' a n' P2 B2 L2 ∧ jv_Fr a aw w' ∧ jv_Ex f n' P2 B2 L2 ∧ ∀ post : SX → Prop, post (nI m, xr, xs, 0, xd, nI n', xt, xw, xo, w', ap, aa, av, ae, af', ab', al', an, aq) → wpX_harm post (nI m, xr, xs, 0, xd, xm, xt, xw, xo, aw, ap, aa, av, ae, af, ab, al, an, aq) 2 (nI a) (nI j) (nI c) := by
  have hj0 := h0.1 j hj
  obtain ⟨af1, ab1, al1, hEW, hl⟩ := xk_load (xr := xr) (xs := xs) (xd := xd) (xt := xt) (xw := xw) (xo := xo) (ap := ap) (ae := ae) (af := af) (ab := ab) (al := al) (an := an) (aq := aq) (xg := 0) (xm := xm) (aw := aw) ha (show n ≤ 6 by omega) (fun i hi => by have := h0.1 i hi; omega) hW
  have hE2 : jv_EW af1 (upd ab1 j (nI c)) al1 n P (jv_up B j c) L := fun i hi => by
    have := hEW i hi
    by_cases q : i = j
    · subst q; rw [pk_us, jv_up_s]; exact ⟨this.1, rfl, this.2.2⟩
    · rw [pk_un q, jv_up_n q]; exact this
  have h02 : jv_E0 n P (jv_up B j c) L := ⟨fun i hi => by
    have := h0.1 i hi
    by_cases q : i = j
    · subst q; rw [jv_up_s]; omega
    · rw [jv_up_n q]; exact this, h0.2⟩
  obtain ⟨n', P2, B2, L2, af2, ab2, al2, r1, r2, r3, r4⟩ := xk_join (xr := xr) (xs := xs) (xd := xd) (xt := xt) (xw := xw) (xo := xo) (aw := aw) (ap := ap) (aa := aa) (av := av) (ae := ae) (an := an) (aq := aq) (xc := nI m) (xg := 0) h02 hF (by omega) hE2
  obtain ⟨w', s1, s2, s3⟩ := xk_store (xr := xr) (xs := xs) (xd := xd) (xt := xt) (xw := xw) (xo := xo) (ap := ap) (ae := ae) (an := an) (aq := aq) (xg := 0) (aw := aw) ha (show n' ≤ 5 by omega) r2
  refine ⟨w', n', P2, B2, L2, af2, ab2, al2, by omega, s1, s2, r3, fun post K => ?_⟩
  unfold wpX_harm; dsimp only
  refine br_f (by decide) (br_f (by decide) (br_f (by decide) (br_f (by decide) (br_t rfl (hl _ _ _ _ ?_)))))
  dsimp only
  rw [jv_byte (show c < 128 by omega), nI_clamp (by omega)]
  refine ⟨vp_in_nI (by omega) (by decide), nm_e (r4 _ ?_)⟩
  dsimp only
  refine s3 _ aa av m 0 aa av m (by omega) jv_J_i0 (fun aa' av' m' J => ?_)
  obtain ⟨e1, e2, e3⟩ := jv_J_0 J
  subst e1 e2 e3
  exact K
end
end
section
/-! damage: the call -/
theorem i_vc_damage {k : Nat} {u : SX} {v : SY} (I : i_Rel k u v) (hk : k + 5 ≤ 2560) (v1 : Int32) (v2 : Int32) (v3 : Int32) (v4 : Int32) : wpX_damage (fun r u' => wpY_damage (fun r' v' => r' = r ∧ i_Rel (k + 5) u' v') v v1 v2 v3 v4) u v1 v2 v3 v4 := by
  refine zz_el (Q := fun u v => wpX_damage (fun r u' => wpY_damage (fun r' v' => r' = r ∧ i_Rel (k + 5) u' v') v v1 v2 v3 v4) u v1 v2 v3 v4) ?_ I
  intro xc xr xs xg xd xm xt xw xo aw ap aa av ae af ab al an aq yr ys yd yh yt ck cl cp cn cb cv cm ok ol op on ob ov om ac au yf yo yu ym R
  obtain ⟨z1, z2, z3, z4⟩ := jv_R_Z R
  obtain ⟨r, s, m, h1, h2, rfl, rfl, rfl, rfl, rfl, rfl, rfl, hf, hRW, hd, hU, hJ, hP⟩ := jv_open R
  have hK := jv_kd hRW
  by_cases hr : r = 0
  · subst hr
    obtain ⟨_, hap, hs0, _, _⟩ := jv_R_r0 R
    have es : s = 0 := by omega
    subst es
    -- the end of all good ones
    have fin : ∀ (w' ck' cl' cp' cn' cb' cv' cm' : Nat → Int32) (xm' : Int32) (af' ab' al' : Nat → Int32), jv_RW w' ck' cl' cp' cn' cb' cv' cm' → cp' 0 = 0 →
        (∀ post : Int32 → SY → Prop, wY_damage_86 post 1 0 0 yd yh yt ck' cl' cp' cn' cb' cv' cm' ok ol op on ob ov om ac au yf yo yu ym → wpY_damage post (0, 0, yd, yh, yt, ck, cl, cp, cn, cb, cv, cm, ok, ol, op, on, ob, ov, om, ac, au, yf, yo, yu, ym) v1 v2 v3 v4) →
        wpX_checkpoint (fun r_26 u => match u with | (xc, xr, xs, xg, xd, xm, xt, xw, xo, aw, ap, aa, av, ae, af, ab, al, an, aq) => wpY_damage (fun r' v' => r' = 1 ∧ i_Rel (k + 5) (xc, xr, xs, xg, xd, xm, xt, xw, xo, aw, ap, aa, av, ae, af, ab, al, an, aq) v') (0, 0, yd, yh, yt, ck, cl, cp, cn, cb, cv, cm, ok, ol, op, on, ob, ov, om, ac, au, yf, yo, yu, ym) v1 v2 v3 v4) (nI m, 0, 0, 0, 1, xm', xt, xw, xo, w', ap, aa, av, ae, af', ab', al', an, aq) := by
      intro w' ck' cl' cp' cn' cb' cv' cm' xm' af' ab' al' hRW' hcp hY
      refine xk_checkpoint (fun j hj => by rw [z2 j hj, hRW'.2.2.2.2.1 j hj]) ?_
      refine hY _ (yk_d1 hRW'.2.2.2.2.2 z4 ⟨rfl, ?_⟩)
      exact jv_R_fresh hRW' hcp (Or.inr rfl) (jv_R_ae R) hf

    rcases Classical.em (v1 = 0) with e | n0
    · subst e
      refine xk_dm0 hK (fun g => yk_dm0 (fun _ => ⟨rfl, R⟩) (fun _ _ _ g' => absurd g' g)) (fun g => xk_d1 ?_)
      obtain ⟨a, n, ha, rfl, hka, hn, rfl⟩ := id g
      refine xk_h0 ha ?_
      exact fin _ _ _ _ _ _ _ _ _ _ _ _ (jv_RW_lk hRW ha (nI n)) (jv_R_cp R) (fun post K => yk_dm0 (fun g' => absurd g g') (fun a' ha' e' _ => by rw [← jv_nI16 ha ha' e']; exact K))
    rcases Classical.em (v1 = 1) with e | n1
    · subst e
      refine xk_dm1 (fun g => yk_dm1 (fun _ => ⟨rfl, R⟩) (fun _ _ _ g' => absurd g' g)) (fun g => xk_d1 ?_)
      obtain ⟨b, hb, rfl, hv⟩ := id g
      refine xk_h1 hb hv (fun M hM => ?_)
      refine fin _ _ _ _ _ _ _ _ _ _ _ _ (jv_RW_mk (w' := jv_sm aw M) (cm' := upd cm b v3) hRW (fun q q1 q2 => jv_sm_n q1 q2) (fun c hc => ?_) (fun i hi => ?_)) (jv_R_cp R) (fun post K => yk_dm1 (fun g' => absurd g g') (fun b' hb' e' _ => ?_))
      · rw [jv_sm_M, hM c hc]
        by_cases q : c = b
        · rw [q, pk_us, if_pos rfl]
          rcases hv with h | h
          · rw [h]; rfl
          · rw [h]; rfl
        · rw [pk_un q, if_neg q]; exact hRW.2.2.1 c hc
      · rw [pk_un (by omega)]; exact hRW.2.2.2.2.2.2.2.2.2.2.2 i hi
      · have : b = b' := (nI_eq (by omega) (by omega)).mp e'
        rw [← this]; exact K
    rcases Classical.em (v1 = 2) with e | n2
    · subst e
      have hF : ∀ a, a < 16 → ck a = 1 → ∃ n, ∃ P B L : Nat → Nat, n ≤ 5 ∧ jv_XW aw a n P B L ∧ jv_Ex (fun q => cb (24 * a + q)) n P B L := fun a ha hka => (hRW.1 a ha).2.2.2.2.2.1 hka
      refine xk_dm2 hK (fun a ha hka => ?_) (fun g => yk_dm2 hF (fun _ => ⟨rfl, R⟩) (fun a j c n P B L q1 q2 q3 q4 q5 q6 q7 q8 q9 q10 => ?_)) (fun g => xk_d1 ?_)
      · obtain ⟨n, P, B, L, hn, hW, hX⟩ := hF a ha hka
        exact ⟨n, P, B, L, hn, hW, fun i hi => by have := hX.1.1 i hi; omega⟩
      · have := q6.1.1 j q7
        exact absurd ⟨a, j, c, n, L j, q1, q2, q3, q5.1, q4, q7, q8, (q5.2 j q7).2.2, by omega, q9, q10⟩ g
      · obtain ⟨a, j, c, n', l, ha, rfl, hka, q4, q5, q6, rfl, q8, q9, q10, rfl⟩ := id g
        obtain ⟨n, P, B, L, hn, hW, hX⟩ := hF a ha hka
        have en : n' = n := by
          rw [hW.1] at q4
          exact ((nI_eq (by omega) (by omega)).mp q4).symm
        subst en
        have hj0 := hX.1.1 j q6
        have el : l = L j := by
          rw [(hW.2 j q6).2.2] at q8
          exact ((nI_eq (by omega) (by omega)).mp q8).symm
        subst el
        have hF2 : jv_EF (fun q => jv_mp cb (24 * a + P j) (L j) c (24 * a + q)) n' P (jv_up B j c) L := by
          refine ⟨fun i hi d hd => ?_, fun p hp hno => ?_⟩
          · have hi0 := hX.1.1 i hi
            show jv_mp cb (24 * a + P j) (L j) c (24 * a + (P i + d)) = _
            by_cases q : i = j
            · subst q
              unfold jv_mp
              rw [jv_up_s, if_pos (by omega), show 24 * a + (P i + d) - (24 * a + P i) = d by omega]
            · rw [jv_up_n q]
              have hdis : P i + L i ≤ P j ∨ P j + L j ≤ P i := by
                rcases Nat.lt_or_ge i j with z | z
                · exact Or.inl (hX.1.2 i j z q6)
                · exact Or.inr (hX.1.2 j i (by omega) hi)
              rw [jv_mp_o (by omega)]
              exact hX.2.2.1 i hi d hd
          · have := hno j q6
            show jv_mp cb (24 * a + P j) (L j) c (24 * a + p) = _
            rw [jv_mp_o (by omega)]
            exact hX.2.2.2 p hp hno
        obtain ⟨w', n2, P2, B2, L2, af2, ab2, al2, r1, r2, r3, r4, r5⟩ := xk_h2 (xm := xm) (xt := xt) (xw := xw) (xo := xo) (ap := ap) (aa := aa) (av := av) (ae := ae) (af := af) (ab := ab) (al := al) (an := an) (aq := aq) (xr := 0) (xs := 0) (xd := 1) (aw := aw) (m := m) ha hn q6 q10 hW hX.1 hF2
        refine r5 _ ?_
        refine fin _ _ _ _ _ _ _ _ _ _ _ _ (jv_RW_file (cb' := jv_mp cb (24 * a + P j) (L j) c) hRW ha hka r3 r1 r2 r4 (fun q hq => jv_mp_o (by omega))) (jv_R_cp R) (fun post K => yk_dm2 hF (fun g' => absurd g g') (fun a' j' c' n'' P' B' L' y1 y2 y3 y4 y5 y6 y7 y8 y9 y10 => ?_))
        have e1 := jv_nI16 ha y1 y2
        subst e1
        have e2 : j = j' := (nI_eq (by omega) (by omega)).mp y8
        subst e2
        have e3 : c = c' := (nI_eq (by omega) (by omega)).mp y10
        subst e3
        have y0 := y6.1.1 j y7
        have e4 : P j = P' j := by
          have := (hW.2 j q6).1
          rw [(y5.2 j y7).1] at this
          exact ((nI_eq (by omega) (by omega)).mp this).symm
        have e5 : L j = L' j := by
          have := (hW.2 j q6).2.2
          rw [(y5.2 j y7).2.2] at this
          exact ((nI_eq (by omega) (by omega)).mp this).symm
        rw [← e4, ← e5]
        exact K
    rcases Classical.em (v1 = 3) with e | n3
    · subst e
      have hF : ∀ a, a < 16 → ck a = 2 → ∃ n, ∃ N I : Nat → Nat, jv_DW aw a n N I ∧ jv_DF (fun q => cn (64 * a + q)) n N I := fun a ha hka => ((hRW.1 a ha).2.2.2.1 hka).2
      refine xk_dm3 hK (fun a ha hka => ?_) (fun g => yk_dm3 hF (fun _ => ⟨rfl, R⟩) (fun a j c n N I q1 q2 q3 q4 q5 q6 q7 q8 q9 => absurd ⟨a, j, c, n, q1, q2, q3, q4.1, q5.1, q6, q7, q8, q9⟩ g)) (fun g => xk_d1 ?_)
      · obtain ⟨n, N, I, hW, hX⟩ := hF a ha hka
        exact ⟨n, hX.1, hW.1⟩
      · obtain ⟨a, j, c, n', ha, rfl, hka, q4, q5, q6, rfl, q8, rfl⟩ := id g
        obtain ⟨n, N, I, hW, hX⟩ := hF a ha hka
        have h10 := hX.1
        have en : n' = n := by
          rw [hW.1] at q4
          exact ((nI_eq (by omega) (by omega)).mp q4).symm
        subst en
        refine xk_h3 ha (by omega) ?_
        have hN := hX.2.1 j q6
        have hD : jv_DW (upd aw (24 * a + 4 + 2 * j + 1) (nI c)) a n' N (jv_up I j c) := by
          refine ⟨by rw [pk_un (by omega)]; exact hW.1, fun i hi => ?_⟩
          have := hW.2 i hi
          refine ⟨by rw [pk_un (by omega)]; exact this.1, ?_⟩
          by_cases q : i = j
          · rw [q, pk_us, jv_up_s]
          · rw [pk_un (by omega), jv_up_n q]; exact this.2
        have hD2 : jv_DF (fun q => upd cn (64 * a + N j) (nI c) (64 * a + q)) n' N (jv_up I j c) := by
          rw [jv_off]
          refine ⟨h10, fun i hi => ?_, hX.2.2.1, fun b hb hno => ?_⟩
          · have := hX.2.1 i hi
            by_cases q : i = j
            · rw [q, jv_up_s, pk_us]; exact ⟨hN.1, q8, rfl⟩
            · rw [jv_up_n q, pk_un (fun e => ?_)]
              · exact this
              · rcases Nat.lt_or_ge i j with z | z
                · have := hX.2.2.1 i j z q6; rw [e] at this; omega
                · have := hX.2.2.1 j i (by omega) hi; rw [e] at this; omega
          · rw [pk_un (fun e => hno j q6 e.symm)]; exact hX.2.2.2 b hb hno
        refine fin _ _ _ _ _ _ _ _ _ _ _ _ (jv_RW_dir (cn' := upd cn (64 * a + N j) (nI c)) hRW ha hka (jv_Fr_u jv_Fr_rf (by omega) (by omega) (by omega)) hD hD2 (fun q hq => pk_un (by omega))) (jv_R_cp R) (fun post K => yk_dm3 hF (fun g' => absurd g g') (fun a' j' c' n'' N' I' y1 y2 y3 y4 y5 y6 y7 y8 y9 => ?_))
        have e1 := jv_nI16 ha y1 y2
        subst e1
        have y10 := y5.1
        have e2 : j = j' := (nI_eq (by omega) (by omega)).mp y7
        subst e2
        have e3 : c = c' := (nI_eq (by omega) (by omega)).mp y9
        subst e3
        have y0 := y5.2.1 j y6
        have e4 : N j = N' j := by
          have := (hW.2 j q6).1
          rw [(y4.2 j y6).1] at this
          exact ((nI_eq (by omega) (by omega)).mp this).symm
        rw [← e4]
        exact K
    rcases Classical.em (v1 = 4) with e | n4
    · subst e
      refine xk_dm4 hK (fun g => yk_dm4 (fun _ => ⟨rfl, R⟩) (fun _ _ _ _ g' => absurd g' g)) (fun g => xk_d1 ?_)
      obtain ⟨a, ha1, ha, rfl, hka⟩ := id g
      refine xk_h4 ha ?_
      refine fin _ _ _ _ _ _ _ _ _ _ _ _ (jv_RW_free (w' := upd (upd aw (24 * a) 0) (24 * a + 2) 0) (cl' := upd cl a 0) (cm' := cm) hRW ha ha1 (fun q q1 q2 q3 => by rw [pk_un (by omega), pk_un (by omega)]) (by rw [pk_un (by omega), pk_us]) (fun i hi => pk_un hi) ?_ hRW.2.2.2.2.2.2.2.2.2.2.2) (jv_R_cp R) (fun post K => yk_dm4 (fun g' => absurd g g') (fun a' h1' ha' e' _ => by rw [← jv_nI16 ha ha' e']; exact K))
      rw [jv_M_fr (w := aw) (by rw [pk_un (by omega), pk_un (by omega)]) (by rw [pk_un (by omega), pk_un (by omega)])]
      exact hRW.2.2.1
    · have hx : ∀ w, w < 5 → ¬ v1 = nI w := fun w hw => by
        rcases (show w = 0 ∨ w = 1 ∨ w = 2 ∨ w = 3 ∨ w = 4 by omega) with q | q | q | q | q
        · rw [q]; exact n0
        · rw [q]; exact n1
        · rw [q]; exact n2
        · rw [q]; exact n3
        · rw [q]; exact n4
      exact xk_dmx hx (yk_dmx hx ⟨rfl, R⟩)
  · unfold wpX_damage; dsimp only
    refine pk_le r 0 (fun h => absurd h (by omega)) (fun _ => ?_)
    unfold wpY_damage; dsimp only
    exact pk_le r 0 (fun h => absurd h (by omega)) (fun _ => ⟨rfl, R⟩)
end
section
/-! mending: what is known of directories that were met -/
def jv_bm (q : Nat → Nat) : Nat → Nat → Bool
  | 0, _ => false
  | T + 1, a => jv_bm q T a || decide (a = q T)
theorem jv_bm_iff {q : Nat → Nat} {a : Nat} : ∀ T, jv_bm q T a = true ↔ ∃ i, i < T ∧ q i = a := by
  intro T
  induction T with
  | zero => exact ⟨fun h => absurd h Bool.false_ne_true, fun ⟨i, h, _⟩ => by omega⟩
  | succ T ih =>
    show (jv_bm q T a || decide (a = q T)) = true ↔ _
    rw [Bool.or_eq_true, ih, decide_eq_true_iff]
    constructor
    · rintro (⟨i, h1, h2⟩ | h)
      · exact ⟨i, by omega, h2⟩
      · exact ⟨T, by omega, h.symm⟩
    · rintro ⟨i, h1, h2⟩
      by_cases e : i = T
      · subst e; exact Or.inr h2.symm
      · exact Or.inl ⟨i, by omega, h2⟩
/-- different numbers below m are at most m -/
theorem jv_pig {q : Nat → Nat} {m : Nat} : ∀ T, (∀ i, i < T → q i < m) → (∀ i j, i < j → j < T → q i ≠ q j) → T ≤ m := by
  have key : ∀ T, (∀ i, i < T → q i < m) → (∀ i j, i < j → j < T → q i ≠ q j) → jv_ct (jv_bm q T) m = T := by
    intro T
    induction T with
    | zero => intro _ _; exact jv_ct_0 m (fun _ _ => rfl)
    | succ T ih =>
      intro h1 h2
      have h3 := ih (fun i hi => h1 i (by omega)) (fun i j a b => h2 i j a (by omega))
      have e : jv_ct (jv_bm q (T + 1)) m = jv_ct (jv_bm q T) m + 1 := by
        refine jv_ct_1 (a := q T) ?_ ?_ (fun i hi => ?_) m (h1 T (by omega))
        · show (jv_bm q T (q T) || decide (q T = q T)) = true
          rw [decide_eq_true rfl, Bool.or_true]
        · cases z : jv_bm q T (q T) with
          | false => rfl
          | true =>
            obtain ⟨i, a, b⟩ := (jv_bm_iff T).mp z
            exact absurd b (h2 i T a (by omega))
        · show (jv_bm q T i || decide (i = q T)) = _
          rw [decide_eq_false hi, Bool.or_false]
      rw [e, h3]
  intro T h1 h2
  have := key T h1 h2
  have := jv_ct_le (jv_bm q T) m
  omega
def jv_MI (ck cp cn ym : Nat → Int32) (q : Nat → Nat) (T : Nat) (Pr : Nat → Prop) : Prop :=
  (∀ i, i < T → q i < 16 ∧ ck (q i) = 2 ∧ ¬ ym (q i) = 0) ∧
  (∀ x, x < 16 → ck x = 2 → ¬ ym x = 0 → ∃ i, i < T ∧ q i = x) ∧
  (∀ i j, i < j → j < T → q i ≠ q j) ∧
  (1 ≤ T ∧ q 0 = 0) ∧
  (∀ j x, j < 1024 → x < 16 → Pr j → cn j = nI x → 1 ≤ x ∧ ¬ ck x = 0 ∧ ¬ ym x = 0 ∧ (ck x = 2 → cp x = nI (j / 64) ∧ ∃ i i', i < i' ∧ i' < T ∧ q i = j / 64 ∧ q i' = x)) ∧
  (∀ i j x, i < 1024 → j < 1024 → x < 16 → Pr i → Pr j → cn i = nI x → cn j = nI x → ck x = 2 → i = j) ∧
  (∀ x, 1 ≤ x → x < 16 → ck x = 2 → ¬ ym x = 0 → ∃ j, j < 1024 ∧ Pr j ∧ cn j = nI x) ∧ cp 0 = 0
theorem jv_MI_T {ck cp cn ym : Nat → Int32} {q : Nat → Nat} {T : Nat} {Pr : Nat → Prop} (h : jv_MI ck cp cn ym q T Pr) : T ≤ 16 := jv_pig T (fun i hi => (h.1 i hi).1) h.2.2.1
/-- other entries and another set of those gone through, alike where it counts -/
theorem jv_MI_cn {ck cp cn cn2 ym : Nat → Int32} {q : Nat → Nat} {T : Nat} {Pr Pr2 : Nat → Prop} (h : jv_MI ck cp cn ym q T Pr) (h1 : ∀ j x, j < 1024 → x < 16 → Pr2 j → cn2 j = nI x → Pr j ∧ cn j = nI x) (h2 : ∀ j x, j < 1024 → x < 16 → Pr j → cn j = nI x → Pr2 j ∧ cn2 j = nI x) :
    jv_MI ck cp cn2 ym q T Pr2 := by
  obtain ⟨m1, m2, m3, m4, m5, m6, m7, m8⟩ := h
  refine ⟨m1, m2, m3, m4, fun j x hj hx hp e => ?_, fun i j x hi hj hx p1 p2 e1 e2 hk => ?_, fun x hx1 hx hk hm => ?_, m8⟩
  · obtain ⟨a, b⟩ := h1 j x hj hx hp e
    exact m5 j x hj hx a b
  · obtain ⟨a1, b1⟩ := h1 i x hi hx p1 e1
    obtain ⟨a2, b2⟩ := h1 j x hj hx p2 e2
    exact m6 i j x hi hj hx a1 a2 b1 b2 hk
  · obtain ⟨j, hj, a, b⟩ := m7 x hx1 hx hk hm
    obtain ⟨a', b'⟩ := h2 j x hj hx a b
    exact ⟨j, hj, a', b'⟩
/-- a file is met by an entry -/
theorem jv_MI_f {ck cp cn ym : Nat → Int32} {q : Nat → Nat} {T j0 x : Nat} {Pr Pr2 : Nat → Prop} (h : jv_MI ck cp cn ym q T Pr) (hx : x < 16) (hx1 : 1 ≤ x) (he : cn j0 = nI x) (hk0 : ¬ ck x = 0) (hk2 : ¬ ck x = 2) (hP : ∀ j, j < 1024 → (Pr2 j ↔ (Pr j ∨ j = j0))) :
    jv_MI ck cp cn (upd ym x 1) q T Pr2 := by
  obtain ⟨m1, m2, m3, m4, m5, m6, m7, m8⟩ := h
  have hm : ∀ y, ¬ ym y = 0 → ¬ upd ym x 1 y = 0 := fun y hy => by
    by_cases e : y = x
    · rw [e, pk_us]; decide
    · rw [pk_un e]; exact hy
  have hm' : ∀ y, ck y = 2 → ¬ upd ym x 1 y = 0 → ¬ ym y = 0 := fun y hy hn => by
    have e : y ≠ x := fun e => hk2 (by rw [← e]; exact hy)
    rw [pk_un e] at hn; exact hn
  refine ⟨fun i hi => ⟨(m1 i hi).1, (m1 i hi).2.1, hm _ (m1 i hi).2.2⟩, fun y hy hk hn => m2 y hy hk (hm' y hk hn), m3, m4, fun j y hj hy hp e => ?_, fun i j y hi hj hy p1 p2 e1 e2 hk => ?_, fun y hy1 hy hk hn => ?_, m8⟩
  · rcases (hP j hj).mp hp with g | g
    · obtain ⟨a1, a2, a3, a4⟩ := m5 j y hj hy g e
      exact ⟨a1, a2, hm y a3, a4⟩
    · rw [g, he] at e
      have := jv_nI16 hx hy e
      subst this
      exact ⟨hx1, hk0, by rw [pk_us]; decide, fun z => absurd z hk2⟩
  · have nx : y ≠ x := fun e => hk2 (by rw [← e]; exact hk)
    have nj : ∀ i, i < 1024 → Pr2 i → cn i = nI y → Pr i := fun i hi hp e => by
      rcases (hP i hi).mp hp with g | g
      · exact g
      · rw [g, he] at e; exact absurd (jv_nI16 hx hy e).symm nx
    exact m6 i j y hi hj hy (nj i hi p1 e1) (nj j hj p2 e2) e1 e2 hk
  · obtain ⟨j, hj, a, b⟩ := m7 y hy1 hy hk (hm' y hk hn)
    exact ⟨j, hj, (hP j hj).mpr (Or.inl a), b⟩
/-- a directory is met by an entry -/
theorem jv_MI_d {ck cp cn ym : Nat → Int32} {q : Nat → Nat} {T j0 i0 x : Nat} {Pr Pr2 : Nat → Prop} (h : jv_MI ck cp cn ym q T Pr) (hx : x < 16) (hx1 : 1 ≤ x) (hj0 : j0 < 1024) (he : cn j0 = nI x) (hk2 : ck x = 2) (hu : ym x = 0) (hi0 : i0 < T) (hq : q i0 = j0 / 64) (hP : ∀ j, j < 1024 → (Pr2 j ↔ (Pr j ∨ j = j0))) :
    jv_MI ck (upd cp x (nI (j0 / 64))) cn (upd ym x 1) (jv_up q T x) (T + 1) Pr2 := by
  obtain ⟨m1, m2, m3, m4, m5, m6, m7, m8⟩ := h
  have hm : ∀ y, ¬ ym y = 0 → ¬ upd ym x 1 y = 0 := fun y hy => by
    by_cases e : y = x
    · rw [e, pk_us]; decide
    · rw [pk_un e]; exact hy
  have qo : ∀ i, i < T → jv_up q T x i = q i := fun i hi => jv_up_n (by omega)
  have qx : ∀ i, i < T → q i ≠ x := fun i hi e => by
    have := (m1 i hi).2.2
    rw [e] at this; exact this hu
  refine ⟨fun i hi => ?_, fun y hy hk hn => ?_, fun i j hij hj => ?_, ⟨by omega, by rw [qo 0 (by omega)]; exact m4.2⟩, fun j y hj hy hp e => ?_, fun i j y hi hj hy p1 p2 e1 e2 hk => ?_, fun y hy1 hy hk hn => ?_, by rw [pk_un (by omega)]; exact m8⟩
  · by_cases e : i = T
    · rw [e, jv_up_s]
      exact ⟨hx, hk2, by rw [pk_us]; decide⟩
    · rw [qo i (by omega)]
      have := m1 i (by omega)
      exact ⟨this.1, this.2.1, hm _ this.2.2⟩
  · by_cases e : y = x
    · exact ⟨T, by omega, by rw [jv_up_s]; exact e.symm⟩
    · rw [pk_un e] at hn
      obtain ⟨i, hi, e2⟩ := m2 y hy hk hn
      exact ⟨i, by omega, by rw [qo i hi]; exact e2⟩
  · rw [qo i (by omega)]
    by_cases e : j = T
    · rw [e, jv_up_s]; exact qx i (by omega)
    · rw [qo j (by omega)]; exact m3 i j hij (by omega)
  · rcases (hP j hj).mp hp with g | g
    · obtain ⟨a1, a2, a3, a4⟩ := m5 j y hj hy g e
      have nx : y ≠ x := fun z => a3 (by rw [z]; exact hu)
      refine ⟨a1, a2, hm y a3, fun hk => ?_⟩
      obtain ⟨b1, i, i', b2, b3, b4, b5⟩ := a4 hk
      exact ⟨by rw [pk_un nx]; exact b1, i, i', b2, by omega, by rw [qo i (by omega)]; exact b4, by rw [qo i' b3]; exact b5⟩
    · subst g
      rw [he] at e
      have := jv_nI16 hx hy e
      subst this
      exact ⟨hx1, by rw [hk2]; decide, by rw [pk_us]; decide, fun _ => ⟨pk_us, i0, T, hi0, by omega, by rw [qo i0 hi0]; exact hq, jv_up_s⟩⟩
  · by_cases nx : y = x
    · subst nx
      have nj : ∀ i, i < 1024 → Pr2 i → cn i = nI y → i = j0 := fun i hi hp e => by
        rcases (hP i hi).mp hp with g | g
        · exact absurd hu (m5 i y hi hy g e).2.2.1
        · exact g
      rw [nj i hi p1 e1, nj j hj p2 e2]
    · have nj : ∀ i, i < 1024 → Pr2 i → cn i = nI y → Pr i := fun i hi hp e => by
        rcases (hP i hi).mp hp with g | g
        · exact g
        · rw [g, he] at e; exact absurd (jv_nI16 hx hy e).symm nx
      exact m6 i j y hi hj hy (nj i hi p1 e1) (nj j hj p2 e2) e1 e2 hk
  · by_cases nx : y = x
    · subst nx
      exact ⟨j0, hj0, (hP j0 hj0).mpr (Or.inr rfl), he⟩
    · rw [pk_un nx] at hn
      obtain ⟨j, hj, a, b⟩ := m7 y hy1 hy hk hn
      exact ⟨j, hj, (hP j hj).mpr (Or.inl a), b⟩
/-- one that was not met is gone -/
theorem jv_MI_v {ck cp cn cn' ym : Nat → Int32} {q : Nat → Nat} {T x : Nat} {Pr : Nat → Prop} (h : jv_MI ck cp cn ym q T Pr) (hu : ym x = 0) (hP : ∀ j, Pr j → ∃ i, i < T ∧ q i = j / 64) (hc : ∀ j, j / 64 ≠ x → cn' j = cn j) :
    jv_MI (upd ck x 0) cp cn' ym q T Pr := by
  obtain ⟨m1, m2, m3, m4, m5, m6, m7, m8⟩ := h
  have qx : ∀ i, i < T → q i ≠ x := fun i hi e => by
    have := (m1 i hi).2.2
    rw [e] at this; exact this hu
  have hc' : ∀ j, Pr j → cn' j = cn j := fun j hj => by
    obtain ⟨i, hi, e⟩ := hP j hj
    exact hc j (fun z => qx i hi (e.trans z))
  have hk' : ∀ y, upd ck x 0 y = 2 → ck y = 2 := fun y hy => by
    by_cases e : y = x
    · rw [e, pk_us] at hy; exact absurd hy (by decide)
    · rw [pk_un e] at hy; exact hy
  refine ⟨fun i hi => ⟨(m1 i hi).1, by rw [pk_un (qx i hi)]; exact (m1 i hi).2.1, (m1 i hi).2.2⟩, fun y hy hk hn => m2 y hy (hk' y hk) hn, m3, m4, fun j y hj hy hp e => ?_, fun i j y hi hj hy p1 p2 e1 e2 hk => ?_, fun y hy1 hy hk hn => ?_, m8⟩
  · rw [hc' j hp] at e
    obtain ⟨a1, a2, a3, a4⟩ := m5 j y hj hy hp e
    have nx : y ≠ x := fun z => a3 (by rw [z]; exact hu)
    exact ⟨a1, by rw [pk_un nx]; exact a2, a3, fun hk => a4 (hk' y hk)⟩
  · rw [hc' i p1] at e1
    rw [hc' j p2] at e2
    exact m6 i j y hi hj hy p1 p2 e1 e2 (hk' y hk)
  · obtain ⟨j, hj, a, b⟩ := m7 y hy1 hy (hk' y hk) hn
    exact ⟨j, hj, a, by rw [hc' j a]; exact b⟩
/-- the place in the row -/
def jv_ix (q : Nat → Nat) : Nat → Nat → Nat
  | 0, _ => 0
  | T + 1, x => if q T = x then T else jv_ix q T x
theorem jv_ix_q {q : Nat → Nat} : ∀ T, (∀ i j, i < j → j < T → q i ≠ q j) → ∀ i, i < T → jv_ix q T (q i) = i := by
  intro T
  induction T with
  | zero => intro _ i hi; omega
  | succ T ih =>
    intro h i hi
    show (if q T = q i then T else jv_ix q T (q i)) = i
    by_cases e : i = T
    · rw [e, if_pos rfl]
    · rw [if_neg (fun z => h i T (by omega) (by omega) z.symm)]
      exact ih (fun i j a b => h i j a (by omega)) i (by omega)
/-- all were met: what holds where nothing is damaged -/
theorem jv_MI_end {w ck cl cp cn cb cv cm ym : Nat → Int32} {q : Nat → Nat} {T : Nat} {Pr : Nat → Prop} (hR : jv_RW w ck cl cp cn cb cv cm) (h : jv_MI ck cp cn ym q T Pr) (hall : ∀ x, x < 16 → ¬ ck x = 0 → ¬ ym x = 0) (hP : ∀ j, (∃ i, i < T ∧ q i = j / 64) → Pr j) :
    jv_U1 ck cn ∧ jv_U3 ck cp cn ∧ jv_U4 ck cp := by
  obtain ⟨m1, m2, m3, m4, m5, m6, m7, m8⟩ := h
  have hPr : ∀ j x, j < 1024 → x < 16 → cn j = nI x → Pr j := fun j x hj hx e => by
    have hk : ck (j / 64) = 2 := jv_nv2 hR (show j / 64 < 16 by omega) (Nat.mod_lt j (by decide : 0 < 64)) (by
      rw [show 64 * (j / 64) + j % 64 = j by omega, e]; exact jv_neg1 (by omega))
    exact hP j (m2 _ (by omega) hk (hall _ (by omega) (by rw [hk]; decide)))
  refine ⟨fun j x hj hx e => ?_, fun x hx1 hx hk => ?_, ⟨jv_ix q T, fun x d hx1 hx hk hd e => ?_⟩⟩
  · obtain ⟨a1, a2, _⟩ := m5 j x hj hx (hPr j x hj hx e) e
    exact ⟨a1, a2⟩
  · obtain ⟨j, hj, a, b⟩ := m7 x hx1 hx hk (hall x hx (by rw [hk]; decide))
    obtain ⟨_, _, _, a4⟩ := m5 j x hj hx a b
    obtain ⟨b1, i, i', b2, b3, b4, b5⟩ := a4 hk
    refine ⟨j / 64, j % 64, by omega, Nat.mod_lt j (by decide), b1, by rw [← b4]; exact (m1 i (by omega)).2.1, by rw [show 64 * (j / 64) + j % 64 = j by omega]; exact b, fun j' hj' e' => ?_⟩
    rw [show 64 * (j / 64) + j % 64 = j by omega]
    exact m6 j' j x hj' hj hx (hPr j' x hj' hx e') a e' b hk
  · obtain ⟨j, hj, a, b⟩ := m7 x hx1 hx hk (hall x hx (by rw [hk]; decide))
    obtain ⟨_, _, _, a4⟩ := m5 j x hj hx a b
    obtain ⟨b1, i, i', b2, b3, b4, b5⟩ := a4 hk
    have : d = j / 64 := jv_nI16 hd (by omega) (e.symm.trans b1)
    rw [this, ← b4, ← b5, jv_ix_q T m3 i (by omega), jv_ix_q T m3 i' b3]
    exact b2
end
section
/-! mending: bits of inodes that were met; one entry looked at -/
theorem jv_b1 : ∀ i, i < 32 → bt 1 i = decide (i = 0) := by decide +kernel
theorem jv_mb (xt : Int32) {x : Nat} (hx : x < 16) : ((xt >>> (nI x &&& 31)) &&& 1) = if bt xt x = true then 1 else 0 := by
  have key : ∀ i, i < 32 → bt ((xt >>> (nI x &&& 31)) &&& 1) i = (bt xt x && decide (i = 0)) := fun i hi => by
    rw [b_and, jv_b1 i hi]
    by_cases e : i = 0
    · rw [e, b_sshr x (by omega) xt (by omega), if_pos (by omega), Nat.add_zero]
    · rw [decide_eq_false e, Bool.and_false, Bool.and_false]
  cases h : bt xt x with
  | true =>
    refine b_ext (fun i hi => ?_)
    rw [key i hi, h, Bool.true_and, if_pos rfl, jv_b1 i hi]
  | false =>
    refine b_ext (fun i hi => ?_)
    rw [key i hi, h, Bool.false_and, if_neg (by decide), b_0]
theorem jv_mo (xt : Int32) {x y : Nat} (hx : x < 16) (hy : y < 16) : bt (xt ||| ((1 : Int32) <<< (nI x &&& 31))) y = (bt xt y || decide (y = x)) := by
  rw [b_or, b_shl x (by omega) 1 (by omega)]
  congr 1
  by_cases e : y = x
  · rw [e, decide_eq_true (Nat.le_refl x), decide_eq_true rfl, Nat.sub_self]; rfl
  · rw [decide_eq_false e]
    by_cases g : x ≤ y
    · rw [jv_b1 _ (by omega), decide_eq_false (show ¬ y - x = 0 by omega), Bool.and_false]
    · rw [decide_eq_false g, Bool.false_and]
def jv_Pr (q : Nat → Nat) (H d h j : Nat) : Prop := (∃ i, i < H ∧ q i = j / 64) ∨ (j / 64 = d ∧ jv_hs (j % 64) < h)
theorem jv_Pr_s {q : Nat → Nat} {H d h : Nat} (hd : d < 16) (hh : h < 64) : ∀ j, j < 1024 → (jv_Pr q H d (h + 1) j ↔ (jv_Pr q H d h j ∨ j = 64 * d + jv_nm h)) := by
  intro j hj
  have hn := jv_nm_lt h
  unfold jv_Pr
  constructor
  · rintro (g | ⟨g1, g2⟩)
    · exact Or.inl (Or.inl g)
    · by_cases e : jv_hs (j % 64) = h
      · right
        have : j % 64 = jv_nm h := by rw [← e, jv_nm_hs _ (Nat.mod_lt j (by decide))]
        omega
      · exact Or.inl (Or.inr ⟨g1, by omega⟩)
  · rintro ((g | ⟨g1, g2⟩) | g)
    · exact Or.inl g
    · exact Or.inr ⟨g1, by omega⟩
    · have e1 : j / 64 = d := by omega
      have e2 : j % 64 = jv_nm h := by omega
      refine Or.inr ⟨e1, ?_⟩
      rw [e2, jv_hs_nm h hh]; omega
theorem jv_Pr_n {q : Nat → Nat} {H d h : Nat} (hd : d < 16) (hh : h < 64) (hq : ∀ i, i < H → q i ≠ d) : ¬ jv_Pr q H d h (64 * d + jv_nm h) := by
  have hn := jv_nm_lt h
  have e1 : (64 * d + jv_nm h) / 64 = d := by omega
  have e2 : (64 * d + jv_nm h) % 64 = jv_nm h := by omega
  rintro (⟨i, hi, e⟩ | ⟨_, g⟩)
  · rw [e1] at e; exact hq i hi e
  · rw [e2, jv_hs_nm h hh] at g; omega
theorem jv_Pr_q {q q' : Nat → Nat} {H d h j : Nat} (hq : ∀ i, i < H → q' i = q i) : jv_Pr q' H d h j ↔ jv_Pr q H d h j := by
  unfold jv_Pr
  constructor
  · rintro (⟨i, hi, e⟩ | g)
    · exact Or.inl ⟨i, hi, by rw [← hq i hi]; exact e⟩
    · exact Or.inr g
  · rintro (⟨i, hi, e⟩ | g)
    · exact Or.inl ⟨i, hi, by rw [hq i hi]; exact e⟩
    · exact Or.inr g
section
variable {yr ys yd yh yt : Int32} {ck cl cp cn cb cv cm ok ol op on ob ov om ac au yf yo yu ym : Nat → Int32}
theorem yk_meet {post : SY → Prop} {x T : Nat} {p : Int32} (hx : x < 16) (K2 : ck x = 2 → T < 16 ∧ post (yr, ys, yd, yh, nI (T + 1), ck, cl, upd cp x p, cn, cb, cv, cm, ok, ol, op, on, ob, ov, om, ac, au, yf, upd yo T (nI x), yu, upd ym x 1)) (K1 : ¬ ck x = 2 → post (yr, ys, yd, yh, nI T, ck, cl, cp, cn, cb, cv, cm, ok, ol, op, on, ob, ov, om, ac, au, yf, yo, yu, upd ym x 1)) : wpY_meet post (yr, ys, yd, yh, nI T, ck, cl, cp, cn, cb, cv, cm, ok, ol, op, on, ob, ov, om, ac, au, yf, yo, yu, ym) (nI x) p := by
  unfold wpY_meet; dsimp only
  have vx : vp_in (nI x) 16 := vp_in_nI hx (by decide)
  rw [nI_clamp (n := x) (by omega), show vp_nar .boolean (1 : Int32) = 1 from rfl]
  refine ⟨vx, nm_e ⟨vx, br_c (fun h => ⟨vx, nm_e ?_⟩) K1⟩⟩
  obtain ⟨hT, K⟩ := K2 h
  rw [nI_clamp (n := T) (by omega)]
  exact ⟨vp_in_nI hT (by decide), nm_e (nm_r (nI_1 T) K)⟩
theorem yk_look {post : SY → Prop} {d a x : Nat} (hd : d < 16) (ha : a < 64) (hx : x < 16) (he : cn (64 * d + a) = nI x) (KA : (x = 0 ∨ ck x = 0 ∨ (ck x = 2 ∧ ¬ ym x = 0)) → post (yr, ys, yd, yh, yt, ck, cl, cp, upd cn (64 * d + a) (-1), cb, cv, cm, ok, ol, op, on, ob, ov, om, ac, au, upd yf 0 (yf 0 + 1), yo, yu, ym))
    (KB : ¬ x = 0 → ¬ ck x = 0 → ¬ (ck x = 2 ∧ ¬ ym x = 0) → wpY_meet (fun u => match u with | (yr, ys, yd, yh, yt, ck, cl, cp, cn, cb, cv, cm, ok, ol, op, on, ob, ov, om, ac, au, yf, yo, yu, ym) => post (yr, ys, yd, yh, yt, ck, cl, cp, cn, cb, cv, cm, ok, ol, op, on, ob, ov, om, ac, au, yf, yo, yu, ym)) (yr, ys, yd, yh, yt, ck, cl, cp, cn, cb, cv, cm, ok, ol, op, on, ob, ov, om, ac, au, yf, yo, yu, ym) (nI x) (nI d)) : wpY_look post (yr, ys, yd, yh, yt, ck, cl, cp, cn, cb, cv, cm, ok, ol, op, on, ob, ov, om, ac, au, yf, yo, yu, ym) (nI d) (nI a) := by
  have h44 : (x = 0 ∨ ck x = 0 ∨ (ck x = 2 ∧ ¬ ym x = 0)) → wY_look_44 post (nI d) (nI a) yr ys yd yh yt ck cl cp cn cb cv cm ok ol op on ob ov om ac au yf yo yu ym := fun h => by
    unfold wY_look_44
    rw [ad_n, nI_clamp (by omega)]
    exact ⟨vp_in_nI (by omega) (by decide), nm_e (nm_e (KA h))⟩
  unfold wpY_look; dsimp only
  have vx : vp_in (nI x) 16 := vp_in_nI hx (by decide)
  rw [ad_n, nI_clamp (n := 64 * d + a) (by omega), he]
  refine ⟨vp_in_nI (by omega) (by decide), nm_e (pk_eq x 0 (fun h => h44 (Or.inl h)) (fun h => ?_))⟩
  rw [nI_clamp (n := x) (by omega)]
  refine ⟨vx, br_c (fun h0 => h44 (Or.inr (Or.inl h0))) (fun h0 => ⟨vx, br_c (fun h2 => ⟨vx, br_c (fun hm => ?_) (fun hm => h44 (Or.inr (Or.inr ⟨h2, hm⟩)))⟩) (fun h2 => ?_)⟩)⟩
  · unfold wY_look_69
    exact KB h h0 (fun z => z.2 hm)
  · unfold wY_look_69
    exact KB h h0 (fun z => h2 z.1)
/-! the names of a directory by their hashes -/
theorem yk_v41_2 {post : SY → Prop} {J0 : Int32 → Int32 → Int32 → Int32 → Int32 → (Nat → Int32) → (Nat → Int32) → (Nat → Int32) → (Nat → Int32) → (Nat → Int32) → (Nat → Int32) → (Nat → Int32) → (Nat → Int32) → (Nat → Int32) → (Nat → Int32) → (Nat → Int32) → (Nat → Int32) → (Nat → Int32) → (Nat → Int32) → (Nat → Int32) → (Nat → Int32) → (Nat → Int32) → (Nat → Int32) → (Nat → Int32) → (Nat → Int32) → Prop}
    {J33 : Int32 → Int32 → Int32 → Int32 → Int32 → Int32 → (Nat → Int32) → (Nat → Int32) → (Nat → Int32) → (Nat → Int32) → (Nat → Int32) → (Nat → Int32) → (Nat → Int32) → (Nat → Int32) → (Nat → Int32) → (Nat → Int32) → (Nat → Int32) → (Nat → Int32) → (Nat → Int32) → (Nat → Int32) → (Nat → Int32) → (Nat → Int32) → (Nat → Int32) → (Nat → Int32) → (Nat → Int32) → (Nat → Int32) → Prop}
    {d h : Nat} (hh : h < 64) (K : J33 (nI (h + 1)) yr ys yd yh yt ck cl cp cn cb cv cm ok ol op on ob ov om ac au yf yo yu ym) : ∀ (e a : Nat), a + e = 64 → jv_nm h < a → ∀ fuel, e < fuel → wY_visit_41 post J0 J33 (nI d) (nI h) fuel (nI a) yr ys yd yh yt ck cl cp cn cb cv cm ok ol op on ob ov om ac au yf yo yu ym := by
  intro e
  induction e with
  | zero =>
    intro a he ha fuel hf
    obtain ⟨fuel, rfl⟩ : ∃ g, fuel = g + 1 := ⟨fuel - 1, by omega⟩
    rw [wY_visit_41]
    exact pk_le 64 a (fun _ => nm_r (nI_1 h) K) (fun h => absurd h (by omega))
  | succ e ih =>
    intro a he ha fuel hf
    obtain ⟨fuel, rfl⟩ : ∃ g, fuel = g + 1 := ⟨fuel - 1, by omega⟩
    rw [wY_visit_41]
    dsimp only
    rw [jv_hsY (by omega)]
    have := jv_hs_lt a
    refine pk_le 64 a (fun h => absurd h (by omega)) (fun _ => ⟨by decide, pk_eq (jv_hs a) h (fun g => ?_) (fun _ => nm_r (nI_1 a) (ih (a + 1) (by omega) (by omega) fuel (by omega)))⟩)
    exfalso
    rw [← g, jv_nm_hs a (by omega)] at ha; omega
theorem yk_v41_n {post : SY → Prop} {J0 : Int32 → Int32 → Int32 → Int32 → Int32 → (Nat → Int32) → (Nat → Int32) → (Nat → Int32) → (Nat → Int32) → (Nat → Int32) → (Nat → Int32) → (Nat → Int32) → (Nat → Int32) → (Nat → Int32) → (Nat → Int32) → (Nat → Int32) → (Nat → Int32) → (Nat → Int32) → (Nat → Int32) → (Nat → Int32) → (Nat → Int32) → (Nat → Int32) → (Nat → Int32) → (Nat → Int32) → (Nat → Int32) → Prop}
    {J33 : Int32 → Int32 → Int32 → Int32 → Int32 → Int32 → (Nat → Int32) → (Nat → Int32) → (Nat → Int32) → (Nat → Int32) → (Nat → Int32) → (Nat → Int32) → (Nat → Int32) → (Nat → Int32) → (Nat → Int32) → (Nat → Int32) → (Nat → Int32) → (Nat → Int32) → (Nat → Int32) → (Nat → Int32) → (Nat → Int32) → (Nat → Int32) → (Nat → Int32) → (Nat → Int32) → (Nat → Int32) → (Nat → Int32) → Prop}
    {d h : Nat} (hd : d < 16) (hh : h < 64) (hn : cn (64 * d + jv_nm h) < 0) (K : J33 (nI (h + 1)) yr ys yd yh yt ck cl cp cn cb cv cm ok ol op on ob ov om ac au yf yo yu ym) : ∀ fuel, 64 < fuel → wY_visit_41 post J0 J33 (nI d) (nI h) fuel (nI (jv_nm h)) yr ys yd yh yt ck cl cp cn cb cv cm ok ol op on ob ov om ac au yf yo yu ym := by
  have hl := jv_nm_lt h
  intro fuel hf
  obtain ⟨fuel, rfl⟩ : ∃ g, fuel = g + 1 := ⟨fuel - 1, by omega⟩
  rw [wY_visit_41]
  dsimp only
  rw [jv_hsY (by omega), jv_hs_nm h hh, ad_n, nI_clamp (by omega)]
  refine pk_le 64 (jv_nm h) (fun h => absurd h (by omega)) (fun _ => ⟨by decide, br_t rfl ⟨vp_in_nI (by omega) (by decide), br_t hn (nm_r (nI_1 _) ?_)⟩⟩)
  exact yk_v41_2 hh K (64 - (jv_nm h + 1)) (jv_nm h + 1) (by omega) (by omega) fuel (by omega)
theorem yk_v41_y {post : SY → Prop} {J0 : Int32 → Int32 → Int32 → Int32 → Int32 → (Nat → Int32) → (Nat → Int32) → (Nat → Int32) → (Nat → Int32) → (Nat → Int32) → (Nat → Int32) → (Nat → Int32) → (Nat → Int32) → (Nat → Int32) → (Nat → Int32) → (Nat → Int32) → (Nat → Int32) → (Nat → Int32) → (Nat → Int32) → (Nat → Int32) → (Nat → Int32) → (Nat → Int32) → (Nat → Int32) → (Nat → Int32) → (Nat → Int32) → Prop}
    {J33 : Int32 → Int32 → Int32 → Int32 → Int32 → Int32 → (Nat → Int32) → (Nat → Int32) → (Nat → Int32) → (Nat → Int32) → (Nat → Int32) → (Nat → Int32) → (Nat → Int32) → (Nat → Int32) → (Nat → Int32) → (Nat → Int32) → (Nat → Int32) → (Nat → Int32) → (Nat → Int32) → (Nat → Int32) → (Nat → Int32) → (Nat → Int32) → (Nat → Int32) → (Nat → Int32) → (Nat → Int32) → (Nat → Int32) → Prop}
    {d h : Nat} {yt' : Int32} {cp' cn' yf' yo' ym' : Nat → Int32} (hd : d < 16) (hh : h < 64) (hn : ¬ cn (64 * d + jv_nm h) < 0) (hL : ∀ pl : SY → Prop, pl (yr, ys, yd, yh, yt', ck, cl, cp', cn', cb, cv, cm, ok, ol, op, on, ob, ov, om, ac, au, yf', yo', yu, ym') → wpY_look pl (yr, ys, yd, yh, yt, ck, cl, cp, cn, cb, cv, cm, ok, ol, op, on, ob, ov, om, ac, au, yf, yo, yu, ym) (nI d) (nI (jv_nm h)))
    (K : J33 (nI (h + 1)) yr ys yd yh yt' ck cl cp' cn' cb cv cm ok ol op on ob ov om ac au yf' yo' yu ym') : ∀ fuel, 64 < fuel → wY_visit_41 post J0 J33 (nI d) (nI h) fuel (nI (jv_nm h)) yr ys yd yh yt ck cl cp cn cb cv cm ok ol op on ob ov om ac au yf yo yu ym := by
  have hl := jv_nm_lt h
  intro fuel hf
  obtain ⟨fuel, rfl⟩ : ∃ g, fuel = g + 1 := ⟨fuel - 1, by omega⟩
  rw [wY_visit_41]
  dsimp only
  rw [jv_hsY (by omega), jv_hs_nm h hh, ad_n, nI_clamp (by omega)]
  refine pk_le 64 (jv_nm h) (fun h => absurd h (by omega)) (fun _ => ⟨by decide, br_t rfl ⟨vp_in_nI (by omega) (by decide), br_f hn (hL _ (nm_r (nI_1 _) ?_))⟩⟩)
  exact yk_v41_2 hh K (64 - (jv_nm h + 1)) (jv_nm h + 1) (by omega) (by omega) fuel (by omega)
theorem yk_v41_1 {post : SY → Prop} {J0 : Int32 → Int32 → Int32 → Int32 → Int32 → (Nat → Int32) → (Nat → Int32) → (Nat → Int32) → (Nat → Int32) → (Nat → Int32) → (Nat → Int32) → (Nat → Int32) → (Nat → Int32) → (Nat → Int32) → (Nat → Int32) → (Nat → Int32) → (Nat → Int32) → (Nat → Int32) → (Nat → Int32) → (Nat → Int32) → (Nat → Int32) → (Nat → Int32) → (Nat → Int32) → (Nat → Int32) → (Nat → Int32) → Prop}
    {J33 : Int32 → Int32 → Int32 → Int32 → Int32 → Int32 → (Nat → Int32) → (Nat → Int32) → (Nat → Int32) → (Nat → Int32) → (Nat → Int32) → (Nat → Int32) → (Nat → Int32) → (Nat → Int32) → (Nat → Int32) → (Nat → Int32) → (Nat → Int32) → (Nat → Int32) → (Nat → Int32) → (Nat → Int32) → (Nat → Int32) → (Nat → Int32) → (Nat → Int32) → (Nat → Int32) → (Nat → Int32) → (Nat → Int32) → Prop}
    {d h : Nat} (hh : h < 64) (K : ∀ fuel, 64 < fuel → wY_visit_41 post J0 J33 (nI d) (nI h) fuel (nI (jv_nm h)) yr ys yd yh yt ck cl cp cn cb cv cm ok ol op on ob ov om ac au yf yo yu ym) :
    ∀ (e a : Nat), a + e = jv_nm h → ∀ fuel, e + 64 < fuel → wY_visit_41 post J0 J33 (nI d) (nI h) fuel (nI a) yr ys yd yh yt ck cl cp cn cb cv cm ok ol op on ob ov om ac au yf yo yu ym := by
  have hl := jv_nm_lt h
  intro e
  induction e with
  | zero =>
    intro a he fuel hf
    have ea : a = jv_nm h := by omega
    subst ea
    exact K fuel (by omega)
  | succ e ih =>
    intro a he fuel hf
    obtain ⟨fuel, rfl⟩ : ∃ g, fuel = g + 1 := ⟨fuel - 1, by omega⟩
    rw [wY_visit_41]
    dsimp only
    rw [jv_hsY (by omega)]
    have := jv_hs_lt a
    refine pk_le 64 a (fun h => absurd h (by omega)) (fun _ => ⟨by decide, pk_eq (jv_hs a) h (fun g => ?_) (fun _ => nm_r (nI_1 a) (ih (a + 1) (by omega) fuel (by omega)))⟩)
    exfalso
    have e2 := jv_nm_hs a (by omega)
    rw [g] at e2; omega
end
section
variable {xc xr xs xg xd xm xt xw xo : Int32} {aw ap aa av ae af ab al an aq : Nat → Int32}
/-- X at one entry -/
theorem xk_vis {post : SX → Prop} {ck : Nat → Int32} {d i n fuel : Nat} {N I : Nat → Nat} {f : Nat → Int32} (hd : d < 16) (hi : i < n) (hk : ∀ x, x < 16 → aw (24 * x) = ck x) (hW : jv_DW aw d n N I) (hF : jv_DF f n N I)
    (KA : (ck (I i) = 0 ∨ (ck (I i) = 2 ∧ bt xt (I i) = true)) → wX_visit_65 post (wX_visit_2 post (nI d) fuel) (nI d) (nI i) xc xr xs xg xd xm xt xw xo aw ap aa av ae af ab al an aq)
    (KB : ¬ ck (I i) = 0 → ¬ (ck (I i) = 2 ∧ bt xt (I i) = true) → ∀ z : Int32, (ck (I i) = 2 ∧ z = 1 ∨ ¬ ck (I i) = 2 ∧ z = 0) → wX_visit_84 post (wX_visit_2 post (nI d) fuel) (nI d) (nI i) (nI (I i)) z xc xr xs xg xd xm xt xw xo aw ap aa av ae af ab al an aq) :
    wX_visit_2 post (nI d) (fuel + 1) (nI i) xc xr xs xg xd xm xt xw xo aw ap aa av ae af ab al an aq := by
  have h10 := hF.1
  have hI := (hF.2.1 i hi).2.1
  rw [wX_visit_2]
  refine xk_base ?_
  rw [ad_p2, nI_clamp (by omega), hW.1]
  refine ⟨vp_in_nI (by omega) (by decide), pk_le n i (fun h => absurd h (by omega)) (fun _ => xk_named hd (by omega) ?_)⟩
  rw [(hW.2 i hi).2]
  refine xk_kind_i hI ?_
  rw [hk _ hI]
  have k38 : ∀ z : Int32, (ck (I i) = 2 ∧ z = 1 ∨ ¬ ck (I i) = 2 ∧ z = 0) → wX_visit_38 post (wX_visit_2 post (nI d) fuel) (nI d) (nI i) (nI (I i)) z xc xr xs xg xd xm xt xw xo aw ap aa av ae af ab al an aq := fun z hz => by
    unfold wX_visit_38
    refine xk_kind_i hI ?_
    rw [hk _ hI, jv_mb xt hI]
    refine br_c (fun h0 => KA (Or.inl h0)) (fun h0 => ?_)
    rcases hz with ⟨h2, e⟩ | ⟨h2, e⟩
    · subst e
      refine br_f (by decide) ?_
      cases hb : bt xt (I i) with
      | true => exact br_t rfl (KA (Or.inr ⟨h2, hb⟩))
      | false => exact br_f (by decide) (KB h0 (fun z => by rw [hb] at z; exact absurd z.2 (by decide)) 1 (Or.inl ⟨h2, rfl⟩))
    · subst e
      exact br_t rfl (KB h0 (fun z => h2 z.1) 0 (Or.inr ⟨h2, rfl⟩))
  exact br_c (fun h => k38 1 (Or.inl ⟨h, rfl⟩)) (fun h => k38 0 (Or.inr ⟨h, rfl⟩))
end
end
section
/-! mending: a directory gone through, in lockstep -/
/-- what was found so far is alike; of marks nothing yet -/
def jv_fe (an yf : Nat → Int32) : Prop := (∀ i, i < 5 → an i = yf i) ∧ yf 3 = 0
theorem jv_fe_up {an yf : Nat → Int32} (i : Nat) (hi : i < 5) (h3 : i ≠ 3) (h : jv_fe an yf) : jv_fe (upd an i (an i + 1)) (upd yf i (yf i + 1)) := by
  refine ⟨fun j hj => ?_, by rw [pk_un (fun e => h3 e.symm)]; exact h.2⟩
  by_cases e : j = i
  · rw [e, pk_us, pk_us, h.1 i hi]
  · rw [pk_un e, pk_un e]; exact h.1 j hj
def jv_MS (o T : Nat) (q : Nat → Nat) (Pr : Nat → Prop) (xt : Int32) (aw an aq ck cl cp cn cb cv cm yf yo ym : Nat → Int32) : Prop :=
  jv_RW aw ck cl cp cn cb cv cm ∧ jv_MI ck cp cn ym q T Pr ∧ (∀ x, x < 16 → (bt xt x = true ↔ ¬ ym x = 0)) ∧ (∀ i, i < T → yo i = nI (q i)) ∧ (∀ i, o ≤ i → i < T → aq (i - o) = nI (q i)) ∧ jv_fe an yf ∧ o ≤ T
/-- where X is in the entries of d when Y is at hash h -/
def jv_At (aw cn : Nat → Int32) (d h i : Nat) : Prop :=
  ∃ n N I, jv_DW aw d n N I ∧ jv_DF (fun a => cn (64 * d + a)) n N I ∧ i ≤ n ∧ (∀ j, j < i → jv_hs (N j) < h) ∧ (∀ j, i ≤ j → j < n → h ≤ jv_hs (N j))
theorem jv_met_or {xt : Int32} {ym : Nat → Int32} {x : Nat} (hx : x < 16) (h : ∀ y, y < 16 → (bt xt y = true ↔ ¬ ym y = 0)) : ∀ y, y < 16 → (bt (xt ||| ((1 : Int32) <<< (nI x &&& 31))) y = true ↔ ¬ upd ym x 1 y = 0) := by
  intro y hy
  rw [jv_mo xt hx hy]
  by_cases e : y = x
  · rw [e, pk_us, decide_eq_true rfl, Bool.or_true]
    exact ⟨fun _ => by decide, fun _ => rfl⟩
  · rw [pk_un e, decide_eq_false e, Bool.or_false]; exact h y hy
theorem jv_met_up {ym : Nat → Int32} {x y : Nat} (h : ¬ ym y = 0) : ¬ upd ym x 1 y = 0 := by
  by_cases e : y = x
  · rw [e, pk_us]; decide
  · rw [pk_un e]; exact h
section
variable {xc xr xs xg xd xm xt xw xo : Int32} {aw ap aa av ae af ab al an aq : Nat → Int32}
theorem zk_vis {o H d m : Nat} {ck cl cb cv cm : Nat → Int32} (hd : d < 16) (hkd : ck d = 2) : ∀ (dd h i T : Nat) (q : Nat → Nat) (xt : Int32) (aw an aq cp cn yf yo ym : Nat → Int32), h + dd = 64 → H < T → q H = d →
      jv_MS o T q (jv_Pr q H d h) xt aw an aq ck cl cp cn cb cv cm yf yo ym → jv_At aw cn d h i →
    ∃ (T' : Nat) (q' : Nat → Nat) (xt' : Int32) (aw' an' aq' cp' cn' yf' yo' ym' : Nat → Int32), T ≤ T' ∧ (∀ j, j < T → q' j = q j) ∧ (∀ y, ¬ ym y = 0 → ¬ ym' y = 0) ∧ jv_MS o T' q' (jv_Pr q' H d 64) xt' aw' an' aq' ck cl cp' cn' cb cv cm yf' yo' ym' ∧
      (∀ (post : SX → Prop) (fuel : Nat), dd < fuel → post (nI m, xr, xs, 0, xd, xm, xt', nI (T' - o), xo, aw', ap, aa, av, ae, af, ab, al, an', aq') → wX_visit_2 post (nI d) fuel (nI i) (nI m) xr xs 0 xd xm xt (nI (T - o)) xo aw ap aa av ae af ab al an aq) ∧
      (∀ (yr ys yd yh : Int32) (ok ol op on ob ov om ac au yu : Nat → Int32) (post : SY → Prop) (J0 : Int32 → Int32 → Int32 → Int32 → Int32 → (Nat → Int32) → (Nat → Int32) → (Nat → Int32) → (Nat → Int32) → (Nat → Int32) → (Nat → Int32) → (Nat → Int32) → (Nat → Int32) → (Nat → Int32) → (Nat → Int32) → (Nat → Int32) → (Nat → Int32) → (Nat → Int32) → (Nat → Int32) → (Nat → Int32) → (Nat → Int32) → (Nat → Int32) → (Nat → Int32) → (Nat → Int32) → (Nat → Int32) → Prop) (fuel : Nat), dd < fuel →
        J0 yr ys yd yh (nI T') ck cl cp' cn' cb cv cm ok ol op on ob ov om ac au yf' yo' yu ym' → wY_visit_33 post J0 (nI d) fuel (nI h) yr ys yd yh (nI T) ck cl cp cn cb cv cm ok ol op on ob ov om ac au yf yo yu ym) := by
  intro dd
  induction dd with
  | zero =>
    intro h i T q xt aw an aq cp cn yf yo ym hh hHT hq hMS hAt
    have eh : h = 64 := by omega
    subst eh
    obtain ⟨n, N, I, hW, hF, hi, h1, h2⟩ := hAt
    have ein : i = n := by
      rcases Nat.lt_or_ge i n with g | g
      · have a1 := h2 i (Nat.le_refl i) g
        have a2 := jv_hs_lt (N i)
        omega
      · omega
    subst ein
    refine ⟨T, q, xt, aw, an, aq, cp, cn, yf, yo, ym, Nat.le_refl T, fun _ _ => rfl, fun _ z => z, hMS, fun post fuel hf K => ?_, ?_⟩
    · obtain ⟨fuel, rfl⟩ : ∃ g, fuel = g + 1 := ⟨fuel - 1, by omega⟩
      have h10 := hF.1
      rw [wX_visit_2]
      refine xk_base ?_
      rw [ad_p2, nI_clamp (by omega), hW.1]
      exact ⟨vp_in_nI (by omega) (by decide), br_t (nI_le (Nat.le_refl _) (by omega)) K⟩
    · intro yr ys yd yh ok ol op on ob ov om ac au yu post J0 fuel hf K
      obtain ⟨fuel, rfl⟩ : ∃ g, fuel = g + 1 := ⟨fuel - 1, by omega⟩
      rw [wY_visit_33]
      exact br_t (nI_le (a := 64) (b := 64) (by omega) (by decide)) K
  | succ dd ih =>
    intro h i T q xt aw an aq cp cn yf yo ym hh hHT hq hMS hAt
    obtain ⟨n, N, I, hW, hF, hi, h1, h2⟩ := hAt
    obtain ⟨hRW, hMI, hB, hYo, hAq, hFo, hoT⟩ := hMS
    have hK := jv_kd hRW
    have h64 : h < 64 := by omega
    have h10 := hF.1
    have hnm := jv_nm_lt h
    have hj0 : 64 * d + jv_nm h < 1024 := by omega
    have ej0 : (64 * d + jv_nm h) / 64 = d := by omega
    have hPs := jv_Pr_s (q := q) (H := H) hd h64
    have hPn : ¬ jv_Pr q H d h (64 * d + jv_nm h) := jv_Pr_n hd h64 (fun i' hi' e => hMI.2.2.1 i' H hi' hHT (by rw [hq]; exact e))
    have hTT := jv_MI_T hMI
    rcases jv_at_h hF h64 h1 h2 with ⟨g1, g2, g3, g4⟩ | ⟨g1, g2⟩
    · -- an entry
      have hcn : cn (64 * d + jv_nm h) = nI (I i) := g4
      have hxI := (hF.2.1 i g1).2.1
      have hnn : ¬ cn (64 * d + jv_nm h) < 0 := by rw [hcn]; exact nI_pos (by omega)
      have hroot : ¬ ym 0 = 0 := by
        have := (hMI.1 0 (by omega)).2.2
        rw [hMI.2.2.2.1.2] at this
        exact this
      by_cases hA : I i = 0 ∨ ck (I i) = 0 ∨ (ck (I i) = 2 ∧ ¬ ym (I i) = 0)
      · -- it goes
        obtain ⟨w', k1, k2, k3⟩ := xk_extract (xr := xr) (xs := xs) (xd := xd) (xm := xm) (xo := xo) (ap := ap) (ae := ae) (af := af) (ab := ab) (al := al) (xg := 0) (xt := xt) (xw := nI (T - o)) (aw := aw) (an := an) (aq := aq) hd h10 g1 hW
        have hRW' := jv_RW_del hRW hd hkd hF g1 k1 k2
        rw [g2] at hRW'
        have hMI' : jv_MI ck cp (upd cn (64 * d + jv_nm h) (-1)) ym q T (jv_Pr q H d (h + 1)) := jv_MI_cn hMI (fun j x hj hx hp e => by
            by_cases ej : j = 64 * d + jv_nm h
            · rw [ej, pk_us] at e; exact absurd e.symm (jv_neg1 (by omega))
            · rw [pk_un ej] at e
              rcases (hPs j hj).mp hp with z | z
              · exact ⟨z, e⟩
              · exact absurd z ej) (fun j x hj hx hp e => by
            have ej : j ≠ 64 * d + jv_nm h := fun z => hPn (by rw [← z]; exact hp)
            exact ⟨(hPs j hj).mpr (Or.inl hp), by rw [pk_un ej]; exact e⟩)
        have hAt' : jv_At w' (upd cn (64 * d + jv_nm h) (-1)) d (h + 1) i := by
          refine ⟨n - 1, jv_del N i, jv_del I i, k1, ?_, by omega, fun j hj => ?_, fun j hj hj2 => ?_⟩
          · rw [jv_off, ← g2]; exact jv_DF_del hF g1
          · rw [jv_del_lt hj]; have := h1 j hj; omega
          · rw [jv_del_ge hj]; have := hF.2.2.1 i (j + 1) (by omega) (by omega); omega
        obtain ⟨T', q', xt', aw', an', aq', cp', cn', yf', yo', ym', r1, r2, rm, r3, r4, r5⟩ := ih (h + 1) i T q xt w' (upd an 0 (an 0 + 1)) aq cp (upd cn (64 * d + jv_nm h) (-1)) (upd yf 0 (yf 0 + 1)) yo ym (by omega) hHT hq
          ⟨hRW', hMI', hB, hYo, hAq, jv_fe_up 0 (by omega) (by omega) hFo, hoT⟩ hAt'
        refine ⟨T', q', xt', aw', an', aq', cp', cn', yf', yo', ym', r1, r2, rm, r3, fun post fuel hf K => ?_, ?_⟩
        · obtain ⟨fuel, rfl⟩ : ∃ g, fuel = g + 1 := ⟨fuel - 1, by omega⟩
          refine xk_vis hd g1 hK hW hF (fun _ => ?_) (fun z1 z2 => ?_)
          · unfold wX_visit_65
            refine k3 _ aa av m 0 aa av m (by omega) jv_J_i0 (fun aa1 av1 m1 J => ?_)
            obtain ⟨e1, e2, e3⟩ := jv_J_0 J
            subst e1 e2 e3
            exact nm_e (r4 post fuel (by omega) K)
          · exfalso
            rcases hA with z | z | z
            · rw [z] at z2; exact z2 ⟨hRW.2.1, (hB 0 (by omega)).mpr hroot⟩
            · exact z1 z
            · exact z2 ⟨z.1, (hB _ hxI).mpr z.2⟩
        · intro yr ys yd yh ok ol op on ob ov om ac au yu post J0 fuel hf K
          obtain ⟨fuel, rfl⟩ : ∃ g, fuel = g + 1 := ⟨fuel - 1, by omega⟩
          rw [wY_visit_33]
          refine br_f (nI_ge (b := 64) h64 (by decide)) ⟨jv_nm h + 65, ?_⟩
          refine yk_v41_1 h64 ?_ (jv_nm h) 0 (by omega) (jv_nm h + 65) (by omega)
          refine yk_v41_y (yt' := nI T) (cp' := cp) (cn' := upd cn (64 * d + jv_nm h) (-1)) (yf' := upd yf 0 (yf 0 + 1)) (yo' := yo) (ym' := ym) hd h64 hnn (fun pl Kl => yk_look hd hnm hxI hcn (fun _ => Kl) (fun z1 z2 z3 => ?_)) (r5 yr ys yd yh ok ol op on ob ov om ac au yu post J0 fuel (by omega) K)
          exfalso
          rcases hA with z | z | z
          · exact z1 z
          · exact z2 z
          · exact z3 z
      · -- it stays
        have x1 : 1 ≤ I i := by
          rcases Nat.eq_zero_or_pos (I i) with z | z
          · exact absurd (Or.inl z) hA
          · exact z
        have k0 : ¬ ck (I i) = 0 := fun z => hA (Or.inr (Or.inl z))
        have hu : ck (I i) = 2 → ym (I i) = 0 := fun z => Classical.byContradiction (fun y => hA (Or.inr (Or.inr ⟨z, y⟩)))
        have hbx : ¬ (ck (I i) = 2 ∧ bt xt (I i) = true) := fun z => ((hB _ hxI).mp z.2) (hu z.1)
        have hAt' : ∀ cn2 aw2, cn2 = cn → (∀ z, z < 24 * d + 3 ∨ 24 * d + 4 ≤ z → (24 * d ≤ z ∧ z < 24 * d + 24) → aw2 z = aw z) → jv_At aw2 cn2 d (h + 1) (i + 1) := by
          intro cn2 aw2 ec ew
          subst ec
          refine ⟨n, N, I, ⟨by rw [ew _ (by omega) (by omega)]; exact hW.1, fun j hj => by rw [ew _ (by omega) (by omega), ew _ (by omega) (by omega)]; exact hW.2 j hj⟩, hF, by omega, fun j hj => ?_, fun j hj hj2 => ?_⟩
          · by_cases e : j = i
            · rw [e]; omega
            · have := h1 j (by omega); omega
          · have := hF.2.2.1 i j (by omega) hj2; omega
        by_cases hk2 : ck (I i) = 2
        · -- a directory
          have hux := hu hk2
          have hMI1 := jv_MI_d hMI hxI x1 hj0 hcn hk2 hux hHT (by rw [hq, ej0]) hPs
          rw [ej0] at hMI1
          have hT16 : T < 16 := by have := jv_MI_T hMI1; omega
          have qo : ∀ j, j < T → jv_up q T (I i) j = q j := fun j hj => jv_up_n (by omega)
          have hxd : I i ≠ d := fun e => by
            have := (hMI.1 H hHT).2.2
            rw [hq, ← e] at this; exact this hux
          have hMI' : jv_MI ck (upd cp (I i) (nI d)) cn (upd ym (I i) 1) (jv_up q T (I i)) (T + 1) (jv_Pr (jv_up q T (I i)) H d (h + 1)) :=
            jv_MI_cn hMI1 (fun j x hj hx hp e => ⟨(jv_Pr_q (fun i' hi' => qo i' (by omega))).mp hp, e⟩) (fun j x hj hx hp e => ⟨(jv_Pr_q (fun i' hi' => qo i' (by omega))).mpr hp, e⟩)
          obtain ⟨T', q', xt', aw', an', aq', cp', cn', yf', yo', ym', r1, r2, rm, r3, r4, r5⟩ := ih (h + 1) (i + 1) (T + 1) (jv_up q T (I i)) (xt ||| ((1 : Int32) <<< (nI (I i) &&& 31))) (upd aw (24 * I i + 3) (nI d)) an (upd aq (T - o) (nI (I i))) (upd cp (I i) (nI d)) cn yf (upd yo T (nI (I i))) (upd ym (I i) 1) (by omega) (by omega) (by rw [qo H hHT]; exact hq)
            ⟨jv_RW_pa hRW hxI (nI d), hMI', jv_met_or hxI hB, fun j hj => by
              by_cases e : j = T
              · rw [e, pk_us, jv_up_s]
              · rw [pk_un e, jv_up_n e]; exact hYo j (by omega), fun j hj hj2 => by
              by_cases e : j = T
              · rw [e, pk_us, jv_up_s]
              · rw [pk_un (by omega), jv_up_n e]; exact hAq j hj (by omega), hFo, by omega⟩ (hAt' _ _ rfl (fun z z1 z2 => pk_un (by omega)))
          refine ⟨T', q', xt', aw', an', aq', cp', cn', yf', yo', ym', by omega, fun j hj => by rw [r2 j (by omega), qo j hj], fun y z => rm y (jv_met_up z), r3, fun post fuel hf K => ?_, ?_⟩
          · obtain ⟨fuel, rfl⟩ : ∃ g, fuel = g + 1 := ⟨fuel - 1, by omega⟩
            refine xk_vis hd g1 hK hW hF (fun z => ?_) (fun _ _ z hz => ?_)
            · exfalso
              rcases z with z | z
              · exact k0 z
              · exact hbx z
            · have ez : z = 1 := by
                rcases hz with y | y
                · exact y.2
                · exact absurd hk2 y.1
              subst ez
              unfold wX_visit_84
              refine nm_e (nm_r (nI_1 i) (br_f (by decide) (xk_set0 (f := 3) (by omega) ?_)))
              dsimp only
              rw [nI_clamp (show T - o < 2 ^ 31 by omega), jv_byte (show I i < 128 by omega), nI_1, show T - o + 1 = T + 1 - o by omega]
              exact nm_e ⟨vp_in_nI (by omega) (by decide), nm_e (r4 post fuel (by omega) K)⟩
          · intro yr ys yd yh ok ol op on ob ov om ac au yu post J0 fuel hf K
            obtain ⟨fuel, rfl⟩ : ∃ g, fuel = g + 1 := ⟨fuel - 1, by omega⟩
            rw [wY_visit_33]
            refine br_f (nI_ge (b := 64) h64 (by decide)) ⟨jv_nm h + 65, ?_⟩
            refine yk_v41_1 h64 ?_ (jv_nm h) 0 (by omega) (jv_nm h + 65) (by omega)
            refine yk_v41_y (yt' := nI (T + 1)) (cp' := upd cp (I i) (nI d)) (cn' := cn) (yf' := yf) (yo' := upd yo T (nI (I i))) (ym' := upd ym (I i) 1) hd h64 hnn (fun pl Kl => yk_look hd hnm hxI hcn (fun z => absurd z hA) (fun _ _ _ => yk_meet hxI (fun _ => ⟨hT16, Kl⟩) (fun z => absurd hk2 z))) (r5 yr ys yd yh ok ol op on ob ov om ac au yu post J0 fuel (by omega) K)
        · -- a file
          have hMI' := jv_MI_f (Pr2 := jv_Pr q H d (h + 1)) hMI hxI x1 hcn k0 hk2 hPs
          obtain ⟨T', q', xt', aw', an', aq', cp', cn', yf', yo', ym', r1, r2, rm, r3, r4, r5⟩ := ih (h + 1) (i + 1) T q (xt ||| ((1 : Int32) <<< (nI (I i) &&& 31))) aw an aq cp cn yf yo (upd ym (I i) 1) (by omega) hHT hq
            ⟨hRW, hMI', jv_met_or hxI hB, hYo, hAq, hFo, hoT⟩ (hAt' _ _ rfl (fun _ _ _ => rfl))
          refine ⟨T', q', xt', aw', an', aq', cp', cn', yf', yo', ym', r1, r2, fun y z => rm y (jv_met_up z), r3, fun post fuel hf K => ?_, ?_⟩
          · obtain ⟨fuel, rfl⟩ : ∃ g, fuel = g + 1 := ⟨fuel - 1, by omega⟩
            refine xk_vis hd g1 hK hW hF (fun z => ?_) (fun _ _ z hz => ?_)
            · exfalso
              rcases z with z | z
              · exact k0 z
              · exact hbx z
            · have ez : z = 0 := by
                rcases hz with y | y
                · exact absurd y.1 hk2
                · exact y.2
              subst ez
              unfold wX_visit_84
              exact nm_e (nm_r (nI_1 i) (br_t rfl (r4 post fuel (by omega) K)))
          · intro yr ys yd yh ok ol op on ob ov om ac au yu post J0 fuel hf K
            obtain ⟨fuel, rfl⟩ : ∃ g, fuel = g + 1 := ⟨fuel - 1, by omega⟩
            rw [wY_visit_33]
            refine br_f (nI_ge (b := 64) h64 (by decide)) ⟨jv_nm h + 65, ?_⟩
            refine yk_v41_1 h64 ?_ (jv_nm h) 0 (by omega) (jv_nm h + 65) (by omega)
            refine yk_v41_y (yt' := nI T) (cp' := cp) (cn' := cn) (yf' := yf) (yo' := yo) (ym' := upd ym (I i) 1) hd h64 hnn (fun pl Kl => yk_look hd hnm hxI hcn (fun z => absurd z hA) (fun _ _ _ => yk_meet hxI (fun z => absurd z hk2) (fun _ => Kl))) (r5 yr ys yd yh ok ol op on ob ov om ac au yu post J0 fuel (by omega) K)
    · -- no entry of this hash
      have hcn : cn (64 * d + jv_nm h) = -1 := g1
      have hMI' : jv_MI ck cp cn ym q T (jv_Pr q H d (h + 1)) := jv_MI_cn hMI (fun j x hj hx hp e => by
          rcases (hPs j hj).mp hp with z | z
          · exact ⟨z, e⟩
          · rw [z, hcn] at e; exact absurd e.symm (jv_neg1 (by omega))) (fun j x hj hx hp e => ⟨(hPs j hj).mpr (Or.inl hp), e⟩)
      obtain ⟨T', q', xt', aw', an', aq', cp', cn', yf', yo', ym', r1, r2, rm, r3, r4, r5⟩ := ih (h + 1) i T q xt aw an aq cp cn yf yo ym (by omega) hHT hq ⟨hRW, hMI', hB, hYo, hAq, hFo, hoT⟩
        ⟨n, N, I, hW, hF, hi, fun j hj => by have := h1 j hj; omega, fun j hj hj2 => by have := g2 j hj hj2; omega⟩
      refine ⟨T', q', xt', aw', an', aq', cp', cn', yf', yo', ym', r1, r2, rm, r3, fun post fuel hf K => r4 post fuel (by omega) K, ?_⟩
      intro yr ys yd yh ok ol op on ob ov om ac au yu post J0 fuel hf K
      obtain ⟨fuel, rfl⟩ : ∃ g, fuel = g + 1 := ⟨fuel - 1, by omega⟩
      rw [wY_visit_33]
      refine br_f (nI_ge (b := 64) h64 (by decide)) ⟨jv_nm h + 65, ?_⟩
      refine yk_v41_1 h64 ?_ (jv_nm h) 0 (by omega) (jv_nm h + 65) (by omega)
      exact yk_v41_n hd h64 (by rw [hcn]; exact jv_m1neg) (r5 yr ys yd yh ok ol op on ob ov om ac au yu post J0 fuel (by omega) K)
end
end
section
/-! mending: all directories that were met, in lockstep -/
def jv_Pd (q : Nat → Nat) (H j : Nat) : Prop := ∃ i, i < H ∧ q i = j / 64
theorem jv_MS_Pr {o T : Nat} {q : Nat → Nat} {Pr Pr2 : Nat → Prop} {xt : Int32} {aw an aq ck cl cp cn cb cv cm yf yo ym : Nat → Int32} (h : jv_MS o T q Pr xt aw an aq ck cl cp cn cb cv cm yf yo ym) (hP : ∀ j, j < 1024 → (Pr2 j ↔ Pr j)) :
    jv_MS o T q Pr2 xt aw an aq ck cl cp cn cb cv cm yf yo ym :=
  ⟨h.1, jv_MI_cn h.2.1 (fun j _ hj _ hp e => ⟨(hP j hj).mp hp, e⟩) (fun j _ hj _ hp e => ⟨(hP j hj).mpr hp, e⟩), h.2.2⟩
section
variable {xc xr xs xg xd xm xt xw xo : Int32} {aw ap aa av ae af ab al an aq : Nat → Int32}
theorem zk_wlk {o m : Nat} {ck cl cb cv cm : Nat → Int32} : ∀ (e H T : Nat) (q : Nat → Nat) (xt : Int32) (aw an aq cp cn yf yo ym : Nat → Int32), 16 - H < e → H ≤ T → o ≤ H → jv_MS o T q (jv_Pd q H) xt aw an aq ck cl cp cn cb cv cm yf yo ym →
    ∃ (T' : Nat) (q' : Nat → Nat) (xt' : Int32) (aw' an' aq' cp' cn' yf' yo' ym' : Nat → Int32), T ≤ T' ∧ (∀ j, j < T → q' j = q j) ∧ (∀ y, ¬ ym y = 0 → ¬ ym' y = 0) ∧ jv_MS o T' q' (jv_Pd q' T') xt' aw' an' aq' ck cl cp' cn' cb cv cm yf' yo' ym' ∧
      (∀ (post : SX → Prop) (fuel : Nat), e ≤ fuel → post (nI m, xr, xs, 0, xd, xm, xt', nI (T' - o), nI (T' - o), aw', ap, aa, av, ae, af, ab, al, an', aq') → wX_walk_28 post fuel (nI m) xr xs 0 xd xm xt (nI (T - o)) (nI (H - o)) aw ap aa av ae af ab al an aq) ∧
      (∀ (yr ys yd : Int32) (ok ol op on ob ov om ac au yu : Nat → Int32) (post : SY → Prop) (fuel : Nat), e ≤ fuel → post (yr, ys, yd, nI T', nI T', ck, cl, cp', cn', cb, cv, cm, ok, ol, op, on, ob, ov, om, ac, au, yf', yo', yu, ym') → wY_visit_0 post fuel yr ys yd (nI H) (nI T) ck cl cp cn cb cv cm ok ol op on ob ov om ac au yf yo yu ym) := by
  intro e
  induction e with
  | zero => intro H T q xt aw an aq cp cn yf yo ym h; omega
  | succ e ih =>
    intro H T q xt aw an aq cp cn yf yo ym he hHT hoH hMS
    have hTT := jv_MI_T hMS.2.1
    rcases Nat.lt_or_ge H T with hlt | hge
    · obtain ⟨hRW, hMI, hB, hYo, hAq, hFo, hoT⟩ := id hMS
      obtain ⟨hd, hkd, hmd⟩ := hMI.1 H hlt
      have hAt : jv_At aw cn (q H) 0 0 := by
        obtain ⟨_, n, N, I, hW, hF⟩ := (hRW.1 (q H) hd).2.2.2.1 hkd
        exact ⟨n, N, I, hW, hF, by omega, fun j hj => by omega, fun j _ _ => by omega⟩
      have hMS0 : jv_MS o T q (jv_Pr q H (q H) 0) xt aw an aq ck cl cp cn cb cv cm yf yo ym := jv_MS_Pr hMS (fun j _ => ⟨fun z => by
        rcases z with z | z
        · exact z
        · omega, fun z => Or.inl z⟩)
      obtain ⟨T1, q1, xt1, aw1, an1, aq1, cp1, cn1, yf1, yo1, ym1, a1, a2, am, a3, a4, a5⟩ := zk_vis (xr := xr) (xs := xs) (xd := xd) (xm := xm) (ap := ap) (aa := aa) (av := av) (ae := ae) (af := af) (ab := ab) (al := al) (xo := nI (H + 1 - o)) (m := m) hd hkd 64 0 0 T q xt aw an aq cp cn yf yo ym (by omega) hlt rfl hMS0 hAt
      have hMS1 : jv_MS o T1 q1 (jv_Pd q1 (H + 1)) xt1 aw1 an1 aq1 ck cl cp1 cn1 cb cv cm yf1 yo1 ym1 := jv_MS_Pr a3 (fun j hj => ⟨fun ⟨i, hi, z⟩ => by
        by_cases ei : i = H
        · right
          rw [ei, a2 H hlt] at z
          exact ⟨z.symm, jv_hs_lt _⟩
        · exact Or.inl ⟨i, by omega, z⟩, fun z => by
        rcases z with ⟨i, hi, z⟩ | z
        · exact ⟨i, by omega, z⟩
        · exact ⟨H, by omega, by rw [a2 H hlt]; exact z.1.symm⟩⟩)
      obtain ⟨T', q', xt', aw', an', aq', cp', cn', yf', yo', ym', r1, r2, rm, r3, r4, r5⟩ := ih (H + 1) T1 q1 xt1 aw1 an1 aq1 cp1 cn1 yf1 yo1 ym1 (by omega) (by omega) (by omega) hMS1
      refine ⟨T', q', xt', aw', an', aq', cp', cn', yf', yo', ym', by omega, fun j hj => by rw [r2 j (by omega), a2 j hj], fun y z => rm y (am y z), r3, fun post fuel hf K => ?_, ?_⟩
      · obtain ⟨fuel, rfl⟩ : ∃ g, fuel = g + 1 := ⟨fuel - 1, by omega⟩
        rw [wX_walk_28]
        refine pk_le (T - o) (H - o) (fun h => absurd h (by omega)) (fun _ => nm_r (e' := nI (H + 1 - o)) ?_ ⟨vp_in_nI (by omega) (by decide), ?_⟩)
        · rw [nI_1]; exact congrArg nI (by omega)
        · rw [nI_clamp (by omega), hAq H hoH hlt]
          unfold wpX_visit; dsimp only
          refine ⟨65, a4 _ 65 (by omega) ?_⟩
          exact r4 post fuel (by omega) K
      · intro yr ys yd ok ol op on ob ov om ac au yu post fuel hf K
        obtain ⟨fuel, rfl⟩ : ∃ g, fuel = g + 1 := ⟨fuel - 1, by omega⟩
        rw [wY_visit_0]
        refine pk_le T H (fun h => absurd h (by omega)) (fun _ => ⟨vp_in_nI (by omega) (by decide), ?_⟩)
        rw [nI_clamp (by omega), hYo H hlt]
        refine nm_e (nm_r (nI_1 H) ⟨65, ?_⟩)
        exact a5 yr ys yd (nI (H + 1)) ok ol op on ob ov om ac au yu post _ 65 (by omega) (r5 yr ys yd ok ol op on ob ov om ac au yu post fuel (by omega) K)
    · have eT : H = T := by omega
      subst eT
      refine ⟨H, q, xt, aw, an, aq, cp, cn, yf, yo, ym, Nat.le_refl H, fun _ _ => rfl, fun _ z => z, hMS, fun post fuel hf K => ?_, ?_⟩
      · obtain ⟨fuel, rfl⟩ : ∃ g, fuel = g + 1 := ⟨fuel - 1, by omega⟩
        rw [wX_walk_28]
        exact br_t (nI_le (Nat.le_refl _) (by omega)) K
      · intro yr ys yd ok ol op on ob ov om ac au yu post fuel hf K
        obtain ⟨fuel, rfl⟩ : ∃ g, fuel = g + 1 := ⟨fuel - 1, by omega⟩
        rw [wY_visit_0]
        exact br_t (nI_le (Nat.le_refl _) (by omega)) K
end
end
section
/-! mending: one that was not met comes into the root, or is gone -/
section
variable {yr ys yd yh yt : Int32} {ck cl cp cn cb cv cm ok ol op on ob ov om ac au yf yo yu ym : Nat → Int32}
theorem yk_vn48 {post : SY → Prop} {x : Nat} (hx : x < 16) (K : post (yr, ys, yd, yh, yt, ck, cl, cp, cn, jv_fl cb (24 * x) 24 (-1), cv, cm, ok, ol, op, on, ob, ov, om, ac, au, yf, yo, yu, ym)) : ∀ (d i : Nat), i + d = 24 → ∀ fuel, d < fuel → wY_vanish_48 post (nI x) yr ys yd yh yt fuel (nI (24 * x + i)) ck cl cp cn (jv_fl cb (24 * x) i (-1)) cv cm ok ol op on ob ov om ac au yf yo yu ym := by
  intro d
  induction d with
  | zero =>
    intro i e fuel hf
    obtain ⟨fuel, rfl⟩ : ∃ g, fuel = g + 1 := ⟨fuel - 1, by omega⟩
    have : i = 24 := by omega
    subst this
    rw [wY_vanish_48]
    have e1 : 24 * nI x + 24 = nI (24 * x + 24) := ad_b x 24
    refine br_t ?_ K
    rw [e1]; exact nI_le (Nat.le_refl _) (by omega)
  | succ d ih =>
    intro i e fuel hf
    obtain ⟨fuel, rfl⟩ : ∃ g, fuel = g + 1 := ⟨fuel - 1, by omega⟩
    rw [wY_vanish_48]
    have e1 : 24 * nI x + 24 = nI (24 * x + 24) := ad_b x 24
    refine br_f ?_ ?_
    · rw [e1]; exact nI_ge (by omega) (by omega)
    · rw [nI_clamp (by omega), jv_fl_s]
      exact ⟨vp_in_nI (by omega) (by decide), nm_e (nm_r (nI_1 _) (ih (i + 1) (by omega) fuel (by omega)))⟩
theorem yk_vn19 {post : SY → Prop} {x : Nat} (hx : x < 16) (K : ∃ n, wY_vanish_48 post (nI x) yr ys yd yh yt n (nI (24 * x)) ck cl cp (jv_fl cn (64 * x) 64 (-1)) cb cv cm ok ol op on ob ov om ac au yf yo yu ym) : ∀ (d i : Nat), i + d = 64 → ∀ fuel, d < fuel → wY_vanish_19 post (nI x) yr ys yd yh yt fuel (nI (64 * x + i)) ck cl cp (jv_fl cn (64 * x) i (-1)) cb cv cm ok ol op on ob ov om ac au yf yo yu ym := by
  intro d
  induction d with
  | zero =>
    intro i e fuel hf
    obtain ⟨fuel, rfl⟩ : ∃ g, fuel = g + 1 := ⟨fuel - 1, by omega⟩
    have : i = 64 := by omega
    subst this
    rw [wY_vanish_19]
    have e1 : 64 * nI x + 64 = nI (64 * x + 64) := ad_n x 64
    refine br_t ?_ (nm_r (ad_24 x) K)
    rw [e1]; exact nI_le (Nat.le_refl _) (by omega)
  | succ d ih =>
    intro i e fuel hf
    obtain ⟨fuel, rfl⟩ : ∃ g, fuel = g + 1 := ⟨fuel - 1, by omega⟩
    rw [wY_vanish_19]
    have e1 : 64 * nI x + 64 = nI (64 * x + 64) := ad_n x 64
    refine br_f ?_ ?_
    · rw [e1]; exact nI_ge (by omega) (by omega)
    · rw [nI_clamp (by omega), jv_fl_s]
      exact ⟨vp_in_nI (by omega) (by decide), nm_e (nm_r (nI_1 _) (ih (i + 1) (by omega) fuel (by omega)))⟩
theorem yk_vanish {post : SY → Prop} {x : Nat} (hx : x < 16) (K : post (yr, ys, yd, yh, yt, upd ck x 0, upd cl x 0, cp, jv_fl cn (64 * x) 64 (-1), jv_fl cb (24 * x) 24 (-1), cv, cm, ok, ol, op, on, ob, ov, om, ac, au, yf, yo, yu, ym)) : wpY_vanish post (yr, ys, yd, yh, yt, ck, cl, cp, cn, cb, cv, cm, ok, ol, op, on, ob, ov, om, ac, au, yf, yo, yu, ym) (nI x) := by
  unfold wpY_vanish; dsimp only
  rw [nI_clamp (by omega)]
  have vx : vp_in (nI x) 16 := vp_in_nI hx (by decide)
  refine ⟨vx, nm_e ⟨vx, nm_e (nm_r (e' := nI (64 * x + 0)) (ad_64 x) ⟨65, ?_⟩)⟩⟩
  have h48 := yk_vn48 (yr := yr) (ys := ys) (yd := yd) (yh := yh) (yt := yt) (cp := cp) (cb := cb) (cv := cv) (cm := cm) (ok := ok) (ol := ol) (op := op) (on := on) (ob := ob) (ov := ov) (om := om) (ac := ac) (au := au) (yf := yf) (yo := yo) (yu := yu) (ym := ym) (ck := upd ck x 0) (cl := upd cl x 0) (cn := jv_fl cn (64 * x) 64 (-1)) hx K 24 0 (by omega) 25 (by omega)
  rw [jv_fl_0] at h48
  have := yk_vn19 (yr := yr) (ys := ys) (yd := yd) (yh := yh) (yt := yt) (cp := cp) (cn := cn) (cb := cb) (cv := cv) (cm := cm) (ok := ok) (ol := ol) (op := op) (on := on) (ob := ob) (ov := ov) (om := om) (ac := ac) (au := au) (yf := yf) (yo := yo) (yu := yu) (ym := ym) (ck := upd ck x 0) (cl := upd cl x 0) (post := post) hx ⟨25, h48⟩ 64 0 (by omega) 65 (by omega)
  rw [jv_fl_0] at this
  exact this
end
section
variable {xc xr xs xg xd xm xt xw xo : Int32} {aw ap aa av ae af ab al an aq : Nat → Int32}
theorem zk_ad1 {T x m : Nat} {q : Nat → Nat} {ck cl cp cn cb cv cm yf yo ym : Nat → Int32} (hx : x < 16) (hx1 : 1 ≤ x) (hMS : jv_MS T T q (jv_Pd q T) xt aw an aq ck cl cp cn cb cv cm yf yo ym) (hkx : ¬ ck x = 0) (hu : ym x = 0) :
    ∃ (T' : Nat) (q' : Nat → Nat) (xt' xw' xo' : Int32) (aw' an' aq' ck' cl' cp' cn' cb' yf' yo' ym' : Nat → Int32), jv_MS T' T' q' (jv_Pd q' T') xt' aw' an' aq' ck' cl' cp' cn' cb' cv cm yf' yo' ym' ∧
      (∀ y, ¬ ym y = 0 → ¬ ym' y = 0) ∧ (∀ y, y ≠ x → ck' y = ck y) ∧ (ck' x = 0 ∨ ¬ ym' x = 0) ∧
      (∀ post : SX → Prop, post (nI m, xr, xs, 0, xd, xm, xt', xw', xo', aw', ap, aa, av, ae, af, ab, al, an', aq') → wpX_adopt post (nI m, xr, xs, 0, xd, xm, xt, xw, xo, aw, ap, aa, av, ae, af, ab, al, an, aq) (nI x)) ∧
      (∀ (yr ys yd : Int32) (ok ol op on ob ov om ac au yu : Nat → Int32) (post : Int32 → SY → Prop) (fuel : Nat), wY_mend_72 post fuel (nI (x + 1)) yr ys yd (nI T') (nI T') ck' cl' cp' cn' cb' cv cm ok ol op on ob ov om ac au yf' yo' yu ym' → wY_mend_72 post (fuel + 1) (nI x) yr ys yd (nI T) (nI T) ck cl cp cn cb cv cm ok ol op on ob ov om ac au yf yo yu ym) := by
  obtain ⟨hRW, hMI, hB, hYo, hAq, hFo, hoT⟩ := id hMS
  have hK := jv_kd hRW
  have hTT := jv_MI_T hMI
  obtain ⟨_, n, N, I, hW, hF⟩ := (hRW.1 0 (by omega)).2.2.2.1 hRW.2.1
  have h10 := hF.1
  have hFo' : jv_fe (upd an 1 (an 1 + 1)) (upd yf 1 (yf 1 + 1)) := jv_fe_up 1 (by omega) (by omega) hFo
  -- Y comes to the choice
  have yY : ∀ (yr ys yd : Int32) (ok ol op on ob ov om ac au yu : Nat → Int32) (post : Int32 → SY → Prop) (fuel : Nat),
      (vp_in (nI (48 + x)) 1024 ∧ ((0 ≤ cn (48 + x) → wY_mend_131 post (wY_mend_72 post fuel) (nI x) yr ys yd (nI T) (nI T) ck cl cp cn cb cv cm ok ol op on ob ov om ac au (upd yf 1 (yf 1 + 1)) yo yu ym) ∧ (¬ 0 ≤ cn (48 + x) → wpY_entries (fun r_186 => (r_186 = 10 → wY_mend_131 post (wY_mend_72 post fuel) (nI x) yr ys yd (nI T) (nI T) ck cl cp cn cb cv cm ok ol op on ob ov om ac au (upd yf 1 (yf 1 + 1)) yo yu ym) ∧ (¬ r_186 = 10 → (vp_in (nI (48 + x)) 1024 ∧ ∀ a_named_214 : Nat → Int32, a_named_214 = upd cn (48 + x) (nI x) → wpY_meet (fun u => match u with | (yr, ys, yd, yh, yt, ck, cl, cp, cn, cb, cv, cm, ok, ol, op, on, ob, ov, om, ac, au, yf, yo, yu, ym) => wpY_visit (fun u => match u with | (yr, ys, yd, yh, yt, ck, cl, cp, cn, cb, cv, cm, ok, ol, op, on, ob, ov, om, ac, au, yf, yo, yu, ym) => ∀ x1 : Int32, x1 = nI x + 1 → wY_mend_72 post fuel x1 yr ys yd yh yt ck cl cp cn cb cv cm ok ol op on ob ov om ac au yf yo yu ym) (yr, ys, yd, yh, yt, ck, cl, cp, cn, cb, cv, cm, ok, ol, op, on, ob, ov, om, ac, au, yf, yo, yu, ym)) (yr, ys, yd, nI T, nI T, ck, cl, cp, a_named_214, cb, cv, cm, ok, ol, op, on, ob, ov, om, ac, au, upd yf 1 (yf 1 + 1), yo, yu, ym) (nI x) 0))) (yr, ys, yd, nI T, nI T, ck, cl, cp, cn, cb, cv, cm, ok, ol, op, on, ob, ov, om, ac, au, upd yf 1 (yf 1 + 1), yo, yu, ym) 0))) →
      wY_mend_72 post (fuel + 1) (nI x) yr ys yd (nI T) (nI T) ck cl cp cn cb cv cm ok ol op on ob ov om ac au yf yo yu ym := by
    intro yr ys yd ok ol op on ob ov om ac au yu post fuel K
    rw [wY_mend_72]
    dsimp only
    have vx : vp_in (nI x) 16 := vp_in_nI hx (by decide)
    rw [nI_clamp (n := x) (by omega), show (48 : Int32) + nI x = nI (48 + x) from nI_add 48 x, nI_clamp (n := 48 + x) (by omega)]
    exact br_f (nI_ge (b := 16) hx (by decide)) ⟨vx, br_f hkx ⟨vx, br_t hu (nm_e K)⟩⟩
  have v48 : vp_in (nI (48 + x)) 1024 := vp_in_nI (by omega) (by decide)
  have hF0 : jv_DF (fun a => cn (64 * 0 + a)) n N I := hF
  have ecn : ∀ i, i < n → N i = 48 + x → cn (48 + x) = nI (I i) := fun i hi e => by
    have := jv_fy hF0 hi
    rw [e, show 64 * 0 + (48 + x) = 48 + x by omega] at this
    exact this
  have e0 : (0 : Int32) = nI 0 := rfl
  by_cases hgo : n = 10 ∨ ∃ i, i < n ∧ N i = 48 + x
  · -- it is gone
    have hRW' := jv_RW_free (w' := upd (upd aw (24 * x) 0) (24 * x + 2) 0) (cl' := upd cl x 0) (cm' := cm) hRW hx hx1 (fun z z1 z2 z3 => by rw [pk_un (by omega), pk_un (by omega)]) (by rw [pk_un (by omega), pk_us]) (fun i hi => pk_un hi)
      (by rw [jv_M_fr (w := aw) (by rw [pk_un (by omega), pk_un (by omega)]) (by rw [pk_un (by omega), pk_un (by omega)])]; exact hRW.2.2.1) hRW.2.2.2.2.2.2.2.2.2.2.2
    have hMI' := jv_MI_v (cn' := jv_fl cn (64 * x) 64 (-1)) hMI hu (fun j z => z) (fun j hj => jv_fl_o (by omega))
    refine ⟨T, q, xt, xw, xo, _, upd an 1 (an 1 + 1), aq, _, upd cl x 0, cp, _, _, upd yf 1 (yf 1 + 1), yo, ym, ⟨hRW', hMI', hB, hYo, hAq, hFo', hoT⟩, fun _ z => z, fun y hy => pk_un hy, Or.inl pk_us, fun post K => ?_, ?_⟩
    · have k32 : wX_adopt_32 post (nI x) (nI m) xr xs 0 xd xm xt xw xo aw ap aa av ae af ab al (upd an 1 (an 1 + 1)) aq := by
        unfold wX_adopt_32
        refine xk_set0 (f := 0) (by omega) ?_
        dsimp only
        exact xk_set0 (f := 2) (by omega) K
      unfold wpX_adopt; dsimp only
      refine nm_e (nm_r (nI_add 48 x) ?_)
      refine xk_isFull (x := 0) (by omega) hW.1 h10 (fun e => br_f (by decide) k32) (fun e => br_t rfl ?_)
      refine xk_seek (x := 0) (by omega) (show 48 + x < 64 by omega) hW hF (fun i hi ei => br_f (nI_pos (by omega)) k32) (fun k' hk' g1 g2 => ?_)
      exfalso
      rcases hgo with z | ⟨i, hi, z⟩
      · exact e z
      · rcases Nat.lt_or_ge i k' with y | y
        · have := g1 i y; rw [z] at this; omega
        · have := g2 i y hi; rw [z] at this; omega
    · intro yr ys yd ok ol op on ob ov om ac au yu post fuel K
      have k131 : wY_mend_131 post (wY_mend_72 post fuel) (nI x) yr ys yd (nI T) (nI T) ck cl cp cn cb cv cm ok ol op on ob ov om ac au (upd yf 1 (yf 1 + 1)) yo yu ym := by
        unfold wY_mend_131
        exact yk_vanish hx (nm_r (nI_1 x) K)
      refine yY yr ys yd ok ol op on ob ov om ac au yu post fuel ⟨v48, br_c (fun _ => k131) (fun g => ?_)⟩
      refine yk_entries (x := 0) (by omega) hF0 (pk_eq n 10 (fun _ => k131) (fun e => ?_))
      exfalso
      rcases hgo with z | ⟨i, hi, z⟩
      · exact e z
      · rw [ecn i hi z] at g; exact g (nI_pos' (by have := (hF.2.1 i hi).2.1; omega))
  · -- it comes into the root
    have hn9 : n ≤ 9 := by
      rcases Nat.lt_or_ge n 10 with z | z
      · omega
      · exact absurd (Or.inl (by omega)) hgo
    have hno : ∀ i, i < n → ¬ N i = 48 + x := fun i hi e => hgo (Or.inr ⟨i, hi, e⟩)
    have hnn : cn (48 + x) = -1 := by
      have := jv_fn hF0 (show 48 + x < 64 by omega) hno
      rw [show 64 * 0 + (48 + x) = 48 + x by omega] at this
      exact this
    have hng : ¬ 0 ≤ cn (48 + x) := by rw [hnn]; exact jv_m1n0
    obtain ⟨w1, k, k1, k2, k3, k4, k5, k6⟩ := xk_insert (xr := xr) (xs := xs) (xd := xd) (xm := xm) (xt := xt) (xw := xw) (xo := xo) (ap := ap) (ae := ae) (af := af) (ab := ab) (al := al) (aq := aq) (xg := 0) (aw := aw) (an := upd an 1 (an 1 + 1)) (x := 0) (a := 48 + x) (y := x) (by omega) hn9 (by omega) hW hF hno
    have hRW1 := jv_RW_ins hRW (d := 0) (a := 48 + x) (by omega) (by omega) hx hRW.2.1 hn9 hF0 k1 k2 k3 k4 k5
    rw [show 64 * 0 + (48 + x) = 48 + x by omega] at hRW1
    have hP0 : jv_Pd q T (48 + x) := ⟨0, hMI.2.2.2.1.1, by rw [hMI.2.2.2.1.2]; omega⟩
    have hMI1 : jv_MI ck cp (upd cn (48 + x) (nI x)) ym q T (fun j => jv_Pd q T j ∧ j ≠ 48 + x) := jv_MI_cn hMI (fun j y hj hy hp e => by
        rw [pk_un hp.2] at e; exact ⟨hp.1, e⟩) (fun j y hj hy hp e => by
        have : j ≠ 48 + x := fun z => by rw [z, hnn] at e; exact jv_neg1 (by omega) e.symm
        exact ⟨⟨hp, this⟩, by rw [pk_un this]; exact e⟩)
    have hPI : ∀ j, j < 1024 → (jv_Pd q T j ↔ ((jv_Pd q T j ∧ j ≠ 48 + x) ∨ j = 48 + x)) := fun j _ => ⟨fun z => by
        by_cases e : j = 48 + x
        · exact Or.inr e
        · exact Or.inl ⟨z, e⟩, fun z => by
        rcases z with z | z
        · exact z.1
        · rw [z]; exact hP0⟩
    -- X comes to the kind
    have xX : ∀ post : SX → Prop, wpX_kind (fun r_107 => (r_107 = 2 → wpX_set (fun u => match u with | (xc, xr, xs, xg, xd, xm, xt, xw, xo, aw, ap, aa, av, ae, af, ab, al, an, aq) => wpX_walk (fun u => match u with | (xc, xr, xs, xg, xd, xm, xt, xw, xo, aw, ap, aa, av, ae, af, ab, al, an, aq) => post (xc, xr, xs, xg, xd, xm, xt, xw, xo, aw, ap, aa, av, ae, af, ab, al, an, aq)) (xc, xr, xs, xg, xd, xm, xt, xw, xo, aw, ap, aa, av, ae, af, ab, al, an, aq) (nI x)) (nI m, xr, xs, 0, xd, xm, xt ||| ((1 : Int32) <<< (nI x &&& 31)), xw, xo, w1, ap, aa, av, ae, af, ab, al, upd an 1 (an 1 + 1), aq) (nI x) 3 0) ∧ (¬ r_107 = 2 → post (nI m, xr, xs, 0, xd, xm, xt ||| ((1 : Int32) <<< (nI x &&& 31)), xw, xo, w1, ap, aa, av, ae, af, ab, al, upd an 1 (an 1 + 1), aq))) (nI m, xr, xs, 0, xd, xm, xt ||| ((1 : Int32) <<< (nI x &&& 31)), xw, xo, w1, ap, aa, av, ae, af, ab, al, upd an 1 (an 1 + 1), aq) (nI x) → wpX_adopt post (nI m, xr, xs, 0, xd, xm, xt, xw, xo, aw, ap, aa, av, ae, af, ab, al, an, aq) (nI x) := by
      intro post K
      unfold wpX_adopt; dsimp only
      refine nm_e (nm_r (nI_add 48 x) ?_)
      refine xk_isFull (x := 0) (by omega) hW.1 h10 (fun e => absurd (Or.inl e) hgo) (fun e => br_t rfl ?_)
      refine xk_seek (x := 0) (by omega) (show 48 + x < 64 by omega) hW hF (fun i hi ei => absurd ei (hno i hi)) (fun k' hk' g1 g2 => br_t (pk_sneg (a := k') (b := 100) (by decide) (by omega)) ?_)
      refine k6 _ aa av m 0 aa av m (by omega) jv_J_i0 (fun aa1 av1 m1 J => ?_)
      obtain ⟨e1, e2, e3⟩ := jv_J_0 J
      subst e1 e2 e3
      exact nm_e K
    by_cases hk2 : ck x = 2
    · have hMI2 := jv_MI_d (Pr2 := jv_Pd q T) (i0 := 0) hMI1 hx hx1 (show 48 + x < 1024 by omega) pk_us hk2 hu hMI.2.2.2.1.1 (by rw [hMI.2.2.2.1.2]; omega) hPI
      rw [show (48 + x) / 64 = 0 by omega] at hMI2
      have hT16 : T < 16 := by have := jv_MI_T hMI2; omega
      have qo : ∀ j, j < T → jv_up q T x j = q j := fun j hj => jv_up_n (by omega)
      have hMS2 : jv_MS T (T + 1) (jv_up q T x) (jv_Pd (jv_up q T x) T) (xt ||| ((1 : Int32) <<< (nI x &&& 31))) (upd w1 (24 * x + 3) 0) (upd an 1 (an 1 + 1)) (upd aq 0 (nI x)) ck cl (upd cp x (nI 0)) (upd cn (48 + x) (nI x)) cb cv cm (upd yf 1 (yf 1 + 1)) (upd yo T (nI x)) (upd ym x 1) := by
        refine ⟨jv_RW_pa hRW1 hx (nI 0), jv_MI_cn hMI2 (fun j y hj hy hp e => ⟨?_, e⟩) (fun j y hj hy hp e => ⟨?_, e⟩), jv_met_or hx hB, fun j hj => ?_, fun j hj hj2 => ?_, hFo', by omega⟩
        · obtain ⟨i, hi, z⟩ := hp
          exact ⟨i, hi, by rw [← qo i hi]; exact z⟩
        · obtain ⟨i, hi, z⟩ := hp
          exact ⟨i, hi, by rw [qo i hi]; exact z⟩
        · by_cases e : j = T
          · rw [e, pk_us, jv_up_s]
          · rw [pk_un e, jv_up_n e]; exact hYo j (by omega)
        · have : j = T := by omega
          rw [this, Nat.sub_self, pk_us, jv_up_s]
      obtain ⟨T', q', xt', aw', an', aq', cp', cn', yf', yo', ym', r1, r2, rm, r3, r4, r5⟩ := zk_wlk (xr := xr) (xs := xs) (xd := xd) (xm := xm) (ap := ap) (aa := aa) (av := av) (ae := ae) (af := af) (ab := ab) (al := al) (m := m) 17 T (T + 1) _ _ _ _ _ _ _ _ _ _ (by omega) (by omega) (Nat.le_refl T) hMS2
      refine ⟨T', q', xt', nI (T' - T), nI (T' - T), aw', an', aq', ck, cl, cp', cn', cb, yf', yo', ym', ⟨r3.1, r3.2.1, r3.2.2.1, r3.2.2.2.1, fun i h1 h2 => by omega, r3.2.2.2.2.2.1, Nat.le_refl T'⟩, fun y z => rm y (jv_met_up z), fun y _ => rfl, Or.inr (rm x (by rw [pk_us]; decide)), fun post K => xX post ?_, ?_⟩
      · refine xk_kind_i hx ?_
        rw [jv_kd hRW1 x hx]
        refine br_t hk2 (xk_set0 (f := 3) (by omega) ?_)
        dsimp only
        unfold wpX_walk; dsimp only
        rw [jv_byte (show x < 128 by omega)]
        have := r4 post 17 (Nat.le_refl 17) K
        rw [show T + 1 - T = 1 by omega, Nat.sub_self] at this
        exact nm_r (e' := nI 1) rfl (nm_e ⟨17, this⟩)
      · intro yr ys yd ok ol op on ob ov om ac au yu post fuel K
        refine yY yr ys yd ok ol op on ob ov om ac au yu post fuel ⟨v48, br_f hng ?_⟩
        refine yk_entries (x := 0) (by omega) hF0 (pk_eq n 10 (fun e => absurd (Or.inl e) hgo) (fun e => ⟨v48, nm_e ?_⟩))
        refine yk_meet hx (fun _ => ⟨hT16, ?_⟩) (fun z => absurd hk2 z)
        dsimp only
        unfold wpY_visit; dsimp only
        exact ⟨17, r5 yr ys yd ok ol op on ob ov om ac au yu _ 17 (Nat.le_refl 17) (nm_r (nI_1 x) K)⟩
    · have hMI2 := jv_MI_f (Pr2 := jv_Pd q T) hMI1 hx hx1 pk_us hkx hk2 hPI
      refine ⟨T, q, xt ||| ((1 : Int32) <<< (nI x &&& 31)), xw, xo, w1, upd an 1 (an 1 + 1), aq, ck, cl, cp, upd cn (48 + x) (nI x), cb, upd yf 1 (yf 1 + 1), yo, upd ym x 1, ⟨hRW1, hMI2, jv_met_or hx hB, hYo, hAq, hFo', hoT⟩, fun y z => jv_met_up z, fun y _ => rfl, Or.inr (by rw [pk_us]; decide), fun post K => xX post ?_, ?_⟩
      · refine xk_kind_i hx ?_
        rw [jv_kd hRW1 x hx]
        exact br_f hk2 K
      · intro yr ys yd ok ol op on ob ov om ac au yu post fuel K
        refine yY yr ys yd ok ol op on ob ov om ac au yu post fuel ⟨v48, br_f hng ?_⟩
        refine yk_entries (x := 0) (by omega) hF0 (pk_eq n 10 (fun e => absurd (Or.inl e) hgo) (fun e => ⟨v48, nm_e ?_⟩))
        refine yk_meet hx (fun z => absurd z hk2) (fun _ => ?_)
        dsimp only
        unfold wpY_visit; dsimp only
        refine ⟨1, ?_⟩
        rw [wY_visit_0]
        exact br_t (nI_le (Nat.le_refl _) (by omega)) (nm_r (nI_1 x) K)
end
end
section
/-! mending: all inodes, one by one -/
section
variable {xc xr xs xg xd xm xt xw xo : Int32} {aw ap aa av ae af ab al an aq : Nat → Int32}
theorem zk_adl {m : Nat} {cv cm : Nat → Int32} : ∀ (e x T : Nat) (q : Nat → Nat) (xt xw xo : Int32) (aw an aq ck cl cp cn cb yf yo ym : Nat → Int32), x + e = 16 → 1 ≤ x → jv_MS T T q (jv_Pd q T) xt aw an aq ck cl cp cn cb cv cm yf yo ym → (∀ y, y < x → ¬ ck y = 0 → ¬ ym y = 0) →
    ∃ (T' : Nat) (q' : Nat → Nat) (xt' xw' xo' : Int32) (aw' an' aq' ck' cl' cp' cn' cb' yf' yo' ym' : Nat → Int32), jv_MS T' T' q' (jv_Pd q' T') xt' aw' an' aq' ck' cl' cp' cn' cb' cv cm yf' yo' ym' ∧ (∀ y, y < 16 → ¬ ck' y = 0 → ¬ ym' y = 0) ∧
      (∀ (post : Int32 → SX → Prop) (fuel : Nat), e < fuel → wX_mend_41 post 1 (nI 16) (nI m) xr xs 0 xd xm xt' xw' xo' aw' ap aa av ae af ab al an' aq' → wX_mend_41 post fuel (nI x) (nI m) xr xs 0 xd xm xt xw xo aw ap aa av ae af ab al an aq) ∧
      (∀ (yr ys yd : Int32) (ok ol op on ob ov om ac au yu : Nat → Int32) (post : Int32 → SY → Prop) (fuel : Nat), e < fuel → wY_mend_72 post 1 (nI 16) yr ys yd (nI T') (nI T') ck' cl' cp' cn' cb' cv cm ok ol op on ob ov om ac au yf' yo' yu ym' → wY_mend_72 post fuel (nI x) yr ys yd (nI T) (nI T) ck cl cp cn cb cv cm ok ol op on ob ov om ac au yf yo yu ym) := by
  intro e
  induction e with
  | zero =>
    intro x T q xt xw xo aw an aq ck cl cp cn cb yf yo ym he hx1 hMS hall
    have ex : x = 16 := by omega
    subst ex
    refine ⟨T, q, xt, xw, xo, aw, an, aq, ck, cl, cp, cn, cb, yf, yo, ym, hMS, hall, fun post fuel hf K => ?_, ?_⟩
    · obtain ⟨fuel, rfl⟩ : ∃ g, fuel = g + 1 := ⟨fuel - 1, by omega⟩
      rw [wX_mend_41] at K ⊢
      exact br_t (by decide) (K.1 (by decide))
    · intro yr ys yd ok ol op on ob ov om ac au yu post fuel hf K
      obtain ⟨fuel, rfl⟩ : ∃ g, fuel = g + 1 := ⟨fuel - 1, by omega⟩
      rw [wY_mend_72] at K ⊢
      exact br_t (by decide) (K.1 (by decide))
  | succ e ih =>
    intro x T q xt xw xo aw an aq ck cl cp cn cb yf yo ym he hx1 hMS hall
    have hx : x < 16 := by omega
    have hK := jv_kd hMS.1
    have vx : vp_in (nI x) 16 := vp_in_nI hx (by decide)
    by_cases hk0 : ck x = 0
    · obtain ⟨T', q', xt', xw', xo', aw', an', aq', ck', cl', cp', cn', cb', yf', yo', ym', r1, r2, r3, r4⟩ := ih (x + 1) T q xt xw xo aw an aq ck cl cp cn cb yf yo ym (by omega) (by omega) hMS (fun y hy hk => by
        by_cases z : y = x
        · rw [z] at hk; exact absurd hk0 hk
        · exact hall y (by omega) hk)
      refine ⟨T', q', xt', xw', xo', aw', an', aq', ck', cl', cp', cn', cb', yf', yo', ym', r1, r2, fun post fuel hf K => ?_, ?_⟩
      · obtain ⟨fuel, rfl⟩ : ∃ g, fuel = g + 1 := ⟨fuel - 1, by omega⟩
        have := r3 post fuel (by omega) K
        rw [wX_mend_41]
        refine br_f (nI_ge (b := 16) hx (by decide)) (xk_kind_i hx ?_)
        rw [hK x hx]
        exact br_t hk0 (nm_r (nI_1 x) this)
      · intro yr ys yd ok ol op on ob ov om ac au yu post fuel hf K
        obtain ⟨fuel, rfl⟩ : ∃ g, fuel = g + 1 := ⟨fuel - 1, by omega⟩
        have := r4 yr ys yd ok ol op on ob ov om ac au yu post fuel (by omega) K
        rw [wY_mend_72]
        dsimp only
        rw [nI_clamp (n := x) (by omega)]
        exact br_f (nI_ge (b := 16) hx (by decide)) ⟨vx, br_t hk0 (nm_r (nI_1 x) this)⟩
    · by_cases hm : ym x = 0
      · obtain ⟨T1, q1, xt1, xw1, xo1, aw1, an1, aq1, ck1, cl1, cp1, cn1, cb1, yf1, yo1, ym1, a1, a2, a3, a4, a5, a6⟩ := zk_ad1 (xr := xr) (xs := xs) (xd := xd) (xm := xm) (ap := ap) (aa := aa) (av := av) (ae := ae) (af := af) (ab := ab) (al := al) (xt := xt) (xw := xw) (xo := xo) (aw := aw) (an := an) (aq := aq) (m := m) hx hx1 hMS hk0 hm
        obtain ⟨T', q', xt', xw', xo', aw', an', aq', ck', cl', cp', cn', cb', yf', yo', ym', r1, r2, r3, r4⟩ := ih (x + 1) T1 q1 xt1 xw1 xo1 aw1 an1 aq1 ck1 cl1 cp1 cn1 cb1 yf1 yo1 ym1 (by omega) (by omega) a1 (fun y hy hk => by
          by_cases z : y = x
          · rw [z] at hk ⊢
            rcases a4 with g | g
            · exact absurd g hk
            · exact g
          · rw [a3 y z] at hk; exact a2 y (hall y (by omega) hk))
        refine ⟨T', q', xt', xw', xo', aw', an', aq', ck', cl', cp', cn', cb', yf', yo', ym', r1, r2, fun post fuel hf K => ?_, ?_⟩
        · obtain ⟨fuel, rfl⟩ : ∃ g, fuel = g + 1 := ⟨fuel - 1, by omega⟩
          have := r3 post fuel (by omega) K
          rw [wX_mend_41]
          refine br_f (nI_ge (b := 16) hx (by decide)) (xk_kind_i hx ?_)
          rw [hK x hx, jv_mb xt hx]
          have hb : bt xt x = false := by
            cases z : bt xt x with
            | false => rfl
            | true => exact absurd hm ((hMS.2.2.1 x hx).mp z)
          refine br_f hk0 (br_t (by rw [hb]; rfl) (a5 _ ?_))
          exact nm_r (nI_1 x) this
        · intro yr ys yd ok ol op on ob ov om ac au yu post fuel hf K
          obtain ⟨fuel, rfl⟩ : ∃ g, fuel = g + 1 := ⟨fuel - 1, by omega⟩
          exact a6 yr ys yd ok ol op on ob ov om ac au yu post fuel (r4 yr ys yd ok ol op on ob ov om ac au yu post fuel (by omega) K)
      · obtain ⟨T', q', xt', xw', xo', aw', an', aq', ck', cl', cp', cn', cb', yf', yo', ym', r1, r2, r3, r4⟩ := ih (x + 1) T q xt xw xo aw an aq ck cl cp cn cb yf yo ym (by omega) (by omega) hMS (fun y hy hk => by
          by_cases z : y = x
          · rw [z]; exact hm
          · exact hall y (by omega) hk)
        refine ⟨T', q', xt', xw', xo', aw', an', aq', ck', cl', cp', cn', cb', yf', yo', ym', r1, r2, fun post fuel hf K => ?_, ?_⟩
        · obtain ⟨fuel, rfl⟩ : ∃ g, fuel = g + 1 := ⟨fuel - 1, by omega⟩
          have := r3 post fuel (by omega) K
          rw [wX_mend_41]
          refine br_f (nI_ge (b := 16) hx (by decide)) (xk_kind_i hx ?_)
          rw [hK x hx, jv_mb xt hx, (hMS.2.2.1 x hx).mpr hm]
          exact br_f hk0 (br_f (by decide) (nm_r (nI_1 x) this))
        · intro yr ys yd ok ol op on ob ov om ac au yu post fuel hf K
          obtain ⟨fuel, rfl⟩ : ∃ g, fuel = g + 1 := ⟨fuel - 1, by omega⟩
          have := r4 yr ys yd ok ol op on ob ov om ac au yu post fuel (by omega) K
          rw [wY_mend_72]
          dsimp only
          rw [nI_clamp (n := x) (by omega)]
          exact br_f (nI_ge (b := 16) hx (by decide)) ⟨vx, br_f hk0 ⟨vx, br_f hm (nm_r (nI_1 x) this)⟩⟩
end
/-! extents that share a block: Y -/
theorem jv_Ex_nx {f : Nat → Int32} {n k : Nat} {P B L : Nat → Nat} (hX : jv_Ex f n P B L) (hk : k < n) (h : P k + L k < 24) : ¬ f (P k + L k) = nI (B k + L k) := by
  intro e
  have b1 := hX.1.1 k hk
  rcases jv_Ex_at (n := n) (P := P) (L := L) (P k + L k) with ⟨j, hj, a1, a2⟩ | hn
  · have hkj : k < j := by
      rcases Nat.lt_trichotomy j k with q | q | q
      · have := hX.1.2 j k q hk; omega
      · rw [q] at a2; omega
      · exact q
    have c1 := hX.1.2 k j hkj hj
    have c2 := hX.1.1 j hj
    have ej : j = k + 1 := by
      by_cases q : j = k + 1
      · exact q
      · have d1 := hX.1.2 k (k + 1) (by omega) (by omega)
        have d2 := hX.1.1 (k + 1) (by omega)
        have d3 := hX.1.2 (k + 1) j (by omega) hj
        omega
    rw [jv_EF_in hX.2.2 hj a1 a2, nI_eq (by omega) (by omega)] at e
    have c3 := hX.2.1 k (by omega)
    rw [← ej] at c3
    omega
  · rw [hX.2.2.2 _ h hn] at e
    exact absurd e.symm (jv_neg1 (by omega))
section
variable {yr ys yd yh yt : Int32} {ck cl cp cn cb cv cm ok ol op on ob ov om ac au yf yo yu ym : Nat → Int32}
theorem yk_len2_l {post : Int32 → Prop} {x p b l : Nat} (hx : x < 16) (hl : p + l ≤ 24) (hb : b + l ≤ 64) (h1 : ∀ d, d < l → cb (24 * x + p + d) = nI (b + d)) (h2 : p + l < 24 → ¬ cb (24 * x + p + l) = nI (b + l)) (hl1 : 1 ≤ l) (K : post (nI l)) : ∀ (e i : Nat), i + e = l → 1 ≤ i →
    ∀ fuel, e < fuel → wY_lengthAt_2 post (nI x) (nI p) yr ys yd yh yt ck cl cp cn cb cv cm ok ol op on ob ov om ac au yf yo yu ym fuel (nI i) := by
  have e0 : cb (24 * x + p) = nI b := h1 0 (by omega)
  intro e
  induction e with
  | zero =>
    intro i he hi fuel hf
    obtain ⟨fuel, rfl⟩ : ∃ g, fuel = g + 1 := ⟨fuel - 1, by omega⟩
    have : i = l := by omega
    subst this
    rw [wY_lengthAt_2]
    dsimp only
    rw [ad_b, nI_add, nI_add]
    refine pk_le 24 (p + i) (fun _ => K) (fun h => ?_)
    rw [nI_clamp (by omega), nI_clamp (by omega), e0, nI_add]
    exact ⟨vp_in_nI (by omega) (by decide), vp_in_nI (by omega) (by decide), br_f (h2 h) K⟩
  | succ e ih =>
    intro i he hi fuel hf
    obtain ⟨fuel, rfl⟩ : ∃ g, fuel = g + 1 := ⟨fuel - 1, by omega⟩
    rw [wY_lengthAt_2]
    dsimp only
    rw [ad_b, nI_add, nI_add]
    refine pk_le 24 (p + i) (fun h => absurd h (by omega)) (fun h => ?_)
    rw [nI_clamp (by omega), nI_clamp (by omega), e0, nI_add]
    exact ⟨vp_in_nI (by omega) (by decide), vp_in_nI (by omega) (by decide), br_t (h1 i (by omega)) (nm_r (nI_1 i) (ih (i + 1) (by omega) (by omega) fuel (by omega)))⟩
theorem yk_len2 {post : Int32 → Prop} {x p b l : Nat} (hx : x < 16) (hl : p + l ≤ 24) (hb : b + l ≤ 64) (h1 : ∀ d, d < l → cb (24 * x + p + d) = nI (b + d)) (h2 : p + l < 24 → ¬ cb (24 * x + p + l) = nI (b + l)) (hl1 : 1 ≤ l) (K : post (nI l)) : wpY_lengthAt post (yr, ys, yd, yh, yt, ck, cl, cp, cn, cb, cv, cm, ok, ol, op, on, ob, ov, om, ac, au, yf, yo, yu, ym) (nI x) (nI p) := by
  unfold wpY_lengthAt; dsimp only
  exact ⟨l, yk_len2_l hx hl hb h1 h2 hl1 K (l - 1) 1 (by omega) (by omega) l (by omega)⟩
/-- marks of what is used -/
theorem yk_132a {post : SY → Prop} {J23 J31 : Int32 → (Nat → Int32) → (Nat → Int32) → (Nat → Int32) → (Nat → Int32) → (Nat → Int32) → (Nat → Int32) → (Nat → Int32) → (Nat → Int32) → (Nat → Int32) → (Nat → Int32) → (Nat → Int32) → (Nat → Int32) → (Nat → Int32) → (Nat → Int32) → (Nat → Int32) → (Nat → Int32) → (Nat → Int32) → (Nat → Int32) → (Nat → Int32) → (Nat → Int32) → Prop} {x p b l : Nat} (hx : x < 16) (hl : p + l ≤ 24) (hb : b + l ≤ 64) (h1 : ∀ d, d < l → cb (24 * x + p + d) = nI (b + d)) (K : J31 (nI (p + l)) ck cl cp cn cb cv cm ok ol op on ob ov om ac au yf yo (jv_fl yu b l 1) ym) : ∀ (e i : Nat), i + e = l → ∀ fuel, e < fuel →
    wY_part_132 post J23 J31 (nI x) (nI p) (nI (24 * x + p)) (nI l) 0 yr ys yd yh yt fuel (nI i) ck cl cp cn cb cv cm ok ol op on ob ov om ac au yf yo (jv_fl yu b i 1) ym := by
  intro e
  induction e with
  | zero =>
    intro i he fuel hf
    obtain ⟨fuel, rfl⟩ : ∃ g, fuel = g + 1 := ⟨fuel - 1, by omega⟩
    have : i = l := by omega
    subst this
    rw [wY_part_132]
    exact br_t (nI_le (Nat.le_refl _) (by omega)) (nm_r (nI_add _ _) K)
  | succ e ih =>
    intro i he fuel hf
    obtain ⟨fuel, rfl⟩ : ∃ g, fuel = g + 1 := ⟨fuel - 1, by omega⟩
    rw [wY_part_132]
    dsimp only
    rw [nI_add (24 * x + p) i, nI_clamp (n := 24 * x + p + i) (by omega), h1 i (by omega), nI_clamp (by omega), jv_fl_s]
    exact br_f (nI_ge (by omega) (by omega)) (br_t rfl ⟨vp_in_nI (by omega) (by decide), vp_in_nI (by omega) (by decide), nm_e (nm_r (nI_1 i) (ih (i + 1) (by omega) fuel (by omega)))⟩)
/-- positions that go -/
theorem yk_132b {post : SY → Prop} {J23 J31 : Int32 → (Nat → Int32) → (Nat → Int32) → (Nat → Int32) → (Nat → Int32) → (Nat → Int32) → (Nat → Int32) → (Nat → Int32) → (Nat → Int32) → (Nat → Int32) → (Nat → Int32) → (Nat → Int32) → (Nat → Int32) → (Nat → Int32) → (Nat → Int32) → (Nat → Int32) → (Nat → Int32) → (Nat → Int32) → (Nat → Int32) → (Nat → Int32) → (Nat → Int32) → Prop} {x p l : Nat} (hx : x < 16) (hl : p + l ≤ 24) (K : J31 (nI (p + l)) ck cl cp cn (jv_fl cb (24 * x + p) l (-1)) cv cm ok ol op on ob ov om ac au yf yo yu ym) : ∀ (e i : Nat), i + e = l → ∀ fuel, e < fuel →
    wY_part_132 post J23 J31 (nI x) (nI p) (nI (24 * x + p)) (nI l) 1 yr ys yd yh yt fuel (nI i) ck cl cp cn (jv_fl cb (24 * x + p) i (-1)) cv cm ok ol op on ob ov om ac au yf yo yu ym := by
  intro e
  induction e with
  | zero =>
    intro i he fuel hf
    obtain ⟨fuel, rfl⟩ : ∃ g, fuel = g + 1 := ⟨fuel - 1, by omega⟩
    have : i = l := by omega
    subst this
    rw [wY_part_132]
    exact br_t (nI_le (Nat.le_refl _) (by omega)) (nm_r (nI_add _ _) K)
  | succ e ih =>
    intro i he fuel hf
    obtain ⟨fuel, rfl⟩ : ∃ g, fuel = g + 1 := ⟨fuel - 1, by omega⟩
    rw [wY_part_132]
    dsimp only
    rw [nI_add (24 * x + p) i, nI_clamp (n := 24 * x + p + i) (by omega), jv_fl_s]
    exact br_f (nI_ge (by omega) (by omega)) (br_f (by decide) ⟨vp_in_nI (by omega) (by decide), nm_e (nm_r (nI_1 i) (ih (i + 1) (by omega) fuel (by omega)))⟩)
theorem yk_73a {post : SY → Prop} {J23 J31 : Int32 → (Nat → Int32) → (Nat → Int32) → (Nat → Int32) → (Nat → Int32) → (Nat → Int32) → (Nat → Int32) → (Nat → Int32) → (Nat → Int32) → (Nat → Int32) → (Nat → Int32) → (Nat → Int32) → (Nat → Int32) → (Nat → Int32) → (Nat → Int32) → (Nat → Int32) → (Nat → Int32) → (Nat → Int32) → (Nat → Int32) → (Nat → Int32) → (Nat → Int32) → Prop} {x p b l : Nat} (hx : x < 16) (hl : p + l ≤ 24) (hb : b + l ≤ 64) (h0 : cb (24 * x + p) = nI b) (hs : ∀ d, d < l → ¬ yu (b + d) = 1)
    (K : ∃ n, wY_part_132 post J23 J31 (nI x) (nI p) (nI (24 * x + p)) (nI l) 0 yr ys yd yh yt n 0 ck cl cp cn cb cv cm ok ol op on ob ov om ac au yf yo yu ym) : ∀ (e i : Nat), i + e = l → ∀ fuel, e < fuel →
    wY_part_73 post J23 J31 (nI x) (nI p) (nI (24 * x + p)) (nI l) yr ys yd yh yt ck cl cp cn cb cv cm ok ol op on ob ov om ac au yf yo yu ym fuel 0 (nI i) := by
  intro e
  induction e with
  | zero =>
    intro i he fuel hf
    obtain ⟨fuel, rfl⟩ : ∃ g, fuel = g + 1 := ⟨fuel - 1, by omega⟩
    have : i = l := by omega
    subst this
    rw [wY_part_73]
    exact br_t (nI_le (Nat.le_refl _) (by omega)) (br_t rfl K)
  | succ e ih =>
    intro i he fuel hf
    obtain ⟨fuel, rfl⟩ : ∃ g, fuel = g + 1 := ⟨fuel - 1, by omega⟩
    rw [wY_part_73]
    dsimp only
    rw [nI_clamp (n := 24 * x + p) (by omega), h0, nI_add, nI_clamp (by omega)]
    exact br_f (nI_ge (by omega) (by omega)) ⟨vp_in_nI (by omega) (by decide), vp_in_nI (by omega) (by decide), br_f (hs i (by omega)) (nm_r (e' := 0) (by decide) (nm_r (nI_1 i) (ih (i + 1) (by omega) fuel (by omega))))⟩
theorem yk_73b {post : SY → Prop} {J23 J31 : Int32 → (Nat → Int32) → (Nat → Int32) → (Nat → Int32) → (Nat → Int32) → (Nat → Int32) → (Nat → Int32) → (Nat → Int32) → (Nat → Int32) → (Nat → Int32) → (Nat → Int32) → (Nat → Int32) → (Nat → Int32) → (Nat → Int32) → (Nat → Int32) → (Nat → Int32) → (Nat → Int32) → (Nat → Int32) → (Nat → Int32) → (Nat → Int32) → (Nat → Int32) → Prop} {x p b l : Nat} (hx : x < 16) (hl : p + l ≤ 24) (hb : b + l ≤ 64) (h0 : cb (24 * x + p) = nI b)
    (K : ∃ n, wY_part_132 post J23 J31 (nI x) (nI p) (nI (24 * x + p)) (nI l) 1 yr ys yd yh yt n 0 ck cl cp cn cb cv cm ok ol op on ob ov om ac au (upd yf 2 (yf 2 + 1)) yo yu ym) : ∀ (e i : Nat) (z : Int32), i + e = l → (z = 1 ∨ (z = 0 ∧ ∃ d, i ≤ d ∧ d < l ∧ yu (b + d) = 1)) → ∀ fuel, e < fuel →
    wY_part_73 post J23 J31 (nI x) (nI p) (nI (24 * x + p)) (nI l) yr ys yd yh yt ck cl cp cn cb cv cm ok ol op on ob ov om ac au yf yo yu ym fuel z (nI i) := by
  intro e
  induction e with
  | zero =>
    intro i z he hz fuel hf
    obtain ⟨fuel, rfl⟩ : ∃ g, fuel = g + 1 := ⟨fuel - 1, by omega⟩
    have : i = l := by omega
    subst this
    have ez : z = 1 := by
      rcases hz with g | ⟨_, d, g1, g2, _⟩
      · exact g
      · omega
    subst ez
    rw [wY_part_73]
    exact br_t (nI_le (Nat.le_refl _) (by omega)) (br_f (by decide) (nm_e K))
  | succ e ih =>
    intro i z he hz fuel hf
    obtain ⟨fuel, rfl⟩ : ∃ g, fuel = g + 1 := ⟨fuel - 1, by omega⟩
    rw [wY_part_73]
    dsimp only
    rw [nI_clamp (n := 24 * x + p) (by omega), h0, nI_add, nI_clamp (by omega)]
    refine br_f (nI_ge (by omega) (by omega)) ⟨vp_in_nI (by omega) (by decide), vp_in_nI (by omega) (by decide), br_c (fun g => nm_r (e' := 1) ?_ (nm_r (nI_1 i) (ih (i + 1) 1 (by omega) (Or.inl rfl) fuel (by omega)))) (fun g => nm_r (e' := z) ?_ (nm_r (nI_1 i) (ih (i + 1) z (by omega) ?_ fuel (by omega))))⟩
    · rcases hz with q | q
      · rw [q]; decide
      · rw [q.1]; decide
    · rcases hz with q | q
      · rw [q]; decide
      · rw [q.1]; decide
    · rcases hz with q | ⟨q, d, q1, q2, q3⟩
      · exact Or.inl q
      · refine Or.inr ⟨q, d, ?_, q2, q3⟩
        by_cases ed : d = i
        · rw [ed] at q3; exact absurd q3 g
        · omega
/-- holes are passed -/
theorem yk_31s {post : SY → Prop} {J23 : Int32 → (Nat → Int32) → (Nat → Int32) → (Nat → Int32) → (Nat → Int32) → (Nat → Int32) → (Nat → Int32) → (Nat → Int32) → (Nat → Int32) → (Nat → Int32) → (Nat → Int32) → (Nat → Int32) → (Nat → Int32) → (Nat → Int32) → (Nat → Int32) → (Nat → Int32) → (Nat → Int32) → (Nat → Int32) → (Nat → Int32) → (Nat → Int32) → (Nat → Int32) → Prop} {x p' : Nat} (hx : x < 16) (hp' : p' ≤ 24) {fuel : Nat} (K : wY_part_31 post J23 (nI x) yr ys yd yh yt fuel (nI p') ck cl cp cn cb cv cm ok ol op on ob ov om ac au yf yo yu ym) : ∀ (e p : Nat), p + e = p' → (∀ z, p ≤ z → z < p' → cb (24 * x + z) = -1) →
    wY_part_31 post J23 (nI x) yr ys yd yh yt (fuel + e) (nI p) ck cl cp cn cb cv cm ok ol op on ob ov om ac au yf yo yu ym := by
  intro e
  induction e with
  | zero =>
    intro p he _
    have : p = p' := by omega
    subst this
    exact K
  | succ e ih =>
    intro p he hz
    rw [show fuel + (e + 1) = fuel + e + 1 by omega, wY_part_31]
    refine br_f (nI_ge (b := 24) (by omega) (by decide)) (nm_r (ad_b x p) ⟨vp_in_nI (by omega) (by decide), br_f ?_ (nm_r (nI_1 p) (ih (p + 1) (by omega) (fun z h1 h2 => hz z (by omega) h2)))⟩)
    rw [nI_clamp (by omega), hz p (by omega) (by omega)]; exact jv_m1n0
/-- at an extent -/
theorem yk_31e {post : SY → Prop} {J23 : Int32 → (Nat → Int32) → (Nat → Int32) → (Nat → Int32) → (Nat → Int32) → (Nat → Int32) → (Nat → Int32) → (Nat → Int32) → (Nat → Int32) → (Nat → Int32) → (Nat → Int32) → (Nat → Int32) → (Nat → Int32) → (Nat → Int32) → (Nat → Int32) → (Nat → Int32) → (Nat → Int32) → (Nat → Int32) → (Nat → Int32) → (Nat → Int32) → (Nat → Int32) → Prop} {x p b l fuel : Nat} (hx : x < 16) (hp : p < 24) (hb : b < 64) (h0 : cb (24 * x + p) = nI b)
    (K : wpY_lengthAt (fun r_8 => ∃ n73 : Nat, wY_part_73 post J23 (wY_part_31 post J23 (nI x) yr ys yd yh yt fuel) (nI x) (nI p) (nI (24 * x + p)) r_8 yr ys yd yh yt ck cl cp cn cb cv cm ok ol op on ob ov om ac au yf yo yu ym n73 0 0) (yr, ys, yd, yh, yt, ck, cl, cp, cn, cb, cv, cm, ok, ol, op, on, ob, ov, om, ac, au, yf, yo, yu, ym) (nI x) (nI p)) : wY_part_31 post J23 (nI x) yr ys yd yh yt (fuel + 1) (nI p) ck cl cp cn cb cv cm ok ol op on ob ov om ac au yf yo yu ym := by
  rw [wY_part_31]
  refine br_f (nI_ge (b := 24) hp (by decide)) (nm_r (ad_b x p) ⟨vp_in_nI (by omega) (by decide), br_t ?_ K⟩)
  rw [nI_clamp (by omega), h0]; exact nI_pos' (by omega)
end
end
section
/-! mending: extents that share a block, in lockstep -/
def jv_tr (cb : Nat → Int32) (U : Int64) (J : Nat) : Prop :=
  (∀ j b, j < J → b < 64 → cb j = nI b → jv_lb U b = true) ∧ (∀ i j b, i < J → j < J → b < 64 → cb i = nI b → cb j = nI b → i = j)
theorem jv_tr_h {cb : Nat → Int32} {U : Int64} {J J' : Nat} (h : jv_tr cb U J) (hz : ∀ j, J ≤ j → j < J' → cb j = -1) : jv_tr cb U J' := by
  have lo : ∀ j b, j < J' → b < 64 → cb j = nI b → j < J := fun j b hj hb e => by
    rcases Nat.lt_or_ge j J with g | g
    · exact g
    · rw [hz j g hj] at e; exact absurd e.symm (jv_neg1 (by omega))
  exact ⟨fun j b hj hb e => h.1 j b (lo j b hj hb e) hb e, fun i j b hi hj hb e1 e2 => h.2 i j b (lo i b hi hb e1) (lo j b hj hb e2) hb e1 e2⟩
theorem jv_tr_r {cb : Nat → Int32} {U : Int64} {J l : Nat} (h : jv_tr cb U J) : jv_tr (jv_fl cb J l (-1)) U (J + l) := by
  refine jv_tr_h (J := J) ⟨fun j b hj hb e => ?_, fun i j b hi hj hb e1 e2 => ?_⟩ (fun j h1 h2 => jv_fl_i h1 h2)
  · rw [jv_fl_o (by omega)] at e; exact h.1 j b hj hb e
  · rw [jv_fl_o (by omega)] at e1 e2; exact h.2 i j b hi hj hb e1 e2
theorem jv_tr_a {cb : Nat → Int32} {U : Int64} {J b l : Nat} (h : jv_tr cb U J) (hb : b + l ≤ 64) (hf : ∀ d, d < l → cb (J + d) = nI (b + d)) (hu : ∀ c, b ≤ c → c < b + l → jv_lb U c = false) : jv_tr cb (U ||| jv_rw b l) (J + l) := by
  have nw : ∀ j c, J ≤ j → j < J + l → c < 64 → cb j = nI c → c = b + (j - J) := fun j c h1 h2 hc e => by
    have := hf (j - J) (by omega)
    rw [show J + (j - J) = j by omega, e, nI_eq (by omega) (by omega)] at this
    exact this
  refine ⟨fun j c hj hc e => ?_, fun i j c hi hj hc e1 e2 => ?_⟩
  · rw [jv_lb_or]
    rcases Nat.lt_or_ge j J with g | g
    · rw [h.1 j c g hc e, Bool.true_or]
    · have := nw j c g hj hc e
      rw [jv_rw_lb _ _ hc, decide_eq_true (by omega), Bool.or_true]
  · rcases Nat.lt_or_ge i J with g1 | g1
    · rcases Nat.lt_or_ge j J with g2 | g2
      · exact h.2 i j c g1 g2 hc e1 e2
      · have a1 := h.1 i c g1 hc e1
        have a2 := nw j c g2 hj hc e2
        rw [hu c (by omega) (by omega)] at a1
        exact absurd a1 (by decide)
    · rcases Nat.lt_or_ge j J with g2 | g2
      · have a1 := h.1 j c g2 hc e2
        have a2 := nw i c g1 hi hc e1
        rw [hu c (by omega) (by omega)] at a1
        exact absurd a1 (by decide)
      · have a1 := nw i c g1 hi hc e1
        have a2 := nw j c g2 hj hc e2
        omega
theorem jv_an0 {U : Int64} {b l : Nat} (hb : b + l ≤ 64) : (U &&& jv_rw b l) = 0 ↔ ∀ c, b ≤ c → c < b + l → jv_lb U c = false := by
  constructor
  · intro h c h1 h2
    have : jv_lb (U &&& jv_rw b l) c = false := by rw [h, jv_lb_0]
    rw [jv_lb_and, jv_rw_lb _ _ (by omega), decide_eq_true (by omega), Bool.and_true] at this
    exact this
  · intro h
    refine jv_lb_ext (fun c hc => ?_)
    rw [jv_lb_and, jv_rw_lb _ _ hc, jv_lb_0]
    by_cases g : b ≤ c ∧ c < b + l
    · rw [h c g.1 g.2, Bool.false_and]
    · rw [decide_eq_false g, Bool.and_false]
section
variable {xc xr xs xg xd xm xt xw xo : Int32} {aw ap aa av ae af ab al an aq : Nat → Int32}
theorem zk_pf {f0 : Nat → Int32} {x n : Nat} {P B L : Nat → Nat} (hx : x < 16) (hn : n ≤ 5) (hX : jv_Ex f0 n P B L) : ∀ (dd k m e : Nat) (U : Int64) (af ab al an cb yu yf : Nat → Int32) (P' B' L' : Nat → Nat), k + dd = n → m ≤ k → jv_EW af ab al m P' B' L' →
      (∀ i, k ≤ i → i < n → af i = nI (P i) ∧ ab i = nI (B i) ∧ al i = nI (L i)) → jv_Ex (jv_cu (fun p => cb (24 * x + p)) e) m P' B' L' → (∀ i, i < m → P' i + L' i ≤ e) → (∀ i, i < k → P i + L i ≤ e) → (∀ i, k ≤ i → i < n → e ≤ P i) → e ≤ 24 →
      (∀ p, p < 24 → cb (24 * x + p) = -1 ∨ cb (24 * x + p) = f0 p) → (∀ p, e ≤ p → p < 24 → cb (24 * x + p) = f0 p) → jv_MF U yu → jv_fe an yf → jv_tr cb U (24 * x + e) →
    ∃ (m' : Nat) (P2 B2 L2 : Nat → Nat) (U' : Int64) (af' ab' al' an' cb' yu' yf' : Nat → Int32), m' ≤ n ∧ jv_EW af' ab' al' m' P2 B2 L2 ∧ jv_Ex (fun p => cb' (24 * x + p)) m' P2 B2 L2 ∧ jv_MF U' yu' ∧ jv_fe an' yf' ∧ (∀ j, (j < 24 * x ∨ 24 * x + 24 ≤ j) → cb' j = cb j) ∧ jv_tr cb' U' (24 * x + 24) ∧
      (∀ (post : Int64 → SX → Prop) (J4 : Int64 → Int32 → Int32 → Int32 → Int32 → Int32 → Int32 → Int32 → Int32 → Int32 → Int32 → (Nat → Int32) → (Nat → Int32) → (Nat → Int32) → (Nat → Int32) → (Nat → Int32) → (Nat → Int32) → (Nat → Int32) → (Nat → Int32) → (Nat → Int32) → (Nat → Int32) → Prop) (fuel : Nat), dd < fuel → wpX_store (fun u => match u with | (xc, xr, xs, xg, xd, xm, xt, xw, xo, aw, ap, aa, av, ae, af, ab, al, an, aq) => ∀ x3' : Int32, x3' = nI x + 1 → J4 U' x3' xc xr xs xg xd xm xt xw xo aw ap aa av ae af ab al an aq) (xc, xr, xs, xg, xd, nI m', xt, xw, xo, aw, ap, aa, av, ae, af', ab', al', an', aq) (nI x) → wX_mendExtents_41 post J4 (nI x) (nI n) fuel U (nI k) xc xr xs xg xd (nI m) xt xw xo aw ap aa av ae af ab al an aq) ∧
      (∀ (yr ys yd yh yt : Int32) (ck cl cp cn cv cm ok ol op on ob ov om ac au yo ym : Nat → Int32) (post : SY → Prop) (J23 : Int32 → (Nat → Int32) → (Nat → Int32) → (Nat → Int32) → (Nat → Int32) → (Nat → Int32) → (Nat → Int32) → (Nat → Int32) → (Nat → Int32) → (Nat → Int32) → (Nat → Int32) → (Nat → Int32) → (Nat → Int32) → (Nat → Int32) → (Nat → Int32) → (Nat → Int32) → (Nat → Int32) → (Nat → Int32) → (Nat → Int32) → (Nat → Int32) → (Nat → Int32) → Prop) (fuel : Nat), 24 - e < fuel → J23 (nI (x + 1)) ck cl cp cn cb' cv cm ok ol op on ob ov om ac au yf' yo yu' ym → wY_part_31 post J23 (nI x) yr ys yd yh yt fuel (nI e) ck cl cp cn cb cv cm ok ol op on ob ov om ac au yf yo yu ym) := by
  intro dd
  induction dd with
  | zero =>
    intro k m e U af ab al an cb yu yf P' B' L' hk hm hE hI hX' hE' he1 he2 he24 hc1 hc2 hM hFo hT
    have ek : k = n := by omega
    subst ek
    have hz : ∀ p, e ≤ p → p < 24 → cb (24 * x + p) = -1 := fun p p1 p2 => by
      rw [hc2 p p1 p2]
      exact hX.2.2.2 p p2 (fun i hi hh => by have := he1 i hi; omega)
    refine ⟨m, P', B', L', U, af, ab, al, an, cb, yu, yf, hm, hE, jv_Ex_cg hX' (fun p hp => ?_), hM, hFo, fun _ _ => rfl, jv_tr_h hT (fun j h1 h2 => ?_), fun post J4 fuel hf K => ?_, ?_⟩
    · show cb (24 * x + p) = if p < e then cb (24 * x + p) else -1
      by_cases h : p < e
      · rw [if_pos h]
      · rw [if_neg h]; exact hz p (by omega) hp
    · have := hz (j - 24 * x) (by omega) (by omega)
      rw [show 24 * x + (j - 24 * x) = j by omega] at this
      exact this
    · obtain ⟨fuel, rfl⟩ : ∃ g, fuel = g + 1 := ⟨fuel - 1, by omega⟩
      rw [wX_mendExtents_41]
      exact br_t (nI_le (Nat.le_refl _) (by omega)) K
    · intro yr ys yd yh yt ck cl cp cn cv cm ok ol op on ob ov om ac au yo ym post J23 fuel hf K
      obtain ⟨fu, rfl⟩ : ∃ g, fuel = g + 1 + (24 - e) := ⟨fuel - (24 - e) - 1, by omega⟩
      refine yk_31s hx (Nat.le_refl 24) ?_ (24 - e) e (by omega) (fun z h1 h2 => hz z h1 h2)
      rw [wY_part_31]
      exact br_t (by decide) (nm_r (nI_1 x) K)
  | succ dd ih =>
    intro k m e U af ab al an cb yu yf P' B' L' hk hm hE hI hX' hE' he1 he2 he24 hc1 hc2 hM hFo hT
    have hkn : k < n := by omega
    have h0 := hX.1.1 k hkn
    obtain ⟨i1, i2, i3⟩ := hI k (Nat.le_refl k) hkn
    have hek := he2 k (Nat.le_refl k) hkn
    have hz : ∀ p, e ≤ p → p < P k → cb (24 * x + p) = -1 := fun p p1 p2 => by
      rw [hc2 p p1 (by omega)]
      refine hX.2.2.2 p (by omega) (fun i hi hh => ?_)
      rcases Nat.lt_or_ge i k with z | z
      · have := he1 i z; omega
      · by_cases z2 : i = k
        · rw [z2] at hh; omega
        · have := hX.1.2 k i (by omega) hi; omega
    have hcv : ∀ d, d < L k → cb (24 * x + P k + d) = nI (B k + d) := fun d hd => by
      rw [show 24 * x + P k + d = 24 * x + (P k + d) by omega, hc2 _ (by omega) (by omega)]
      exact hX.2.2.1 k hkn d hd
    have hcx : P k + L k < 24 → ¬ cb (24 * x + P k + L k) = nI (B k + L k) := fun h => by
      rw [show 24 * x + P k + L k = 24 * x + (P k + L k) by omega, hc2 _ (by omega) h]
      exact jv_Ex_nx hX hkn h
    have hTk : jv_tr cb U (24 * x + P k) := jv_tr_h hT (fun j h1 h2 => by
      have := hz (j - 24 * x) (by omega) (by omega)
      rw [show 24 * x + (j - 24 * x) = j by omega] at this
      exact this)
    have hbg : jv_bg f0 (P k) = true := (jv_Ex_bg hX (by omega)).mpr ⟨k, hkn, rfl⟩
    have hf0 : f0 (P k) = nI (B k) := hX.2.2.1 k hkn 0 (by omega)
    have he1' : ∀ i, i < k + 1 → P i + L i ≤ P k + L k := fun i hi => by
      by_cases z : i = k
      · rw [z]; exact Nat.le_refl _
      · have := he1 i (by omega); omega
    have he2' : ∀ i, k + 1 ≤ i → i < n → P k + L k ≤ P i := fun i hi hi2 => hX.1.2 k i (by omega) hi2
    have vk : vp_in (nI k) 12 := vp_in_nI (by omega) (by decide)
    have hbyte : P k < 128 ∧ B k < 128 ∧ L k < 128 := by omega
    by_cases hsh : ∀ c, B k ≤ c → c < B k + L k → jv_lb U c = false
    · -- it stays
      have hU0 : (U &&& jv_rw (B k) (L k)) = 0 := (jv_an0 h0.2.2).mpr hsh
      have hnm := jv_nmg (f := f0) hX' (fun p hp => by
        show (if p < e then cb (24 * x + p) else -1) = -1 ∨ (if p < e then cb (24 * x + p) else -1) = f0 p
        by_cases z : p < e
        · rw [if_pos z]; exact hc1 p hp
        · rw [if_neg z]; exact Or.inl rfl) hf0 (by omega) hbg
      have hMF' : jv_MF (U ||| jv_rw (B k) (L k)) (jv_fl yu (B k) (L k) 1) := fun c hc => by
        rw [jv_lb_or, jv_rw_lb _ _ hc]
        by_cases z : B k ≤ c ∧ c < B k + L k
        · rw [jv_fl_i z.1 z.2, decide_eq_true z, Bool.or_true]; rfl
        · rw [jv_fl_o (by omega), decide_eq_false z, Bool.or_false]; exact hM c hc
      obtain ⟨m', P2, B2, L2, U', af', ab', al', an', cb', yu', yf', r1, r2, r3, r4, r5, r6, r7, r8, r9⟩ := ih (k + 1) (m + 1) (P k + L k) (U ||| jv_rw (B k) (L k)) (upd af m (nI (P k))) (upd ab m (nI (B k))) (upd al m (nI (L k))) an cb (jv_fl yu (B k) (L k) 1) yf (jv_up P' m (P k)) (jv_up B' m (B k)) (jv_up L' m (L k)) (by omega) (by omega)
        (fun i hi => by
          by_cases z : i = m
          · rw [z, pk_us, pk_us, pk_us, jv_up_s, jv_up_s, jv_up_s]; exact ⟨rfl, rfl, rfl⟩
          · rw [pk_un z, pk_un z, pk_un z, jv_up_n z, jv_up_n z, jv_up_n z]; exact hE i (by omega))
        (fun i hi hi2 => by rw [pk_un (by omega), pk_un (by omega), pk_un (by omega)]; exact hI i (by omega) hi2)
        (jv_Ex_new hX' (fun i hi => by have := hE' i hi; omega) h0.1 h0.2.1 h0.2.2 hnm (fun d hd => by
          show (if P k + d < P k + L k then cb (24 * x + (P k + d)) else -1) = _
          rw [if_pos (by omega), show 24 * x + (P k + d) = 24 * x + P k + d by omega]; exact hcv d hd) (fun p hp ho => by
          show (if p < P k + L k then cb (24 * x + p) else -1) = (if p < e then cb (24 * x + p) else -1)
          by_cases z : p < e
          · rw [if_pos z, if_pos (by omega)]
          · rw [if_neg z]
            by_cases z2 : p < P k + L k
            · rw [if_pos z2]; exact hz p (by omega) (by omega)
            · rw [if_neg z2]))
        (fun i hi => by
          by_cases z : i = m
          · rw [z, jv_up_s, jv_up_s]; exact Nat.le_refl _
          · rw [jv_up_n z, jv_up_n z]; have := hE' i (by omega); omega) he1' he2' h0.2.1 hc1 (fun p p1 p2 => hc2 p (by omega) p2) hMF' hFo
        (by
          have := jv_tr_a hTk h0.2.2 hcv hsh
          rw [show 24 * x + P k + L k = 24 * x + (P k + L k) by omega] at this
          exact this)
      refine ⟨m', P2, B2, L2, U', af', ab', al', an', cb', yu', yf', r1, r2, r3, r4, r5, r6, r7, fun post J4 fuel hf K => ?_, ?_⟩
      · obtain ⟨fuel, rfl⟩ : ∃ g, fuel = g + 1 := ⟨fuel - 1, by omega⟩
        rw [wX_mendExtents_41]
        dsimp only
        rw [nI_clamp (n := k) (by omega), i1, i2, i3]
        refine br_f (nI_ge (by omega) (by omega)) ⟨vk, vk, xk_row (by omega) (by omega) (br_t hU0 (nm_e ⟨vk, nm_e ⟨vk, nm_e ⟨vk, nm_e (xk_more (by omega) hbyte.1 hbyte.2.1 hbyte.2.2 ?_)⟩⟩⟩))⟩
        exact nm_r (nI_1 k) (r8 post J4 fuel (by omega) K)
      · intro yr ys yd yh yt ck cl cp cn cv cm ok ol op on ob ov om ac au yo ym post J23 fuel hf K
        obtain ⟨fu, rfl⟩ : ∃ g, fuel = g + 1 + (P k - e) := ⟨fuel - (P k - e) - 1, by omega⟩
        refine yk_31s hx (show P k ≤ 24 by omega) ?_ (P k - e) e (by omega) (fun z h1 h2 => hz z h1 h2)
        refine yk_31e (b := B k) (l := L k) hx (by omega) (by omega) (hcv 0 (by omega)) ?_
        refine yk_len2 hx h0.2.1 h0.2.2 hcv hcx h0.1 ⟨L k + 1, ?_⟩
        refine yk_73a hx h0.2.1 h0.2.2 (hcv 0 (by omega)) (fun d hd => ?_) ⟨L k + 1, ?_⟩ (L k) 0 (by omega) (L k + 1) (by omega)
        · rw [hM _ (by omega), hsh _ (by omega) (by omega)]; decide
        · have h132 := yk_132a (yr := yr) (ys := ys) (yd := yd) (yh := yh) (yt := yt) (ck := ck) (cl := cl) (cp := cp) (cn := cn) (cb := cb) (cv := cv) (cm := cm) (ok := ok) (ol := ol) (op := op) (on := on) (ob := ob) (ov := ov) (om := om) (ac := ac) (au := au) (yf := yf) (yo := yo) (ym := ym) (yu := yu) (post := post) (J23 := J23) (J31 := wY_part_31 post J23 (nI x) yr ys yd yh yt fu) hx h0.2.1 h0.2.2 hcv (r9 yr ys yd yh yt ck cl cp cn cv cm ok ol op on ob ov om ac au yo ym post J23 fu (by omega) K) (L k) 0 (by omega) (L k + 1) (by omega)
          rw [jv_fl_0] at h132
          exact h132
    · -- it goes
      have hU0 : ¬ (U &&& jv_rw (B k) (L k)) = 0 := fun z => hsh ((jv_an0 h0.2.2).mp z)
      have hex : ∃ d, 0 ≤ d ∧ d < L k ∧ yu (B k + d) = 1 := Classical.byContradiction (fun g => hsh (fun c c1 c2 => by
        cases z : jv_lb U c with
        | false => rfl
        | true => exact absurd ⟨c - B k, by omega, by omega, by rw [show B k + (c - B k) = c by omega, hM c (by omega), z]; rfl⟩ g))
      have hfo : ∀ p, (p < P k ∨ P k + L k ≤ p) → jv_fl cb (24 * x + P k) (L k) (-1) (24 * x + p) = cb (24 * x + p) := fun p hp => jv_fl_o (by omega)
      have hfi : ∀ p, P k ≤ p → p < P k + L k → jv_fl cb (24 * x + P k) (L k) (-1) (24 * x + p) = -1 := fun p h1 h2 => jv_fl_i (by omega) (by omega)
      obtain ⟨m', P2, B2, L2, U', af', ab', al', an', cb', yu', yf', r1, r2, r3, r4, r5, r6, r7, r8, r9⟩ := ih (k + 1) m (P k + L k) U af ab al (upd an 2 (an 2 + 1)) (jv_fl cb (24 * x + P k) (L k) (-1)) yu (upd yf 2 (yf 2 + 1)) P' B' L' (by omega) (by omega) hE
        (fun i hi hi2 => hI i (by omega) hi2)
        (jv_Ex_cg hX' (fun p hp => by
          show (if p < P k + L k then jv_fl cb (24 * x + P k) (L k) (-1) (24 * x + p) else -1) = (if p < e then cb (24 * x + p) else -1)
          by_cases z : p < e
          · rw [if_pos z, if_pos (by omega)]; exact hfo p (by omega)
          · rw [if_neg z]
            by_cases z2 : p < P k + L k
            · rw [if_pos z2]
              by_cases z3 : p < P k
              · rw [hfo p (by omega)]; exact hz p (by omega) z3
              · exact hfi p (by omega) z2
            · rw [if_neg z2]))
        (fun i hi => by have := hE' i hi; omega) he1' he2' h0.2.1
        (fun p hp => by
          by_cases z : P k ≤ p ∧ p < P k + L k
          · exact Or.inl (hfi p z.1 z.2)
          · rw [hfo p (by omega)]; exact hc1 p hp)
        (fun p p1 p2 => by rw [hfo p (by omega)]; exact hc2 p (by omega) p2) hM
        (jv_fe_up 2 (by omega) (by omega) hFo)
        (by
          have := jv_tr_r (l := L k) hTk
          rw [show 24 * x + P k + L k = 24 * x + (P k + L k) by omega] at this
          exact this)
      refine ⟨m', P2, B2, L2, U', af', ab', al', an', cb', yu', yf', r1, r2, r3, r4, r5, fun j hj => by rw [r6 j hj, jv_fl_o (by omega)], r7, fun post J4 fuel hf K => ?_, ?_⟩
      · obtain ⟨fuel, rfl⟩ : ∃ g, fuel = g + 1 := ⟨fuel - 1, by omega⟩
        rw [wX_mendExtents_41]
        dsimp only
        rw [nI_clamp (n := k) (by omega), i1, i2, i3]
        exact br_f (nI_ge (by omega) (by omega)) ⟨vk, vk, xk_row (by omega) (by omega) (br_f hU0 (nm_e (nm_r (nI_1 k) (r8 post J4 fuel (by omega) K))))⟩
      · intro yr ys yd yh yt ck cl cp cn cv cm ok ol op on ob ov om ac au yo ym post J23 fuel hf K
        obtain ⟨fu, rfl⟩ : ∃ g, fuel = g + 1 + (P k - e) := ⟨fuel - (P k - e) - 1, by omega⟩
        refine yk_31s hx (show P k ≤ 24 by omega) ?_ (P k - e) e (by omega) (fun z h1 h2 => hz z h1 h2)
        refine yk_31e (b := B k) (l := L k) hx (by omega) (by omega) (hcv 0 (by omega)) ?_
        refine yk_len2 hx h0.2.1 h0.2.2 hcv hcx h0.1 ⟨L k + 1, ?_⟩
        refine yk_73b hx h0.2.1 h0.2.2 (hcv 0 (by omega)) ⟨L k + 1, ?_⟩ (L k) 0 0 (by omega) (Or.inr ⟨rfl, hex⟩) (L k + 1) (by omega)
        have h132 := yk_132b (yr := yr) (ys := ys) (yd := yd) (yh := yh) (yt := yt) (ck := ck) (cl := cl) (cp := cp) (cn := cn) (cv := cv) (cm := cm) (ok := ok) (ol := ol) (op := op) (on := on) (ob := ob) (ov := ov) (om := om) (ac := ac) (au := au) (yo := yo) (yu := yu) (ym := ym) (cb := cb) (yf := upd yf 2 (yf 2 + 1)) (post := post) (J23 := J23) (J31 := wY_part_31 post J23 (nI x) yr ys yd yh yt fu) hx h0.2.1 (r9 yr ys yd yh yt ck cl cp cn cv cm ok ol op on ob ov om ac au yo ym post J23 fu (by omega) K) (L k) 0 (by omega) (L k + 1) (by omega)
        rw [jv_fl_0] at h132
        exact h132
end
end
section
/-! mending: all files; marks; links -/
section
variable {xc xr xs xg xd xm xt xw xo : Int32} {aw ap aa av ae af ab al an aq : Nat → Int32}
theorem zk_fl {m : Nat} {ck cl cp cn cv cm : Nat → Int32} : ∀ (e x : Nat) (U : Int64) (xm : Int32) (aw af ab al an cb yu yf : Nat → Int32), x + e = 16 → 1 ≤ x → jv_RW aw ck cl cp cn cb cv cm → jv_MF U yu → jv_fe an yf → jv_tr cb U (24 * x) →
    ∃ (U' : Int64) (xm' : Int32) (aw' af' ab' al' an' cb' yu' yf' : Nat → Int32), jv_RW aw' ck cl cp cn cb' cv cm ∧ jv_MF U' yu' ∧ jv_fe an' yf' ∧ jv_tr cb' U' 384 ∧
      (∀ (post : Int64 → SX → Prop) (fuel : Nat), e < fuel → post U' (nI m, xr, xs, 0, xd, xm', xt, xw, xo, aw', ap, aa, av, ae, af', ab', al', an', aq) → wX_mendExtents_4 post fuel U (nI x) (nI m) xr xs 0 xd xm xt xw xo aw ap aa av ae af ab al an aq) ∧
      (∀ (yr ys yd yh yt : Int32) (ok ol op on ob ov om ac au yo ym : Nat → Int32) (post : SY → Prop) (fuel : Nat), e < fuel → post (yr, ys, yd, yh, yt, ck, cl, cp, cn, cb', cv, cm, ok, ol, op, on, ob, ov, om, ac, au, yf', yo, yu', ym) → wY_part_23 post yr ys yd yh yt fuel (nI x) ck cl cp cn cb cv cm ok ol op on ob ov om ac au yf yo yu ym) := by
  intro e
  induction e with
  | zero =>
    intro x U xm aw af ab al an cb yu yf he hx1 hRW hM hFo hT
    have ex : x = 16 := by omega
    subst ex
    refine ⟨U, xm, aw, af, ab, al, an, cb, yu, yf, hRW, hM, hFo, hT, fun post fuel hf K => ?_, ?_⟩
    · obtain ⟨fuel, rfl⟩ : ∃ g, fuel = g + 1 := ⟨fuel - 1, by omega⟩
      rw [wX_mendExtents_4]
      exact br_t (by decide) K
    · intro yr ys yd yh yt ok ol op on ob ov om ac au yo ym post fuel hf K
      obtain ⟨fuel, rfl⟩ : ∃ g, fuel = g + 1 := ⟨fuel - 1, by omega⟩
      rw [wY_part_23]
      exact br_t (by decide) K
  | succ e ih =>
    intro x U xm aw af ab al an cb yu yf he hx1 hRW hM hFo hT
    have hx : x < 16 := by omega
    have hK := jv_kd hRW
    by_cases hk1 : ck x = 1
    · obtain ⟨n, P, B, L, hn, hW, hEx⟩ := (hRW.1 x hx).2.2.2.2.2.1 hk1
      obtain ⟨af1, ab1, al1, hEW, hl⟩ := xk_load (xr := xr) (xs := xs) (xd := xd) (xt := xt) (xw := xw) (xo := xo) (ap := ap) (ae := ae) (aq := aq) (xg := 0) (xm := xm) (aw := aw) (af := af) (ab := ab) (al := al) (an := an) hx (show n ≤ 6 by omega) (fun i hi => by have := hEx.1.1 i hi; omega) hW
      obtain ⟨m', P2, B2, L2, U1, af2, ab2, al2, an2, cb2, yu2, yf2, a1, a2, a3, a4, a5, a6, a7, a8, a9⟩ := zk_pf (xr := xr) (xs := xs) (xd := xd) (xt := xt) (xw := xw) (xo := xo) (ap := ap) (aa := aa) (av := av) (ae := ae) (aq := aq) (xc := nI m) (xg := 0) (aw := aw) hx hn hEx n 0 0 0 U af1 ab1 al1 an cb yu yf P B L (by omega) (by omega) (fun i hi => by omega) (fun i _ hi => hEW i hi) (jv_Ex_nil (fun p _ => if_neg (by omega))) (fun i hi => by omega) (fun i hi => by omega) (fun i _ _ => by omega) (by omega) (fun p _ => Or.inr rfl) (fun p _ _ => rfl) hM hFo hT
      obtain ⟨w', s1, s2, s3⟩ := xk_store (xr := xr) (xs := xs) (xd := xd) (xt := xt) (xw := xw) (xo := xo) (ap := ap) (ae := ae) (aq := aq) (xg := 0) (aw := aw) (an := an2) hx (show m' ≤ 5 by omega) a2
      have hRW' := jv_RW_file (cb' := cb2) hRW hx hk1 s2 (by omega) s1 a3 a6
      obtain ⟨U', xm', aw', af', ab', al', an', cb', yu', yf', r1, r2, r3, r4, r5, r6⟩ := ih (x + 1) U1 (nI m') w' af2 ab2 al2 an2 cb2 yu2 yf2 (by omega) (by omega) hRW' a4 a5 (by rw [show 24 * (x + 1) = 24 * x + 24 by omega]; exact a7)
      refine ⟨U', xm', aw', af', ab', al', an', cb', yu', yf', r1, r2, r3, r4, fun post fuel hf K => ?_, ?_⟩
      · obtain ⟨fuel, rfl⟩ : ∃ g, fuel = g + 1 := ⟨fuel - 1, by omega⟩
        rw [wX_mendExtents_4]
        refine br_f (nI_ge (b := 16) hx (by decide)) (xk_kind_i hx ?_)
        rw [hK x hx]
        refine br_t hk1 (hl _ _ _ _ ⟨n + 1, ?_⟩)
        refine a8 post _ (n + 1) (by omega) ?_
        refine s3 _ aa av m 0 aa av m (by omega) jv_J_i0 (fun aa1 av1 m1 J => ?_)
        obtain ⟨e1, e2, e3⟩ := jv_J_0 J
        subst e1 e2 e3
        exact nm_r (nI_1 x) (r5 post fuel (by omega) K)
      · intro yr ys yd yh yt ok ol op on ob ov om ac au yo ym post fuel hf K
        obtain ⟨fuel, rfl⟩ : ∃ g, fuel = g + 1 := ⟨fuel - 1, by omega⟩
        rw [wY_part_23]
        refine br_f (nI_ge (b := 16) hx (by decide)) ⟨26, ?_⟩
        exact a9 yr ys yd yh yt ck cl cp cn cv cm ok ol op on ob ov om ac au yo ym post _ 26 (by omega) (r6 yr ys yd yh yt ok ol op on ob ov om ac au yo ym post fuel (by omega) K)
    · have hz := (hRW.1 x hx).2.2.2.2.2.2 hk1
      obtain ⟨U', xm', aw', af', ab', al', an', cb', yu', yf', r1, r2, r3, r4, r5, r6⟩ := ih (x + 1) U xm aw af ab al an cb yu yf (by omega) (by omega) hRW hM hFo (jv_tr_h hT (fun j h1 h2 => by
        have := hz (j - 24 * x) (by omega)
        rw [show 24 * x + (j - 24 * x) = j by omega] at this
        exact this))
      refine ⟨U', xm', aw', af', ab', al', an', cb', yu', yf', r1, r2, r3, r4, fun post fuel hf K => ?_, ?_⟩
      · obtain ⟨fuel, rfl⟩ : ∃ g, fuel = g + 1 := ⟨fuel - 1, by omega⟩
        have := r5 post fuel (by omega) K
        rw [wX_mendExtents_4]
        refine br_f (nI_ge (b := 16) hx (by decide)) (xk_kind_i hx ?_)
        rw [hK x hx]
        exact br_f hk1 (nm_r (nI_1 x) this)
      · intro yr ys yd yh yt ok ol op on ob ov om ac au yo ym post fuel hf K
        obtain ⟨fuel, rfl⟩ : ∃ g, fuel = g + 1 := ⟨fuel - 1, by omega⟩
        have := r6 yr ys yd yh yt ok ol op on ob ov om ac au yo ym post fuel (by omega) K
        rw [wY_part_23]
        refine br_f (nI_ge (b := 16) hx (by decide)) ⟨1 + 24, ?_⟩
        refine yk_31s hx (Nat.le_refl 24) ?_ 24 0 (by omega) (fun z _ h2 => hz z h2)
        rw [wY_part_31]
        exact br_t (by decide) (nm_r (nI_1 x) this)
end
section
variable {yr ys yd yh yt : Int32} {ck cl cp cn cb cv cm ok ol op on ob ov om ac au yf yo yu ym : Nat → Int32}
theorem yk_p2 {post : SY → Prop} (K : ∃ n, wY_part_23 post yr ys yd yh yt n 0 ck cl cp cn cb cv cm ok ol op on ob ov om ac au yf yo (jv_fl yu 0 64 0) ym) : ∀ (d i : Nat), i + d = 64 → ∀ fuel, d < fuel → wY_part_2 post yr ys yd yh yt fuel (nI i) ck cl cp cn cb cv cm ok ol op on ob ov om ac au yf yo (jv_fl yu 0 i 0) ym := by
  intro d
  induction d with
  | zero =>
    intro i e fuel hf
    obtain ⟨fuel, rfl⟩ : ∃ g, fuel = g + 1 := ⟨fuel - 1, by omega⟩
    have : i = 64 := by omega
    subst this
    rw [wY_part_2]
    exact br_t (by decide) K
  | succ d ih =>
    intro i e fuel hf
    obtain ⟨fuel, rfl⟩ : ∃ g, fuel = g + 1 := ⟨fuel - 1, by omega⟩
    have h0 := ih (i + 1) (by omega) fuel (by omega)
    rw [wY_part_2]
    dsimp only
    have es : upd (jv_fl yu 0 i 0) i 0 = jv_fl yu 0 (i + 1) 0 := by
      have := jv_fl_s (f := yu) (b := 0) (n := i) (v := 0)
      rw [Nat.zero_add] at this
      exact this
    rw [nI_clamp (by omega), es]
    exact br_f (nI_ge (b := 64) (by omega) (by decide)) ⟨vp_in_nI (by omega) (by decide), nm_e (nm_r (nI_1 i) h0)⟩
/-- marks are what is used -/
theorem jv_uu {f : Nat → Int32} {k : Nat} {a b : Int32} : upd (upd f k a) k b = upd f k b := by
  funext j
  by_cases e : j = k
  · rw [e, pk_us, pk_us]
  · rw [pk_un e, pk_un e, pk_un e]
theorem yk_171 {post : Int32 → SY → Prop} (K : ∃ n, wY_mend_222 post n 0 yr ys yd yh yt ck cl cp cn cb cv (jv_cq yu cm 64) ok ol op on ob ov om ac au (upd yf 3 (nI (jv_ct (fun b => decide (¬ cm b = yu b)) 64))) yo yu ym) : ∀ (d b : Nat), b + d = 64 → ∀ fuel, d < fuel →
    wY_mend_171 post yr ys yd yh yt fuel (nI b) ck cl cp cn cb cv (jv_cq yu cm b) ok ol op on ob ov om ac au (upd yf 3 (nI (jv_ct (fun b => decide (¬ cm b = yu b)) b))) yo yu ym := by
  intro d
  induction d with
  | zero =>
    intro i e fuel hf
    obtain ⟨fuel, rfl⟩ : ∃ g, fuel = g + 1 := ⟨fuel - 1, by omega⟩
    have : i = 64 := by omega
    subst this
    rw [wY_mend_171]
    exact br_t (by decide) K
  | succ d ih =>
    intro i e fuel hf
    obtain ⟨fuel, rfl⟩ : ∃ g, fuel = g + 1 := ⟨fuel - 1, by omega⟩
    have h0 := ih (i + 1) (by omega) fuel (by omega)
    have vi : vp_in (nI i) 64 := vp_in_nI (by omega) (by decide)
    have ecm : jv_cq yu cm i i = cm i := if_neg (by omega)
    rw [wY_mend_171]
    dsimp only
    rw [nI_clamp (by omega), ecm]
    refine br_f (nI_ge (b := 64) (by omega) (by decide)) ⟨vi, vi, br_c (fun g => ?_) (fun g => nm_e ?_)⟩
    · rw [jv_ct_f (p := fun b => decide (¬ cm b = yu b)) (n := i) (decide_eq_false (fun z => z g))] at h0
      unfold wY_mend_202
      rw [nI_clamp (by omega), jv_cq_s]
      exact ⟨vi, vi, nm_e (nm_r (nI_1 i) h0)⟩
    · rw [jv_ct_t (p := fun b => decide (¬ cm b = yu b)) (n := i) (decide_eq_true g)] at h0
      unfold wY_mend_202
      rw [nI_clamp (by omega), jv_cq_s, pk_us, jv_uu, nI_1 (jv_ct (fun b => decide (¬ cm b = yu b)) i)]
      exact ⟨vi, vi, nm_e (nm_r (nI_1 i) h0)⟩
theorem yk_rec {post : SY → Prop} {x : Nat} (hx : x < 16) (K1 : nI (jv_lk cn x) = cl x → post (yr, ys, yd, yh, yt, ck, upd cl x (nI (jv_lk cn x)), cp, cn, cb, cv, cm, ok, ol, op, on, ob, ov, om, ac, au, yf, yo, yu, ym)) (K2 : ¬ nI (jv_lk cn x) = cl x → post (yr, ys, yd, yh, yt, ck, upd cl x (nI (jv_lk cn x)), cp, cn, cb, cv, cm, ok, ol, op, on, ob, ov, om, ac, au, upd yf 4 (yf 4 + 1), yo, yu, ym)) : ∀ (d j : Nat), j + d = 1024 → ∀ fuel, d < fuel →
    wY_recount_4 post (nI x) yr ys yd yh yt ck cl cp cn cb cv cm ok ol op on ob ov om ac au yf yo yu ym fuel (nI (jv_ct (fun j => decide (cn j = nI x)) j)) (nI j) := by
  intro d
  induction d with
  | zero =>
    intro i e fuel hf
    obtain ⟨fuel, rfl⟩ : ∃ g, fuel = g + 1 := ⟨fuel - 1, by omega⟩
    have : i = 1024 := by omega
    subst this
    have vx : vp_in (nI x) 16 := vp_in_nI hx (by decide)
    rw [wY_recount_4]
    dsimp only
    rw [nI_clamp (n := x) (by omega)]
    exact br_t (by decide) ⟨vx, br_c (fun g => ⟨vx, nm_e (K1 g)⟩) (fun g => nm_e ⟨vx, nm_e (K2 g)⟩)⟩
  | succ d ih =>
    intro i e fuel hf
    obtain ⟨fuel, rfl⟩ : ∃ g, fuel = g + 1 := ⟨fuel - 1, by omega⟩
    have h0 := ih (i + 1) (by omega) fuel (by omega)
    rw [wY_recount_4]
    dsimp only
    rw [nI_clamp (n := i) (by omega)]
    refine br_f (nI_ge (b := 1024) (by omega) (by decide)) ⟨vp_in_nI (by omega) (by decide), br_c (fun g => nm_r (nI_1 _) (nm_r (nI_1 i) ?_)) (fun g => nm_r (nI_1 i) ?_)⟩
    · rw [jv_ct_t (p := fun j => decide (cn j = nI x)) (n := i) (decide_eq_true g)] at h0; exact h0
    · rw [jv_ct_f (p := fun j => decide (cn j = nI x)) (n := i) (decide_eq_false g)] at h0; exact h0
end
section
variable {xc xr xs xg xd xm xt xw xo : Int32} {aw ap aa av ae af ab al an aq : Nat → Int32}
theorem xk_ml25 {post : SX → Prop} {J4 : Int32 → Int32 → Prop} {x d n c : Nat} {N I : Nat → Nat} {f : Nat → Int32} (hd : d < 16) (hW : jv_DW aw d n N I) (hF : jv_DF f n N I) (K : J4 (nI (c + jv_ct (fun i => decide (nI (I i) = nI x)) n)) (nI (d + 1))) : ∀ (e i : Nat), i + e = n → ∀ fuel, e < fuel →
    wX_mendLinks_25 post J4 (nI x) (nI d) xc xr xs xg xd xm xt xw xo aw ap aa av ae af ab al an aq fuel (nI (c + jv_ct (fun i => decide (nI (I i) = nI x)) i)) (nI i) := by
  have h10 := hF.1
  intro e
  induction e with
  | zero =>
    intro i he fuel hf
    obtain ⟨fuel, rfl⟩ : ∃ g, fuel = g + 1 := ⟨fuel - 1, by omega⟩
    have : i = n := by omega
    subst this
    rw [wX_mendLinks_25]
    refine xk_base ?_
    rw [ad_p2, nI_clamp (by omega), hW.1]
    exact ⟨vp_in_nI (by omega) (by decide), br_t (nI_le (Nat.le_refl _) (by omega)) (nm_r (nI_1 d) K)⟩
  | succ e ih =>
    intro i he fuel hf
    obtain ⟨fuel, rfl⟩ : ∃ g, fuel = g + 1 := ⟨fuel - 1, by omega⟩
    have h0 := ih (i + 1) (by omega) fuel (by omega)
    rw [wX_mendLinks_25]
    refine xk_base ?_
    rw [ad_p2, nI_clamp (by omega), hW.1]
    refine ⟨vp_in_nI (by omega) (by decide), br_f (nI_ge (by omega) (by omega)) (xk_named hd (by omega) ?_)⟩
    rw [(hW.2 i (by omega)).2]
    refine br_c (fun g => nm_r (nI_1 _) (nm_r (nI_1 i) ?_)) (fun g => nm_r (nI_1 i) ?_)
    · rw [jv_ct_t (p := fun i => decide (nI (I i) = nI x)) (n := i) (decide_eq_true g)] at h0
      exact h0
    · rw [jv_ct_f (p := fun i => decide (nI (I i) = nI x)) (n := i) (decide_eq_false g)] at h0
      exact h0
theorem xk_ml4 {post : SX → Prop} {ck cl cp cn cb cv cm : Nat → Int32} {x m : Nat} (hx : x < 16) (hRW : jv_RW aw ck cl cp cn cb cv cm) (hk : ¬ ck x = 0) (K1 : nI (jv_lk cn x) = cl x → post (nI m, xr, xs, 0, xd, xm, xt, xw, xo, aw, ap, aa, av, ae, af, ab, al, an, aq)) (K2 : ¬ nI (jv_lk cn x) = cl x → post (nI m, xr, xs, 0, xd, xm, xt, xw, xo, upd aw (24 * x + 1) (nI (jv_lk cn x)), ap, aa, av, ae, af, ab, al, upd an 4 (an 4 + 1), aq)) : ∀ (e d : Nat), d + e = 16 → ∀ fuel, e < fuel →
    wX_mendLinks_4 post (nI x) (nI m) xr xs 0 xd xm xt xw xo aw ap aa av ae af ab al an aq fuel (nI (jv_ct (fun j => decide (cn j = nI x)) (64 * d))) (nI d) := by
  intro e
  induction e with
  | zero =>
    intro d he fuel hf
    obtain ⟨fuel, rfl⟩ : ∃ g, fuel = g + 1 := ⟨fuel - 1, by omega⟩
    have : d = 16 := by omega
    subst this
    rw [wX_mendLinks_4]
    refine br_t (by decide) (xk_base ?_)
    rw [ad_p1, nI_clamp (by omega), (hRW.1 x hx).2.2.1 hk]
    refine ⟨vp_in_nI (by omega) (by decide), br_c K1 (fun g => xk_set0 (f := 1) (by omega) ?_)⟩
    exact nm_e (K2 g)
  | succ e ih =>
    intro d he fuel hf
    obtain ⟨fuel, rfl⟩ : ∃ g, fuel = g + 1 := ⟨fuel - 1, by omega⟩
    have h0 := ih (d + 1) (by omega) fuel (by omega)
    have hd : d < 16 := by omega
    rw [show 64 * (d + 1) = 64 * d + 64 by omega, jv_ct_add] at h0
    rw [wX_mendLinks_4]
    refine br_f (nI_ge (b := 16) hd (by decide)) (xk_kind_i hd ?_)
    rw [jv_kd hRW d hd]
    refine br_c (fun h2 => ?_) (fun h2 => nm_r (nI_1 d) ?_)
    · obtain ⟨_, n, N, I, hW, hF⟩ := (hRW.1 d hd).2.2.2.1 h2
      have ect : jv_ct (fun i => decide (cn (64 * d + i) = nI x)) 64 = jv_ct (fun i => decide (nI (I i) = nI x)) n := by
        rw [jv_DF_ct hF (fun a => decide (cn (64 * d + a) = nI x)) (fun a ha e => decide_eq_false (fun z => by
          have e' : cn (64 * d + a) = -1 := e
          rw [e'] at z; exact jv_neg1 (by omega) z.symm))]
        exact jv_ct_cg n (fun i hi => by rw [jv_fy hF hi])
      rw [ect] at h0
      refine ⟨n + 1, ?_⟩
      exact xk_ml25 (c := jv_ct (fun j => decide (cn j = nI x)) (64 * d)) hd hW hF h0 n 0 (by omega) (n + 1) (by omega)
    · rw [jv_ct_0 64 (fun a ha => decide_eq_false (fun z => by rw [(hRW.1 d hd).2.2.2.2.1 h2 a ha] at z; exact jv_neg1 (by omega) z.symm)), Nat.add_zero] at h0
      exact h0
end
end
section
/-! mending: links of all, and the call -/
section
variable {xc xr xs xg xd xm xt xw xo : Int32} {aw ap aa av ae af ab al an aq : Nat → Int32}
theorem zk_ll {m : Nat} {ck cp cn cb cv cm : Nat → Int32} : ∀ (e x : Nat) (aw an cl yf : Nat → Int32), x + e = 16 → jv_RW aw ck cl cp cn cb cv cm → (∀ i, i < 5 → an i = yf i) → (∀ y, y < x → ¬ ck y = 0 → cl y = nI (jv_lk cn y)) →
    ∃ (aw' an' cl' yf' : Nat → Int32), jv_RW aw' ck cl' cp cn cb cv cm ∧ (∀ i, i < 5 → an' i = yf' i) ∧ (∀ y, y < 16 → ¬ ck y = 0 → cl' y = nI (jv_lk cn y)) ∧
      (∀ (post : Int32 → SX → Prop) (fuel : Nat), e < fuel → wX_mend_107 post 1 (nI 16) (nI m) xr xs 0 xd xm xt xw xo aw' ap aa av ae af ab al an' aq → wX_mend_107 post fuel (nI x) (nI m) xr xs 0 xd xm xt xw xo aw ap aa av ae af ab al an aq) ∧
      (∀ (yr ys yd yh yt : Int32) (ok ol op on ob ov om ac au yo yu ym : Nat → Int32) (post : Int32 → SY → Prop) (fuel : Nat), e < fuel → wY_mend_222 post 1 (nI 16) yr ys yd yh yt ck cl' cp cn cb cv cm ok ol op on ob ov om ac au yf' yo yu ym → wY_mend_222 post fuel (nI x) yr ys yd yh yt ck cl cp cn cb cv cm ok ol op on ob ov om ac au yf yo yu ym) := by
  intro e
  induction e with
  | zero =>
    intro x aw an cl yf he hRW hFo hall
    have ex : x = 16 := by omega
    subst ex
    refine ⟨aw, an, cl, yf, hRW, hFo, hall, fun post fuel hf K => ?_, ?_⟩
    · obtain ⟨fuel, rfl⟩ : ∃ g, fuel = g + 1 := ⟨fuel - 1, by omega⟩
      rw [wX_mend_107] at K ⊢
      exact br_t (by decide) (K.1 (by decide))
    · intro yr ys yd yh yt ok ol op on ob ov om ac au yo yu ym post fuel hf K
      obtain ⟨fuel, rfl⟩ : ∃ g, fuel = g + 1 := ⟨fuel - 1, by omega⟩
      rw [wY_mend_222] at K ⊢
      exact br_t (by decide) (K.1 (by decide))
  | succ e ih =>
    intro x aw an cl yf he hRW hFo hall
    have hx : x < 16 := by omega
    have hK := jv_kd hRW
    have vx : vp_in (nI x) 16 := vp_in_nI hx (by decide)
    by_cases hk0 : ck x = 0
    · obtain ⟨aw', an', cl', yf', r1, r2, r3, r4, r5⟩ := ih (x + 1) aw an cl yf (by omega) hRW hFo (fun y hy hk => by
        by_cases z : y = x
        · rw [z] at hk; exact absurd hk0 hk
        · exact hall y (by omega) hk)
      refine ⟨aw', an', cl', yf', r1, r2, r3, fun post fuel hf K => ?_, ?_⟩
      · obtain ⟨fuel, rfl⟩ : ∃ g, fuel = g + 1 := ⟨fuel - 1, by omega⟩
        have := r4 post fuel (by omega) K
        rw [wX_mend_107]
        refine br_f (nI_ge (b := 16) hx (by decide)) (xk_kind_i hx ?_)
        rw [hK x hx]
        exact br_t hk0 (nm_r (nI_1 x) this)
      · intro yr ys yd yh yt ok ol op on ob ov om ac au yo yu ym post fuel hf K
        obtain ⟨fuel, rfl⟩ : ∃ g, fuel = g + 1 := ⟨fuel - 1, by omega⟩
        have := r5 yr ys yd yh yt ok ol op on ob ov om ac au yo yu ym post fuel (by omega) K
        rw [wY_mend_222]
        dsimp only
        rw [nI_clamp (n := x) (by omega)]
        exact br_f (nI_ge (b := 16) hx (by decide)) ⟨vx, br_t hk0 (nm_r (nI_1 x) this)⟩
    · by_cases heq : nI (jv_lk cn x) = cl x
      · have ecl : upd cl x (nI (jv_lk cn x)) = cl := jv_upd_id heq.symm
        obtain ⟨aw', an', cl', yf', r1, r2, r3, r4, r5⟩ := ih (x + 1) aw an cl yf (by omega) hRW hFo (fun y hy hk => by
          by_cases z : y = x
          · rw [z]; exact heq.symm
          · exact hall y (by omega) hk)
        refine ⟨aw', an', cl', yf', r1, r2, r3, fun post fuel hf K => ?_, ?_⟩
        · obtain ⟨fuel, rfl⟩ : ∃ g, fuel = g + 1 := ⟨fuel - 1, by omega⟩
          have := r4 post fuel (by omega) K
          rw [wX_mend_107]
          refine br_f (nI_ge (b := 16) hx (by decide)) (xk_kind_i hx ?_)
          rw [hK x hx]
          refine br_f hk0 ?_
          unfold wpX_mendLinks; dsimp only
          exact ⟨17, xk_ml4 hx hRW hk0 (fun _ => nm_r (nI_1 x) this) (fun z => absurd heq z) 16 0 (by omega) 17 (by omega)⟩
        · intro yr ys yd yh yt ok ol op on ob ov om ac au yo yu ym post fuel hf K
          obtain ⟨fuel, rfl⟩ : ∃ g, fuel = g + 1 := ⟨fuel - 1, by omega⟩
          have := r5 yr ys yd yh yt ok ol op on ob ov om ac au yo yu ym post fuel (by omega) K
          rw [wY_mend_222]
          dsimp only
          rw [nI_clamp (n := x) (by omega)]
          refine br_f (nI_ge (b := 16) hx (by decide)) ⟨vx, br_f hk0 ?_⟩
          unfold wpY_recount; dsimp only
          refine ⟨1025, yk_rec hx (fun _ => ?_) (fun z => absurd heq z) 1024 0 (by omega) 1025 (by omega)⟩
          dsimp only
          rw [ecl]
          exact nm_r (nI_1 x) this
      · obtain ⟨aw', an', cl', yf', r1, r2, r3, r4, r5⟩ := ih (x + 1) (upd aw (24 * x + 1) (nI (jv_lk cn x))) (upd an 4 (an 4 + 1)) (upd cl x (nI (jv_lk cn x))) (upd yf 4 (yf 4 + 1)) (by omega) (jv_RW_lk hRW hx _) (fun i hi => by
          by_cases z : i = 4
          · rw [z, pk_us, pk_us, hFo 4 (by omega)]
          · rw [pk_un z, pk_un z]; exact hFo i hi) (fun y hy hk => by
          by_cases z : y = x
          · rw [z, pk_us]
          · rw [pk_un z]; exact hall y (by omega) hk)
        refine ⟨aw', an', cl', yf', r1, r2, r3, fun post fuel hf K => ?_, ?_⟩
        · obtain ⟨fuel, rfl⟩ : ∃ g, fuel = g + 1 := ⟨fuel - 1, by omega⟩
          have := r4 post fuel (by omega) K
          rw [wX_mend_107]
          refine br_f (nI_ge (b := 16) hx (by decide)) (xk_kind_i hx ?_)
          rw [hK x hx]
          refine br_f hk0 ?_
          unfold wpX_mendLinks; dsimp only
          exact ⟨17, xk_ml4 hx hRW hk0 (fun z => absurd z heq) (fun _ => nm_r (nI_1 x) this) 16 0 (by omega) 17 (by omega)⟩
        · intro yr ys yd yh yt ok ol op on ob ov om ac au yo yu ym post fuel hf K
          obtain ⟨fuel, rfl⟩ : ∃ g, fuel = g + 1 := ⟨fuel - 1, by omega⟩
          have := r5 yr ys yd yh yt ok ol op on ob ov om ac au yo yu ym post fuel (by omega) K
          rw [wY_mend_222]
          dsimp only
          rw [nI_clamp (n := x) (by omega)]
          refine br_f (nI_ge (b := 16) hx (by decide)) ⟨vx, br_f hk0 ?_⟩
          unfold wpY_recount; dsimp only
          exact ⟨1025, yk_rec hx (fun z => absurd z heq) (fun _ => nm_r (nI_1 x) this) 1024 0 (by omega) 1025 (by omega)⟩
/-- the first loop of X: nothing found -/
theorem xk_m11 {post : Int32 → SX → Prop} (K : wpX_walk (fun u => match u with | (xc, xr, xs, xg, xd, xm, xt, xw, xo, aw, ap, aa, av, ae, af, ab, al, an, aq) => ∃ n41 : Nat, wX_mend_41 post n41 1 xc xr xs xg xd xm xt xw xo aw ap aa av ae af ab al an aq) (xc, xr, xs, xg, xd, xm, 1, xw, xo, aw, ap, aa, av, ae, af, ab, al, jv_fl an 0 5 0, aq) 0) : ∀ (d i : Nat), i + d = 5 → ∀ fuel, d < fuel → wX_mend_11 post xc xr xs xg xd xm xt xw xo fuel (nI i) aw ap aa av ae af ab al (jv_fl an 0 i 0) aq := by
  intro d
  induction d with
  | zero =>
    intro i e fuel hf
    obtain ⟨fuel, rfl⟩ : ∃ g, fuel = g + 1 := ⟨fuel - 1, by omega⟩
    have : i = 5 := by omega
    subst this
    rw [wX_mend_11]
    exact br_t (by decide) K
  | succ d ih =>
    intro i e fuel hf
    obtain ⟨fuel, rfl⟩ : ∃ g, fuel = g + 1 := ⟨fuel - 1, by omega⟩
    have h0 := ih (i + 1) (by omega) fuel (by omega)
    have es : upd (jv_fl an 0 i 0) i 0 = jv_fl an 0 (i + 1) 0 := by
      have := jv_fl_s (f := an) (b := 0) (n := i) (v := 0)
      rw [Nat.zero_add] at this
      exact this
    rw [wX_mend_11]
    dsimp only
    rw [nI_clamp (by omega), es]
    exact br_f (nI_ge (b := 5) (by omega) (by decide)) ⟨vp_in_nI (by omega) (by decide), nm_e (nm_r (nI_1 i) h0)⟩
end
section
variable {yr ys yd yh yt : Int32} {ck cl cp cn cb cv cm ok ol op on ob ov om ac au yf yo yu ym : Nat → Int32}
theorem yk_m31 {post : Int32 → SY → Prop} (K : wpY_meet (fun u => match u with | (yr, ys, yd, yh, yt, ck, cl, cp, cn, cb, cv, cm, ok, ol, op, on, ob, ov, om, ac, au, yf, yo, yu, ym) => wpY_visit (fun u => match u with | (yr, ys, yd, yh, yt, ck, cl, cp, cn, cb, cv, cm, ok, ol, op, on, ob, ov, om, ac, au, yf, yo, yu, ym) => ∃ n72 : Nat, wY_mend_72 post n72 1 yr ys yd yh yt ck cl cp cn cb cv cm ok ol op on ob ov om ac au yf yo yu ym) (yr, ys, yd, yh, yt, ck, cl, cp, cn, cb, cv, cm, ok, ol, op, on, ob, ov, om, ac, au, yf, yo, yu, ym)) (yr, ys, yd, 0, 0, ck, cl, cp, cn, cb, cv, cm, ok, ol, op, on, ob, ov, om, ac, au, yf, yo, yu, jv_fl ym 0 16 0) 0 0) : ∀ (d i : Nat), i + d = 16 → ∀ fuel, d < fuel → wY_mend_31 post yr ys yd yh yt fuel (nI i) ck cl cp cn cb cv cm ok ol op on ob ov om ac au yf yo yu (jv_fl ym 0 i 0) := by
  intro d
  induction d with
  | zero =>
    intro i e fuel hf
    obtain ⟨fuel, rfl⟩ : ∃ g, fuel = g + 1 := ⟨fuel - 1, by omega⟩
    have : i = 16 := by omega
    subst this
    rw [wY_mend_31]
    exact br_t (by decide) K
  | succ d ih =>
    intro i e fuel hf
    obtain ⟨fuel, rfl⟩ : ∃ g, fuel = g + 1 := ⟨fuel - 1, by omega⟩
    have h0 := ih (i + 1) (by omega) fuel (by omega)
    have es : upd (jv_fl ym 0 i 0) i 0 = jv_fl ym 0 (i + 1) 0 := by
      have := jv_fl_s (f := ym) (b := 0) (n := i) (v := 0)
      rw [Nat.zero_add] at this
      exact this
    rw [wY_mend_31]
    dsimp only
    rw [nI_clamp (by omega), show vp_nar .boolean (0 : Int32) = 0 from rfl, es]
    exact br_f (nI_ge (b := 16) (by omega) (by decide)) ⟨vp_in_nI (by omega) (by decide), nm_e (nm_r (nI_1 i) h0)⟩
theorem yk_m11 {post : Int32 → SY → Prop} (K : ∃ n, wY_mend_31 post yr ys yd yh yt n 0 ck cl cp cn cb cv cm ok ol op on ob ov om ac au (jv_fl yf 0 5 0) yo yu ym) : ∀ (d i : Nat), i + d = 5 → ∀ fuel, d < fuel → wY_mend_11 post yr ys yd yh yt fuel (nI i) ck cl cp cn cb cv cm ok ol op on ob ov om ac au (jv_fl yf 0 i 0) yo yu ym := by
  intro d
  induction d with
  | zero =>
    intro i e fuel hf
    obtain ⟨fuel, rfl⟩ : ∃ g, fuel = g + 1 := ⟨fuel - 1, by omega⟩
    have : i = 5 := by omega
    subst this
    rw [wY_mend_11]
    exact br_t (by decide) K
  | succ d ih =>
    intro i e fuel hf
    obtain ⟨fuel, rfl⟩ : ∃ g, fuel = g + 1 := ⟨fuel - 1, by omega⟩
    have h0 := ih (i + 1) (by omega) fuel (by omega)
    have es : upd (jv_fl yf 0 i 0) i 0 = jv_fl yf 0 (i + 1) 0 := by
      have := jv_fl_s (f := yf) (b := 0) (n := i) (v := 0)
      rw [Nat.zero_add] at this
      exact this
    rw [wY_mend_11]
    dsimp only
    rw [nI_clamp (by omega), es]
    exact br_f (nI_ge (b := 5) (by omega) (by decide)) ⟨vp_in_nI (by omega) (by decide), nm_e (nm_r (nI_1 i) h0)⟩
end
theorem i_vc_mend {k : Nat} {u : SX} {v : SY} (I : i_Rel k u v) (hk : k + 5 ≤ 2560) : wpX_mend (fun r u' => wpY_mend (fun r' v' => r' = r ∧ i_Rel (k + 5) u' v') v) u := by
  refine zz_el (Q := fun u v => wpX_mend (fun r u' => wpY_mend (fun r' v' => r' = r ∧ i_Rel (k + 5) u' v') v) u) ?_ I
  intro xc xr xs xg xd xm xt xw xo aw ap aa av ae af ab al an aq yr ys yd yh yt ck cl cp cn cb cv cm ok ol op on ob ov om ac au yf yo yu ym R
  obtain ⟨z1, z2, z3, z4⟩ := jv_R_Z R
  have hcp := jv_R_cp R
  have hae := jv_R_ae R
  obtain ⟨r, s, m, h1, h2, rfl, rfl, rfl, rfl, rfl, rfl, rfl, hf, hRW, hd, hU, hJ, hP⟩ := jv_open R
  by_cases hr : r = 0
  · subst hr
    have es : s = 0 := by omega
    subst es
    -- the root is met
    have hMS0 : jv_MS 0 1 (fun _ => 0) (jv_Pd (fun _ => 0) 0) 1 aw (jv_fl an 0 5 0) (upd aq 0 (nI 0)) ck cl (upd cp 0 (nI 0)) cn cb cv cm (jv_fl yf 0 5 0) (upd yo 0 (nI 0)) (upd (jv_fl ym 0 16 0) 0 1) := by
      have ecp : upd cp 0 (nI 0) = cp := jv_upd_id hcp
      rw [ecp]
      have hym : ∀ x, x < 16 → (¬ upd (jv_fl ym 0 16 0) 0 1 x = 0 ↔ x = 0) := fun x hx => by
        by_cases e : x = 0
        · rw [e, pk_us]; exact ⟨fun _ => rfl, fun _ => by decide⟩
        · rw [pk_un e, jv_fl_i (by omega) (by omega)]; exact ⟨fun z => absurd rfl z, fun z => absurd z e⟩
      refine ⟨hRW, ⟨fun i hi => ⟨show (0 : Nat) < 16 by omega, hRW.2.1, (hym 0 (by omega)).mpr rfl⟩, fun x hx _ hm => ⟨0, by omega, ((hym x hx).mp hm).symm⟩, fun i j h1 h2 => by omega, ⟨by omega, rfl⟩, fun j x _ _ hp => ?_, fun i j x _ _ _ hp => ?_, fun x hx1 hx _ hm => ?_, hcp⟩, fun x hx => ?_, fun i hi => ?_, fun i _ hi => ?_, ⟨fun i hi => ?_, jv_fl_i (by omega) (by omega)⟩, by omega⟩
      · obtain ⟨i, hi, _⟩ := hp; omega
      · obtain ⟨i, hi, _⟩ := hp; omega
      · have := (hym x hx).mp hm; omega
      · rw [hym x hx, jv_b1 x (by omega), decide_eq_true_iff]
      · have : i = 0 := by omega
        subst this; exact pk_us
      · have : i = 0 := by omega
        subst this; exact pk_us
      · rw [jv_fl_i (by omega) (by omega), jv_fl_i (by omega) (by omega)]
    obtain ⟨T1, q1, xt1, aw1, an1, aq1, cp1, cn1, yf1, yo1, ym1, a1, a2, am, a3, a4, a5⟩ := zk_wlk (xm := xm) (ap := ap) (aa := aa) (av := av) (ae := ae) (af := af) (ab := ab) (al := al) (xr := nI 0) (xs := nI 0) (xd := yd) (m := m) 17 0 1 _ _ _ _ _ _ _ _ _ _ (by omega) (by omega) (by omega) hMS0
    have hMS1 : jv_MS T1 T1 q1 (jv_Pd q1 T1) xt1 aw1 an1 aq1 ck cl cp1 cn1 cb cv cm yf1 yo1 ym1 := ⟨a3.1, a3.2.1, a3.2.2.1, a3.2.2.2.1, fun i h1 h2 => by omega, a3.2.2.2.2.2.1, Nat.le_refl T1⟩
    have hroot : ¬ ym1 0 = 0 := by
      have := (a3.2.1.1 0 a3.2.1.2.2.2.1.1).2.2
      rw [a3.2.1.2.2.2.1.2] at this
      exact this
    obtain ⟨T2, q2, xt2, xw2, xo2, aw2, an2, aq2, ck2, cl2, cp2, cn2, cb2, yf2, yo2, ym2, b1, b2, b3, b4⟩ := zk_adl (xm := xm) (ap := ap) (aa := aa) (av := av) (ae := ae) (af := af) (ab := ab) (al := al) (xr := nI 0) (xs := nI 0) (xd := yd) (m := m) 15 1 T1 q1 xt1 (nI (T1 - 0)) (nI (T1 - 0)) aw1 an1 aq1 ck cl cp1 cn1 cb yf1 yo1 ym1 (by omega) (by omega) hMS1 (fun y hy _ => by
      have : y = 0 := by omega
      rw [this]; exact hroot)
    obtain ⟨cRW, cMI, cB, cYo, cAq, cFo, _⟩ := id b1
    -- extents
    have hM0 : jv_MF 0 (jv_fl yu 0 64 0) := fun c hc => by rw [jv_lb_0, jv_fl_i (by omega) (by omega)]; rfl
    have hz0 : ∀ p, p < 24 → cb2 (24 * 0 + p) = -1 := (cRW.1 0 (by omega)).2.2.2.2.2.2 (by rw [cRW.2.1]; decide)
    have hT0 : jv_tr cb2 0 (24 * 1) := jv_tr_h (J := 0) ⟨fun j b hj => by omega, fun i j b hi => by omega⟩ (fun j _ hj => by
      have := hz0 j (by omega)
      rw [show 24 * 0 + j = j by omega] at this
      exact this)
    obtain ⟨U, xm3, aw3, af3, ab3, al3, an3, cb3, yu3, yf3, d1, d2, d3, d4, d5, d6⟩ := zk_fl (ap := ap) (aa := aa) (av := av) (ae := ae) (xr := nI 0) (xs := nI 0) (xd := yd) (xt := xt2) (xw := xw2) (xo := xo2) (aq := aq2) (m := m) 15 1 0 xm aw2 af ab al an2 cb2 (jv_fl yu 0 64 0) yf2 (by omega) (by omega) cRW hM0 cFo hT0
    -- marks
    have hcm3 : ∀ b, b < 64 → jv_cq yu3 cm 64 b = yu3 b := fun b hb => if_pos hb
    have hRW4 := jv_RW_mk (w' := jv_sm aw3 U) (cm' := jv_cq yu3 cm 64) d1 (fun z w1 w2 => jv_sm_n w1 w2) (fun b hb => by rw [jv_sm_M, hcm3 b hb]; exact d2 b hb) (fun i hi => by
      show (if i < 64 then yu3 i else cm i) = 0
      rw [if_neg (by omega)]; exact cRW.2.2.2.2.2.2.2.2.2.2.2 i hi)
    have hones : jv_ct (jv_lb (U ^^^ jv_M aw3)) 64 = jv_ct (fun b => decide (¬ cm b = yu3 b)) 64 := jv_ct_cg 64 (fun b hb => by
      rw [jv_lb_xor, d1.2.2.1 b hb, d2 b hb]
      cases jv_lb U b <;> cases jv_lb (jv_M aw3) b <;> decide)
    have hFo4 : ∀ i, i < 5 → upd an3 3 (nI (jv_ct (jv_lb (U ^^^ jv_M aw3)) 64)) i = upd yf3 3 (nI (jv_ct (fun b => decide (¬ cm b = yu3 b)) 64)) i := fun i hi => by
      by_cases z : i = 3
      · rw [z, pk_us, pk_us, hones]
      · rw [pk_un z, pk_un z]; exact d3.1 i hi
    -- links
    obtain ⟨aw5, an5, cl5, yf5, f1, f2, f3, f4, f5⟩ := zk_ll (ap := ap) (aa := aa) (av := av) (ae := ae) (xr := nI 0) (xs := nI 0) (xd := yd) (xm := xm3) (xt := xt2) (xw := xw2) (xo := xo2) (af := af3) (ab := ab3) (al := al3) (aq := aq2) (m := m) 16 0 (jv_sm aw3 U) _ cl2 _ (by omega) hRW4 hFo4 (fun y hy => by omega)
    have hall2 : ∀ x, x < 16 → ¬ ck2 x = 0 → ¬ ym2 x = 0 := b2
    obtain ⟨u1, u3, u4⟩ := jv_MI_end cRW cMI hall2 (fun j z => z)
    have hUI : jv_UI ck2 cl5 cp2 cn2 cb3 (jv_cq yu3 cm 64) := ⟨u1, fun x hx hk => f3 x hx hk, u3, u4, fun j b hj hb e => by
      rw [hcm3 b hb, d2 b hb, d4.1 j b hj hb e]; rfl, fun i j b hi hj hb e1 e2 => d4.2 i j b hi hj hb e1 e2⟩
    have hR' := jv_R_fresh (aa := aa) (av := av) (ac := ac) (au := au) f1 cMI.2.2.2.2.2.2.2 (Or.inl ⟨rfl, hUI⟩) hae f2
    have hsum : an5 0 + an5 1 + an5 2 + an5 3 + an5 4 = yf5 0 + yf5 1 + yf5 2 + yf5 3 + yf5 4 := by rw [f2 0 (by omega), f2 1 (by omega), f2 2 (by omega), f2 3 (by omega), f2 4 (by omega)]
    unfold wpX_mend; dsimp only
    refine br_t (by decide) ⟨6, ?_⟩
    have hX := xk_m11 (xm := xm) (xt := xt) (xw := xw) (xo := xo) (aw := aw) (ap := ap) (aa := aa) (av := av) (ae := ae) (af := af) (ab := ab) (al := al) (an := an) (aq := aq) (xc := nI m) (xr := nI 0) (xs := nI 0) (xg := 0) (xd := yd) (post := fun r0 u' => wpY_mend (fun r' v' => r' = r0 ∧ i_Rel (k + 5) u' v') (nI 0, nI 0, yd, yh, yt, ck, cl, cp, cn, cb, cv, cm, ok, ol, op, on, ob, ov, om, ac, au, yf, yo, yu, ym)) ?_ 5 0 (by omega) 6 (by omega)
    · rw [jv_fl_0] at hX
      exact hX
    unfold wpX_walk; dsimp only
    rw [show vp_nar .byte ((0 : Int32).toInt8.toInt32) = nI 0 from jv_byte (p := 0) (by decide)]
    refine nm_r (e' := nI 1) rfl (nm_e ⟨17, a4 _ 17 (Nat.le_refl 17) ?_⟩)
    dsimp only
    refine ⟨16, b3 _ 16 (by omega) ?_⟩
    rw [wX_mend_41]
    refine br_t (by decide) ?_
    unfold wpX_mendExtents; dsimp only
    refine ⟨16, d5 _ 16 (by omega) ?_⟩
    dsimp only
    refine xk_marks (nm_e (xk_ones (nm_e ?_)))
    refine xk_setMarks (A0 := aa) (V0 := av) (m0 := m) (c := 0) (by omega) jv_J_i0 (fun aa1 av1 m1 J => ?_)
    obtain ⟨e1, e2, e3⟩ := jv_J_0 J
    have e1 := e1.symm
    have e2 := e2.symm
    have e3 := e3.symm
    subst e1 e2 e3
    dsimp only
    refine ⟨17, f4 _ 17 (by omega) ?_⟩
    rw [wX_mend_107]
    refine br_t (by decide) (xk_checkpoint (fun j hj => by rw [z2 j hj, f1.2.2.2.2.1 j hj]) ?_)
    dsimp only
    -- Y
    unfold wpY_mend; dsimp only
    refine br_t (by decide) ⟨6, ?_⟩
    have hY := yk_m11 (yd := yd) (yh := yh) (yt := yt) (ck := ck) (cl := cl) (cp := cp) (cn := cn) (cb := cb) (cv := cv) (cm := cm) (ok := ok) (ol := ol) (op := op) (on := on) (ob := ob) (ov := ov) (om := om) (ac := ac) (au := au) (yf := yf) (yo := yo) (yu := yu) (ym := ym) (yr := nI 0) (ys := nI 0) (post := fun r' v' => r' = an5 0 + an5 1 + an5 2 + an5 3 + an5 4 ∧ i_Rel (k + 5) (0, 0, 0, 0, 0, xm3, xt2, xw2, xo2, aw5, aw5, aa, av, ae, af3, ab3, al3, an5, aq2) v') ⟨17, ?_⟩ 5 0 (by omega) 6 (by omega)
    · rw [jv_fl_0] at hY
      exact hY
    have hY2 := yk_m31 (yd := yd) (yh := yh) (yt := yt) (ck := ck) (cl := cl) (cp := cp) (cn := cn) (cb := cb) (cv := cv) (cm := cm) (ok := ok) (ol := ol) (op := op) (on := on) (ob := ob) (ov := ov) (om := om) (ac := ac) (au := au) (yo := yo) (yu := yu) (ym := ym) (yr := nI 0) (ys := nI 0) (yf := jv_fl yf 0 5 0) (post := fun r' v' => r' = an5 0 + an5 1 + an5 2 + an5 3 + an5 4 ∧ i_Rel (k + 5) (0, 0, 0, 0, 0, xm3, xt2, xw2, xo2, aw5, aw5, aa, av, ae, af3, ab3, al3, an5, aq2) v') ?_ 16 0 (by omega) 17 (by omega)
    · rw [jv_fl_0] at hY2
      exact hY2
    refine yk_meet (x := 0) (T := 0) (by omega) (fun _ => ⟨by omega, ?_⟩) (fun z => absurd hRW.2.1 z)
    dsimp only
    unfold wpY_visit; dsimp only
    refine ⟨17, a5 (nI 0) (nI 0) yd ok ol op on ob ov om ac au yu _ 17 (Nat.le_refl 17) ?_⟩
    dsimp only
    refine ⟨16, b4 (nI 0) (nI 0) yd ok ol op on ob ov om ac au yu _ 16 (by omega) ?_⟩
    rw [wY_mend_72]
    refine br_t (by decide) ?_
    unfold wpY_part; dsimp only
    refine ⟨65, ?_⟩
    have hp2 := yk_p2 (yr := nI 0) (ys := nI 0) (yd := yd) (yh := nI T2) (yt := nI T2) (ck := ck2) (cl := cl2) (cp := cp2) (cn := cn2) (cb := cb2) (cv := cv) (cm := cm) (ok := ok) (ol := ol) (op := op) (on := on) (ob := ob) (ov := ov) (om := om) (ac := ac) (au := au) (yf := yf2) (yo := yo2) (yu := yu) (ym := ym2)
      (post := fun u => match u with | (yr, ys, yd, yh, yt, ck, cl, cp, cn, cb, cv, cm, ok, ol, op, on, ob, ov, om, ac, au, yf, yo, yu, ym) => ∃ n171 : Nat, wY_mend_171 (fun r' v' => r' = an5 0 + an5 1 + an5 2 + an5 3 + an5 4 ∧ i_Rel (k + 5) (0, 0, 0, 0, 0, xm3, xt2, xw2, xo2, aw5, aw5, aa, av, ae, af3, ab3, al3, an5, aq2) v') yr ys yd yh yt n171 0 ck cl cp cn cb cv cm ok ol op on ob ov om ac au yf yo yu ym) ⟨17, ?_⟩ 64 0 (by omega) 65 (by omega)
    · rw [jv_fl_0] at hp2
      exact hp2
    rw [wY_part_23]
    refine br_f (by decide) ⟨1 + 24, yk_31s (x := 0) (by omega) (Nat.le_refl 24) ?_ 24 0 (by omega) (fun z _ h2 => hz0 z h2)⟩
    rw [wY_part_31]
    refine br_t (by decide) (nm_r (e' := nI 1) rfl ?_)
    refine d6 (nI 0) (nI 0) yd (nI T2) (nI T2) ok ol op on ob ov om ac au yo2 ym2 _ 16 (by omega) ?_
    dsimp only
    refine ⟨65, ?_⟩
    have h171 := yk_171 (yr := nI 0) (ys := nI 0) (yd := yd) (yh := nI T2) (yt := nI T2) (ck := ck2) (cl := cl2) (cp := cp2) (cn := cn2) (cb := cb3) (cv := cv) (cm := cm) (ok := ok) (ol := ol) (op := op) (on := on) (ob := ob) (ov := ov) (om := om) (ac := ac) (au := au) (yf := yf3) (yo := yo2) (yu := yu3) (ym := ym2)
      (post := fun r' v' => r' = an5 0 + an5 1 + an5 2 + an5 3 + an5 4 ∧ i_Rel (k + 5) (0, 0, 0, 0, 0, xm3, xt2, xw2, xo2, aw5, aw5, aa, av, ae, af3, ab3, al3, an5, aq2) v') ⟨17, ?_⟩ 64 0 (by omega) 65 (by omega)
    · rw [jv_cq_0, show jv_ct (fun b => decide (¬ cm b = yu3 b)) 0 = 0 from rfl, jv_upd_id (show yf3 3 = nI 0 from d3.2)] at h171
      exact h171
    refine f5 (nI 0) (nI 0) yd (nI T2) (nI T2) ok ol op on ob ov om ac au yo2 yu3 ym2 _ 17 (by omega) ?_
    rw [wY_mend_222]
    refine br_t (by decide) (yk_place f1.2.2.2.2.2 z4 ?_)
    exact ⟨hsum.symm, hR'⟩
  · unfold wpX_mend; dsimp only
    refine pk_le r 0 (fun h => absurd h (by omega)) (fun _ => ?_)
    unfold wpY_mend; dsimp only
    exact pk_le r 0 (fun h => absurd h (by omega)) (fun _ => ⟨rfl, R⟩)
end
