section
/-! pure rows to paste: stores, nI and lN arithmetic, masks, shifts, narrowing, branches by naturals (pk_le, pk_lt, pk_eq), loops (lp1 .. lp16: the measure of the state; rp1 ..: recursion), negatives. Take what you need -/
theorem pk_us {f : Nat → Int32} {k : Nat} {x : Int32} : upd f k x k = x := if_pos rfl
theorem pk_un {f : Nat → Int32} {k j : Nat} {x : Int32} (h : j ≠ k) : upd f k x j = f j := if_neg h
theorem pk_uLs {f : Nat → Int64} {k : Nat} {x : Int64} : vp_updL f k x k = x := if_pos rfl
theorem pk_uLn {f : Nat → Int64} {k j : Nat} {x : Int64} (h : j ≠ k) : vp_updL f k x j = f j := if_neg h
theorem pk_sub {a b : Nat} (h : b ≤ a) : nI a - nI b = nI (a - b) := by
  obtain ⟨c, rfl⟩ : ∃ c, a = c + b := ⟨a - b, by omega⟩
  rw [← nI_add, Int32.add_sub_cancel, Nat.add_sub_cancel]
theorem pk_m1 (n : Nat) : nI (n + 1) + (-1) = nI n := by
  rw [← nI_1, Int32.add_assoc, show (1 : Int32) + (-1) = 0 from rfl, Int32.add_zero]
theorem pk_mul (a b : Nat) : nI a * nI b = nI (a * b) := (Int32.ofNat_mul a b).symm
theorem pk_div {a d : Nat} (ha : a < 2 ^ 31) (h0 : 0 < d) (hd : d < 2 ^ 31) : nI a / nI d = nI (a / d) := by
  apply Int32.toInt_inj.mp
  rw [lg_idiv_nonneg (by rw [nI_toInt ha]; omega) (by rw [nI_toInt hd]; omega), nI_toInt ha, nI_toInt hd, nI_toInt (Nat.lt_of_le_of_lt (Nat.div_le_self a d) ha)]
  first | rfl | exact (Int.natCast_ediv _ _).symm
theorem pk_rem {a d : Nat} (ha : a < 2 ^ 31) (h0 : 0 < d) (hd : d < 2 ^ 31) : nI a - nI a / nI d * nI d = nI (a % d) := by
  rw [pk_div ha h0 hd, pk_mul, pk_sub (Nat.div_mul_le_self a d)]
  exact congrArg nI (by have := Nat.div_add_mod' a d; omega)
theorem pk_sub_toInt {a b : Nat} (ha : a < 2 ^ 30) (hb : b < 2 ^ 30) : (nI a - nI b).toInt = (a : Int) - b := by
  rw [Int32.toInt_sub, nI_toInt (by omega), nI_toInt (by omega)]
  exact Int.bmod_eq_of_le (by omega) (by omega)
theorem pk_sneg {a b : Nat} (hb : b < 2 ^ 30) (h : a < b) : nI a - nI b < 0 := by
  rw [Int32.lt_iff_toInt_lt, pk_sub_toInt (by omega) hb, show (0 : Int32).toInt = 0 from by decide]
  omega
theorem pk_ix (x : Int32) {n : Nat} (hn : n < 2 ^ 31) : x < 0 ∨ nI n ≤ x ∨ ∃ j : Nat, j < n ∧ x = nI j := by
  by_cases h : x < 0
  · exact Or.inl h
  · obtain ⟨j, hj, rfl⟩ := nI_of h
    by_cases h2 : j < n
    · exact Or.inr (Or.inr ⟨j, h2, rfl⟩)
    · exact Or.inr (Or.inl (nI_le (by omega) hj))
theorem pk_le {x y : Int32} {A B : Prop} (a b : Nat) (f : a ≤ b → A) (g : b < a → B) (hx : x = nI a := by rfl) (hy : y = nI b := by rfl) (ha : a < 2 ^ 31 := by omega) (hb : b < 2 ^ 31 := by omega) : (x ≤ y → A) ∧ (¬ x ≤ y → B) := by
  subst hx hy
  rw [nI_leI ha hb]
  exact ⟨f, fun z => g (by omega)⟩
theorem pk_lt {x y : Int32} {A B : Prop} (a b : Nat) (f : a < b → A) (g : b ≤ a → B) (hx : x = nI a := by rfl) (hy : y = nI b := by rfl) (ha : a < 2 ^ 31 := by omega) (hb : b < 2 ^ 31 := by omega) : (x < y → A) ∧ (¬ x < y → B) := by
  subst hx hy
  rw [nI_ltI ha hb]
  exact ⟨f, fun z => g (by omega)⟩
theorem pk_eq {x y : Int32} {A B : Prop} (a b : Nat) (f : a = b → A) (g : a ≠ b → B) (hx : x = nI a := by rfl) (hy : y = nI b := by rfl) (ha : a < 2 ^ 31 := by omega) (hb : b < 2 ^ 31 := by omega) : (x = y → A) ∧ (¬ x = y → B) := by
  subst hx hy
  rw [nI_eq ha hb]
  exact ⟨f, g⟩
theorem pk_in {x : Int32} (n N : Nat) (h : n < N) (hx : x = nI n := by rfl) (hN : N < 2 ^ 31 := by omega) : vp_in x N := by
  subst hx
  exact vp_in_nI h hN
theorem pk_cl {x : Int32} (n : Nat) (hx : x = nI n := by rfl) (h : n < 2 ^ 31 := by omega) : x.toNatClampNeg = n := by
  subst hx
  exact nI_clamp h
theorem pk_tn {n : Nat} (h : n < 2 ^ 32) : (nI n).toBitVec.toNat = n := Nat.mod_eq_of_lt h
theorem pk_and (x : Int32) {m : Int32} (k : Nat) (hm : m.toBitVec.toNat = 2 ^ k - 1) : x &&& m = nI (x.toBitVec.toNat % 2 ^ k) := by
  apply Int32.toBitVec_inj.mp
  apply BitVec.eq_of_toNat_eq
  rw [Int32.toBitVec_and, BitVec.toNat_and, hm, Nat.and_two_pow_sub_one_eq_mod]
  show _ = (BitVec.ofNat 32 _).toNat
  rw [BitVec.toNat_ofNat]
  exact (Nat.mod_eq_of_lt (Nat.lt_of_le_of_lt (Nat.mod_le _ _) x.toBitVec.isLt)).symm
theorem pk_andN {n : Nat} (h : n < 2 ^ 32) {m : Int32} (k : Nat) (hm : m.toBitVec.toNat = 2 ^ k - 1) : nI n &&& m = nI (n % 2 ^ k) := by
  rw [pk_and _ k hm, pk_tn h]
theorem pk_andE (x : Int32) {m : Int32} (k : Nat) (hm : m.toBitVec.toNat = 2 ^ k - 1) : ∃ j : Nat, j < 2 ^ k ∧ x &&& m = nI j := ⟨_, Nat.mod_lt _ (Nat.two_pow_pos k), pk_and x k hm⟩
theorem pk_andIn (x : Int32) {m : Int32} (k : Nat) (hm : m.toBitVec.toNat = 2 ^ k - 1) (hk : k ≤ 30) : vp_in (x &&& m) (2 ^ k) := by
  obtain ⟨j, hj, e⟩ := pk_andE x k hm
  rw [e]
  exact vp_in_nI hj (Nat.lt_of_le_of_lt (Nat.pow_le_pow_right (by decide) hk) (by decide))
theorem pk_shl (a s : Int32) (k : Nat) (hs : (s.toBitVec.smod 32).toNat = k) : (a <<< s).toBitVec.toNat = a.toBitVec.toNat * 2 ^ k % 2 ^ 32 := by
  show (a.toBitVec <<< (s.toBitVec.smod 32).toNat).toNat = _
  rw [hs, BitVec.toNat_shiftLeft, Nat.shiftLeft_eq]
theorem pk_shlN {n : Nat} (s : Int32) (k : Nat) (hs : (s.toBitVec.smod 32).toNat = k) (h : n * 2 ^ k < 2 ^ 32) : nI n <<< s = nI (n * 2 ^ k) := by
  apply Int32.toBitVec_inj.mp
  apply BitVec.eq_of_toNat_eq
  have hn : n < 2 ^ 32 := Nat.lt_of_le_of_lt (Nat.le_mul_of_pos_right n (Nat.two_pow_pos k)) h
  rw [pk_shl _ _ k hs, pk_tn hn, pk_tn h, Nat.mod_eq_of_lt h]
theorem pk_shr (a s : Int32) (k : Nat) (hs : (s.toBitVec.smod 32).toNat = k) : (a >>> s).toInt = a.toInt >>> k := by
  show (a.toBitVec.sshiftRight (s.toBitVec.smod 32).toNat).toInt = _
  rw [hs, BitVec.toInt_sshiftRight]
  rfl
theorem pk_shrN {n : Nat} (h : n < 2 ^ 31) (s : Int32) (k : Nat) (hs : (s.toBitVec.smod 32).toNat = k) : nI n >>> s = nI (n / 2 ^ k) := by
  apply Int32.toInt_inj.mp
  have h2 : n / 2 ^ k ≤ n := Nat.div_le_self _ _
  rw [pk_shr _ _ k hs, nI_toInt h, nI_toInt (by omega), Int.shiftRight_eq_div_pow]
  rfl
theorem pk_ushr (x s : Int32) (k : Nat) (hs : ((s.toUInt32 &&& Int32.toUInt32 31).toBitVec % 32).toNat = k) : (x.toUInt32 >>> (s.toUInt32 &&& Int32.toUInt32 31)).toInt32.toBitVec.toNat = x.toBitVec.toNat / 2 ^ k := by
  have e : (x.toUInt32 >>> (s.toUInt32 &&& Int32.toUInt32 31)).toInt32.toBitVec = x.toBitVec >>> k := by
    rw [← hs]
    exact UInt32.toBitVec_shiftRight _ _
  rw [e, BitVec.toNat_ushiftRight, Nat.shiftRight_eq_div_pow]
theorem pk_ushrN {n : Nat} (hn : n < 2 ^ 32) (s : Int32) (k : Nat) (hs : ((s.toUInt32 &&& Int32.toUInt32 31).toBitVec % 32).toNat = k) : ((nI n).toUInt32 >>> (s.toUInt32 &&& Int32.toUInt32 31)).toInt32 = nI (n / 2 ^ k) := by
  apply Int32.toBitVec_inj.mp
  apply BitVec.eq_of_toNat_eq
  rw [pk_ushr _ s k hs, pk_tn hn, pk_tn (Nat.lt_of_le_of_lt (Nat.div_le_self _ _) hn)]
theorem pk_nb (z : Int32) : narrow .byte (.int z.toInt8.toInt32) = .int z.toInt8.toInt32 := congrArg Value.int (by simp)
theorem pk_ns (z : Int32) : narrow .short (.int z.toInt16.toInt32) = .int z.toInt16.toInt32 := congrArg Value.int (by simp)
theorem pk_fb (r : Int32) : fits .byte (.int r.toInt8.toInt32) = true := by
  have ⟨a, b⟩ := lg_i2b_range r
  have h1 : (-128 : Int32).toInt = -128 := by decide
  have h2 : (127 : Int32).toInt = 127 := by decide
  simp only [fits, Bool.and_eq_true, decide_eq_true_eq, Int32.le_iff_toInt_le, h1, h2]
  omega
theorem pk_fs (r : Int32) : fits .short (.int r.toInt16.toInt32) = true := by
  have ⟨a, b⟩ := lg_i2s_range r
  have h1 : (-32768 : Int32).toInt = -32768 := by decide
  have h2 : (32767 : Int32).toInt = 32767 := by decide
  simp only [fits, Bool.and_eq_true, decide_eq_true_eq, Int32.le_iff_toInt_le, h1, h2]
  omega
theorem pk_charN {q : Nat} (hq : q < 65536) : narrow .char (.int (nI q)) = .int (nI q) ∧ fits .char (.int (nI q)) = true := by
  constructor
  · have e : (nI q).toUInt32.toUInt16.toUInt32.toInt32 = nI q := by
      apply Int32.toBitVec_inj.mp
      apply BitVec.eq_of_toNat_eq
      show (nI q).toUInt32.toUInt16.toUInt32.toNat = q % 2 ^ 32
      rw [UInt16.toNat_toUInt32, UInt32.toNat_toUInt16, show (nI q).toUInt32.toNat = q % 2 ^ 32 from rfl]
      omega
    exact congrArg Value.int e
  · have a : (0 : Int32) ≤ nI q := nI_pos' (by omega)
    have b : nI q ≤ 65535 := nI_le (b := 65535) (by omega) (by decide)
    show (decide ((0 : Int32) ≤ nI q) && decide (nI q ≤ 65535)) = true
    rw [decide_eq_true a, decide_eq_true b]
    rfl
theorem pk_char (x : Int32) : (x.toUInt32 % 65536).toInt32 = nI (x.toBitVec.toNat % 65536) := by
  apply Int32.toBitVec_inj.mp
  apply BitVec.eq_of_toNat_eq
  rw [pk_tn (by omega)]
  show (x.toUInt32 % 65536).toNat = _
  rw [UInt32.toNat_mod]
  rfl
theorem pk_nc (x : Int32) : narrow .char (.int (x.toUInt32 % 65536).toInt32) = .int (x.toUInt32 % 65536).toInt32 := by
  rw [pk_char]
  exact (pk_charN (Nat.mod_lt _ (by decide))).1
theorem pk_fc (x : Int32) : fits .char (.int (x.toUInt32 % 65536).toInt32) = true := by
  rw [pk_char]
  exact (pk_charN (Nat.mod_lt _ (by decide))).2
theorem pk_vb (z : Int32) : vp_nar .byte z.toInt8.toInt32 = z.toInt8.toInt32 := by rw [vp_nar_byte]; simp
theorem pk_vs (z : Int32) : vp_nar .short z.toInt16.toInt32 = z.toInt16.toInt32 := by rw [vp_nar_short]; simp
theorem pk_vc (z : Int32) : vp_nar .char (z.toUInt32 % 65536).toInt32 = (z.toUInt32 % 65536).toInt32 := Value.int.inj (pk_nc z)
theorem pk_lT {n : Nat} (h : n < 2 ^ 63) : (lN n).toInt = (n : Int) := lg_ofNat_toInt h
theorem pk_lLT {a b : Nat} (ha : a < 2 ^ 63) (hb : b < 2 ^ 63) : lN a < lN b ↔ a < b := by
  rw [Int64.lt_iff_toInt_lt, pk_lT ha, pk_lT hb]; omega
theorem pk_lLE {a b : Nat} (ha : a < 2 ^ 63) (hb : b < 2 ^ 63) : lN a ≤ lN b ↔ a ≤ b := by
  rw [Int64.le_iff_toInt_le, pk_lT ha, pk_lT hb]; omega
theorem pk_lEQ {a b : Nat} (ha : a < 2 ^ 63) (hb : b < 2 ^ 63) : lN a = lN b ↔ a = b := by
  rw [← Int64.toInt_inj, pk_lT ha, pk_lT hb]; omega
theorem pk_lOf {x : Int64} (h : ¬ x < 0) : ∃ k : Nat, k < 2 ^ 63 ∧ x = lN k := by
  rw [Int64.lt_iff_toInt_lt] at h
  have h0 : (0 : Int64).toInt = 0 := by decide
  have hx := Int64.toInt_lt x
  refine ⟨x.toInt.toNat, by omega, Int64.toInt_inj.mp ?_⟩
  rw [pk_lT (by omega)]
  omega
theorem pk_lDiv {a b : Nat} (ha : a < 2 ^ 63) (h0 : 0 < b) (hb : b < 2 ^ 63) : lN a / lN b = lN (a / b) := by
  apply Int64.toInt_inj.mp
  rw [lg_ldiv_nonneg (by rw [pk_lT ha]; omega) (by rw [pk_lT hb]; omega), pk_lT ha, pk_lT hb, pk_lT (Nat.lt_of_le_of_lt (Nat.div_le_self a b) ha)]
  rfl
theorem pk_lRem {a b : Nat} (ha : a < 2 ^ 63) (h0 : 0 < b) (hb : b < 2 ^ 63) : lN a - lN a / lN b * lN b = lN (a % b) := by
  rw [pk_lDiv ha h0 hb, lN_mul, lN_sub (Nat.div_mul_le_self a b)]
  exact congrArg lN (by have := Nat.div_add_mod' a b; omega)
theorem pk_loop {σ : Type} (W : Nat → Nat → σ → Prop) (I : Nat → σ → Prop) (e i0 : Nat) (s : σ) (hi : i0 ≤ e) (h0 : I i0 s) (hx : ∀ n s, I e s → W (n + 1) e s)
    (hs : ∀ n i s, i < e → I i s → (∀ s', I (i + 1) s' → W n (i + 1) s') → W (n + 1) i s) : ∃ n, W n i0 s :=
  ⟨e + 1, loop_i W I e hx hs (e + 1) i0 s hi (by omega) h0⟩
theorem pk_loopD {σ : Type} (W : Nat → Nat → σ → Prop) (I : Nat → σ → Prop) (hx : ∀ n s, I 0 s → W (n + 1) 0 s)
    (hs : ∀ n i s, I (i + 1) s → (∀ s', I i s' → W n i s') → W (n + 1) (i + 1) s) : ∀ (e : Nat) (s : σ), I e s → W (e + 1) e s := by
  intro e
  induction e with
  | zero => exact fun s h => hx 0 s h
  | succ e ih => exact fun s h => hs (e + 1) e s h (fun s' h' => ih s' h')
theorem lp1 {A1 : Type} (W : Nat → A1 → Prop) (I : A1 → Prop) (μ : A1 → Nat) (hs : ∀ (n : Nat) (a1 : A1), I a1 → (∀ (b1 : A1), I b1 → μ b1 < μ a1 → W n b1) → W (n + 1) a1) (a1 : A1) (h : I a1) : ∃ n, W n a1 :=
  loop_m (σ := A1) (fun n s => W n s) (fun s => I s) (fun s => μ s) (fun n s hI hk => hs n s hI (fun b1 h9 hm => hk b1 h9 hm)) a1 h
theorem lp2 {A1 A2 : Type} (W : Nat → A1 → A2 → Prop) (I : A1 → A2 → Prop) (μ : A1 → A2 → Nat) (hs : ∀ (n : Nat) (a1 : A1) (a2 : A2), I a1 a2 → (∀ (b1 : A1) (b2 : A2), I b1 b2 → μ b1 b2 < μ a1 a2 → W n b1 b2) → W (n + 1) a1 a2) (a1 : A1) (a2 : A2) (h : I a1 a2) : ∃ n, W n a1 a2 :=
  loop_m (σ := A1 × A2) (fun n s => W n s.1 s.2) (fun s => I s.1 s.2) (fun s => μ s.1 s.2) (fun n s hI hk => hs n s.1 s.2 hI (fun b1 b2 h9 hm => hk (b1, b2) h9 hm)) (a1, a2) h
theorem lp3 {A1 A2 A3 : Type} (W : Nat → A1 → A2 → A3 → Prop) (I : A1 → A2 → A3 → Prop) (μ : A1 → A2 → A3 → Nat) (hs : ∀ (n : Nat) (a1 : A1) (a2 : A2) (a3 : A3), I a1 a2 a3 → (∀ (b1 : A1) (b2 : A2) (b3 : A3), I b1 b2 b3 → μ b1 b2 b3 < μ a1 a2 a3 → W n b1 b2 b3) → W (n + 1) a1 a2 a3) (a1 : A1) (a2 : A2) (a3 : A3) (h : I a1 a2 a3) : ∃ n, W n a1 a2 a3 :=
  loop_m (σ := A1 × A2 × A3) (fun n s => W n s.1 s.2.1 s.2.2) (fun s => I s.1 s.2.1 s.2.2) (fun s => μ s.1 s.2.1 s.2.2) (fun n s hI hk => hs n s.1 s.2.1 s.2.2 hI (fun b1 b2 b3 h9 hm => hk (b1, b2, b3) h9 hm)) (a1, a2, a3) h
theorem lp4 {A1 A2 A3 A4 : Type} (W : Nat → A1 → A2 → A3 → A4 → Prop) (I : A1 → A2 → A3 → A4 → Prop) (μ : A1 → A2 → A3 → A4 → Nat) (hs : ∀ (n : Nat) (a1 : A1) (a2 : A2) (a3 : A3) (a4 : A4), I a1 a2 a3 a4 → (∀ (b1 : A1) (b2 : A2) (b3 : A3) (b4 : A4), I b1 b2 b3 b4 → μ b1 b2 b3 b4 < μ a1 a2 a3 a4 → W n b1 b2 b3 b4) → W (n + 1) a1 a2 a3 a4) (a1 : A1) (a2 : A2) (a3 : A3) (a4 : A4) (h : I a1 a2 a3 a4) : ∃ n, W n a1 a2 a3 a4 :=
  loop_m (σ := A1 × A2 × A3 × A4) (fun n s => W n s.1 s.2.1 s.2.2.1 s.2.2.2) (fun s => I s.1 s.2.1 s.2.2.1 s.2.2.2) (fun s => μ s.1 s.2.1 s.2.2.1 s.2.2.2) (fun n s hI hk => hs n s.1 s.2.1 s.2.2.1 s.2.2.2 hI (fun b1 b2 b3 b4 h9 hm => hk (b1, b2, b3, b4) h9 hm)) (a1, a2, a3, a4) h
theorem lp5 {A1 A2 A3 A4 A5 : Type} (W : Nat → A1 → A2 → A3 → A4 → A5 → Prop) (I : A1 → A2 → A3 → A4 → A5 → Prop) (μ : A1 → A2 → A3 → A4 → A5 → Nat) (hs : ∀ (n : Nat) (a1 : A1) (a2 : A2) (a3 : A3) (a4 : A4) (a5 : A5), I a1 a2 a3 a4 a5 → (∀ (b1 : A1) (b2 : A2) (b3 : A3) (b4 : A4) (b5 : A5), I b1 b2 b3 b4 b5 → μ b1 b2 b3 b4 b5 < μ a1 a2 a3 a4 a5 → W n b1 b2 b3 b4 b5) → W (n + 1) a1 a2 a3 a4 a5) (a1 : A1) (a2 : A2) (a3 : A3) (a4 : A4) (a5 : A5) (h : I a1 a2 a3 a4 a5) : ∃ n, W n a1 a2 a3 a4 a5 :=
  loop_m (σ := A1 × A2 × A3 × A4 × A5) (fun n s => W n s.1 s.2.1 s.2.2.1 s.2.2.2.1 s.2.2.2.2) (fun s => I s.1 s.2.1 s.2.2.1 s.2.2.2.1 s.2.2.2.2) (fun s => μ s.1 s.2.1 s.2.2.1 s.2.2.2.1 s.2.2.2.2) (fun n s hI hk => hs n s.1 s.2.1 s.2.2.1 s.2.2.2.1 s.2.2.2.2 hI (fun b1 b2 b3 b4 b5 h9 hm => hk (b1, b2, b3, b4, b5) h9 hm)) (a1, a2, a3, a4, a5) h
theorem lp6 {A1 A2 A3 A4 A5 A6 : Type} (W : Nat → A1 → A2 → A3 → A4 → A5 → A6 → Prop) (I : A1 → A2 → A3 → A4 → A5 → A6 → Prop) (μ : A1 → A2 → A3 → A4 → A5 → A6 → Nat) (hs : ∀ (n : Nat) (a1 : A1) (a2 : A2) (a3 : A3) (a4 : A4) (a5 : A5) (a6 : A6), I a1 a2 a3 a4 a5 a6 → (∀ (b1 : A1) (b2 : A2) (b3 : A3) (b4 : A4) (b5 : A5) (b6 : A6), I b1 b2 b3 b4 b5 b6 → μ b1 b2 b3 b4 b5 b6 < μ a1 a2 a3 a4 a5 a6 → W n b1 b2 b3 b4 b5 b6) → W (n + 1) a1 a2 a3 a4 a5 a6) (a1 : A1) (a2 : A2) (a3 : A3) (a4 : A4) (a5 : A5) (a6 : A6) (h : I a1 a2 a3 a4 a5 a6) : ∃ n, W n a1 a2 a3 a4 a5 a6 :=
  loop_m (σ := A1 × A2 × A3 × A4 × A5 × A6) (fun n s => W n s.1 s.2.1 s.2.2.1 s.2.2.2.1 s.2.2.2.2.1 s.2.2.2.2.2) (fun s => I s.1 s.2.1 s.2.2.1 s.2.2.2.1 s.2.2.2.2.1 s.2.2.2.2.2) (fun s => μ s.1 s.2.1 s.2.2.1 s.2.2.2.1 s.2.2.2.2.1 s.2.2.2.2.2) (fun n s hI hk => hs n s.1 s.2.1 s.2.2.1 s.2.2.2.1 s.2.2.2.2.1 s.2.2.2.2.2 hI (fun b1 b2 b3 b4 b5 b6 h9 hm => hk (b1, b2, b3, b4, b5, b6) h9 hm)) (a1, a2, a3, a4, a5, a6) h
theorem lp7 {A1 A2 A3 A4 A5 A6 A7 : Type} (W : Nat → A1 → A2 → A3 → A4 → A5 → A6 → A7 → Prop) (I : A1 → A2 → A3 → A4 → A5 → A6 → A7 → Prop) (μ : A1 → A2 → A3 → A4 → A5 → A6 → A7 → Nat) (hs : ∀ (n : Nat) (a1 : A1) (a2 : A2) (a3 : A3) (a4 : A4) (a5 : A5) (a6 : A6) (a7 : A7), I a1 a2 a3 a4 a5 a6 a7 → (∀ (b1 : A1) (b2 : A2) (b3 : A3) (b4 : A4) (b5 : A5) (b6 : A6) (b7 : A7), I b1 b2 b3 b4 b5 b6 b7 → μ b1 b2 b3 b4 b5 b6 b7 < μ a1 a2 a3 a4 a5 a6 a7 → W n b1 b2 b3 b4 b5 b6 b7) → W (n + 1) a1 a2 a3 a4 a5 a6 a7) (a1 : A1) (a2 : A2) (a3 : A3) (a4 : A4) (a5 : A5) (a6 : A6) (a7 : A7) (h : I a1 a2 a3 a4 a5 a6 a7) : ∃ n, W n a1 a2 a3 a4 a5 a6 a7 :=
  loop_m (σ := A1 × A2 × A3 × A4 × A5 × A6 × A7) (fun n s => W n s.1 s.2.1 s.2.2.1 s.2.2.2.1 s.2.2.2.2.1 s.2.2.2.2.2.1 s.2.2.2.2.2.2) (fun s => I s.1 s.2.1 s.2.2.1 s.2.2.2.1 s.2.2.2.2.1 s.2.2.2.2.2.1 s.2.2.2.2.2.2) (fun s => μ s.1 s.2.1 s.2.2.1 s.2.2.2.1 s.2.2.2.2.1 s.2.2.2.2.2.1 s.2.2.2.2.2.2) (fun n s hI hk => hs n s.1 s.2.1 s.2.2.1 s.2.2.2.1 s.2.2.2.2.1 s.2.2.2.2.2.1 s.2.2.2.2.2.2 hI (fun b1 b2 b3 b4 b5 b6 b7 h9 hm => hk (b1, b2, b3, b4, b5, b6, b7) h9 hm)) (a1, a2, a3, a4, a5, a6, a7) h
theorem lp8 {A1 A2 A3 A4 A5 A6 A7 A8 : Type} (W : Nat → A1 → A2 → A3 → A4 → A5 → A6 → A7 → A8 → Prop) (I : A1 → A2 → A3 → A4 → A5 → A6 → A7 → A8 → Prop) (μ : A1 → A2 → A3 → A4 → A5 → A6 → A7 → A8 → Nat) (hs : ∀ (n : Nat) (a1 : A1) (a2 : A2) (a3 : A3) (a4 : A4) (a5 : A5) (a6 : A6) (a7 : A7) (a8 : A8), I a1 a2 a3 a4 a5 a6 a7 a8 → (∀ (b1 : A1) (b2 : A2) (b3 : A3) (b4 : A4) (b5 : A5) (b6 : A6) (b7 : A7) (b8 : A8), I b1 b2 b3 b4 b5 b6 b7 b8 → μ b1 b2 b3 b4 b5 b6 b7 b8 < μ a1 a2 a3 a4 a5 a6 a7 a8 → W n b1 b2 b3 b4 b5 b6 b7 b8) → W (n + 1) a1 a2 a3 a4 a5 a6 a7 a8) (a1 : A1) (a2 : A2) (a3 : A3) (a4 : A4) (a5 : A5) (a6 : A6) (a7 : A7) (a8 : A8) (h : I a1 a2 a3 a4 a5 a6 a7 a8) : ∃ n, W n a1 a2 a3 a4 a5 a6 a7 a8 :=
  loop_m (σ := A1 × A2 × A3 × A4 × A5 × A6 × A7 × A8) (fun n s => W n s.1 s.2.1 s.2.2.1 s.2.2.2.1 s.2.2.2.2.1 s.2.2.2.2.2.1 s.2.2.2.2.2.2.1 s.2.2.2.2.2.2.2) (fun s => I s.1 s.2.1 s.2.2.1 s.2.2.2.1 s.2.2.2.2.1 s.2.2.2.2.2.1 s.2.2.2.2.2.2.1 s.2.2.2.2.2.2.2) (fun s => μ s.1 s.2.1 s.2.2.1 s.2.2.2.1 s.2.2.2.2.1 s.2.2.2.2.2.1 s.2.2.2.2.2.2.1 s.2.2.2.2.2.2.2) (fun n s hI hk => hs n s.1 s.2.1 s.2.2.1 s.2.2.2.1 s.2.2.2.2.1 s.2.2.2.2.2.1 s.2.2.2.2.2.2.1 s.2.2.2.2.2.2.2 hI (fun b1 b2 b3 b4 b5 b6 b7 b8 h9 hm => hk (b1, b2, b3, b4, b5, b6, b7, b8) h9 hm)) (a1, a2, a3, a4, a5, a6, a7, a8) h
theorem lp9 {A1 A2 A3 A4 A5 A6 A7 A8 A9 : Type} (W : Nat → A1 → A2 → A3 → A4 → A5 → A6 → A7 → A8 → A9 → Prop) (I : A1 → A2 → A3 → A4 → A5 → A6 → A7 → A8 → A9 → Prop) (μ : A1 → A2 → A3 → A4 → A5 → A6 → A7 → A8 → A9 → Nat) (hs : ∀ (n : Nat) (a1 : A1) (a2 : A2) (a3 : A3) (a4 : A4) (a5 : A5) (a6 : A6) (a7 : A7) (a8 : A8) (a9 : A9), I a1 a2 a3 a4 a5 a6 a7 a8 a9 → (∀ (b1 : A1) (b2 : A2) (b3 : A3) (b4 : A4) (b5 : A5) (b6 : A6) (b7 : A7) (b8 : A8) (b9 : A9), I b1 b2 b3 b4 b5 b6 b7 b8 b9 → μ b1 b2 b3 b4 b5 b6 b7 b8 b9 < μ a1 a2 a3 a4 a5 a6 a7 a8 a9 → W n b1 b2 b3 b4 b5 b6 b7 b8 b9) → W (n + 1) a1 a2 a3 a4 a5 a6 a7 a8 a9) (a1 : A1) (a2 : A2) (a3 : A3) (a4 : A4) (a5 : A5) (a6 : A6) (a7 : A7) (a8 : A8) (a9 : A9) (h : I a1 a2 a3 a4 a5 a6 a7 a8 a9) : ∃ n, W n a1 a2 a3 a4 a5 a6 a7 a8 a9 :=
  loop_m (σ := A1 × A2 × A3 × A4 × A5 × A6 × A7 × A8 × A9) (fun n s => W n s.1 s.2.1 s.2.2.1 s.2.2.2.1 s.2.2.2.2.1 s.2.2.2.2.2.1 s.2.2.2.2.2.2.1 s.2.2.2.2.2.2.2.1 s.2.2.2.2.2.2.2.2) (fun s => I s.1 s.2.1 s.2.2.1 s.2.2.2.1 s.2.2.2.2.1 s.2.2.2.2.2.1 s.2.2.2.2.2.2.1 s.2.2.2.2.2.2.2.1 s.2.2.2.2.2.2.2.2) (fun s => μ s.1 s.2.1 s.2.2.1 s.2.2.2.1 s.2.2.2.2.1 s.2.2.2.2.2.1 s.2.2.2.2.2.2.1 s.2.2.2.2.2.2.2.1 s.2.2.2.2.2.2.2.2) (fun n s hI hk => hs n s.1 s.2.1 s.2.2.1 s.2.2.2.1 s.2.2.2.2.1 s.2.2.2.2.2.1 s.2.2.2.2.2.2.1 s.2.2.2.2.2.2.2.1 s.2.2.2.2.2.2.2.2 hI (fun b1 b2 b3 b4 b5 b6 b7 b8 b9 h9 hm => hk (b1, b2, b3, b4, b5, b6, b7, b8, b9) h9 hm)) (a1, a2, a3, a4, a5, a6, a7, a8, a9) h
theorem lp10 {A1 A2 A3 A4 A5 A6 A7 A8 A9 A10 : Type} (W : Nat → A1 → A2 → A3 → A4 → A5 → A6 → A7 → A8 → A9 → A10 → Prop) (I : A1 → A2 → A3 → A4 → A5 → A6 → A7 → A8 → A9 → A10 → Prop) (μ : A1 → A2 → A3 → A4 → A5 → A6 → A7 → A8 → A9 → A10 → Nat) (hs : ∀ (n : Nat) (a1 : A1) (a2 : A2) (a3 : A3) (a4 : A4) (a5 : A5) (a6 : A6) (a7 : A7) (a8 : A8) (a9 : A9) (a10 : A10), I a1 a2 a3 a4 a5 a6 a7 a8 a9 a10 → (∀ (b1 : A1) (b2 : A2) (b3 : A3) (b4 : A4) (b5 : A5) (b6 : A6) (b7 : A7) (b8 : A8) (b9 : A9) (b10 : A10), I b1 b2 b3 b4 b5 b6 b7 b8 b9 b10 → μ b1 b2 b3 b4 b5 b6 b7 b8 b9 b10 < μ a1 a2 a3 a4 a5 a6 a7 a8 a9 a10 → W n b1 b2 b3 b4 b5 b6 b7 b8 b9 b10) → W (n + 1) a1 a2 a3 a4 a5 a6 a7 a8 a9 a10) (a1 : A1) (a2 : A2) (a3 : A3) (a4 : A4) (a5 : A5) (a6 : A6) (a7 : A7) (a8 : A8) (a9 : A9) (a10 : A10) (h : I a1 a2 a3 a4 a5 a6 a7 a8 a9 a10) : ∃ n, W n a1 a2 a3 a4 a5 a6 a7 a8 a9 a10 :=
  loop_m (σ := A1 × A2 × A3 × A4 × A5 × A6 × A7 × A8 × A9 × A10) (fun n s => W n s.1 s.2.1 s.2.2.1 s.2.2.2.1 s.2.2.2.2.1 s.2.2.2.2.2.1 s.2.2.2.2.2.2.1 s.2.2.2.2.2.2.2.1 s.2.2.2.2.2.2.2.2.1 s.2.2.2.2.2.2.2.2.2) (fun s => I s.1 s.2.1 s.2.2.1 s.2.2.2.1 s.2.2.2.2.1 s.2.2.2.2.2.1 s.2.2.2.2.2.2.1 s.2.2.2.2.2.2.2.1 s.2.2.2.2.2.2.2.2.1 s.2.2.2.2.2.2.2.2.2) (fun s => μ s.1 s.2.1 s.2.2.1 s.2.2.2.1 s.2.2.2.2.1 s.2.2.2.2.2.1 s.2.2.2.2.2.2.1 s.2.2.2.2.2.2.2.1 s.2.2.2.2.2.2.2.2.1 s.2.2.2.2.2.2.2.2.2) (fun n s hI hk => hs n s.1 s.2.1 s.2.2.1 s.2.2.2.1 s.2.2.2.2.1 s.2.2.2.2.2.1 s.2.2.2.2.2.2.1 s.2.2.2.2.2.2.2.1 s.2.2.2.2.2.2.2.2.1 s.2.2.2.2.2.2.2.2.2 hI (fun b1 b2 b3 b4 b5 b6 b7 b8 b9 b10 h9 hm => hk (b1, b2, b3, b4, b5, b6, b7, b8, b9, b10) h9 hm)) (a1, a2, a3, a4, a5, a6, a7, a8, a9, a10) h
theorem lp11 {A1 A2 A3 A4 A5 A6 A7 A8 A9 A10 A11 : Type} (W : Nat → A1 → A2 → A3 → A4 → A5 → A6 → A7 → A8 → A9 → A10 → A11 → Prop) (I : A1 → A2 → A3 → A4 → A5 → A6 → A7 → A8 → A9 → A10 → A11 → Prop) (μ : A1 → A2 → A3 → A4 → A5 → A6 → A7 → A8 → A9 → A10 → A11 → Nat) (hs : ∀ (n : Nat) (a1 : A1) (a2 : A2) (a3 : A3) (a4 : A4) (a5 : A5) (a6 : A6) (a7 : A7) (a8 : A8) (a9 : A9) (a10 : A10) (a11 : A11), I a1 a2 a3 a4 a5 a6 a7 a8 a9 a10 a11 → (∀ (b1 : A1) (b2 : A2) (b3 : A3) (b4 : A4) (b5 : A5) (b6 : A6) (b7 : A7) (b8 : A8) (b9 : A9) (b10 : A10) (b11 : A11), I b1 b2 b3 b4 b5 b6 b7 b8 b9 b10 b11 → μ b1 b2 b3 b4 b5 b6 b7 b8 b9 b10 b11 < μ a1 a2 a3 a4 a5 a6 a7 a8 a9 a10 a11 → W n b1 b2 b3 b4 b5 b6 b7 b8 b9 b10 b11) → W (n + 1) a1 a2 a3 a4 a5 a6 a7 a8 a9 a10 a11) (a1 : A1) (a2 : A2) (a3 : A3) (a4 : A4) (a5 : A5) (a6 : A6) (a7 : A7) (a8 : A8) (a9 : A9) (a10 : A10) (a11 : A11) (h : I a1 a2 a3 a4 a5 a6 a7 a8 a9 a10 a11) : ∃ n, W n a1 a2 a3 a4 a5 a6 a7 a8 a9 a10 a11 :=
  loop_m (σ := A1 × A2 × A3 × A4 × A5 × A6 × A7 × A8 × A9 × A10 × A11) (fun n s => W n s.1 s.2.1 s.2.2.1 s.2.2.2.1 s.2.2.2.2.1 s.2.2.2.2.2.1 s.2.2.2.2.2.2.1 s.2.2.2.2.2.2.2.1 s.2.2.2.2.2.2.2.2.1 s.2.2.2.2.2.2.2.2.2.1 s.2.2.2.2.2.2.2.2.2.2) (fun s => I s.1 s.2.1 s.2.2.1 s.2.2.2.1 s.2.2.2.2.1 s.2.2.2.2.2.1 s.2.2.2.2.2.2.1 s.2.2.2.2.2.2.2.1 s.2.2.2.2.2.2.2.2.1 s.2.2.2.2.2.2.2.2.2.1 s.2.2.2.2.2.2.2.2.2.2) (fun s => μ s.1 s.2.1 s.2.2.1 s.2.2.2.1 s.2.2.2.2.1 s.2.2.2.2.2.1 s.2.2.2.2.2.2.1 s.2.2.2.2.2.2.2.1 s.2.2.2.2.2.2.2.2.1 s.2.2.2.2.2.2.2.2.2.1 s.2.2.2.2.2.2.2.2.2.2) (fun n s hI hk => hs n s.1 s.2.1 s.2.2.1 s.2.2.2.1 s.2.2.2.2.1 s.2.2.2.2.2.1 s.2.2.2.2.2.2.1 s.2.2.2.2.2.2.2.1 s.2.2.2.2.2.2.2.2.1 s.2.2.2.2.2.2.2.2.2.1 s.2.2.2.2.2.2.2.2.2.2 hI (fun b1 b2 b3 b4 b5 b6 b7 b8 b9 b10 b11 h9 hm => hk (b1, b2, b3, b4, b5, b6, b7, b8, b9, b10, b11) h9 hm)) (a1, a2, a3, a4, a5, a6, a7, a8, a9, a10, a11) h
theorem lp12 {A1 A2 A3 A4 A5 A6 A7 A8 A9 A10 A11 A12 : Type} (W : Nat → A1 → A2 → A3 → A4 → A5 → A6 → A7 → A8 → A9 → A10 → A11 → A12 → Prop) (I : A1 → A2 → A3 → A4 → A5 → A6 → A7 → A8 → A9 → A10 → A11 → A12 → Prop) (μ : A1 → A2 → A3 → A4 → A5 → A6 → A7 → A8 → A9 → A10 → A11 → A12 → Nat) (hs : ∀ (n : Nat) (a1 : A1) (a2 : A2) (a3 : A3) (a4 : A4) (a5 : A5) (a6 : A6) (a7 : A7) (a8 : A8) (a9 : A9) (a10 : A10) (a11 : A11) (a12 : A12), I a1 a2 a3 a4 a5 a6 a7 a8 a9 a10 a11 a12 → (∀ (b1 : A1) (b2 : A2) (b3 : A3) (b4 : A4) (b5 : A5) (b6 : A6) (b7 : A7) (b8 : A8) (b9 : A9) (b10 : A10) (b11 : A11) (b12 : A12), I b1 b2 b3 b4 b5 b6 b7 b8 b9 b10 b11 b12 → μ b1 b2 b3 b4 b5 b6 b7 b8 b9 b10 b11 b12 < μ a1 a2 a3 a4 a5 a6 a7 a8 a9 a10 a11 a12 → W n b1 b2 b3 b4 b5 b6 b7 b8 b9 b10 b11 b12) → W (n + 1) a1 a2 a3 a4 a5 a6 a7 a8 a9 a10 a11 a12) (a1 : A1) (a2 : A2) (a3 : A3) (a4 : A4) (a5 : A5) (a6 : A6) (a7 : A7) (a8 : A8) (a9 : A9) (a10 : A10) (a11 : A11) (a12 : A12) (h : I a1 a2 a3 a4 a5 a6 a7 a8 a9 a10 a11 a12) : ∃ n, W n a1 a2 a3 a4 a5 a6 a7 a8 a9 a10 a11 a12 :=
  loop_m (σ := A1 × A2 × A3 × A4 × A5 × A6 × A7 × A8 × A9 × A10 × A11 × A12) (fun n s => W n s.1 s.2.1 s.2.2.1 s.2.2.2.1 s.2.2.2.2.1 s.2.2.2.2.2.1 s.2.2.2.2.2.2.1 s.2.2.2.2.2.2.2.1 s.2.2.2.2.2.2.2.2.1 s.2.2.2.2.2.2.2.2.2.1 s.2.2.2.2.2.2.2.2.2.2.1 s.2.2.2.2.2.2.2.2.2.2.2) (fun s => I s.1 s.2.1 s.2.2.1 s.2.2.2.1 s.2.2.2.2.1 s.2.2.2.2.2.1 s.2.2.2.2.2.2.1 s.2.2.2.2.2.2.2.1 s.2.2.2.2.2.2.2.2.1 s.2.2.2.2.2.2.2.2.2.1 s.2.2.2.2.2.2.2.2.2.2.1 s.2.2.2.2.2.2.2.2.2.2.2) (fun s => μ s.1 s.2.1 s.2.2.1 s.2.2.2.1 s.2.2.2.2.1 s.2.2.2.2.2.1 s.2.2.2.2.2.2.1 s.2.2.2.2.2.2.2.1 s.2.2.2.2.2.2.2.2.1 s.2.2.2.2.2.2.2.2.2.1 s.2.2.2.2.2.2.2.2.2.2.1 s.2.2.2.2.2.2.2.2.2.2.2) (fun n s hI hk => hs n s.1 s.2.1 s.2.2.1 s.2.2.2.1 s.2.2.2.2.1 s.2.2.2.2.2.1 s.2.2.2.2.2.2.1 s.2.2.2.2.2.2.2.1 s.2.2.2.2.2.2.2.2.1 s.2.2.2.2.2.2.2.2.2.1 s.2.2.2.2.2.2.2.2.2.2.1 s.2.2.2.2.2.2.2.2.2.2.2 hI (fun b1 b2 b3 b4 b5 b6 b7 b8 b9 b10 b11 b12 h9 hm => hk (b1, b2, b3, b4, b5, b6, b7, b8, b9, b10, b11, b12) h9 hm)) (a1, a2, a3, a4, a5, a6, a7, a8, a9, a10, a11, a12) h
theorem lp13 {A1 A2 A3 A4 A5 A6 A7 A8 A9 A10 A11 A12 A13 : Type} (W : Nat → A1 → A2 → A3 → A4 → A5 → A6 → A7 → A8 → A9 → A10 → A11 → A12 → A13 → Prop) (I : A1 → A2 → A3 → A4 → A5 → A6 → A7 → A8 → A9 → A10 → A11 → A12 → A13 → Prop) (μ : A1 → A2 → A3 → A4 → A5 → A6 → A7 → A8 → A9 → A10 → A11 → A12 → A13 → Nat) (hs : ∀ (n : Nat) (a1 : A1) (a2 : A2) (a3 : A3) (a4 : A4) (a5 : A5) (a6 : A6) (a7 : A7) (a8 : A8) (a9 : A9) (a10 : A10) (a11 : A11) (a12 : A12) (a13 : A13), I a1 a2 a3 a4 a5 a6 a7 a8 a9 a10 a11 a12 a13 → (∀ (b1 : A1) (b2 : A2) (b3 : A3) (b4 : A4) (b5 : A5) (b6 : A6) (b7 : A7) (b8 : A8) (b9 : A9) (b10 : A10) (b11 : A11) (b12 : A12) (b13 : A13), I b1 b2 b3 b4 b5 b6 b7 b8 b9 b10 b11 b12 b13 → μ b1 b2 b3 b4 b5 b6 b7 b8 b9 b10 b11 b12 b13 < μ a1 a2 a3 a4 a5 a6 a7 a8 a9 a10 a11 a12 a13 → W n b1 b2 b3 b4 b5 b6 b7 b8 b9 b10 b11 b12 b13) → W (n + 1) a1 a2 a3 a4 a5 a6 a7 a8 a9 a10 a11 a12 a13) (a1 : A1) (a2 : A2) (a3 : A3) (a4 : A4) (a5 : A5) (a6 : A6) (a7 : A7) (a8 : A8) (a9 : A9) (a10 : A10) (a11 : A11) (a12 : A12) (a13 : A13) (h : I a1 a2 a3 a4 a5 a6 a7 a8 a9 a10 a11 a12 a13) : ∃ n, W n a1 a2 a3 a4 a5 a6 a7 a8 a9 a10 a11 a12 a13 :=
  loop_m (σ := A1 × A2 × A3 × A4 × A5 × A6 × A7 × A8 × A9 × A10 × A11 × A12 × A13) (fun n s => W n s.1 s.2.1 s.2.2.1 s.2.2.2.1 s.2.2.2.2.1 s.2.2.2.2.2.1 s.2.2.2.2.2.2.1 s.2.2.2.2.2.2.2.1 s.2.2.2.2.2.2.2.2.1 s.2.2.2.2.2.2.2.2.2.1 s.2.2.2.2.2.2.2.2.2.2.1 s.2.2.2.2.2.2.2.2.2.2.2.1 s.2.2.2.2.2.2.2.2.2.2.2.2) (fun s => I s.1 s.2.1 s.2.2.1 s.2.2.2.1 s.2.2.2.2.1 s.2.2.2.2.2.1 s.2.2.2.2.2.2.1 s.2.2.2.2.2.2.2.1 s.2.2.2.2.2.2.2.2.1 s.2.2.2.2.2.2.2.2.2.1 s.2.2.2.2.2.2.2.2.2.2.1 s.2.2.2.2.2.2.2.2.2.2.2.1 s.2.2.2.2.2.2.2.2.2.2.2.2) (fun s => μ s.1 s.2.1 s.2.2.1 s.2.2.2.1 s.2.2.2.2.1 s.2.2.2.2.2.1 s.2.2.2.2.2.2.1 s.2.2.2.2.2.2.2.1 s.2.2.2.2.2.2.2.2.1 s.2.2.2.2.2.2.2.2.2.1 s.2.2.2.2.2.2.2.2.2.2.1 s.2.2.2.2.2.2.2.2.2.2.2.1 s.2.2.2.2.2.2.2.2.2.2.2.2) (fun n s hI hk => hs n s.1 s.2.1 s.2.2.1 s.2.2.2.1 s.2.2.2.2.1 s.2.2.2.2.2.1 s.2.2.2.2.2.2.1 s.2.2.2.2.2.2.2.1 s.2.2.2.2.2.2.2.2.1 s.2.2.2.2.2.2.2.2.2.1 s.2.2.2.2.2.2.2.2.2.2.1 s.2.2.2.2.2.2.2.2.2.2.2.1 s.2.2.2.2.2.2.2.2.2.2.2.2 hI (fun b1 b2 b3 b4 b5 b6 b7 b8 b9 b10 b11 b12 b13 h9 hm => hk (b1, b2, b3, b4, b5, b6, b7, b8, b9, b10, b11, b12, b13) h9 hm)) (a1, a2, a3, a4, a5, a6, a7, a8, a9, a10, a11, a12, a13) h
theorem lp14 {A1 A2 A3 A4 A5 A6 A7 A8 A9 A10 A11 A12 A13 A14 : Type} (W : Nat → A1 → A2 → A3 → A4 → A5 → A6 → A7 → A8 → A9 → A10 → A11 → A12 → A13 → A14 → Prop) (I : A1 → A2 → A3 → A4 → A5 → A6 → A7 → A8 → A9 → A10 → A11 → A12 → A13 → A14 → Prop) (μ : A1 → A2 → A3 → A4 → A5 → A6 → A7 → A8 → A9 → A10 → A11 → A12 → A13 → A14 → Nat) (hs : ∀ (n : Nat) (a1 : A1) (a2 : A2) (a3 : A3) (a4 : A4) (a5 : A5) (a6 : A6) (a7 : A7) (a8 : A8) (a9 : A9) (a10 : A10) (a11 : A11) (a12 : A12) (a13 : A13) (a14 : A14), I a1 a2 a3 a4 a5 a6 a7 a8 a9 a10 a11 a12 a13 a14 → (∀ (b1 : A1) (b2 : A2) (b3 : A3) (b4 : A4) (b5 : A5) (b6 : A6) (b7 : A7) (b8 : A8) (b9 : A9) (b10 : A10) (b11 : A11) (b12 : A12) (b13 : A13) (b14 : A14), I b1 b2 b3 b4 b5 b6 b7 b8 b9 b10 b11 b12 b13 b14 → μ b1 b2 b3 b4 b5 b6 b7 b8 b9 b10 b11 b12 b13 b14 < μ a1 a2 a3 a4 a5 a6 a7 a8 a9 a10 a11 a12 a13 a14 → W n b1 b2 b3 b4 b5 b6 b7 b8 b9 b10 b11 b12 b13 b14) → W (n + 1) a1 a2 a3 a4 a5 a6 a7 a8 a9 a10 a11 a12 a13 a14) (a1 : A1) (a2 : A2) (a3 : A3) (a4 : A4) (a5 : A5) (a6 : A6) (a7 : A7) (a8 : A8) (a9 : A9) (a10 : A10) (a11 : A11) (a12 : A12) (a13 : A13) (a14 : A14) (h : I a1 a2 a3 a4 a5 a6 a7 a8 a9 a10 a11 a12 a13 a14) : ∃ n, W n a1 a2 a3 a4 a5 a6 a7 a8 a9 a10 a11 a12 a13 a14 :=
  loop_m (σ := A1 × A2 × A3 × A4 × A5 × A6 × A7 × A8 × A9 × A10 × A11 × A12 × A13 × A14) (fun n s => W n s.1 s.2.1 s.2.2.1 s.2.2.2.1 s.2.2.2.2.1 s.2.2.2.2.2.1 s.2.2.2.2.2.2.1 s.2.2.2.2.2.2.2.1 s.2.2.2.2.2.2.2.2.1 s.2.2.2.2.2.2.2.2.2.1 s.2.2.2.2.2.2.2.2.2.2.1 s.2.2.2.2.2.2.2.2.2.2.2.1 s.2.2.2.2.2.2.2.2.2.2.2.2.1 s.2.2.2.2.2.2.2.2.2.2.2.2.2) (fun s => I s.1 s.2.1 s.2.2.1 s.2.2.2.1 s.2.2.2.2.1 s.2.2.2.2.2.1 s.2.2.2.2.2.2.1 s.2.2.2.2.2.2.2.1 s.2.2.2.2.2.2.2.2.1 s.2.2.2.2.2.2.2.2.2.1 s.2.2.2.2.2.2.2.2.2.2.1 s.2.2.2.2.2.2.2.2.2.2.2.1 s.2.2.2.2.2.2.2.2.2.2.2.2.1 s.2.2.2.2.2.2.2.2.2.2.2.2.2) (fun s => μ s.1 s.2.1 s.2.2.1 s.2.2.2.1 s.2.2.2.2.1 s.2.2.2.2.2.1 s.2.2.2.2.2.2.1 s.2.2.2.2.2.2.2.1 s.2.2.2.2.2.2.2.2.1 s.2.2.2.2.2.2.2.2.2.1 s.2.2.2.2.2.2.2.2.2.2.1 s.2.2.2.2.2.2.2.2.2.2.2.1 s.2.2.2.2.2.2.2.2.2.2.2.2.1 s.2.2.2.2.2.2.2.2.2.2.2.2.2) (fun n s hI hk => hs n s.1 s.2.1 s.2.2.1 s.2.2.2.1 s.2.2.2.2.1 s.2.2.2.2.2.1 s.2.2.2.2.2.2.1 s.2.2.2.2.2.2.2.1 s.2.2.2.2.2.2.2.2.1 s.2.2.2.2.2.2.2.2.2.1 s.2.2.2.2.2.2.2.2.2.2.1 s.2.2.2.2.2.2.2.2.2.2.2.1 s.2.2.2.2.2.2.2.2.2.2.2.2.1 s.2.2.2.2.2.2.2.2.2.2.2.2.2 hI (fun b1 b2 b3 b4 b5 b6 b7 b8 b9 b10 b11 b12 b13 b14 h9 hm => hk (b1, b2, b3, b4, b5, b6, b7, b8, b9, b10, b11, b12, b13, b14) h9 hm)) (a1, a2, a3, a4, a5, a6, a7, a8, a9, a10, a11, a12, a13, a14) h
theorem lp15 {A1 A2 A3 A4 A5 A6 A7 A8 A9 A10 A11 A12 A13 A14 A15 : Type} (W : Nat → A1 → A2 → A3 → A4 → A5 → A6 → A7 → A8 → A9 → A10 → A11 → A12 → A13 → A14 → A15 → Prop) (I : A1 → A2 → A3 → A4 → A5 → A6 → A7 → A8 → A9 → A10 → A11 → A12 → A13 → A14 → A15 → Prop) (μ : A1 → A2 → A3 → A4 → A5 → A6 → A7 → A8 → A9 → A10 → A11 → A12 → A13 → A14 → A15 → Nat) (hs : ∀ (n : Nat) (a1 : A1) (a2 : A2) (a3 : A3) (a4 : A4) (a5 : A5) (a6 : A6) (a7 : A7) (a8 : A8) (a9 : A9) (a10 : A10) (a11 : A11) (a12 : A12) (a13 : A13) (a14 : A14) (a15 : A15), I a1 a2 a3 a4 a5 a6 a7 a8 a9 a10 a11 a12 a13 a14 a15 → (∀ (b1 : A1) (b2 : A2) (b3 : A3) (b4 : A4) (b5 : A5) (b6 : A6) (b7 : A7) (b8 : A8) (b9 : A9) (b10 : A10) (b11 : A11) (b12 : A12) (b13 : A13) (b14 : A14) (b15 : A15), I b1 b2 b3 b4 b5 b6 b7 b8 b9 b10 b11 b12 b13 b14 b15 → μ b1 b2 b3 b4 b5 b6 b7 b8 b9 b10 b11 b12 b13 b14 b15 < μ a1 a2 a3 a4 a5 a6 a7 a8 a9 a10 a11 a12 a13 a14 a15 → W n b1 b2 b3 b4 b5 b6 b7 b8 b9 b10 b11 b12 b13 b14 b15) → W (n + 1) a1 a2 a3 a4 a5 a6 a7 a8 a9 a10 a11 a12 a13 a14 a15) (a1 : A1) (a2 : A2) (a3 : A3) (a4 : A4) (a5 : A5) (a6 : A6) (a7 : A7) (a8 : A8) (a9 : A9) (a10 : A10) (a11 : A11) (a12 : A12) (a13 : A13) (a14 : A14) (a15 : A15) (h : I a1 a2 a3 a4 a5 a6 a7 a8 a9 a10 a11 a12 a13 a14 a15) : ∃ n, W n a1 a2 a3 a4 a5 a6 a7 a8 a9 a10 a11 a12 a13 a14 a15 :=
  loop_m (σ := A1 × A2 × A3 × A4 × A5 × A6 × A7 × A8 × A9 × A10 × A11 × A12 × A13 × A14 × A15) (fun n s => W n s.1 s.2.1 s.2.2.1 s.2.2.2.1 s.2.2.2.2.1 s.2.2.2.2.2.1 s.2.2.2.2.2.2.1 s.2.2.2.2.2.2.2.1 s.2.2.2.2.2.2.2.2.1 s.2.2.2.2.2.2.2.2.2.1 s.2.2.2.2.2.2.2.2.2.2.1 s.2.2.2.2.2.2.2.2.2.2.2.1 s.2.2.2.2.2.2.2.2.2.2.2.2.1 s.2.2.2.2.2.2.2.2.2.2.2.2.2.1 s.2.2.2.2.2.2.2.2.2.2.2.2.2.2) (fun s => I s.1 s.2.1 s.2.2.1 s.2.2.2.1 s.2.2.2.2.1 s.2.2.2.2.2.1 s.2.2.2.2.2.2.1 s.2.2.2.2.2.2.2.1 s.2.2.2.2.2.2.2.2.1 s.2.2.2.2.2.2.2.2.2.1 s.2.2.2.2.2.2.2.2.2.2.1 s.2.2.2.2.2.2.2.2.2.2.2.1 s.2.2.2.2.2.2.2.2.2.2.2.2.1 s.2.2.2.2.2.2.2.2.2.2.2.2.2.1 s.2.2.2.2.2.2.2.2.2.2.2.2.2.2) (fun s => μ s.1 s.2.1 s.2.2.1 s.2.2.2.1 s.2.2.2.2.1 s.2.2.2.2.2.1 s.2.2.2.2.2.2.1 s.2.2.2.2.2.2.2.1 s.2.2.2.2.2.2.2.2.1 s.2.2.2.2.2.2.2.2.2.1 s.2.2.2.2.2.2.2.2.2.2.1 s.2.2.2.2.2.2.2.2.2.2.2.1 s.2.2.2.2.2.2.2.2.2.2.2.2.1 s.2.2.2.2.2.2.2.2.2.2.2.2.2.1 s.2.2.2.2.2.2.2.2.2.2.2.2.2.2) (fun n s hI hk => hs n s.1 s.2.1 s.2.2.1 s.2.2.2.1 s.2.2.2.2.1 s.2.2.2.2.2.1 s.2.2.2.2.2.2.1 s.2.2.2.2.2.2.2.1 s.2.2.2.2.2.2.2.2.1 s.2.2.2.2.2.2.2.2.2.1 s.2.2.2.2.2.2.2.2.2.2.1 s.2.2.2.2.2.2.2.2.2.2.2.1 s.2.2.2.2.2.2.2.2.2.2.2.2.1 s.2.2.2.2.2.2.2.2.2.2.2.2.2.1 s.2.2.2.2.2.2.2.2.2.2.2.2.2.2 hI (fun b1 b2 b3 b4 b5 b6 b7 b8 b9 b10 b11 b12 b13 b14 b15 h9 hm => hk (b1, b2, b3, b4, b5, b6, b7, b8, b9, b10, b11, b12, b13, b14, b15) h9 hm)) (a1, a2, a3, a4, a5, a6, a7, a8, a9, a10, a11, a12, a13, a14, a15) h
theorem lp16 {A1 A2 A3 A4 A5 A6 A7 A8 A9 A10 A11 A12 A13 A14 A15 A16 : Type} (W : Nat → A1 → A2 → A3 → A4 → A5 → A6 → A7 → A8 → A9 → A10 → A11 → A12 → A13 → A14 → A15 → A16 → Prop) (I : A1 → A2 → A3 → A4 → A5 → A6 → A7 → A8 → A9 → A10 → A11 → A12 → A13 → A14 → A15 → A16 → Prop) (μ : A1 → A2 → A3 → A4 → A5 → A6 → A7 → A8 → A9 → A10 → A11 → A12 → A13 → A14 → A15 → A16 → Nat) (hs : ∀ (n : Nat) (a1 : A1) (a2 : A2) (a3 : A3) (a4 : A4) (a5 : A5) (a6 : A6) (a7 : A7) (a8 : A8) (a9 : A9) (a10 : A10) (a11 : A11) (a12 : A12) (a13 : A13) (a14 : A14) (a15 : A15) (a16 : A16), I a1 a2 a3 a4 a5 a6 a7 a8 a9 a10 a11 a12 a13 a14 a15 a16 → (∀ (b1 : A1) (b2 : A2) (b3 : A3) (b4 : A4) (b5 : A5) (b6 : A6) (b7 : A7) (b8 : A8) (b9 : A9) (b10 : A10) (b11 : A11) (b12 : A12) (b13 : A13) (b14 : A14) (b15 : A15) (b16 : A16), I b1 b2 b3 b4 b5 b6 b7 b8 b9 b10 b11 b12 b13 b14 b15 b16 → μ b1 b2 b3 b4 b5 b6 b7 b8 b9 b10 b11 b12 b13 b14 b15 b16 < μ a1 a2 a3 a4 a5 a6 a7 a8 a9 a10 a11 a12 a13 a14 a15 a16 → W n b1 b2 b3 b4 b5 b6 b7 b8 b9 b10 b11 b12 b13 b14 b15 b16) → W (n + 1) a1 a2 a3 a4 a5 a6 a7 a8 a9 a10 a11 a12 a13 a14 a15 a16) (a1 : A1) (a2 : A2) (a3 : A3) (a4 : A4) (a5 : A5) (a6 : A6) (a7 : A7) (a8 : A8) (a9 : A9) (a10 : A10) (a11 : A11) (a12 : A12) (a13 : A13) (a14 : A14) (a15 : A15) (a16 : A16) (h : I a1 a2 a3 a4 a5 a6 a7 a8 a9 a10 a11 a12 a13 a14 a15 a16) : ∃ n, W n a1 a2 a3 a4 a5 a6 a7 a8 a9 a10 a11 a12 a13 a14 a15 a16 :=
  loop_m (σ := A1 × A2 × A3 × A4 × A5 × A6 × A7 × A8 × A9 × A10 × A11 × A12 × A13 × A14 × A15 × A16) (fun n s => W n s.1 s.2.1 s.2.2.1 s.2.2.2.1 s.2.2.2.2.1 s.2.2.2.2.2.1 s.2.2.2.2.2.2.1 s.2.2.2.2.2.2.2.1 s.2.2.2.2.2.2.2.2.1 s.2.2.2.2.2.2.2.2.2.1 s.2.2.2.2.2.2.2.2.2.2.1 s.2.2.2.2.2.2.2.2.2.2.2.1 s.2.2.2.2.2.2.2.2.2.2.2.2.1 s.2.2.2.2.2.2.2.2.2.2.2.2.2.1 s.2.2.2.2.2.2.2.2.2.2.2.2.2.2.1 s.2.2.2.2.2.2.2.2.2.2.2.2.2.2.2) (fun s => I s.1 s.2.1 s.2.2.1 s.2.2.2.1 s.2.2.2.2.1 s.2.2.2.2.2.1 s.2.2.2.2.2.2.1 s.2.2.2.2.2.2.2.1 s.2.2.2.2.2.2.2.2.1 s.2.2.2.2.2.2.2.2.2.1 s.2.2.2.2.2.2.2.2.2.2.1 s.2.2.2.2.2.2.2.2.2.2.2.1 s.2.2.2.2.2.2.2.2.2.2.2.2.1 s.2.2.2.2.2.2.2.2.2.2.2.2.2.1 s.2.2.2.2.2.2.2.2.2.2.2.2.2.2.1 s.2.2.2.2.2.2.2.2.2.2.2.2.2.2.2) (fun s => μ s.1 s.2.1 s.2.2.1 s.2.2.2.1 s.2.2.2.2.1 s.2.2.2.2.2.1 s.2.2.2.2.2.2.1 s.2.2.2.2.2.2.2.1 s.2.2.2.2.2.2.2.2.1 s.2.2.2.2.2.2.2.2.2.1 s.2.2.2.2.2.2.2.2.2.2.1 s.2.2.2.2.2.2.2.2.2.2.2.1 s.2.2.2.2.2.2.2.2.2.2.2.2.1 s.2.2.2.2.2.2.2.2.2.2.2.2.2.1 s.2.2.2.2.2.2.2.2.2.2.2.2.2.2.1 s.2.2.2.2.2.2.2.2.2.2.2.2.2.2.2) (fun n s hI hk => hs n s.1 s.2.1 s.2.2.1 s.2.2.2.1 s.2.2.2.2.1 s.2.2.2.2.2.1 s.2.2.2.2.2.2.1 s.2.2.2.2.2.2.2.1 s.2.2.2.2.2.2.2.2.1 s.2.2.2.2.2.2.2.2.2.1 s.2.2.2.2.2.2.2.2.2.2.1 s.2.2.2.2.2.2.2.2.2.2.2.1 s.2.2.2.2.2.2.2.2.2.2.2.2.1 s.2.2.2.2.2.2.2.2.2.2.2.2.2.1 s.2.2.2.2.2.2.2.2.2.2.2.2.2.2.1 s.2.2.2.2.2.2.2.2.2.2.2.2.2.2.2 hI (fun b1 b2 b3 b4 b5 b6 b7 b8 b9 b10 b11 b12 b13 b14 b15 b16 h9 hm => hk (b1, b2, b3, b4, b5, b6, b7, b8, b9, b10, b11, b12, b13, b14, b15, b16) h9 hm)) (a1, a2, a3, a4, a5, a6, a7, a8, a9, a10, a11, a12, a13, a14, a15, a16) h
theorem pk_least (P : Nat → Prop) (h : ∃ k, P k) : ∃ k, P k ∧ ∀ j, j < k → ¬ P j := by
  obtain ⟨k, hk⟩ := h
  induction k using Nat.strongRecOn with
  | ind k ih =>
    by_cases e : ∃ j, j < k ∧ P j
    · obtain ⟨j, hj, pj⟩ := e
      exact ih j hj pj
    · exact ⟨k, hk, fun j hj pj => e ⟨j, hj, pj⟩⟩
theorem rp1 {ρ A1 : Type} (W : Nat → (ρ → Prop) → A1 → Prop) (ok : A1 → Prop) (μ : A1 → Nat) (val : A1 → ρ)
    (hs : ∀ (d : Nat) (post : ρ → Prop) (a1 : A1), ok a1 → post (val a1) → (∀ (post' : ρ → Prop) (b1 : A1), ok b1 → μ b1 < μ a1 → post' (val b1) → W d post' b1) → W (d + 1) post a1) :
    ∀ (d : Nat) (post : ρ → Prop) (a1 : A1), ok a1 → μ a1 < d → post (val a1) → W d post a1 := by
  intro d
  induction d with
  | zero => intro post a1 _ h; omega
  | succ d ih =>
    intro post a1 ho hm hp
    exact hs d post a1 ho hp (fun post' b1 ho' hm' hp' => ih post' b1 ho' (by omega) hp')
theorem rp2 {ρ A1 A2 : Type} (W : Nat → (ρ → Prop) → A1 → A2 → Prop) (ok : A1 → A2 → Prop) (μ : A1 → A2 → Nat) (val : A1 → A2 → ρ)
    (hs : ∀ (d : Nat) (post : ρ → Prop) (a1 : A1) (a2 : A2), ok a1 a2 → post (val a1 a2) → (∀ (post' : ρ → Prop) (b1 : A1) (b2 : A2), ok b1 b2 → μ b1 b2 < μ a1 a2 → post' (val b1 b2) → W d post' b1 b2) → W (d + 1) post a1 a2) :
    ∀ (d : Nat) (post : ρ → Prop) (a1 : A1) (a2 : A2), ok a1 a2 → μ a1 a2 < d → post (val a1 a2) → W d post a1 a2 := by
  intro d
  induction d with
  | zero => intro post a1 a2 _ h; omega
  | succ d ih =>
    intro post a1 a2 ho hm hp
    exact hs d post a1 a2 ho hp (fun post' b1 b2 ho' hm' hp' => ih post' b1 b2 ho' (by omega) hp')
theorem rp3 {ρ A1 A2 A3 : Type} (W : Nat → (ρ → Prop) → A1 → A2 → A3 → Prop) (ok : A1 → A2 → A3 → Prop) (μ : A1 → A2 → A3 → Nat) (val : A1 → A2 → A3 → ρ)
    (hs : ∀ (d : Nat) (post : ρ → Prop) (a1 : A1) (a2 : A2) (a3 : A3), ok a1 a2 a3 → post (val a1 a2 a3) → (∀ (post' : ρ → Prop) (b1 : A1) (b2 : A2) (b3 : A3), ok b1 b2 b3 → μ b1 b2 b3 < μ a1 a2 a3 → post' (val b1 b2 b3) → W d post' b1 b2 b3) → W (d + 1) post a1 a2 a3) :
    ∀ (d : Nat) (post : ρ → Prop) (a1 : A1) (a2 : A2) (a3 : A3), ok a1 a2 a3 → μ a1 a2 a3 < d → post (val a1 a2 a3) → W d post a1 a2 a3 := by
  intro d
  induction d with
  | zero => intro post a1 a2 a3 _ h; omega
  | succ d ih =>
    intro post a1 a2 a3 ho hm hp
    exact hs d post a1 a2 a3 ho hp (fun post' b1 b2 b3 ho' hm' hp' => ih post' b1 b2 b3 ho' (by omega) hp')
theorem rp4 {ρ A1 A2 A3 A4 : Type} (W : Nat → (ρ → Prop) → A1 → A2 → A3 → A4 → Prop) (ok : A1 → A2 → A3 → A4 → Prop) (μ : A1 → A2 → A3 → A4 → Nat) (val : A1 → A2 → A3 → A4 → ρ)
    (hs : ∀ (d : Nat) (post : ρ → Prop) (a1 : A1) (a2 : A2) (a3 : A3) (a4 : A4), ok a1 a2 a3 a4 → post (val a1 a2 a3 a4) → (∀ (post' : ρ → Prop) (b1 : A1) (b2 : A2) (b3 : A3) (b4 : A4), ok b1 b2 b3 b4 → μ b1 b2 b3 b4 < μ a1 a2 a3 a4 → post' (val b1 b2 b3 b4) → W d post' b1 b2 b3 b4) → W (d + 1) post a1 a2 a3 a4) :
    ∀ (d : Nat) (post : ρ → Prop) (a1 : A1) (a2 : A2) (a3 : A3) (a4 : A4), ok a1 a2 a3 a4 → μ a1 a2 a3 a4 < d → post (val a1 a2 a3 a4) → W d post a1 a2 a3 a4 := by
  intro d
  induction d with
  | zero => intro post a1 a2 a3 a4 _ h; omega
  | succ d ih =>
    intro post a1 a2 a3 a4 ho hm hp
    exact hs d post a1 a2 a3 a4 ho hp (fun post' b1 b2 b3 b4 ho' hm' hp' => ih post' b1 b2 b3 b4 ho' (by omega) hp')
theorem rp5 {ρ A1 A2 A3 A4 A5 : Type} (W : Nat → (ρ → Prop) → A1 → A2 → A3 → A4 → A5 → Prop) (ok : A1 → A2 → A3 → A4 → A5 → Prop) (μ : A1 → A2 → A3 → A4 → A5 → Nat) (val : A1 → A2 → A3 → A4 → A5 → ρ)
    (hs : ∀ (d : Nat) (post : ρ → Prop) (a1 : A1) (a2 : A2) (a3 : A3) (a4 : A4) (a5 : A5), ok a1 a2 a3 a4 a5 → post (val a1 a2 a3 a4 a5) → (∀ (post' : ρ → Prop) (b1 : A1) (b2 : A2) (b3 : A3) (b4 : A4) (b5 : A5), ok b1 b2 b3 b4 b5 → μ b1 b2 b3 b4 b5 < μ a1 a2 a3 a4 a5 → post' (val b1 b2 b3 b4 b5) → W d post' b1 b2 b3 b4 b5) → W (d + 1) post a1 a2 a3 a4 a5) :
    ∀ (d : Nat) (post : ρ → Prop) (a1 : A1) (a2 : A2) (a3 : A3) (a4 : A4) (a5 : A5), ok a1 a2 a3 a4 a5 → μ a1 a2 a3 a4 a5 < d → post (val a1 a2 a3 a4 a5) → W d post a1 a2 a3 a4 a5 := by
  intro d
  induction d with
  | zero => intro post a1 a2 a3 a4 a5 _ h; omega
  | succ d ih =>
    intro post a1 a2 a3 a4 a5 ho hm hp
    exact hs d post a1 a2 a3 a4 a5 ho hp (fun post' b1 b2 b3 b4 b5 ho' hm' hp' => ih post' b1 b2 b3 b4 b5 ho' (by omega) hp')
theorem rp6 {ρ A1 A2 A3 A4 A5 A6 : Type} (W : Nat → (ρ → Prop) → A1 → A2 → A3 → A4 → A5 → A6 → Prop) (ok : A1 → A2 → A3 → A4 → A5 → A6 → Prop) (μ : A1 → A2 → A3 → A4 → A5 → A6 → Nat) (val : A1 → A2 → A3 → A4 → A5 → A6 → ρ)
    (hs : ∀ (d : Nat) (post : ρ → Prop) (a1 : A1) (a2 : A2) (a3 : A3) (a4 : A4) (a5 : A5) (a6 : A6), ok a1 a2 a3 a4 a5 a6 → post (val a1 a2 a3 a4 a5 a6) → (∀ (post' : ρ → Prop) (b1 : A1) (b2 : A2) (b3 : A3) (b4 : A4) (b5 : A5) (b6 : A6), ok b1 b2 b3 b4 b5 b6 → μ b1 b2 b3 b4 b5 b6 < μ a1 a2 a3 a4 a5 a6 → post' (val b1 b2 b3 b4 b5 b6) → W d post' b1 b2 b3 b4 b5 b6) → W (d + 1) post a1 a2 a3 a4 a5 a6) :
    ∀ (d : Nat) (post : ρ → Prop) (a1 : A1) (a2 : A2) (a3 : A3) (a4 : A4) (a5 : A5) (a6 : A6), ok a1 a2 a3 a4 a5 a6 → μ a1 a2 a3 a4 a5 a6 < d → post (val a1 a2 a3 a4 a5 a6) → W d post a1 a2 a3 a4 a5 a6 := by
  intro d
  induction d with
  | zero => intro post a1 a2 a3 a4 a5 a6 _ h; omega
  | succ d ih =>
    intro post a1 a2 a3 a4 a5 a6 ho hm hp
    exact hs d post a1 a2 a3 a4 a5 a6 ho hp (fun post' b1 b2 b3 b4 b5 b6 ho' hm' hp' => ih post' b1 b2 b3 b4 b5 b6 ho' (by omega) hp')
theorem rec_p {σ ρ : Type} (W : Nat → (ρ → Prop) → σ → Prop) (ok : σ → Prop) (μ : σ → Nat) (val : σ → ρ)
    (hs : ∀ d s post, ok s → post (val s) → (∀ s' post', ok s' → μ s' < μ s → post' (val s') → W d post' s') → W (d + 1) post s) :
    ∀ d s post, ok s → μ s < d → post (val s) → W d post s := by
  intro d
  induction d with
  | zero => intro s post _ h; omega
  | succ d ih =>
    intro s post ho hm hp
    exact hs d s post ho hp (fun s' post' ho' hm' hp' => ih s' post' ho' (by omega) hp')
theorem rec_q {σ ρ : Type} (W : Nat → (ρ → Prop) → σ → Prop) (ok : σ → Prop) (μ : σ → Nat) (Q : σ → ρ → Prop)
    (hs : ∀ d s post, ok s → (∀ r, Q s r → post r) → (∀ s' post', ok s' → μ s' < μ s → (∀ r, Q s' r → post' r) → W d post' s') → W (d + 1) post s) :
    ∀ d s post, ok s → μ s < d → (∀ r, Q s r → post r) → W d post s := by
  intro d
  induction d with
  | zero => intro s post _ h; omega
  | succ d ih =>
    intro s post ho hm hp
    exact hs d s post ho hp (fun s' post' ho' hm' hp' => ih s' post' ho' (by omega) hp')
def bx_sum (f : Nat → Int32) : Nat → Int32
  | 0 => 0
  | n + 1 => bx_sum f n + f n
theorem ek_u {A : Prop} {B : Nat → Prop} {k N : Nat} (hk : k < N) (h : B k) : (some k = none → A) ∧ (∀ y : Nat, some k = some y → (y < N ∧ B y)) :=
  ⟨fun z => absurd z (Option.some_ne_none k), fun _ e => (by cases e; exact ⟨hk, h⟩)⟩
theorem ek_nu {A : Prop} {B : Nat → Prop} (h : A) : ((none : Option Nat) = none → A) ∧ (∀ y : Nat, (none : Option Nat) = some y → B y) :=
  ⟨fun _ => h, fun _ e => (by cases e)⟩
theorem ek_if {c d A B : Prop} (e : c ↔ d) (f : d → A) (g : ¬ d → B) : (c → A) ∧ (¬ c → B) :=
  ⟨fun z => f (e.mp z), fun z => g (fun y => z (e.mpr y))⟩
theorem ek_v {α : Sort _} {P : α → Prop} {a b : α} (e : a = b) (h : P b) : P a := e ▸ h
theorem co_some {x : Option Nat} {A : Prop} {B : Nat → Prop} (i : Nat) (h : B i) (hx : x = some i := by rfl) : (x = none → A) ∧ (∀ y : Nat, x = some y → B y) := by
  subst hx
  exact ⟨fun e => (nomatch e), fun y e => Option.some.inj e ▸ h⟩
theorem co_none {x : Option Nat} {A : Prop} {B : Nat → Prop} (h : A) (hx : x = none := by rfl) : (x = none → A) ∧ (∀ y : Nat, x = some y → B y) := by
  subst hx
  exact ⟨fun _ => h, fun y e => (nomatch e)⟩
theorem co_any {x : Option Nat} {A : Prop} {B : Nat → Prop} (hn : x = none → A) (hs : ∀ i : Nat, x = some i → B i) : (x = none → A) ∧ (∀ y : Nat, x = some y → B y) := ⟨hn, hs⟩
theorem co_2 {P : Nat → Prop} (h0 : P 0) (h1 : P 1) {i : Nat} (hi : i < 2) : P i :=
  match i, hi with
  | 0, _ => h0
  | 1, _ => h1
theorem co_3 {P : Nat → Prop} (h0 : P 0) (h1 : P 1) (h2 : P 2) {i : Nat} (hi : i < 3) : P i :=
  match i, hi with
  | 0, _ => h0
  | 1, _ => h1
  | 2, _ => h2
theorem co_4 {P : Nat → Prop} (h0 : P 0) (h1 : P 1) (h2 : P 2) (h3 : P 3) {i : Nat} (hi : i < 4) : P i :=
  match i, hi with
  | 0, _ => h0
  | 1, _ => h1
  | 2, _ => h2
  | 3, _ => h3
theorem co_dec {N : Nat} {P : Nat → Prop} [DecidablePred P] (h : (List.range N).all (fun i => decide (P i)) = true) {i : Nat} (hi : i < N) : P i := by
  have := List.all_eq_true.mp h i (List.mem_range.mpr hi)
  exact of_decide_eq_true this
theorem co_tab {α : Type} {l : List α} {d : α} {P : α → Prop} (h : ∀ a, a ∈ l → P a) {i : Nat} (hi : i < l.length) : P (l.getD i d) := by
  rw [List.getD_eq_getElem?_getD, List.getElem?_eq_getElem hi]
  exact h _ (List.getElem_mem hi)
theorem pk_mu {x : Int32} {L : Nat} (h0 : ¬ x < 0) (h : ¬ nI L ≤ x) (hL : L < 2 ^ 31) : ∃ j : Nat, j < L ∧ x = nI j ∧ x + 1 = nI (j + 1) ∧ x.toNatClampNeg = j ∧ L - (x + 1).toNatClampNeg < L - x.toNatClampNeg := by
  obtain ⟨j, hj, rfl⟩ := nI_of h0
  have hl : j < L := Nat.not_le.mp fun q => h (nI_le q hj)
  refine ⟨j, hl, rfl, nI_1 j, nI_clamp hj, ?_⟩
  rw [nI_1, nI_clamp (by omega), nI_clamp hj]
  omega
theorem op_s {α : Type} {r : Option α} {A : Prop} {B : α → Prop} {y : α} (h : r = some y) (b : B y) : (r = none → A) ∧ ∀ z, r = some z → B z :=
  ⟨fun e => (by rw [h] at e; cases e), fun z e => (by rw [h] at e; cases e; exact b)⟩
def l_holds {α : Type} (a : Nat → Option Nat) (LP : List Nat) (p : Nat → α) (c : Nat) (b : Nat → α) : Prop :=
  ∀ j, j < c → ∃ y, a j = some y ∧ y ∈ LP ∧ p y = b j
theorem l_holds_0 {α : Type} {a : Nat → Option Nat} {LP : List Nat} {p b : Nat → α} : l_holds a LP p 0 b := fun j h => absurd h (Nat.not_lt_zero j)
theorem l_in_new (LP : List Nat) (q : Nat) : q ∈ LP ++ [q] := List.mem_append.mpr (Or.inr (List.mem_singleton.mpr rfl))
def l_sum (b : Nat → Int32) : Nat → Int32
  | 0 => 0
  | k + 1 => l_sum b k + b k
theorem sb_shr0 (x : Int32) : x >>> ((0 : Int32) &&& 31) = x := by
  rw [show ((0 : Int32) &&& 31) = 0 by decide]
  simp
theorem sb_shl0 (x : Int32) : x <<< ((0 : Int32) &&& 31) = x := by
  rw [show ((0 : Int32) &&& 31) = 0 by decide]
  simp
theorem sb_cl0 : (0 : Int32).toNatClampNeg = 0 := by decide
theorem sb_m1 {p : Nat} (h : 0 < p) : nI p + (-1) = nI (p - 1) := by
  obtain ⟨q, rfl⟩ : ∃ q, p = q + 1 := ⟨p - 1, by omega⟩
  exact pk_m1 q
def sb_b (c : Nat) : Int32 := (nI c).toInt8.toInt32
theorem sb_byte : ∀ c, c < 256 → sb_b c &&& 255 = nI c ∧ ((nI c).toUInt32 % 65536).toInt32 = nI c ∧ nI c ≤ 255 := by decide +kernel
def sb_Fit (a : Nat → Int32) : Prop := ∀ j, fits .byte (.int (a j)) = true
def sb_Lat (t : Nat → Nat) (n : Nat) (a : Nat → Int32) : Prop := ∀ j, j < n → t j < 256 ∧ a j = sb_b (t j)
theorem sb_fitB (c : Nat) : fits .byte (.int (sb_b c)) = true := pk_fb _
theorem sb_fit0 : sb_Fit (fun _ => 0) := fun _ => by
  show fits .byte (.int 0) = true
  decide
theorem sb_fitU {a : Nat → Int32} {k : Nat} {x : Int32} (h : sb_Fit a) (hx : fits .byte (.int x) = true) : sb_Fit (upd a k x) := by
  intro j
  by_cases e : j = k
  · subst e
    rw [pk_us]
    exact hx
  · rw [pk_un e]
    exact h j
def sb_cat (t : Nat → Nat) (n : Nat) (s : Nat → Nat) : Nat → Nat := fun j => if j < n then t j else s (j - n)
theorem sb_cat_lo {t s : Nat → Nat} {n j : Nat} (h : j < n) : sb_cat t n s j = t j := if_pos h
theorem sb_cat_hi {t s : Nat → Nat} {n j : Nat} : sb_cat t n s (n + j) = s j := by
  show (if n + j < n then t (n + j) else s (n + j - n)) = s j
  rw [if_neg (by omega), Nat.add_sub_cancel_left]
theorem sb_latPut {t s : Nat → Nat} {n w : Nat} {a a' : Nat → Int32} (h : sb_Lat t n a) (hk : ∀ j, j < n → a' j = a j) (hs : ∀ i, i < w → s i < 256 ∧ a' (n + i) = sb_b (s i)) : sb_Lat (sb_cat t n s) (n + w) a' := by
  intro j hj
  by_cases e : j < n
  · rw [sb_cat_lo e, hk j e]
    exact h j e
  · obtain ⟨i, rfl⟩ : ∃ i, j = n + i := ⟨j - n, by omega⟩
    rw [sb_cat_hi]
    exact hs i (by omega)
theorem sb_latKeep {t : Nat → Nat} {n : Nat} {a a' : Nat → Int32} (h : sb_Lat t n a) (hk : ∀ j, j < n → a' j = a j) : sb_Lat t n a' := fun j hj => by
  rw [hk j hj]
  exact h j hj
def sb_cap (q m : Nat) : Nat := if q ≤ m then m else if 2 * m + 2 < q then q else 2 * m + 2
def sb_Room (q m mc ms : Nat) : Prop := q ≤ m ∨ (1 ≤ mc ∧ sb_cap q m ≤ ms ∧ sb_cap q m ≤ 65536)
theorem sb_cap_ge (q m : Nat) : q ≤ sb_cap q m := by
  unfold sb_cap
  split
  · omega
  · split <;> omega
theorem sb_cap_gem (q m : Nat) : m ≤ sb_cap q m := by
  unfold sb_cap
  split
  · omega
  · split <;> omega
theorem sb_cap_le {q m mc ms : Nat} (hm : m ≤ 65536) (hr : sb_Room q m mc ms) : sb_cap q m ≤ 65536 := by
  rcases hr with h | h
  · rw [sb_cap, if_pos h]
    exact hm
  · exact h.2.2
theorem sb_at {P : Int32 → Prop} {x y : Int32} (e : x = y) (h : P y) : P x := e ▸ h
def sb_dg (w : Nat) : Nat := if w < 10 then 1 else if w < 100 then 2 else if w < 1000 then 3 else if w < 10000 then 4 else if w < 100000 then 5 else if w < 1000000 then 6 else if w < 10000000 then 7 else if w < 100000000 then 8 else if w < 1000000000 then 9 else 10
def sb_dec (v : Nat) : Nat → Nat := fun i => 48 + v / 10 ^ (sb_dg v - 1 - i) % 10
theorem sb_dg_in (w : Nat) : 1 ≤ sb_dg w ∧ sb_dg w ≤ 10 := by
  unfold sb_dg
  constructor <;> (repeat' split) <;> omega
theorem sb_dg100 {w : Nat} (h : 100 ≤ w) (hw : w < 2 ^ 31) : sb_dg w = sb_dg (w / 100) + 2 := by
  rw [sb_dg, sb_dg, if_neg (show ¬ w < 10 by omega), if_neg (show ¬ w < 100 by omega)]
  by_cases h3 : w < 1000
  · rw [if_pos h3, if_pos (show w / 100 < 10 by omega)]
  rw [if_neg h3, if_neg (show ¬ w / 100 < 10 by omega)]
  by_cases h4 : w < 10000
  · rw [if_pos h4, if_pos (show w / 100 < 100 by omega)]
  rw [if_neg h4, if_neg (show ¬ w / 100 < 100 by omega)]
  by_cases h5 : w < 100000
  · rw [if_pos h5, if_pos (show w / 100 < 1000 by omega)]
  rw [if_neg h5, if_neg (show ¬ w / 100 < 1000 by omega)]
  by_cases h6 : w < 1000000
  · rw [if_pos h6, if_pos (show w / 100 < 10000 by omega)]
  rw [if_neg h6, if_neg (show ¬ w / 100 < 10000 by omega)]
  by_cases h7 : w < 10000000
  · rw [if_pos h7, if_pos (show w / 100 < 100000 by omega)]
  rw [if_neg h7, if_neg (show ¬ w / 100 < 100000 by omega)]
  by_cases h8 : w < 100000000
  · rw [if_pos h8, if_pos (show w / 100 < 1000000 by omega)]
  rw [if_neg h8, if_neg (show ¬ w / 100 < 1000000 by omega)]
  by_cases h9 : w < 1000000000
  · rw [if_pos h9, if_pos (show w / 100 < 10000000 by omega)]
  rw [if_neg h9, if_neg (show ¬ w / 100 < 10000000 by omega)]
  rw [if_pos (show w / 100 < 100000000 by omega)]
theorem sb_negT {w : Nat} (h : w < 2 ^ 31) : (-nI w).toInt = -(w : Int) := by
  rw [Int32.toInt_neg, nI_toInt h]
  exact Int.bmod_eq_of_le (by omega) (by omega)
theorem sb_nle {a b : Nat} (ha : a < 2 ^ 31) (hb : b < 2 ^ 31) : -nI a ≤ -nI b ↔ b ≤ a := by
  rw [Int32.le_iff_toInt_le, sb_negT ha, sb_negT hb]
  omega
theorem sb_nlt {a b : Nat} (ha : a < 2 ^ 31) (hb : b < 2 ^ 31) : -nI a < -nI b ↔ b < a := by
  rw [Int32.lt_iff_toInt_lt, sb_negT ha, sb_negT hb]
  omega
theorem sb_cmp {A B : Prop} {x : Int32} (v c : Nat) (f : c ≤ v → A) (g : v < c → B) (hv : v < 2 ^ 31) (hx : x = -nI c := by rfl) (hc : c < 2 ^ 31 := by omega) : (-nI v ≤ x → A) ∧ (¬ -nI v ≤ x → B) := by
  subst hx
  rw [sb_nle hv hc]
  exact ⟨f, fun z => g (by omega)⟩
theorem sb_ndiv {w : Nat} (hw : w < 2 ^ 31) : (-nI w) / 100 = -nI (w / 100) := by
  apply Int32.toInt_inj.mp
  have h100 : (100 : Int32).toInt = 100 := by decide
  rw [Int32.toInt_div, sb_negT hw, h100, sb_negT (by omega), Int.neg_tdiv, Int.tdiv_eq_ediv_of_nonneg (by omega), Int.bmod_eq_of_le (by omega) (by omega)]
  omega
theorem sb_nrem {w : Nat} (hw : w < 2 ^ 31) : (-nI (w / 100)) * 100 - (-nI w) = nI (w % 100) := by
  have h := pk_rem (a := w) (d := 100) hw (by decide) (by decide)
  rw [pk_div hw (by decide) (by decide)] at h
  rw [← h]
  show (-nI (w / 100)) * nI 100 - (-nI w) = nI w - nI (w / 100) * nI 100
  rw [Int32.neg_mul, Int32.sub_neg, Int32.add_comm, ← Int32.sub_eq_add_neg]
end
section
/-! rows on bits, shifts and unsigned numbers, to paste: each family out of a closed proof of our own, whole with what it rests on; each by itself clean at Lean in its own claim (generation 39, form 5). Take a family whole -/
/-! ===== Int32 by its bits: bt x i ===== -/
def bt (x : Int32) (i : Nat) : Bool := x.toBitVec.getLsbD i
theorem b_ext {x y : Int32} (h : ∀ i, i < 32 → bt x i = bt y i) : x = y := Int32.toBitVec_inj.mp (BitVec.eq_of_getLsbD_eq (fun i hi => h i hi))
theorem b_or (x y : Int32) (i : Nat) : bt (x ||| y) i = (bt x i || bt y i) := by unfold bt; rw [Int32.toBitVec_or, BitVec.getLsbD_or]
theorem b_and (x y : Int32) (i : Nat) : bt (x &&& y) i = (bt x i && bt y i) := by unfold bt; rw [Int32.toBitVec_and, BitVec.getLsbD_and]
theorem b_xor (x y : Int32) (i : Nat) : bt (x ^^^ y) i = (bt x i ^^ bt y i) := by unfold bt; rw [Int32.toBitVec_xor, BitVec.getLsbD_xor]
theorem b_big {x : Int32} {i : Nat} (h : 32 ≤ i) : bt x i = false := BitVec.getLsbD_of_ge _ _ h
theorem b_255 (i : Nat) : bt 255 i = decide (i < 8) := by
  rcases Nat.lt_or_ge i 32 with h | h
  · exact (by decide +kernel : ∀ i, i < 32 → bt 255 i = decide (i < 8)) i h
  · rw [b_big h, decide_eq_false (by omega)]
theorem b_65535 (i : Nat) : bt 65535 i = decide (i < 16) := by
  rcases Nat.lt_or_ge i 32 with h | h
  · exact (by decide +kernel : ∀ i, i < 32 → bt 65535 i = decide (i < 16)) i h
  · rw [b_big h, decide_eq_false (by omega)]
theorem b_m1 : ∀ i, i < 32 → bt (-1) i = true := by decide +kernel
theorem b_0 (i : Nat) : bt 0 i = false := BitVec.getLsbD_zero
theorem s_l : ∀ n, n < 32 → ((nI n &&& 31).toBitVec.smod 32).toNat = n := by decide +kernel
theorem s_u : ∀ n, n < 32 → (((nI n).toUInt32 &&& Int32.toUInt32 31).toBitVec % 32).toNat = n := by decide +kernel
theorem b_shl (n : Nat) (hn : n < 32) (x : Int32) {i : Nat} (hi : i < 32) : bt (x <<< (nI n &&& 31)) i = (decide (n ≤ i) && bt x (i - n)) := by
  unfold bt
  rw [Int32.toBitVec_shiftLeft]
  show (x.toBitVec <<< ((nI n &&& 31).toBitVec.smod 32).toNat).getLsbD i = _
  rw [s_l n hn, BitVec.getLsbD_shiftLeft]
  rcases Nat.lt_or_ge i n with h | h
  · simp [h, Nat.not_le.mpr h]
  · simp [hi, h, Nat.not_lt.mpr h]
theorem b_ushr (n : Nat) (hn : n < 32) (x : Int32) (i : Nat) : bt ((x.toUInt32 >>> ((nI n).toUInt32 &&& Int32.toUInt32 31)).toInt32) i = bt x (n + i) := by
  show (x.toUInt32 >>> ((nI n).toUInt32 &&& Int32.toUInt32 31)).toBitVec.getLsbD i = x.toUInt32.toBitVec.getLsbD (n + i)
  rw [UInt32.toBitVec_shiftRight]
  show (x.toUInt32.toBitVec >>> (((nI n).toUInt32 &&& Int32.toUInt32 31).toBitVec % 32).toNat).getLsbD i = _
  rw [s_u n hn, BitVec.getLsbD_ushiftRight]
theorem b_sshr (n : Nat) (hn : n < 32) (x : Int32) {i : Nat} (hi : i < 32) : bt (x >>> (nI n &&& 31)) i = if n + i < 32 then bt x (n + i) else bt x 31 := by
  unfold bt
  rw [Int32.toBitVec_shiftRight]
  show (x.toBitVec.sshiftRight ((nI n &&& 31).toBitVec.smod 32).toNat).getLsbD i = _
  rw [s_l n hn, BitVec.getLsbD_sshiftRight, BitVec.msb_eq_getLsbD_last]
  simp [hi]
theorem b_shl8 (x : Int32) {i : Nat} (hi : i < 32) : bt (x <<< ((8 : Int32) &&& 31)) i = (decide (8 ≤ i) && bt x (i - 8)) := b_shl 8 (by omega) x hi
theorem b_shl16 (x : Int32) {i : Nat} (hi : i < 32) : bt (x <<< ((16 : Int32) &&& 31)) i = (decide (16 ≤ i) && bt x (i - 16)) := b_shl 16 (by omega) x hi
theorem b_shl24 (x : Int32) {i : Nat} (hi : i < 32) : bt (x <<< ((24 : Int32) &&& 31)) i = (decide (24 ≤ i) && bt x (i - 24)) := b_shl 24 (by omega) x hi
theorem b_sshr8 (x : Int32) {i : Nat} (hi : i < 32) : bt (x >>> ((8 : Int32) &&& 31)) i = if 8 + i < 32 then bt x (8 + i) else bt x 31 := b_sshr 8 (by omega) x hi
/-! ===== nI under and, xor, >>>, one bit, 65535 ===== -/
theorem nx_and (a b : Nat) : nI a &&& nI b = nI (a &&& b) := by
  apply Int32.toBitVec_inj.1
  show BitVec.ofNat 32 a &&& BitVec.ofNat 32 b = BitVec.ofNat 32 (a &&& b)
  apply BitVec.eq_of_getLsbD_eq
  intro i hi
  simp [hi]
theorem nx_xor (a b : Nat) : nI a ^^^ nI b = nI (a ^^^ b) := by
  apply Int32.toBitVec_inj.1
  show BitVec.ofNat 32 a ^^^ BitVec.ofNat 32 b = BitVec.ofNat 32 (a ^^^ b)
  apply BitVec.eq_of_getLsbD_eq
  intro i hi
  simp [hi]
theorem nx_cnt : ∀ j : Fin 32, (UInt32.ofNat j.val &&& Int32.toUInt32 31).toNat % 32 = j.val := by decide +kernel
theorem nx_ush {k j : Nat} (hk : k < 65536) (hj : j < 32) : ((nI k).toUInt32 >>> ((nI j).toUInt32 &&& Int32.toUInt32 31)).toInt32 = nI (k >>> j) := by
  have hs : k >>> j ≤ k := by
    rw [Nat.shiftRight_eq_div_pow]
    exact Nat.div_le_self _ _
  have e2 : UInt32.ofNat k >>> (UInt32.ofNat j &&& Int32.toUInt32 31) = UInt32.ofNat (k >>> j) := by
    apply UInt32.toNat_inj.1
    have h1 : (UInt32.ofNat k).toNat = k := Nat.mod_eq_of_lt (by omega)
    have h2 : (UInt32.ofNat (k >>> j)).toNat = k >>> j := Nat.mod_eq_of_lt (by omega)
    rw [UInt32.toNat_shiftRight, nx_cnt ⟨j, hj⟩, h1, h2]
  show (UInt32.ofNat k >>> (UInt32.ofNat j &&& Int32.toUInt32 31)).toInt32 = _
  rw [e2]
  rfl
theorem nx_bit {k j : Nat} (hk : k < 65536) (hj : j < 16) : (((nI k).toUInt32 >>> ((nI j).toUInt32 &&& Int32.toUInt32 31)).toInt32 &&& 1) = 0 ↔ k.testBit j = false := by
  rw [nx_ush hk (by omega)]
  show nI (k >>> j) &&& nI 1 = 0 ↔ _
  rw [nx_and, Nat.and_one_is_mod, ← nI_0, nI_eq (by omega) (by omega), Nat.testBit_eq_decide_div_mod_eq, Nat.shiftRight_eq_div_pow, decide_eq_false_iff_not]
  generalize k / 2 ^ j = z
  omega
theorem nx_mod (k : Nat) : nI k &&& 65535 = nI (k % 65536) := by
  show nI k &&& nI 65535 = _
  rw [nx_and, show (65535 : Nat) = 2 ^ 16 - 1 from rfl, Nat.and_two_pow_sub_one_eq_mod]
theorem nx_m16 {k : Nat} (h : k < 65536) : nI k &&& 65535 = nI k := by rw [nx_mod, Nat.mod_eq_of_lt h]
theorem nx_mask (x : Int32) : ∃ k, k < 65536 ∧ x &&& 65535 = nI k := by
  have e : x = nI x.toBitVec.toNat := by
    apply Int32.toBitVec_inj.1
    show x.toBitVec = BitVec.ofNat 32 x.toBitVec.toNat
    simp
  refine ⟨x.toBitVec.toNat % 65536, Nat.mod_lt _ (by omega), ?_⟩
  rw [← nx_mod, ← e]
/-! ===== Int32 as a set of bits: test, set ===== -/
def nf_M (m : Int32) : Nat := 4294967296 - m.toBitVec.toNat
theorem nf_sh : ∀ l, l < 32 → ((1 : Int32) <<< (nI l &&& 31)).toBitVec = BitVec.twoPow 32 l := by decide +kernel
theorem nf_sl : ∀ l, l < 32 → (((nI l).toUInt32 &&& Int32.toUInt32 31).toBitVec % 32).toNat = l := by decide +kernel
theorem nf_tp : ∀ l, l < 32 → BitVec.twoPow 32 l ≠ 0#32 := by decide +kernel
theorem nf_bit (m : Int32) (l : Nat) (hl : l < 32) : ((m.toUInt32 >>> ((nI l).toUInt32 &&& Int32.toUInt32 31)).toInt32 &&& 1) = 0 ↔ (m &&& ((1 : Int32) <<< (nI l &&& 31))) = 0 := by
  have e : ((m.toUInt32 >>> ((nI l).toUInt32 &&& Int32.toUInt32 31)).toInt32).toBitVec = m.toBitVec >>> l := by
    show m.toBitVec >>> (((nI l).toUInt32 &&& Int32.toUInt32 31).toBitVec % 32) = m.toBitVec >>> l
    rw [BitVec.ushiftRight_eq', nf_sl l hl]
  rw [← Int32.toBitVec_inj, ← Int32.toBitVec_inj, Int32.toBitVec_and, Int32.toBitVec_and, nf_sh l hl, e, BitVec.and_twoPow]
  show (m.toBitVec >>> l &&& 1#32) = 0#32 ↔ _ = 0#32
  rw [BitVec.and_one_eq_setWidth_ofBool_getLsbD, BitVec.getLsbD_ushiftRight, Nat.add_zero]
  cases hb : m.toBitVec.getLsbD l
  · exact ⟨fun _ => by simp, fun _ => by decide⟩
  · exact ⟨fun z => absurd z (by decide), fun z => absurd ((if_pos rfl).symm.trans z) (nf_tp l hl)⟩
theorem nf_gr (m k : Int32) (h : m &&& k = 0) (hk : k ≠ 0) : nf_M (m ||| k) < nf_M m := by
  have hm := m.toBitVec.isLt
  have hm' := (m ||| k).toBitVec.isLt
  have h1 : m.toBitVec.toNat ≤ (m ||| k).toBitVec.toNat := by
    rw [Int32.toBitVec_or, BitVec.toNat_or]
    exact Nat.left_le_or
  have h2 : m.toBitVec.toNat ≠ (m ||| k).toBitVec.toNat := by
    intro e
    have e2 : m = m ||| k := Int32.toBitVec_inj.mp (BitVec.eq_of_toNat_eq e)
    apply hk
    apply Int32.toBitVec_inj.mp
    show k.toBitVec = 0#32
    apply BitVec.eq_of_getLsbD_eq
    intro i hi
    have a : m.toBitVec.getLsbD i = (m.toBitVec.getLsbD i || k.toBitVec.getLsbD i) := by rw [← BitVec.getLsbD_or, ← Int32.toBitVec_or, ← e2]
    have b : (m.toBitVec.getLsbD i && k.toBitVec.getLsbD i) = false := by
      rw [← BitVec.getLsbD_and, ← Int32.toBitVec_and, h]
      exact BitVec.getLsbD_zero
    rw [BitVec.getLsbD_zero]
    revert a b
    cases m.toBitVec.getLsbD i <;> cases k.toBitVec.getLsbD i <;> simp
  unfold nf_M
  omega
/-! ===== a byte read unsigned ===== -/
theorem bp_b (x : Int32) : x.toInt8.toInt32 &&& 255 = x &&& 255 := by
  apply Int32.toBitVec_inj.mp
  rw [Int32.toBitVec_and, Int32.toBitVec_and, Int8.toBitVec_toInt32, Int32.toBitVec_toInt8]
  apply BitVec.eq_of_getLsbD_eq
  intro i hi
  rw [BitVec.getLsbD_and, BitVec.getLsbD_and]
  have hm : ∀ i < 32, 8 ≤ i → (255 : Int32).toBitVec.getLsbD i = false := by decide
  rcases Nat.lt_or_ge i 8 with z | z
  · rw [BitVec.getLsbD_signExtend, BitVec.getLsbD_signExtend, if_pos z, if_pos hi]
    simp only [z, hi, decide_true, Bool.true_and]
  · rw [hm i hi z]; simp
/-! ===== the char cast and 65535 ===== -/
theorem em_w (v : Int32) : ∃ w : Nat, w < 65536 ∧ (v.toUInt32 % 65536).toInt32 = nI w ∧ v &&& 65535 = nI w := by
  have hr := lw_u16_r v
  have h0 : (0 : Int32).toInt = 0 := by decide
  obtain ⟨w, h1, h2⟩ := nI_of (x := lw_u16 v) (by rw [Int32.lt_iff_toInt_lt]; omega)
  have h3 : (v.toUInt32 % 65536).toInt32 = nI w := h2
  rw [h2, nI_toInt h1] at hr
  exact ⟨w, by omega, h3, by rw [← lg_i2c_mask, ← lg_i2c_nf, h3]⟩
/-! ===== Int64 as a set of bits: test, set, clear ===== -/
theorem ts_nf {x : Bool} (h : ¬ x = false) : x = true := by cases x <;> first | rfl | exact absurd rfl h
theorem ts_nt {x : Bool} (h : ¬ x = true) : x = false := by cases x <;> first | rfl | exact absurd rfl h
theorem ts_bit {w : Int64} {s : UInt64} {j : Nat} (hj : j < 64) (hs : s.toNat = j) : ((w.toUInt64 >>> s).toInt64 &&& 1) = 0 ↔ w.toBitVec.getLsbD j = false := by
  have e : (w.toUInt64 >>> s).toInt64.toBitVec = w.toBitVec >>> j := by
    apply BitVec.eq_of_toNat_eq
    show (w.toUInt64 >>> s).toNat = _
    rw [UInt64.toNat_shiftRight, hs, Nat.mod_eq_of_lt hj, BitVec.toNat_ushiftRight]
    rfl
  rw [← Int64.toBitVec_inj, Int64.toBitVec_and, e]
  show w.toBitVec >>> j &&& 1#64 = 0#64 ↔ _
  constructor
  · intro h
    have t := congrArg (fun x => x.getLsbD 0) h
    simpa using t
  · intro h
    apply BitVec.eq_of_getLsbD_eq
    intro i hi
    cases i with
    | zero => simp [h]
    | succ i => simp
theorem ts_or {w m : Int64} {j : Nat} (hj : j < 64) (hm : m.toBitVec = BitVec.twoPow 64 j) : (w ||| m) = w ↔ w.toBitVec.getLsbD j = true := by
  rw [← Int64.toBitVec_inj, Int64.toBitVec_or, hm]
  constructor
  · intro h
    have t := congrArg (fun x => x.getLsbD j) h
    simp only [BitVec.getLsbD_or, BitVec.getLsbD_twoPow] at t
    simpa [hj] using t.symm
  · intro h
    apply BitVec.eq_of_getLsbD_eq
    intro i hi
    rw [BitVec.getLsbD_or, BitVec.getLsbD_twoPow]
    by_cases e : j = i
    · subst e; rw [h, Bool.true_or]
    · simp [e]
theorem ts_and {w m : Int64} {j : Nat} (hj : j < 64) (hm : m.toBitVec = BitVec.twoPow 64 j) : (w &&& (m ^^^ (-1))) = w ↔ w.toBitVec.getLsbD j = false := by
  have ha : (-1 : Int64).toBitVec = BitVec.allOnes 64 := by decide
  rw [← Int64.toBitVec_inj, Int64.toBitVec_and, Int64.toBitVec_xor, hm, ha]
  constructor
  · intro h
    have t := congrArg (fun x => x.getLsbD j) h
    simp only [BitVec.getLsbD_and, BitVec.getLsbD_xor, BitVec.getLsbD_twoPow, BitVec.getLsbD_allOnes] at t
    simpa [hj] using t.symm
  · intro h
    apply BitVec.eq_of_getLsbD_eq
    intro i hi
    rw [BitVec.getLsbD_and, BitVec.getLsbD_xor, BitVec.getLsbD_twoPow, BitVec.getLsbD_allOnes]
    by_cases e : j = i
    · subst e; rw [h, Bool.false_and]
    · simp [e, hi]
/-! ===== lN n to 2^64: shifts, and, or, masks, one bit ===== -/
theorem wb_tb (n : Nat) : (lN n).toBitVec = BitVec.ofNat 64 n := rfl
theorem wb_inj {a b : Int64} (h : a.toBitVec = b.toBitVec) : a = b := Int64.toBitVec_inj.mp h
theorem wb_tn {n : Nat} (h : n < 2 ^ 64) : (lN n).toBitVec.toNat = n := by rw [wb_tb, BitVec.toNat_ofNat, Nat.mod_eq_of_lt h]
theorem wb_of (x : Int64) : ∃ n, n < 2 ^ 64 ∧ x = lN n := ⟨x.toBitVec.toNat, x.toBitVec.isLt, wb_inj (by rw [wb_tb]; simp)⟩
theorem wb_of32 (x : Int32) : ∃ n, n < 2 ^ 32 ∧ x = nI n := ⟨x.toBitVec.toNat, x.toBitVec.isLt, Int32.toBitVec_inj.mp (by show _ = BitVec.ofNat 32 _; simp)⟩
theorem wb_c : ∀ k, k < 64 → ((nI k).toInt64 &&& 63) = lN k := by decide +kernel
theorem wb_cu : ∀ k, k < 64 → ((nI k).toInt64.toUInt64 &&& Int64.toUInt64 63) = UInt64.ofNat k := by decide +kernel
theorem wb_sm : ∀ k, k < 64 → (BitVec.ofNat 64 k).smod 64 = BitVec.ofNat 64 k := by decide +kernel
theorem wb_pw {a b : Nat} (h : a ≤ b) : 2 ^ b = 2 ^ a * 2 ^ (b - a) := by rw [← Nat.pow_add]; congr 1; omega
theorem wb_lt2 {a b : Nat} (h : a < b) : 2 ^ a < 2 ^ b := Nat.pow_lt_pow_right (by decide) h
theorem wb_mod (n : Nat) : lN n = lN (n % 2 ^ 64) := wb_inj (by rw [wb_tb, wb_tb]; apply BitVec.eq_of_toNat_eq; rw [BitVec.toNat_ofNat, BitVec.toNat_ofNat, Nat.mod_mod])
theorem wb_shr {n k : Nat} (hn : n < 2 ^ 64) (hk : k < 64) : ((lN n).toUInt64 >>> ((nI k).toInt64.toUInt64 &&& Int64.toUInt64 63)).toInt64 = lN (n / 2 ^ k) := by
  rw [wb_cu k hk]
  apply wb_inj
  apply BitVec.eq_of_toNat_eq
  show ((lN n).toUInt64 >>> UInt64.ofNat k).toNat = (BitVec.ofNat 64 _).toNat
  have h1 : (UInt64.ofNat k).toNat = k := by
    show (BitVec.ofNat 64 k).toNat = k
    rw [BitVec.toNat_ofNat, Nat.mod_eq_of_lt (by omega)]
  have h2 : (lN n).toUInt64.toNat = n := wb_tn hn
  rw [UInt64.toNat_shiftRight, h1, h2, Nat.mod_eq_of_lt hk, Nat.shiftRight_eq_div_pow, BitVec.toNat_ofNat, Nat.mod_eq_of_lt (Nat.lt_of_le_of_lt (Nat.div_le_self _ _) hn)]
theorem wb_shl (n : Nat) {k : Nat} (hk : k < 64) : lN n <<< ((nI k).toInt64 &&& 63) = lN (n * 2 ^ k) := by
  rw [wb_c k hk]
  apply wb_inj
  rw [Int64.toBitVec_shiftLeft, wb_tb, wb_tb, wb_tb, wb_sm k hk]
  apply BitVec.eq_of_toNat_eq
  rw [BitVec.shiftLeft_eq', BitVec.toNat_shiftLeft, BitVec.toNat_ofNat, BitVec.toNat_ofNat, BitVec.toNat_ofNat, Nat.mod_eq_of_lt (show k < 2 ^ 64 by omega), Nat.shiftLeft_eq, Nat.mul_mod, Nat.mod_mod, ← Nat.mul_mod]
theorem wb_and {a b : Nat} (ha : a < 2 ^ 64) (hb : b < 2 ^ 64) : lN a &&& lN b = lN (a &&& b) := by
  apply wb_inj
  rw [Int64.toBitVec_and, wb_tb, wb_tb, wb_tb]
  apply BitVec.eq_of_toNat_eq
  rw [BitVec.toNat_and, BitVec.toNat_ofNat, BitVec.toNat_ofNat, BitVec.toNat_ofNat, Nat.mod_eq_of_lt ha, Nat.mod_eq_of_lt hb, Nat.mod_eq_of_lt (Nat.and_lt_two_pow _ hb)]
theorem wb_or {a b : Nat} (ha : a < 2 ^ 64) (hb : b < 2 ^ 64) : lN a ||| lN b = lN (a ||| b) := by
  apply wb_inj
  rw [Int64.toBitVec_or, wb_tb, wb_tb, wb_tb]
  apply BitVec.eq_of_toNat_eq
  rw [BitVec.toNat_or, BitVec.toNat_ofNat, BitVec.toNat_ofNat, BitVec.toNat_ofNat, Nat.mod_eq_of_lt ha, Nat.mod_eq_of_lt hb, Nat.mod_eq_of_lt (Nat.or_lt_two_pow ha hb)]
theorem wb_mask {n k : Nat} (hn : n < 2 ^ 64) (hk : k < 64) : lN n &&& lN (2 ^ k - 1) = lN (n % 2 ^ k) := by
  rw [wb_and hn (by have := wb_lt2 hk; omega), Nat.and_two_pow_sub_one_eq_mod]
theorem wb_a1 {n : Nat} (hn : n < 2 ^ 64) : lN n &&& 1 = lN (n % 2) := wb_mask (k := 1) hn (by decide)
theorem wb_bit {n k : Nat} (hn : n < 2 ^ 64) (hk : k < 64) : ((lN n).toUInt64 >>> ((nI k).toInt64.toUInt64 &&& Int64.toUInt64 63)).toInt64 &&& 1 = lN (n / 2 ^ k % 2) := by
  rw [wb_shr hn hk, wb_a1 (Nat.lt_of_le_of_lt (Nat.div_le_self _ _) hn)]
theorem wb_xor {q k : Nat} (hk : k < 63) (h : 2 ^ k ≤ q) (h2 : q < 2 ^ (k + 1)) : lN q ^^^ lN (2 ^ k) = lN (q - 2 ^ k) := by
  obtain ⟨r, rfl⟩ : ∃ r, q = 2 ^ k + r := ⟨q - 2 ^ k, by omega⟩
  have hr : r < 2 ^ k := by rw [Nat.pow_succ] at h2; omega
  have hx : (2 ^ k + r) ^^^ 2 ^ k = r := by
    apply Nat.eq_of_testBit_eq
    intro i
    rw [Nat.testBit_xor, Nat.testBit_two_pow]
    rcases Nat.lt_trichotomy i k with h | h | h
    · rw [Nat.testBit_two_pow_add_gt h]
      simp [show ¬ k = i by omega]
    · subst h
      rw [Nat.testBit_two_pow_add_eq]
      simp
    · have a1 : 2 ^ (k + 1) ≤ 2 ^ i := Nat.pow_le_pow_right (by decide) h
      rw [Nat.testBit_lt_two_pow (show 2 ^ k + r < 2 ^ i by omega), Nat.testBit_lt_two_pow (show r < 2 ^ i by omega)]
      simp [show ¬ k = i by omega]
  have b1 := wb_lt2 (show k + 1 < 64 by omega)
  have b2 := wb_lt2 (show k < 64 by omega)
  apply wb_inj
  rw [Int64.toBitVec_xor, wb_tb, wb_tb, wb_tb]
  apply BitVec.eq_of_toNat_eq
  rw [BitVec.toNat_xor, BitVec.toNat_ofNat, BitVec.toNat_ofNat, BitVec.toNat_ofNat, Nat.mod_eq_of_lt (by omega : 2 ^ k + r < 2 ^ 64), Nat.mod_eq_of_lt b2, hx, Nat.add_sub_cancel_left, Nat.mod_eq_of_lt (by omega)]
/-! ===== lN: masks, 'or' of parts that don't overlap is a sum ===== -/
theorem u_tn {n : Nat} (h : n < 2 ^ 64) : (UInt64.ofNat n).toNat = n := Nat.mod_eq_of_lt h
theorem g_and {a b c : Nat} (ha : a < 2 ^ 64) (hb : b < 2 ^ 64) (hc : a &&& b = c) : lN a &&& lN b = lN c := by
  subst hc
  have h : UInt64.ofNat a &&& UInt64.ofNat b = UInt64.ofNat (a &&& b) := UInt64.toNat_inj.mp (by rw [UInt64.toNat_and, u_tn ha, u_tn hb, u_tn (Nat.and_lt_two_pow a hb)])
  have h2 := congrArg UInt64.toInt64 h
  exact h2
theorem g_and1 {a : Nat} (ha : a < 2 ^ 64) : lN a &&& 1 = lN (a % 2) := g_and (b := 1) ha (by decide) (Nat.and_two_pow_sub_one_eq_mod a 1)
theorem g_mask {a s p : Nat} (hp : 2 ^ s = p) (hs : s < 64) (ha : a < 2 ^ 64) : lN a &&& lN (p - 1) = lN (a % p) := by
  subst hp
  have := Nat.pow_lt_pow_right (show 1 < 2 by decide) hs
  exact g_and ha (by omega) (Nat.and_two_pow_sub_one_eq_mod a s)
theorem g_or {k p a b : Nat} (hp : 2 ^ k = p) (ha : a < p) (h : b * p + a < 2 ^ 64) : lN (b * p) ||| lN a = lN (b * p + a) := by
  subst hp
  have h1 : b * 2 ^ k ||| a = b * 2 ^ k + a := by rw [← Nat.shiftLeft_eq, Nat.shiftLeft_add_eq_or_of_lt ha]
  have h3 : UInt64.ofNat (b * 2 ^ k) ||| UInt64.ofNat a = UInt64.ofNat (b * 2 ^ k + a) := UInt64.toNat_inj.mp (by rw [UInt64.toNat_or, u_tn (by omega), u_tn (by omega), u_tn h, h1])
  have h2 := congrArg UInt64.toInt64 h3
  exact h2
theorem g_or' {k p a b : Nat} (hp : 2 ^ k = p) (ha : a < p) (h : a + b * p < 2 ^ 64) : lN a ||| lN (b * p) = lN (a + b * p) := by
  rw [Int64.or_comm, g_or hp ha (by omega), Nat.add_comm]
theorem g_ushr {a k p : Nat} {y : UInt64} (hy : y = UInt64.ofNat k) (hk : k < 64) (hp : 2 ^ k = p) (ha : a < 2 ^ 64) : ((lN a).toUInt64 >>> y).toInt64 = lN (a / p) := by
  subst hy hp
  have h : UInt64.ofNat a >>> UInt64.ofNat k = UInt64.ofNat (a / 2 ^ k) := UInt64.toNat_inj.mp (by rw [UInt64.toNat_shiftRight, u_tn ha, u_tn (by omega), u_tn (Nat.lt_of_le_of_lt (Nat.div_le_self _ _) ha), Nat.mod_eq_of_lt hk, Nat.shiftRight_eq_div_pow])
  have h2 := congrArg UInt64.toInt64 h
  exact h2
theorem g_shl {a k p : Nat} {y : Int64} (hy : y.toBitVec.smod 64 = BitVec.ofNat 64 k) (hk : k < 64) (hp : 2 ^ k = p) (ha : a < 2 ^ 64) : lN a <<< y = lN (a * p) := by
  subst hp
  apply Int64.toBitVec_inj.mp
  rw [Int64.toBitVec_shiftLeft, hy]
  apply BitVec.eq_of_toNat_eq
  have hb : (lN a).toBitVec.toNat = a := Nat.mod_eq_of_lt ha
  have hk' : (BitVec.ofNat 64 k).toNat = k := Nat.mod_eq_of_lt (by omega)
  have h : ((lN a).toBitVec <<< BitVec.ofNat 64 k).toNat = (a * 2 ^ k) % 2 ^ 64 := by simp only [BitVec.shiftLeft_eq', BitVec.toNat_shiftLeft, hb, hk', Nat.shiftLeft_eq]
  exact h
/-! ===== lN to 2^62 under >> and >>> ===== -/
theorem pf_lI {a : Nat} (h : a < 2 ^ 63) : (lN a).toInt = (a : Int) := lg_ofNat_toInt h
theorem pf_shr {a d : Nat} {D : Int64} (hD : (D.toBitVec.smod 64).toNat = d) (h : a < 2 ^ 62) : lN a >>> D = lN (a / 2 ^ d) := by
  have hd : a / 2 ^ d ≤ a := Nat.div_le_self _ _
  apply Int64.toInt_inj.mp
  have e : (lN a >>> D).toInt = (lN a).toInt >>> d := by
    rw [← hD]
    exact BitVec.toInt_sshiftRight ..
  rw [e, Int.shiftRight_eq_div_pow, pf_lI (by omega), pf_lI (by omega)]
  rfl
theorem pf_ushr {a d : Nat} {D : UInt64} (hD : D.toNat % 64 = d) (h : a < 2 ^ 62) : ((lN a).toUInt64 >>> D).toInt64 = lN (a / 2 ^ d) := by
  have hd : a / 2 ^ d ≤ a := Nat.div_le_self _ _
  have e : (lN a).toUInt64 >>> D = UInt64.ofNat (a / 2 ^ d) := UInt64.toNat_inj.mp (by
    rw [UInt64.toNat_shiftRight, hD, Nat.shiftRight_eq_div_pow, UInt64.toNat_ofNat']
    show (UInt64.ofNat a).toNat / 2 ^ d = _
    rw [UInt64.toNat_ofNat', Nat.mod_eq_of_lt (by omega), Nat.mod_eq_of_lt (by omega)])
  rw [e]
  rfl
theorem pf_andw (x : Int64) : ∃ m, m < 2 ^ 32 ∧ x &&& 4294967295 = lN m := ⟨x.toBitVec.toNat % 2 ^ 32, Nat.mod_lt _ (by decide), Int64.toBitVec_inj.mp (BitVec.eq_of_toNat_eq (by
  show (x.toBitVec &&& 4294967295#64).toNat = (BitVec.ofNat 64 (x.toBitVec.toNat % 2 ^ 32)).toNat
  rw [BitVec.toNat_and, show (4294967295#64).toNat = 2 ^ 32 - 1 from by decide, Nat.and_two_pow_sub_one_eq_mod, BitVec.toNat_ofNat]
  omega))⟩
/-! ===== Int64 as an unsigned number: uN x ===== -/
def uN (x : Int64) : Nat := x.toUInt64.toNat
theorem uN_lt (x : Int64) : uN x < 18446744073709551616 := x.toUInt64.toNat_lt
theorem uN_inj {x y : Int64} (h : uN x = uN y) : x = y := congrArg UInt64.toInt64 (UInt64.toNat_inj.mp h)
theorem uN_add (x y : Int64) : uN (x + y) = (uN x + uN y) % 18446744073709551616 := by
  show (x.toUInt64 + y.toUInt64).toNat = _
  exact UInt64.toNat_add _ _
theorem uN_mul (x y : Int64) : uN (x * y) = (uN x * uN y) % 18446744073709551616 := by
  show (x.toUInt64 * y.toUInt64).toNat = _
  exact UInt64.toNat_mul _ _
theorem uN_shl (x : Int64) : uN (x <<< ((1 : Int32).toInt64 &&& 63)) = (2 * uN x) % 18446744073709551616 := by
  have h : (((1 : Int32).toInt64 &&& 63).toBitVec.smod 64).toNat = 1 := by decide
  show (x.toBitVec <<< (((1 : Int32).toInt64 &&& 63).toBitVec.smod 64).toNat).toNat = _
  rw [h, BitVec.toNat_shiftLeft, Nat.shiftLeft_eq, Nat.mul_comm]
  rfl
theorem uN_shr (x : Int64) (s : UInt64) : uN (x.toUInt64 >>> s).toInt64 = uN x / 2 ^ (s.toNat % 64) := by
  show (x.toUInt64 >>> s).toNat = _
  rw [UInt64.toNat_shiftRight, Nat.shiftRight_eq_div_pow]
  rfl
theorem uN_s32 (x : Int64) : uN (x.toUInt64 >>> ((32 : Int32).toInt64.toUInt64 &&& Int64.toUInt64 63)).toInt64 = uN x / 4294967296 := by
  have h : ((32 : Int32).toInt64.toUInt64 &&& Int64.toUInt64 63).toNat % 64 = 32 := by decide
  rw [uN_shr, h]
theorem uN_s63 (x : Int64) : uN (x.toUInt64 >>> ((63 : Int32).toInt64.toUInt64 &&& Int64.toUInt64 63)).toInt64 = uN x / 9223372036854775808 := by
  have h : ((63 : Int32).toInt64.toUInt64 &&& Int64.toUInt64 63).toNat % 64 = 63 := by decide
  rw [uN_shr, h]
theorem uN_lo (x : Int64) : uN (x &&& 4294967295) = uN x % 4294967296 := by
  show (x.toUInt64 &&& Int64.toUInt64 4294967295).toNat = _
  rw [UInt64.toNat_and]
  exact Nat.and_two_pow_sub_one_eq_mod _ 32
theorem uN_bit (x : Int64) : (x &&& 1) = 0 ↔ uN x % 2 = 0 := by
  have h : uN (x &&& 1) = uN x % 2 := by
    show (x.toUInt64 &&& Int64.toUInt64 1).toNat = _
    rw [UInt64.toNat_and]
    exact Nat.and_two_pow_sub_one_eq_mod _ 1
  rw [← h]
  exact ⟨fun z => by rw [z]; rfl, fun z => uN_inj (z.trans rfl)⟩
theorem uN_or {x y : Int64} (hy : uN y < 2) : uN ((x <<< ((1 : Int32).toInt64 &&& 63)) ||| y) = (2 * uN x) % 18446744073709551616 + uN y := by
  have h1 : uN ((x <<< ((1 : Int32).toInt64 &&& 63)) ||| y) = uN (x <<< ((1 : Int32).toInt64 &&& 63)) ||| uN y := UInt64.toNat_or _ _
  have h2 : (2 * uN x) % 18446744073709551616 = 2 ^ 1 * (uN x % 9223372036854775808) := by omega
  rw [h1, uN_shl, h2]
  exact (Nat.two_pow_add_eq_or_of_lt (i := 1) hy _).symm
theorem nat_xor {a : Nat} (h : a < 18446744073709551616) : a ^^^ 2 ^ 63 = (a + 9223372036854775808) % 18446744073709551616 := by
  have h1 : (a ^^^ 2 ^ 63) % 2 ^ 63 = a % 2 ^ 63 := by rw [Nat.xor_mod_two_pow, Nat.mod_self, Nat.xor_zero]
  have h2 : (a ^^^ 2 ^ 63) / 2 ^ 63 = (a / 2 ^ 63) ^^^ 1 := by rw [Nat.xor_div_two_pow, Nat.div_self (Nat.two_pow_pos 63)]
  have h3 : a / 2 ^ 63 = 0 ∨ a / 2 ^ 63 = 1 := by omega
  generalize a ^^^ 2 ^ 63 = t at h1 h2
  rcases h3 with h3 | h3
  · rw [h3] at h2
    have h2 : t / 2 ^ 63 = 1 := h2
    omega
  · rw [h3] at h2
    have h2 : t / 2 ^ 63 = 0 := h2
    omega
theorem uN_xor (x : Int64) : uN (x ^^^ (-9223372036854775808)) = (uN x + 9223372036854775808) % 18446744073709551616 := by
  rw [← nat_xor (uN_lt x)]
  exact UInt64.toNat_xor _ _
theorem uN_int (x : Int64) : x.toInt = if 2 * uN x < 18446744073709551616 then (uN x : Int) else (uN x : Int) - 18446744073709551616 := BitVec.toInt_eq_toNat_cond _
theorem uN_le (x y : Int64) : (x ^^^ (-9223372036854775808)) ≤ (y ^^^ (-9223372036854775808)) ↔ uN x ≤ uN y := by
  have hx := uN_lt x
  have hy := uN_lt y
  rw [Int64.le_iff_toInt_le, uN_int, uN_int, uN_xor, uN_xor]
  omega
theorem uN_sk (x : Int64) {k : Nat} (hk : k < 64) : uN (x.toUInt64 >>> ((nI k).toInt64.toUInt64 &&& Int64.toUInt64 63)).toInt64 = uN x / 2 ^ k := by
  have h : ((nI k).toInt64.toUInt64 &&& Int64.toUInt64 63).toNat % 64 = k := by
    rw [nI_l (by omega), UInt64.toNat_and]
    have e : (lN k).toUInt64.toNat = k % 2 ^ 64 := rfl
    have e2 : (Int64.toUInt64 63).toNat = 2 ^ 6 - 1 := by decide
    rw [e, e2, Nat.and_two_pow_sub_one_eq_mod]
    omega
  rw [uN_shr, h]
/-! ===== unsigned comparison by xor with the least ===== -/
theorem lN_bv (n : Nat) : (lN n).toBitVec = BitVec.ofNat 64 n := rfl
theorem lN_nat {n : Nat} (h : n < 2 ^ 64) : (lN n).toBitVec.toNat = n := by rw [lN_bv, BitVec.toNat_ofNat]; exact Nat.mod_eq_of_lt h
theorem lN_xor (a b : Nat) : lN a ^^^ lN b = lN (a ^^^ b) := by
  apply Int64.toBitVec_inj.mp; rw [Int64.toBitVec_xor, lN_bv, lN_bv, lN_bv]; apply BitVec.eq_of_getLsbD_eq; intro i hi; simp [BitVec.getLsbD_ofNat, Nat.testBit_xor, hi]
theorem lN_ti {m : Nat} (h : m < 2 ^ 64) : (lN m).toInt = if m < 2 ^ 63 then (m : Int) else (m : Int) - 2 ^ 64 := by
  have c := BitVec.toInt_eq_toNat_cond (lN m).toBitVec
  rw [lN_nat h] at c
  show (lN m).toBitVec.toInt = _
  rw [c]
  split <;> split <;> omega
theorem xor63 {x : Nat} (h : x < 2 ^ 63) : x ^^^ 2 ^ 63 = 2 ^ 63 + x := by
  apply Nat.eq_of_testBit_eq
  intro i
  rw [Nat.testBit_xor, Nat.testBit_two_pow]
  rcases Nat.lt_trichotomy i 63 with z | z | z
  · rw [Nat.testBit_two_pow_add_gt z, decide_eq_false (by omega)]; simp
  · subst z; rw [Nat.testBit_two_pow_add_eq]; simp
  · have hp : 2 ^ 64 ≤ 2 ^ i := Nat.pow_le_pow_right (by decide) z
    rw [Nat.testBit_lt_two_pow (show x < 2 ^ i by omega), Nat.testBit_lt_two_pow (show 2 ^ 63 + x < 2 ^ i by omega), decide_eq_false (by omega)]; rfl
theorem xorS {a : Nat} (h : a < 2 ^ 64) : (lN a ^^^ (-9223372036854775808)).toInt = (a : Int) - 2 ^ 63 := by
  rw [show (-9223372036854775808 : Int64) = lN (2 ^ 63) from by decide +kernel, lN_xor]
  rcases Nat.lt_or_ge a (2 ^ 63) with z | z
  · rw [xor63 z, lN_ti (by omega), if_neg (by omega)]; omega
  · obtain ⟨x, rfl⟩ : ∃ x, a = 2 ^ 63 + x := ⟨a - 2 ^ 63, by omega⟩
    rw [← xor63 (by omega), Nat.xor_assoc, Nat.xor_self, Nat.xor_zero, lN_ti (by omega), if_pos (by omega), xor63 (by omega)]; omega
theorem ultL {a b : Nat} (ha : a < 2 ^ 64) (hb : b < 2 ^ 64) : ((lN b ^^^ (-9223372036854775808)) ≤ (lN a ^^^ (-9223372036854775808))) ↔ b ≤ a := by
  rw [Int64.le_iff_toInt_le, xorS ha, xorS hb]; omega
/-! ===== Int64 masks of n low bits ===== -/
theorem cr_bits (W U M : BitVec 64) : ((W &&& U) &&& (U &&& (M ^^^ BitVec.allOnes 64))) = 0#64 ↔ (W &&& U) &&& M = W &&& U := by
  constructor
  · intro h
    apply BitVec.eq_of_getLsbD_eq
    intro i hi
    have e := congrArg (fun x => BitVec.getLsbD x i) h
    simp only [BitVec.getLsbD_and, BitVec.getLsbD_xor, BitVec.getLsbD_allOnes, BitVec.getLsbD_zero, hi, decide_true] at e ⊢
    revert e
    cases W.getLsbD i <;> cases U.getLsbD i <;> cases M.getLsbD i <;> decide
  · intro h
    apply BitVec.eq_of_getLsbD_eq
    intro i hi
    have e := congrArg (fun x => BitVec.getLsbD x i) h
    simp only [BitVec.getLsbD_and, BitVec.getLsbD_xor, BitVec.getLsbD_allOnes, BitVec.getLsbD_zero, hi, decide_true] at e ⊢
    revert e
    cases W.getLsbD i <;> cases U.getLsbD i <;> cases M.getLsbD i <;> decide
theorem cr_mask (w U m : Int64) (n : Nat) (hm : m.toBitVec.toNat = 2 ^ n - 1) : ((w &&& U) &&& (U &&& (m ^^^ (-1)))) = 0 ↔ (w &&& U).toBitVec.toNat < 2 ^ n := by
  have e0 : (-1 : Int64).toBitVec = BitVec.allOnes 64 := by decide
  have z0 : (0 : Int64).toBitVec = 0#64 := by decide
  rw [← Int64.toBitVec_inj, z0, Int64.toBitVec_and, Int64.toBitVec_and, Int64.toBitVec_and, Int64.toBitVec_xor, e0, cr_bits]
  generalize w.toBitVec &&& U.toBitVec = T
  rw [← BitVec.toNat_inj, BitVec.toNat_and, hm, Nat.and_two_pow_sub_one_eq_mod]
  constructor
  · intro h
    have t := Nat.mod_lt T.toNat (Nat.two_pow_pos n)
    rw [h] at t
    exact t
  · exact Nat.mod_eq_of_lt
theorem cr_shr (t : Int64) (x : UInt64) (n : Nat) (hx : x.toNat % 64 = n) : (t.toUInt64 >>> x).toInt64 = 0 ↔ t.toBitVec.toNat < 2 ^ n := by
  rw [← Int64.toBitVec_inj, ← BitVec.toNat_inj]
  show (t.toUInt64 >>> x).toNat = 0 ↔ t.toUInt64.toNat < 2 ^ n
  rw [UInt64.toNat_shiftRight, hx, Nat.shiftRight_eq_div_pow]
  constructor
  · intro h
    have d : t.toUInt64.toNat / 2 ^ n < 1 := by
      rw [h]
      decide
    have e := (Nat.div_lt_iff_lt_mul (Nat.two_pow_pos n)).mp d
    rw [Nat.one_mul] at e
    exact e
  · exact Nat.div_eq_of_lt
theorem cr_amt (s : Int64) : ∃ n, n < 64 ∧ s &&& 63 = lN n ∧ (s.toUInt64 &&& Int64.toUInt64 63).toNat % 64 = n := by
  have e : (s.toUInt64 &&& Int64.toUInt64 63).toNat = s.toUInt64.toNat % 2 ^ 6 := by
    rw [UInt64.toNat_and, show (Int64.toUInt64 63).toNat = 2 ^ 6 - 1 from by decide, Nat.and_two_pow_sub_one_eq_mod]
  refine ⟨s.toUInt64.toNat % 2 ^ 6, by omega, ?_, by omega⟩
  rw [← Int64.toBitVec_inj, ← BitVec.toNat_inj]
  show (s.toUInt64 &&& Int64.toUInt64 63).toNat = (BitVec.ofNat 64 (s.toUInt64.toNat % 2 ^ 6)).toNat
  rw [e, BitVec.toNat_ofNat]
  omega
end
section
/-! Int64 by its bits, counts, loop laws -/
def lb_t (x : Int64) (i : Nat) : Bool := x.toBitVec.getLsbD i
theorem lb_ext {x y : Int64} (h : ∀ i, i < 64 → lb_t x i = lb_t y i) : x = y := Int64.toBitVec_inj.mp (BitVec.eq_of_getLsbD_eq (fun i hi => h i hi))
theorem lb_or (x y : Int64) (i : Nat) : lb_t (x ||| y) i = (lb_t x i || lb_t y i) := by unfold lb_t; rw [Int64.toBitVec_or, BitVec.getLsbD_or]
theorem lb_and (x y : Int64) (i : Nat) : lb_t (x &&& y) i = (lb_t x i && lb_t y i) := by unfold lb_t; rw [Int64.toBitVec_and, BitVec.getLsbD_and]
theorem lb_xor (x y : Int64) (i : Nat) : lb_t (x ^^^ y) i = (lb_t x i ^^ lb_t y i) := by unfold lb_t; rw [Int64.toBitVec_xor, BitVec.getLsbD_xor]
theorem lb_big {x : Int64} {i : Nat} (h : 64 ≤ i) : lb_t x i = false := BitVec.getLsbD_of_ge _ _ h
theorem lb_lt {x : Int64} {i : Nat} (h : lb_t x i = true) : i < 64 := by
  rcases Nat.lt_or_ge i 64 with z | z
  · exact z
  · rw [lb_big z] at h; exact absurd h (by decide)
theorem lb_m1 : ∀ i, i < 64 → lb_t (-1) i = true := by decide +kernel
theorem lb_not (x : Int64) {i : Nat} (h : i < 64) : lb_t (x ^^^ (-1)) i = !lb_t x i := by rw [lb_xor, lb_m1 i h]; simp
theorem lb_0 (i : Nat) : lb_t 0 i = false := BitVec.getLsbD_zero
theorem lb_1p : ∀ k, k < 64 → ((1 : Int64) <<< ((nI k).toInt64 &&& 63)).toBitVec = BitVec.twoPow 64 k := by decide +kernel
theorem lb_one {k : Nat} (hk : k < 64) (j : Nat) : lb_t ((1 : Int64) <<< ((nI k).toInt64 &&& 63)) j = decide (j = k) := by
  unfold lb_t
  rw [lb_1p k hk, BitVec.getLsbD_twoPow, decide_eq_true hk, Bool.true_and]
  by_cases e : k = j
  · rw [decide_eq_true e, decide_eq_true e.symm]
  · rw [decide_eq_false e, decide_eq_false (fun z => e z.symm)]
theorem lb_test (x : Int64) {k : Nat} (hk : k < 64) : (((x.toUInt64 >>> ((nI k).toInt64.toUInt64 &&& Int64.toUInt64 63)).toInt64) &&& 1) = 0 ↔ lb_t x k = false := by
  rw [wb_cu k hk]
  exact ts_bit hk (u_tn (by omega))
theorem lb_val (x : Int64) {k : Nat} (hk : k < 64) : ((((x.toUInt64 >>> ((nI k).toInt64.toUInt64 &&& Int64.toUInt64 63)).toInt64) &&& 1).toInt32) = if lb_t x k = true then 1 else 0 := by
  have ht := lb_test x hk
  obtain ⟨n, hn, rfl⟩ := wb_of x
  rw [wb_bit hn hk] at ht ⊢
  rw [lN_i]
  rcases Nat.mod_two_eq_zero_or_one (n / 2 ^ k) with h | h
  · rw [h] at ht ⊢
    rw [if_neg (by rw [ht.mp rfl]; decide)]; rfl
  · rw [h] at ht ⊢
    have hz : ¬ lb_t (lN n) k = false := fun z => absurd (ht.mpr z) (by decide)
    rw [if_pos (ts_nf hz)]; rfl
theorem lb_z {x : Int64} : x = 0 ↔ ∀ i, i < 64 → lb_t x i = false := by
  constructor
  · intro h i _; rw [h]; exact lb_0 i
  · intro h; exact lb_ext (fun i hi => by rw [h i hi, lb_0])
theorem lb_nz {x : Int64} (h : ¬ x = 0) : ∃ i, i < 64 ∧ lb_t x i = true := by
  apply Classical.byContradiction
  intro z
  apply h
  rw [lb_z]
  intro i hi
  cases e : lb_t x i
  · rfl
  · exact absurd ⟨i, hi, e⟩ z
theorem lb_carry (x : BitVec 64) : ∀ i, BitVec.carry i x (BitVec.allOnes 64) false = true ↔ i ≤ 64 ∧ (∃ j, j < i ∧ x.getLsbD j = true) ∨ 64 < i ∧ BitVec.carry i x (BitVec.allOnes 64) false = true := by
  intro i
  induction i with
  | zero => simp
  | succ i ih =>
    rcases Nat.lt_or_ge i 64 with h | h
    · rw [BitVec.carry_succ, BitVec.getLsbD_allOnes, decide_eq_true h]
      constructor
      · intro z
        left
        refine ⟨by omega, ?_⟩
        cases e : x.getLsbD i
        · rw [e] at z
          have z2 : BitVec.carry i x (BitVec.allOnes 64) false = true := by
            revert z
            cases BitVec.carry i x (BitVec.allOnes 64) false <;> decide
          rcases ih.mp z2 with ⟨_, j, hj, hx⟩ | ⟨hz, _⟩
          · exact ⟨j, by omega, hx⟩
          · omega
        · exact ⟨i, by omega, e⟩
      · intro z
        rcases z with ⟨_, j, hj, hx⟩ | ⟨hz, _⟩
        · rcases Nat.lt_or_ge j i with a | a
          · rw [ih.mpr (Or.inl ⟨by omega, j, a, hx⟩)]
            cases x.getLsbD i <;> decide
          · have e : j = i := by omega
            subst e
            rw [hx]
            cases BitVec.carry j x (BitVec.allOnes 64) false <;> decide
        · omega
    · constructor
      · intro z; right; exact ⟨by omega, z⟩
      · intro z
        rcases z with ⟨hz, _⟩ | ⟨_, z⟩
        · omega
        · exact z
theorem lb_dec (x : Int64) {i : Nat} (hi : i < 64) : lb_t (x &&& (x - 1)) i = true ↔ lb_t x i = true ∧ ∃ j, j < i ∧ lb_t x j = true := by
  have e1 : (x - 1).toBitVec = x.toBitVec + BitVec.allOnes 64 := by
    rw [Int64.toBitVec_sub, BitVec.sub_eq_add_neg]
    rfl
  rw [lb_and]
  have e2 : lb_t (x - 1) i = (lb_t x i ^^ (true ^^ BitVec.carry i x.toBitVec (BitVec.allOnes 64) false)) := by
    unfold lb_t
    rw [e1, BitVec.getLsbD_add hi, BitVec.getLsbD_allOnes, decide_eq_true hi]
  have hc := lb_carry x.toBitVec i
  rw [e2]
  cases hx : lb_t x i
  · simp
  · cases hy : BitVec.carry i x.toBitVec (BitVec.allOnes 64) false
    · rw [hy] at hc
      constructor
      · intro z; exact absurd z (by decide)
      · intro z
        exact absurd (hc.mpr (Or.inl ⟨by omega, z.2⟩)) (by decide)
    · constructor
      · intro _
        rcases hc.mp hy with ⟨_, h⟩ | ⟨h, _⟩
        · exact ⟨rfl, h⟩
        · omega
      · intro _; rfl
theorem lb_decLow {x : Int64} {k : Nat} (hk : lb_t x k = true) (hl : ∀ j, j < k → lb_t x j = false) (i : Nat) : lb_t (x &&& (x - 1)) i = (lb_t x i && decide (i ≠ k)) := by
  rcases Nat.lt_or_ge i 64 with hi | hi
  · have h := lb_dec x hi
    by_cases e : i = k
    · subst e
      have : ¬ lb_t (x &&& (x - 1)) i = true := by
        intro z
        obtain ⟨_, j, hj, hx⟩ := h.mp z
        rw [hl j hj] at hx
        exact absurd hx (by decide)
      rw [ts_nt this]; simp
    · rw [decide_eq_true e, Bool.and_true]
      cases hx : lb_t x i
      · have : ¬ lb_t (x &&& (x - 1)) i = true := by
          intro z
          have := (h.mp z).1
          rw [hx] at this
          exact absurd this (by decide)
        exact ts_nt this
      · have hki : k < i := by
          rcases Nat.lt_trichotomy i k with a | a | a
          · rw [hl i a] at hx; exact absurd hx (by decide)
          · exact absurd a e
          · exact a
        exact h.mpr ⟨hx, k, hki, hk⟩
  · rw [lb_big hi, lb_big hi]; rfl
theorem lb_ge : ∀ G, G < 9 → ∀ j, j < 64 → lb_t (((1 : Int64) <<< ((nI G).toInt64 &&& 63)) - 1) j = decide (j < G) := by decide +kernel
theorem lb_ushr (x : Int64) {k : Nat} (hk : k < 64) (i : Nat) : lb_t ((x.toUInt64 >>> ((nI k).toInt64.toUInt64 &&& Int64.toUInt64 63)).toInt64) i = lb_t x (k + i) := by
  rw [wb_cu k hk]
  have e : (x.toUInt64 >>> UInt64.ofNat k).toInt64.toBitVec = x.toBitVec >>> k := by
    apply BitVec.eq_of_toNat_eq
    show (x.toUInt64 >>> UInt64.ofNat k).toNat = _
    rw [UInt64.toNat_shiftRight, u_tn (by omega), Nat.mod_eq_of_lt hk, BitVec.toNat_ushiftRight]
    rfl
  unfold lb_t
  rw [e, BitVec.getLsbD_ushiftRight]
theorem lb_255 : ∀ i, i < 64 → lb_t 255 i = decide (i < 8) := by decide +kernel
theorem lb_i32 (x : Int32) {k : Nat} (hk : k < 32) : lb_t x.toInt64 k = bt x k := by
  unfold lb_t bt
  rw [Int32.toBitVec_toInt64, BitVec.getLsbD_signExtend, if_pos hk, decide_eq_true (by omega), Bool.true_and]
theorem bt_test (x : Int32) {k : Nat} (hk : k < 32) : (((x.toUInt32 >>> ((nI k).toUInt32 &&& Int32.toUInt32 31)).toInt32) &&& 1) = 0 ↔ bt x k = false := by
  constructor
  · intro h
    have t := congrArg (fun z => bt z 0) h
    simp only [b_and, b_ushr k hk, b_0] at t
    have h1 : bt 1 0 = true := by decide
    rw [h1] at t
    simpa using t
  · intro h
    apply b_ext
    intro i hi
    rw [b_and, b_ushr k hk, b_0]
    by_cases e : i = 0
    · subst e; rw [Nat.add_zero, h]; rfl
    · have t : bt 1 i = false := (by decide +kernel : ∀ i, i < 32 → i ≠ 0 → bt 1 i = false) i hi e
      rw [t, Bool.and_false]
theorem bt_one {k : Nat} (hk : k < 32) (j : Nat) : bt ((1 : Int32) <<< (nI k &&& 31)) j = decide (j = k) := by
  unfold bt
  rw [nf_sh k hk, BitVec.getLsbD_twoPow, decide_eq_true hk, Bool.true_and]
  by_cases e : k = j
  · rw [decide_eq_true e, decide_eq_true e.symm]
  · rw [decide_eq_false e, decide_eq_false (fun z => e z.symm)]
theorem bt_not (x : Int32) {i : Nat} (h : i < 32) : bt (x ^^^ (-1)) i = !bt x i := by rw [b_xor, b_m1 i h]; simp
theorem bt_lt {x : Int32} {i : Nat} (h : bt x i = true) : i < 32 := by
  rcases Nat.lt_or_ge i 32 with z | z
  · exact z
  · rw [b_big z] at h; exact absurd h (by decide)
theorem bt_z {x : Int32} : x = 0 ↔ ∀ i, i < 32 → bt x i = false := by
  constructor
  · intro h i _; rw [h]; exact b_0 i
  · intro h; exact b_ext (fun i hi => by rw [h i hi, b_0])
def ct_n (p : Nat → Bool) : Nat → Nat
  | 0 => 0
  | k + 1 => ct_n p k + (if p k = true then 1 else 0)
theorem ct_bd (p : Nat → Bool) : ∀ N, ct_n p N ≤ N
  | 0 => Nat.le_refl _
  | N + 1 => by
    have := ct_bd p N
    simp only [ct_n]
    split <;> omega
theorem ct_le {p q : Nat → Bool} : ∀ N, (∀ j, j < N → p j = true → q j = true) → ct_n p N ≤ ct_n q N
  | 0 => fun _ => Nat.le_refl _
  | N + 1 => fun h => by
    have ih := ct_le N (fun j hj => h j (by omega))
    have hN := h N (by omega)
    simp only [ct_n]
    by_cases hp : p N = true
    · rw [if_pos hp, if_pos (hN hp)]; omega
    · rw [if_neg hp]; omega
theorem ct_lt {p q : Nat → Bool} {j0 : Nat} : ∀ N, (∀ j, j < N → p j = true → q j = true) → j0 < N → p j0 = false → q j0 = true → ct_n p N + 1 ≤ ct_n q N
  | 0 => fun _ h => by omega
  | N + 1 => fun h hj hp hq => by
    simp only [ct_n]
    by_cases e : j0 = N
    · subst e
      have ih := ct_le j0 (fun j hj => h j (by omega))
      rw [hp, hq, if_pos rfl, if_neg (by decide)]; omega
    · have ih := ct_lt N (fun j hj => h j (by omega)) (by omega) hp hq
      have hN := h N (by omega)
      by_cases hp : p N = true
      · rw [if_pos hp, if_pos (hN hp)]; omega
      · rw [if_neg hp]; omega
theorem ct_le1 {p q : Nat → Bool} {j0 : Nat} : ∀ N, (∀ j, j < N → j ≠ j0 → p j = true → q j = true) → ct_n p N ≤ ct_n q N + 1
  | 0 => fun _ => Nat.zero_le _
  | N + 1 => fun h => by
    simp only [ct_n]
    by_cases e : N = j0
    · have ih := ct_le (p := p) (q := q) N (fun j hj => h j (by omega) (by omega))
      have a : (if p N = true then 1 else 0) ≤ 1 := by split <;> omega
      omega
    · have ih := ct_le1 (p := p) (q := q) (j0 := j0) N (fun j hj => h j (by omega))
      have hN := h N (by omega) e
      by_cases hp : p N = true
      · rw [if_pos hp, if_pos (hN hp)]; omega
      · rw [if_neg hp]; omega
theorem ct_0 {p : Nat → Bool} : ∀ N, (∀ j, j < N → p j = false) → ct_n p N = 0
  | 0 => fun _ => rfl
  | N + 1 => fun h => by
    simp only [ct_n]
    rw [ct_0 N (fun j hj => h j (by omega)), h N (by omega), if_neg (by decide)]
theorem ct_z {p : Nat → Bool} : ∀ N, ct_n p N = 0 → ∀ j, j < N → p j = false
  | 0 => fun _ j hj => by omega
  | N + 1 => fun h j hj => by
    simp only [ct_n] at h
    by_cases hp : p N = true
    · rw [if_pos hp] at h; omega
    · rw [if_neg hp] at h
      by_cases e : j = N
      · subst e; exact ts_nt hp
      · exact ct_z N (by omega) j (by omega)
def sm_n (g : Nat → Nat) : Nat → Nat
  | 0 => 0
  | k + 1 => sm_n g k + g k
theorem sm_le {g h : Nat → Nat} : ∀ N, (∀ j, j < N → g j ≤ h j) → sm_n g N ≤ sm_n h N
  | 0 => fun _ => Nat.le_refl _
  | N + 1 => fun z => by
    have ih := sm_le N (fun j hj => z j (by omega))
    have hN := z N (by omega)
    simp only [sm_n]; omega
theorem sm_lt {g h : Nat → Nat} {j0 : Nat} : ∀ N, (∀ j, j < N → g j ≤ h j) → j0 < N → g j0 + 1 ≤ h j0 → sm_n g N + 1 ≤ sm_n h N
  | 0 => fun _ h => by omega
  | N + 1 => fun z hj h1 => by
    simp only [sm_n]
    by_cases e : j0 = N
    · subst e
      have ih := sm_le j0 (fun j hj => z j (by omega))
      omega
    · have ih := sm_lt N (fun j hj => z j (by omega)) (by omega) h1
      have hN := z N (by omega)
      omega
theorem sm_bd {g : Nat → Nat} {c : Nat} : ∀ N, (∀ j, j < N → g j ≤ c) → sm_n g N ≤ N * c
  | 0 => fun _ => Nat.zero_le _
  | N + 1 => fun z => by
    have ih := sm_bd N (fun j hj => z j (by omega))
    have hN := z N (by omega)
    simp only [sm_n]
    rw [Nat.succ_mul]; omega
theorem sm_mem {g : Nat → Nat} {j0 : Nat} : ∀ N, j0 < N → g j0 ≤ sm_n g N
  | 0 => fun h => by omega
  | N + 1 => fun h => by
    simp only [sm_n]
    by_cases e : j0 = N
    · subst e; omega
    · have := sm_mem (g := g) N (show j0 < N by omega)
      omega
theorem lc_1 {A : Type} (W : Nat → Nat → A → Prop) (I : Nat → A → Prop) (e : Nat) (a : A) (h0 : I 0 a) (hx : ∀ n a, I e a → W (n + 1) e a) (hs : ∀ n i a, i < e → I i a → (∀ a', I (i + 1) a' → W n (i + 1) a') → W (n + 1) i a) : ∃ n, W n 0 a := loop_0 W I e a h0 hx hs
theorem lc_0 (W : Nat → Nat → Prop) (I : Nat → Prop) (e : Nat) (h0 : I 0) (hx : ∀ n, I e → W (n + 1) e) (hs : ∀ n i, i < e → I i → (I (i + 1) → W n (i + 1)) → W (n + 1) i) : ∃ n, W n 0 :=
  loop_0 (fun n i (_ : Unit) => W n i) (fun i _ => I i) e () h0 (fun n _ => hx n) (fun n i _ hi h k => hs n i hi h (fun h' => k () h'))
theorem lc_2 {A B : Type} (W : Nat → Nat → A → B → Prop) (I : Nat → A → B → Prop) (e : Nat) (a : A) (b : B) (h0 : I 0 a b) (hx : ∀ n a b, I e a b → W (n + 1) e a b) (hs : ∀ n i a b, i < e → I i a b → (∀ a' b', I (i + 1) a' b' → W n (i + 1) a' b') → W (n + 1) i a b) : ∃ n, W n 0 a b :=
  loop_0 (fun n i (s : A × B) => W n i s.1 s.2) (fun i s => I i s.1 s.2) e (a, b) h0 (fun n s => hx n s.1 s.2) (fun n i s hi h k => hs n i s.1 s.2 hi h (fun a' b' h' => k (a', b') h'))
theorem lc_3 {A B C : Type} (W : Nat → Nat → A → B → C → Prop) (I : Nat → A → B → C → Prop) (e : Nat) (a : A) (b : B) (c : C) (h0 : I 0 a b c) (hx : ∀ n a b c, I e a b c → W (n + 1) e a b c) (hs : ∀ n i a b c, i < e → I i a b c → (∀ a' b' c', I (i + 1) a' b' c' → W n (i + 1) a' b' c') → W (n + 1) i a b c) : ∃ n, W n 0 a b c :=
  loop_0 (fun n i (s : A × B × C) => W n i s.1 s.2.1 s.2.2) (fun i s => I i s.1 s.2.1 s.2.2) e (a, b, c) h0 (fun n s => hx n s.1 s.2.1 s.2.2) (fun n i s hi h k => hs n i s.1 s.2.1 s.2.2 hi h (fun a' b' c' h' => k (a', b', c') h'))
theorem lc_7 {A B C D E F G : Type} (W : Nat → Nat → A → B → C → D → E → F → G → Prop) (I : Nat → A → B → C → D → E → F → G → Prop) (e : Nat) (a : A) (b : B) (c : C) (d : D) (f : E) (g : F) (h : G) (h0 : I 0 a b c d f g h) (hx : ∀ n a b c d f g h, I e a b c d f g h → W (n + 1) e a b c d f g h) (hs : ∀ n i a b c d f g h, i < e → I i a b c d f g h → (∀ a' b' c' d' f' g' h', I (i + 1) a' b' c' d' f' g' h' → W n (i + 1) a' b' c' d' f' g' h') → W (n + 1) i a b c d f g h) : ∃ n, W n 0 a b c d f g h :=
  loop_0 (fun n i (s : A × B × C × D × E × F × G) => W n i s.1 s.2.1 s.2.2.1 s.2.2.2.1 s.2.2.2.2.1 s.2.2.2.2.2.1 s.2.2.2.2.2.2) (fun i s => I i s.1 s.2.1 s.2.2.1 s.2.2.2.1 s.2.2.2.2.1 s.2.2.2.2.2.1 s.2.2.2.2.2.2) e (a, b, c, d, f, g, h) h0 (fun n s => hx n s.1 s.2.1 s.2.2.1 s.2.2.2.1 s.2.2.2.2.1 s.2.2.2.2.2.1 s.2.2.2.2.2.2) (fun n i s hi h k => hs n i s.1 s.2.1 s.2.2.1 s.2.2.2.1 s.2.2.2.2.1 s.2.2.2.2.2.1 s.2.2.2.2.2.2 hi h (fun a' b' c' d' f' g' h' z => k (a', b', c', d', f', g', h') z))
def pn (x : Int32) : Nat := x.toNatClampNeg
theorem pn_nI {n : Nat} (h : n < 2 ^ 31) : pn (nI n) = n := nI_clamp h
theorem lo_or {x y : Int64} {i : Nat} : lb_t (x ||| y) i = true ↔ lb_t x i = true ∨ lb_t y i = true := by rw [lb_or, Bool.or_eq_true]
theorem lo_and {x y : Int64} {i : Nat} : lb_t (x &&& y) i = true ↔ lb_t x i = true ∧ lb_t y i = true := by rw [lb_and, Bool.and_eq_true]
theorem lo_one {k : Nat} (hk : k < 64) {j : Nat} : lb_t ((1 : Int64) <<< ((nI k).toInt64 &&& 63)) j = true ↔ j = k := by rw [lb_one hk, decide_eq_true_iff]
theorem lo_not {x : Int64} {i : Nat} : lb_t (x ^^^ (-1)) i = true ↔ i < 64 ∧ ¬ lb_t x i = true := by
  rcases Nat.lt_or_ge i 64 with h | h
  · rw [lb_not x h]; cases lb_t x i <;> simp [h]
  · rw [lb_big h]; exact ⟨fun z => absurd z (by decide), fun z => by omega⟩
theorem lo_diff {x y : Int64} {i : Nat} : lb_t (x &&& (y ^^^ (-1))) i = true ↔ lb_t x i = true ∧ ¬ lb_t y i = true := by
  rw [lo_and, lo_not]
  exact ⟨fun h => ⟨h.1, h.2.2⟩, fun h => ⟨h.1, lb_lt h.1, h.2⟩⟩
theorem lo_0 {i : Nat} : ¬ lb_t 0 i = true := by rw [lb_0]; decide
theorem lo_1 {i : Nat} : lb_t 1 i = true ↔ i = 0 := by
  rcases Nat.lt_or_ge i 64 with h | h
  · rw [(by decide +kernel : ∀ i, i < 64 → lb_t 1 i = decide (i = 0)) i h, decide_eq_true_iff]
  · rw [lb_big h]; exact ⟨fun z => absurd z (by decide), fun z => by omega⟩
theorem lo_m1 {i : Nat} : lb_t (-1) i = true ↔ i < 64 := ⟨lb_lt, lb_m1 i⟩
theorem lo_ext {x y : Int64} (h : ∀ i, lb_t x i = true ↔ lb_t y i = true) : x = y := lb_ext (fun i _ => Bool.eq_iff_iff.mpr (h i))
theorem lo_z {x : Int64} : x = 0 ↔ ∀ i, ¬ lb_t x i = true := ⟨fun h i => by rw [h]; exact lo_0, fun h => lo_ext (fun i => ⟨fun z => absurd z (h i), fun z => absurd z lo_0⟩)⟩
theorem lo_tst {x : Int64} {k : Nat} (hk : k < 64) : (((x.toUInt64 >>> ((nI k).toInt64.toUInt64 &&& Int64.toUInt64 63)).toInt64) &&& 1) = 0 ↔ ¬ lb_t x k = true := by
  rw [lb_test x hk]; cases lb_t x k <;> simp
theorem lo_br {x : Int64} {A B : Prop} (k : Nat) (hk : k < 64) (g : ¬ lb_t x k = true → A) (f : lb_t x k = true → B) : ((((x.toUInt64 >>> ((nI k).toInt64.toUInt64 &&& Int64.toUInt64 63)).toInt64) &&& 1) = 0 → A) ∧ (¬ (((x.toUInt64 >>> ((nI k).toInt64.toUInt64 &&& Int64.toUInt64 63)).toInt64) &&& 1) = 0 → B) :=
  ⟨fun h => g ((lo_tst hk).mp h), fun h => f (Classical.byContradiction (fun z => h ((lo_tst hk).mpr z)))⟩
theorem bo_or {x y : Int32} {i : Nat} : bt (x ||| y) i = true ↔ bt x i = true ∨ bt y i = true := by rw [b_or, Bool.or_eq_true]
theorem bo_and {x y : Int32} {i : Nat} : bt (x &&& y) i = true ↔ bt x i = true ∧ bt y i = true := by rw [b_and, Bool.and_eq_true]
theorem bo_one {k : Nat} (hk : k < 32) {j : Nat} : bt ((1 : Int32) <<< (nI k &&& 31)) j = true ↔ j = k := by rw [bt_one hk, decide_eq_true_iff]
theorem bo_not {x : Int32} {i : Nat} : bt (x ^^^ (-1)) i = true ↔ i < 32 ∧ ¬ bt x i = true := by
  rcases Nat.lt_or_ge i 32 with h | h
  · rw [bt_not x h]; cases bt x i <;> simp [h]
  · rw [b_big h]; exact ⟨fun z => absurd z (by decide), fun z => by omega⟩
theorem bo_diff {x y : Int32} {i : Nat} : bt (x &&& (y ^^^ (-1))) i = true ↔ bt x i = true ∧ ¬ bt y i = true := by
  rw [bo_and, bo_not]
  exact ⟨fun h => ⟨h.1, h.2.2⟩, fun h => ⟨h.1, bt_lt h.1, h.2⟩⟩
theorem bo_0 {i : Nat} : ¬ bt 0 i = true := by rw [b_0]; decide
theorem bo_255 {i : Nat} : bt 255 i = true ↔ i < 8 := by rw [b_255, decide_eq_true_iff]
theorem bo_ext {x y : Int32} (h : ∀ i, bt x i = true ↔ bt y i = true) : x = y := b_ext (fun i _ => Bool.eq_iff_iff.mpr (h i))
theorem bo_tst {x : Int32} {k : Nat} (hk : k < 32) : (((x.toUInt32 >>> ((nI k).toUInt32 &&& Int32.toUInt32 31)).toInt32) &&& 1) = 0 ↔ ¬ bt x k = true := by
  rw [bt_test x hk]; cases bt x k <;> simp
theorem bo_br {x : Int32} {A B : Prop} (k : Nat) (hk : k < 32) (g : ¬ bt x k = true → A) (f : bt x k = true → B) : ((((x.toUInt32 >>> ((nI k).toUInt32 &&& Int32.toUInt32 31)).toInt32) &&& 1) = 0 → A) ∧ (¬ (((x.toUInt32 >>> ((nI k).toUInt32 &&& Int32.toUInt32 31)).toInt32) &&& 1) = 0 → B) :=
  ⟨fun h => g ((bo_tst hk).mp h), fun h => f (Classical.byContradiction (fun z => h ((bo_tst hk).mpr z)))⟩
theorem lo_low {x : Int64} {k : Nat} (hk : lb_t x k = true) (hl : ∀ j, j < k → ¬ lb_t x j = true) {i : Nat} : lb_t (x &&& (x - 1)) i = true ↔ lb_t x i = true ∧ i ≠ k := by
  rw [lb_decLow hk (fun j hj => ts_nt (hl j hj)), Bool.and_eq_true, decide_eq_true_iff]
/-- a number as int: within or not -/
theorem ix_br {x : Int32} {n : Nat} {A B C : Prop} (hn : n < 2 ^ 31) (f : (¬ ∃ j, j < n ∧ x = nI j) → A) (g : (¬ ∃ j, j < n ∧ x = nI j) → B) (h : ∀ j, j < n → x = nI j → C) : (x < 0 → A) ∧ (¬ x < 0 → ((nI n ≤ x → B) ∧ (¬ nI n ≤ x → C))) := by
  refine ⟨fun a => f (fun ⟨j, hj, e⟩ => absurd a (by rw [e]; exact nI_pos (by omega))), fun a => ⟨fun b => g (fun ⟨j, hj, e⟩ => absurd b (by rw [e]; exact nI_ge hj hn)), fun b => ?_⟩⟩
  obtain ⟨j, hj, e⟩ := nI_of a
  refine h j ?_ e
  rw [e, nI_leI hn hj] at b
  omega
theorem lc_5 {A B C D E : Type} (W : Nat → Nat → A → B → C → D → E → Prop) (I : Nat → A → B → C → D → E → Prop) (e : Nat) (a : A) (b : B) (c : C) (d : D) (f : E) (h0 : I 0 a b c d f) (hx : ∀ n a b c d f, I e a b c d f → W (n + 1) e a b c d f) (hs : ∀ n i a b c d f, i < e → I i a b c d f → (∀ a' b' c' d' f', I (i + 1) a' b' c' d' f' → W n (i + 1) a' b' c' d' f') → W (n + 1) i a b c d f) : ∃ n, W n 0 a b c d f :=
  loop_0 (fun n i (s : A × B × C × D × E) => W n i s.1 s.2.1 s.2.2.1 s.2.2.2.1 s.2.2.2.2) (fun i s => I i s.1 s.2.1 s.2.2.1 s.2.2.2.1 s.2.2.2.2) e (a, b, c, d, f) h0 (fun n s => hx n s.1 s.2.1 s.2.2.1 s.2.2.2.1 s.2.2.2.2) (fun n i s hi h k => hs n i s.1 s.2.1 s.2.2.1 s.2.2.2.1 s.2.2.2.2 hi h (fun a' b' c' d' f' z => k (a', b', c', d', f') z))
end
section
/-! the plain law: graph, least sets, holding, needing -/
def gr_W (E : Nat → Nat → Prop) : Nat → Nat → Nat → Prop
  | 0 => fun i s => E i s
  | k + 1 => fun i s => gr_W E k i s ∨ (gr_W E k i k ∧ gr_W E k k s)
def gr_T (E : Nat → Nat → Prop) (i s : Nat) : Prop := ∀ S : Nat → Prop, (∀ y, E i y → S y) → (∀ y z, S y → E y z → S z) → S s
theorem gr_mono {E : Nat → Nat → Prop} {i s : Nat} : ∀ {k d : Nat}, gr_W E k i s → gr_W E (k + d) i s
  | _, 0 => fun h => h
  | k, d + 1 => fun h => Or.inl (gr_mono (d := d) h)
theorem gr_row {E : Nat → Nat → Prop} {k s : Nat} : gr_W E (k + 1) k s ↔ gr_W E k k s :=
  ⟨fun h => h.elim (fun a => a) (fun a => a.2), Or.inl⟩
theorem gr_col {E : Nat → Nat → Prop} {k i : Nat} : gr_W E (k + 1) i k ↔ gr_W E k i k :=
  ⟨fun h => h.elim (fun a => a) (fun a => a.1), Or.inl⟩
theorem gr_trans {E : Nat → Nat → Prop} : ∀ k m i s : Nat, m < k → gr_W E k i m → gr_W E k m s → gr_W E k i s
  | 0 => fun m _ _ h => absurd h (Nat.not_lt_zero m)
  | k + 1 => fun m i s hm h1 h2 => by
    rcases Nat.lt_or_ge m k with a | a
    · rcases h1 with h1 | ⟨h1, h1'⟩
      · rcases h2 with h2 | ⟨h2, h2'⟩
        · exact Or.inl (gr_trans k m i s a h1 h2)
        · exact Or.inr ⟨gr_trans k m i k a h1 h2, h2'⟩
      · rcases h2 with h2 | ⟨h2, h2'⟩
        · exact Or.inr ⟨h1, gr_trans k m k s a h1' h2⟩
        · exact Or.inr ⟨h1, h2'⟩
    · have e : m = k := by omega
      subst e
      exact Or.inr ⟨gr_col.mp h1, gr_row.mp h2⟩
theorem gr_T_e {E : Nat → Nat → Prop} {i s : Nat} (h : E i s) : gr_T E i s := fun _ hb _ => hb s h
theorem gr_T_s {E : Nat → Nat → Prop} {i m s : Nat} (h : gr_T E i m) (e : E m s) : gr_T E i s := fun S hb hs => hs m s (h S hb hs) e
theorem gr_T_t {E : Nat → Nat → Prop} {i m s : Nat} (h : gr_T E i m) (g : gr_T E m s) : gr_T E i s :=
  g (fun z => gr_T E i z) (fun _ e => gr_T_s h e) (fun _ _ a e => gr_T_s a e)
theorem gr_WT {E : Nat → Nat → Prop} : ∀ k i s : Nat, gr_W E k i s → gr_T E i s
  | 0 => fun _ _ h => gr_T_e h
  | k + 1 => fun i s h => h.elim (fun a => gr_WT k i s a) (fun a => gr_T_t (gr_WT k i k a.1) (gr_WT k k s a.2))
theorem gr_TW {E : Nat → Nat → Prop} {n : Nat} (hE : ∀ i s, E i s → i < n ∧ s < n) {i s : Nat} : gr_T E i s ↔ gr_W E n i s := by
  have h0 : ∀ i s, E i s → gr_W E n i s := fun i s h => by
    have := gr_mono (E := E) (k := 0) (d := n) (i := i) (s := s) h
    rwa [Nat.zero_add] at this
  exact ⟨fun h => h (fun z => gr_W E n i z) (fun y e => h0 i y e) (fun y z a e => gr_trans n y i z (hE y z e).1 a (h0 y z e)), gr_WT n i s⟩
theorem gr_T_lt {E : Nat → Nat → Prop} {n : Nat} (hE : ∀ i s, E i s → i < n ∧ s < n) {i s : Nat} (h : gr_T E i s) : s < n :=
  h (fun z => z < n) (fun y e => (hE i y e).2) (fun y z _ e => (hE y z e).2)
def gr_R (E : Nat → Nat → Prop) (n i : Nat) : Prop := i < n ∧ (i = 0 ∨ gr_T E 0 i)
theorem gr_R_s {E : Nat → Nat → Prop} {n : Nat} (hE : ∀ i s, E i s → i < n ∧ s < n) {i s : Nat} (h : gr_R E n i) (e : E i s) : gr_R E n s := by
  refine ⟨(hE i s e).2, Or.inr ?_⟩
  rcases h.2 with a | a
  · subst a; exact gr_T_e e
  · exact gr_T_s a e
theorem gr_R_ind {E : Nat → Nat → Prop} {n : Nat} {P : Nat → Prop} (h0 : P 0) (hs : ∀ i s, gr_R E n i → P i → E i s → P s) (hE : ∀ i s, E i s → i < n ∧ s < n) {i : Nat} (h : gr_R E n i) : P i := by
  rcases h.2 with a | a
  · rw [a]; exact h0
  · have hn : 0 < n := by have := h.1; omega
    have r0 : gr_R E n 0 := ⟨hn, Or.inl rfl⟩
    exact (a (fun z => gr_R E n z ∧ P z) (fun y e => ⟨gr_R_s hE r0 e, hs 0 y r0 h0 e⟩) (fun y z p e => ⟨gr_R_s hE p.1 e, hs y z p.1 p.2 e⟩)).2
/-! the program's graph -/
def pg_e (n : Nat) (op fa fb : Nat → Int32) (i s : Nat) : Prop := i < n ∧ s < n ∧ ((op i = 10 ∧ s = pn (fa i)) ∨ (¬ op i = 10 ∧ (s = i + 1 ∨ (op i = 11 ∧ s = pn (fb i)))))
theorem pg_e_lt {n : Nat} {op fa fb : Nat → Int32} : ∀ i s, pg_e n op fa fb i s → i < n ∧ s < n := fun _ _ h => ⟨h.1, h.2.1⟩
def pg_ok (R V G n : Nat) (op fa fb fc : Nat → Int32) : Prop := ∀ i, i < n →
  (∃ o, 1 ≤ o ∧ o ≤ 12 ∧ op i = nI o) ∧ (op i = 10 → ∃ a, a ≤ R ∧ fa i = nI a) ∧ (¬ op i = 10 → ∃ a, a < V ∧ fa i = nI a) ∧
  (op i = 2 → ∃ b, b < 4 ∧ fb i = nI b) ∧ (op i = 6 → ∃ b, b < G ∧ fb i = nI b) ∧ (op i = 11 → ∃ b, b ≤ R ∧ fb i = nI b) ∧
  ((op i = 3 ∨ op i = 4 ∨ op i = 5 ∨ op i = 8 ∨ op i = 9) → ∃ b, b < V ∧ fb i = nI b) ∧ ((op i = 4 ∨ op i = 5) → ∃ c, c < V ∧ fc i = nI c)
/-! points-to: the least solution -/
def pt_C (n G : Nat) (op fa fb : Nat → Int32) (S : Nat → Nat → Prop) : Prop := ∀ i, i < n →
  (op i = 6 → S (pn (fa i)) (pn (fb i))) ∧ (op i = 7 → S (pn (fa i)) (G + i)) ∧ (op i = 3 → ∀ s, S (pn (fb i)) s → S (pn (fa i)) s) ∧
  (op i = 8 → ∀ s x, S (pn (fb i)) s → S (8 + s) x → S (pn (fa i)) x) ∧ (op i = 9 → ∀ s x, S (pn (fa i)) s → S (pn (fb i)) x → S (8 + s) x)
def pt_L (n G : Nat) (op fa fb : Nat → Int32) (k s : Nat) : Prop := ∀ S : Nat → Nat → Prop, pt_C n G op fa fb S → S k s
theorem pt_LC (n G : Nat) (op fa fb : Nat → Int32) : pt_C n G op fa fb (pt_L n G op fa fb) := fun i hi =>
  ⟨fun h S hS => (hS i hi).1 h, fun h S hS => (hS i hi).2.1 h, fun h s a S hS => (hS i hi).2.2.1 h s (a S hS),
   fun h s x a b S hS => (hS i hi).2.2.2.1 h s x (a S hS) (b S hS), fun h s x a b S hS => (hS i hi).2.2.2.2 h s x (a S hS) (b S hS)⟩
theorem pt_bd {R V G n : Nat} {op fa fb fc : Nat → Int32} (hp : pg_ok R V G n op fa fb fc) (hV : V ≤ 8) (hG : G ≤ 8) (hn : n ≤ 32) {k s : Nat} (h : pt_L n G op fa fb k s) : k < 48 ∧ s < 40 := by
  apply h (fun k s => k < 48 ∧ s < 40)
  intro i hi
  obtain ⟨ho, h10, hn10, h2, h6, h11, hb, hc⟩ := hp i hi
  have ha : ∀ z : Int32, op i = z → z ≠ 10 → pn (fa i) < 48 := fun z e hz => by
    obtain ⟨a, h1, h2⟩ := hn10 (by rw [e]; exact hz)
    rw [h2, pn_nI (by omega)]; omega
  refine ⟨fun h => ⟨ha 6 h (by decide), ?_⟩, fun h => ⟨ha 7 h (by decide), by omega⟩, fun h s a => ⟨ha 3 h (by decide), a.2⟩, fun h s x a b => ⟨ha 8 h (by decide), b.2⟩, fun h s x a b => ⟨by omega, b.2⟩⟩
  obtain ⟨b, h1, h2⟩ := h6 h
  rw [h2, pn_nI (by omega)]; omega
/-! single sites, exact variables -/
def an_SG (G n : Nat) (op : Nat → Int32) (T : Nat → Nat → Prop) (s : Nat) : Prop := s < G ∨ ∃ i, i < n ∧ s = G + i ∧ op i = 7 ∧ ¬ T i i
def an_EX (L : Nat → Nat → Prop) (SG : Nat → Prop) (v : Nat) : Prop := ∃ s, SG s ∧ L v s ∧ ∀ t, L v t → t = s
def an_SC (L : Nat → Nat → Prop) (EX : Nat → Prop) (v w : Nat) : Prop := EX v ∧ EX w ∧ ∀ s, L v s ↔ L w s
def an_MT (L : Nat → Nat → Prop) (v w : Nat) : Prop := ∃ s, L v s ∧ L w s
def an_AS (op fa : Nat → Int32) (i u : Nat) : Prop := ¬ 8 < op i ∧ fa i = nI u
def an_ES (op fa fb : Nat → Int32) (EX : Nat → Prop) (SC : Nat → Nat → Prop) (i v x : Nat) : Prop :=
  (op i = 9 ∧ fb i = nI x ∧ ((EX v ∧ SC (pn (fa i)) v) ∨ (¬ EX v ∧ fa i = nI v))) ∨
  (op i = 8 ∧ fa i = nI x ∧ ((EX v ∧ SC (pn (fb i)) v) ∨ (¬ EX v ∧ fb i = nI v ∧ ¬ x = v)))
def an_DE (op fa : Nat → Int32) (EX : Nat → Prop) (MT : Nat → Nat → Prop) (i v x : Nat) : Prop :=
  an_AS op fa i x ∨ (op i = 9 ∧ MT (pn (fa i)) v) ∨ (¬ EX v ∧ an_AS op fa i v)
/-! holding: pairs (instruction, flag) that a walk from the entry can reach -/
def hd_S (E : Nat → Nat → Prop) (g k : Nat → Prop) (i : Nat) (f : Bool) : Prop := ∀ S : Nat → Bool → Prop, S 0 false →
  (∀ i f s, S i f → E i s → (g i → S s true) ∧ (¬ g i → k i → S s false) ∧ (¬ g i → ¬ k i → S s f)) → S i f
theorem hd_0 {E : Nat → Nat → Prop} {g k : Nat → Prop} : hd_S E g k 0 false := fun _ h0 _ => h0
theorem hd_g {E : Nat → Nat → Prop} {g k : Nat → Prop} {i s : Nat} {f : Bool} (h : hd_S E g k i f) (e : E i s) (hg : g i) : hd_S E g k s true := fun S h0 hs => (hs i f s (h S h0 hs) e).1 hg
theorem hd_k {E : Nat → Nat → Prop} {g k : Nat → Prop} {i s : Nat} {f : Bool} (h : hd_S E g k i f) (e : E i s) (hg : ¬ g i) (hk : k i) : hd_S E g k s false := fun S h0 hs => (hs i f s (h S h0 hs) e).2.1 hg hk
theorem hd_n {E : Nat → Nat → Prop} {g k : Nat → Prop} {i s : Nat} {f : Bool} (h : hd_S E g k i f) (e : E i s) (hg : ¬ g i) (hk : ¬ k i) : hd_S E g k s f := fun S h0 hs => (hs i f s (h S h0 hs) e).2.2 hg hk
theorem hd_all {E : Nat → Nat → Prop} {n : Nat} (hE : ∀ i s, E i s → i < n ∧ s < n) {g k : Nat → Prop} {i : Nat} (h : gr_R E n i) : ∃ f, hd_S E g k i f := by
  refine gr_R_ind (P := fun i => ∃ f, hd_S E g k i f) ⟨false, hd_0⟩ ?_ hE h
  rintro i s _ ⟨f, hf⟩ e
  by_cases hg : g i
  · exact ⟨true, hd_g hf e hg⟩
  · by_cases hk : k i
    · exact ⟨false, hd_k hf e hg hk⟩
    · exact ⟨f, hd_n hf e hg hk⟩
theorem hd_none {E : Nat → Nat → Prop} {n : Nat} (hE : ∀ i s, E i s → i < n ∧ s < n) {g k : Nat → Prop} (hg : ∀ i, i < n → ¬ g i) (hk : ∀ i, i < n → ¬ k i) {i : Nat} (h : gr_R E n i) : hd_S E g k i false :=
  gr_R_ind (P := fun i => hd_S E g k i false) hd_0 (fun i _ hi a e => hd_n a e (hg i hi.1) (hk i hi.1)) hE h
/-- a set of held places that is consistent along the edges holds only where no walk loses it -/
theorem hd_lo {E : Nat → Nat → Prop} {n : Nat} (hE : ∀ i s, E i s → i < n ∧ s < n) (hn : 0 < n) {g k H : Nat → Prop} (h0 : ¬ H 0) (hc : ∀ i s, gr_R E n i → E i s → H s → g i ∨ (H i ∧ ¬ k i)) {i : Nat} (h : H i) : ¬ hd_S E g k i false := by
  intro z
  have t := z (fun i f => gr_R E n i ∧ (f = false → ¬ H i)) ⟨⟨hn, Or.inl rfl⟩, fun _ => h0⟩ (by
    rintro i f s ⟨r, a⟩ e
    have rs := gr_R_s hE r e
    refine ⟨fun _ => ⟨rs, fun z => absurd z (by decide)⟩, fun hg hk => ⟨rs, fun _ hs => ?_⟩, fun hg hk => ⟨rs, fun z hs => ?_⟩⟩
    · rcases hc i s r e hs with a | a
      · exact hg a
      · exact a.2 hk
    · rcases hc i s r e hs with b | b
      · exact hg b
      · exact a z b.1)
  exact t.2 rfl h
/-- if no walk reaches s with the flag down, every predecessor hands the pair on -/
theorem hd_hi {E : Nat → Nat → Prop} {n : Nat} (hE : ∀ i s, E i s → i < n ∧ s < n) {g k : Nat → Prop} {i s : Nat} (r : gr_R E n i) (e : E i s) (hs : ¬ hd_S E g k s false) : g i ∨ (¬ hd_S E g k i false ∧ ¬ k i) := by
  by_cases hg : g i
  · exact Or.inl hg
  · right
    by_cases hk : k i
    · obtain ⟨f, hf⟩ := hd_all hE (g := g) (k := k) r
      exact absurd (hd_k hf e hg hk) hs
    · exact ⟨fun z => hs (hd_n z e hg hk), hk⟩
theorem hd_congr {E : Nat → Nat → Prop} {n : Nat} (hE : ∀ i s, E i s → i < n ∧ s < n) {g k g' k' : Nat → Prop} (hg : ∀ i, i < n → (g i ↔ g' i)) (hk : ∀ i, i < n → ¬ g i → (k i ↔ k' i)) {i : Nat} {f : Bool} (h : hd_S E g k i f) : hd_S E g' k' i f := fun S h0 hs =>
  h S h0 (fun i f s a e => by
    have hi := (hE i s e).1
    have t := hs i f s a e
    refine ⟨fun z => t.1 ((hg i hi).mp z), fun z w => t.2.1 (fun q => z ((hg i hi).mpr q)) ((hk i hi z).mp w), fun z w => t.2.2 (fun q => z ((hg i hi).mpr q)) (fun q => w ((hk i hi z).mpr q))⟩)
/-! needing: pairs from which a walk meets a read -/
def nd_N (E : Nat → Nat → Prop) (rd : Nat → Prop) (ov : Nat → Bool → Prop) (ass : Nat → Prop) (i : Nat) (f : Bool) : Prop := ∀ S : Nat → Bool → Prop, (∀ i f, rd i → S i f) →
  (∀ i f s, E i s → ¬ ov i f → (ass i → S s true) → (¬ ass i → S s f) → S i f) → S i f
theorem nd_r {E : Nat → Nat → Prop} {rd : Nat → Prop} {ov : Nat → Bool → Prop} {ass : Nat → Prop} {i : Nat} {f : Bool} (h : rd i) : nd_N E rd ov ass i f := fun _ hr _ => hr i f h
theorem nd_s {E : Nat → Nat → Prop} {rd : Nat → Prop} {ov : Nat → Bool → Prop} {ass : Nat → Prop} {i s : Nat} {f : Bool} (e : E i s) (ho : ¬ ov i f) (h1 : ass i → nd_N E rd ov ass s true) (h2 : ¬ ass i → nd_N E rd ov ass s f) : nd_N E rd ov ass i f := fun S hr hs => hs i f s e ho (fun a => h1 a S hr hs) (fun a => h2 a S hr hs)
theorem nd_out {E : Nat → Nat → Prop} {rd : Nat → Prop} {ov : Nat → Bool → Prop} {ass : Nat → Prop} {C : Nat → Bool → Prop} (h1 : ∀ i f, C i f → ¬ rd i) (h2 : ∀ i f s, C i f → E i s → ¬ ov i f → (ass i → C s true) ∧ (¬ ass i → C s f)) {i : Nat} {f : Bool} (h : nd_N E rd ov ass i f) : ¬ C i f :=
  h (fun i f => ¬ C i f) (fun i f a b => h1 i f b a) (fun i f s e ho a b c => by
    by_cases ha : ass i
    · exact a ha ((h2 i f s c e ho).1 ha)
    · exact b ha ((h2 i f s c e ho).2 ha))
theorem nd_congr {E : Nat → Nat → Prop} {n : Nat} (hE : ∀ i s, E i s → i < n ∧ s < n) {rd rd' : Nat → Prop} {ov ov' : Nat → Bool → Prop} {ass ass' : Nat → Prop} (hr : ∀ i, i < n → (rd i → rd' i)) (ho : ∀ i f, i < n → (ov' i f → ov i f)) (ha : ∀ i, i < n → (ass i ↔ ass' i)) {i : Nat} {f : Bool} (hi : i < n) (h : nd_N E rd ov ass i f) : nd_N E rd' ov' ass' i f :=
  h (fun i f => i < n → nd_N E rd' ov' ass' i f) (fun i f a b => nd_r (hr i b a)) (fun i f s e o a b c => nd_s e (fun q => o (ho i f c q)) (fun q => a ((ha i c).mpr q) (hE i s e).2) (fun q => b (fun w => q ((ha i c).mp w)) (hE i s e).2)) hi
end
section
section
variable {xmaxLength : Int32} {xvariableCount : Int32} {xglobalCount : Int32} {xheapLimit : Int32} {xlength : Int32} {xcursor : Int32} {xstate : Int32} {xpending : Int64} {xreachable : Int64} {xsingleSites : Int64} {xexactVars : Int32} {ximproved : Int32} {xopAt : (Nat → Int32)} {xaAt : (Nat → Int32)} {xbAt : (Nat → Int32)} {xcAt : (Nat → Int32)} {xinputs : (Nat → Int32)} {xrep : (Nat → Int32)} {xpts : (Nat → Int64)} {xdone : (Nat → Int64)} {xflowsTo : (Nat → Int64)} {xtried : (Nat → Int64)} {xloads : (Nat → Int32)} {xstores : (Nat → Int32)} {xnext : (Nat → Int64)} {xprev : (Nat → Int64)} {xafter : (Nat → Int64)} {xvarSet : (Nat → Int64)} {xgen : (Nat → Int64)} {xkill : (Nat → Int64)} {xholdsIn : (Nat → Int64)} {xreads : (Nat → Int32)} {xcovers : (Nat → Int32)} {xneedIn : (Nat → Int32)} {xneedAfter : (Nat → Int32)} {xverdicts : (Nat → Int32)} {xrunStatus : (Nat → Int32)} {xrunSteps : (Nat → Int32)} {xrunOutputs : (Nat → Int32)} {xrunReads : (Nat → Int32)} {xrunWrites : (Nat → Int32)} {xrunMade : (Nat → Int32)} {xrunPlace : (Nat → Int32)} {xvars : (Nat → Int64)} {xcells : (Nat → Int64)} {xheapSite : (Nat → Int32)} {xoutputs : (Nat → Int64)}
variable {R V G n : Nat}

theorem xf_isIndex {post : Int32 → Prop} {p0 : Int32} (hn : n ≤ 32) (h1 : ∀ j, j < n → p0 = nI j → post 1) (h0 : (¬ ∃ j, j < n ∧ p0 = nI j) → post 0) : wpX_isIndex post (xmaxLength, nI V, nI G, xheapLimit, nI n, xcursor, xstate, xpending, xreachable, xsingleSites, xexactVars, ximproved, xopAt, xaAt, xbAt, xcAt, xinputs, xrep, xpts, xdone, xflowsTo, xtried, xloads, xstores, xnext, xprev, xafter, xvarSet, xgen, xkill, xholdsIn, xreads, xcovers, xneedIn, xneedAfter, xverdicts, xrunStatus, xrunSteps, xrunOutputs, xrunReads, xrunWrites, xrunMade, xrunPlace, xvars, xcells, xheapSite, xoutputs) p0 :=
  ix_br (by omega) h0 h0 h1
theorem xf_maskOf {post : Int64 → Prop} {p0 : Int32} (hn : n ≤ 32) (h : ∀ m : Int64, (∀ s, lb_t m s = true ↔ s < n ∧ p0 = nI s) → post m) : wpX_maskOf post (xmaxLength, nI V, nI G, xheapLimit, nI n, xcursor, xstate, xpending, xreachable, xsingleSites, xexactVars, ximproved, xopAt, xaAt, xbAt, xcAt, xinputs, xrep, xpts, xdone, xflowsTo, xtried, xloads, xstores, xnext, xprev, xafter, xvarSet, xgen, xkill, xholdsIn, xreads, xcovers, xneedIn, xneedAfter, xverdicts, xrunStatus, xrunSteps, xrunOutputs, xrunReads, xrunWrites, xrunMade, xrunPlace, xvars, xcells, xheapSite, xoutputs) p0 := by
  unfold wpX_maskOf
  exact xf_isIndex hn (fun j hj e => br_f (by decide) (h _ (fun s => by
    rw [e, lo_one (by omega)]
    constructor
    · rintro rfl; exact ⟨hj, rfl⟩
    · rintro ⟨hs, e2⟩; rw [nI_eq (by omega) (by omega)] at e2; exact e2.symm))) (fun hn => br_t rfl (h 0 (fun s => ⟨fun z => absurd z lo_0, fun z => absurd ⟨s, z⟩ hn⟩)))
theorem xf_succ {fc : Nat → Int32} {post : Int64 → Prop} {i : Nat} (hp : pg_ok R V G n xopAt xaAt xbAt fc) (hR : R ≤ 32) (hn : n ≤ 32) (hi : i < n) (h : ∀ m : Int64, (∀ s, lb_t m s = true ↔ pg_e n xopAt xaAt xbAt i s) → post m) : wpX_successors post (xmaxLength, nI V, nI G, xheapLimit, nI n, xcursor, xstate, xpending, xreachable, xsingleSites, xexactVars, ximproved, xopAt, xaAt, xbAt, xcAt, xinputs, xrep, xpts, xdone, xflowsTo, xtried, xloads, xstores, xnext, xprev, xafter, xvarSet, xgen, xkill, xholdsIn, xreads, xcovers, xneedIn, xneedAfter, xverdicts, xrunStatus, xrunSteps, xrunOutputs, xrunReads, xrunWrites, xrunMade, xrunPlace, xvars, xcells, xheapSite, xoutputs) (nI i) := by
  have e : (nI i).toNatClampNeg = i := nI_clamp (by omega)
  have hin : vp_in (nI i) 32 := vp_in_nI (by omega) (by omega)
  obtain ⟨ho, h10, hn10, h2, h6, h11, hb, hc⟩ := hp i hi
  unfold wpX_successors
  simp only [e]
  refine ⟨hin, br_c (fun z => ⟨hin, xf_maskOf hn (fun m hm => h m (fun s => ?_))⟩) (fun z => xf_maskOf hn (fun m hm => ⟨hin, br_c (fun y => ⟨hin, xf_maskOf hn (fun m2 hm2 => nm_e (h _ (fun s => ?_)))⟩) (fun y => h m (fun s => ?_))⟩))⟩
  · obtain ⟨a, ha, ea⟩ := h10 z
    rw [hm s, ea]
    unfold pg_e
    constructor
    · rintro ⟨hs, e2⟩
      rw [nI_eq (by omega) (by omega)] at e2
      refine ⟨hi, hs, Or.inl ⟨z, ?_⟩⟩
      rw [ea, pn_nI (by omega)]; exact e2.symm
    · rintro ⟨_, hs, ⟨_, e2⟩ | ⟨z2, _⟩⟩
      · rw [ea, pn_nI (by omega)] at e2
        exact ⟨hs, by rw [e2]⟩
      · exact absurd z z2
  · obtain ⟨b, hb2, eb⟩ := h11 y
    rw [lo_or, hm s, hm2 s, eb, nI_1]
    unfold pg_e
    rw [eb, pn_nI (by omega)]
    constructor
    · rintro (⟨hs, e2⟩ | ⟨hs, e2⟩)
      · rw [nI_eq (by omega) (by omega)] at e2
        exact ⟨hi, hs, Or.inr ⟨z, Or.inl e2.symm⟩⟩
      · rw [nI_eq (by omega) (by omega)] at e2
        exact ⟨hi, hs, Or.inr ⟨z, Or.inr ⟨y, e2.symm⟩⟩⟩
    · rintro ⟨_, hs, ⟨z2, _⟩ | ⟨_, e2 | ⟨_, e2⟩⟩⟩
      · exact absurd z2 z
      · exact Or.inl ⟨hs, by rw [e2]⟩
      · exact Or.inr ⟨hs, by rw [e2]⟩
  · rw [hm s, nI_1]
    unfold pg_e
    constructor
    · rintro ⟨hs, e2⟩
      rw [nI_eq (by omega) (by omega)] at e2
      exact ⟨hi, hs, Or.inr ⟨z, Or.inl e2.symm⟩⟩
    · rintro ⟨_, hs, ⟨z2, _⟩ | ⟨_, e2 | ⟨z2, e2⟩⟩⟩
      · exact absurd z2 z
      · exact ⟨hs, by rw [e2]⟩
      · exact absurd z2 y
theorem xf_bf68 {post : SX → Prop} {J : Int32 → (Nat → Int32) → (Nat → Int32) → (Nat → Int32) → (Nat → Int32) → (Nat → Int32) → (Nat → Int32) → (Nat → Int64) → (Nat → Int64) → (Nat → Int64) → (Nat → Int64) → (Nat → Int32) → (Nat → Int32) → (Nat → Int64) → (Nat → Int64) → (Nat → Int64) → (Nat → Int64) → (Nat → Int64) → (Nat → Int64) → (Nat → Int64) → (Nat → Int32) → (Nat → Int32) → (Nat → Int32) → (Nat → Int32) → (Nat → Int32) → (Nat → Int32) → (Nat → Int32) → (Nat → Int32) → (Nat → Int32) → (Nat → Int32) → (Nat → Int32) → (Nat → Int32) → (Nat → Int64) → (Nat → Int64) → (Nat → Int32) → (Nat → Int64) → Prop} {m : Int64} {i : Nat} (hn : n ≤ 32) (hi : i < n) (K : ∀ pv : Nat → Int64, (∀ s, s < 32 → ∀ j, lb_t (pv s) j = true ↔ lb_t (xprev s) j = true ∨ (s < n ∧ lb_t m s = true ∧ j = i)) → J (nI (i + 1)) xopAt xaAt xbAt xcAt xinputs xrep xpts xdone xflowsTo xtried xloads xstores xnext pv xafter xvarSet xgen xkill xholdsIn xreads xcovers xneedIn xneedAfter xverdicts xrunStatus xrunSteps xrunOutputs xrunReads xrunWrites xrunMade xrunPlace xvars xcells xheapSite xoutputs) : ∃ n68, wX_buildFlow_68 post J (nI i) m xmaxLength (nI V) (nI G) xheapLimit (nI n) xcursor xstate xpending xreachable xsingleSites xexactVars ximproved n68 0 xopAt xaAt xbAt xcAt xinputs xrep xpts xdone xflowsTo xtried xloads xstores xnext xprev xafter xvarSet xgen xkill xholdsIn xreads xcovers xneedIn xneedAfter xverdicts xrunStatus xrunSteps xrunOutputs xrunReads xrunWrites xrunMade xrunPlace xvars xcells xheapSite xoutputs := by
  refine lc_1 (fun d s (pv : Nat → Int64) => wX_buildFlow_68 post J (nI i) m xmaxLength (nI V) (nI G) xheapLimit (nI n) xcursor xstate xpending xreachable xsingleSites xexactVars ximproved d (nI s) xopAt xaAt xbAt xcAt xinputs xrep xpts xdone xflowsTo xtried xloads xstores xnext pv xafter xvarSet xgen xkill xholdsIn xreads xcovers xneedIn xneedAfter xverdicts xrunStatus xrunSteps xrunOutputs xrunReads xrunWrites xrunMade xrunPlace xvars xcells xheapSite xoutputs) (fun k pv => ∀ s, s < 32 → ∀ j, lb_t (pv s) j = true ↔ lb_t (xprev s) j = true ∨ (s < k ∧ lb_t m s = true ∧ j = i)) n xprev ?_ ?_ ?_
  · intro s _ j
    exact ⟨Or.inl, fun h => h.elim (fun a => a) (fun a => absurd a.1 (Nat.not_lt_zero s))⟩
  · intro d pv h
    exact br_t (nI_le (Nat.le_refl n) (by omega)) (nm_r (nI_1 i) (K pv h))
  · intro d s pv hs h ih
    have hin : vp_in (nI s) 32 := vp_in_nI (by omega) (by omega)
    refine br_f (nI_ge hs (by omega)) (lo_br s (by omega) (fun hb => nm_r (nI_1 s) (ih pv ?_)) (fun hb => ⟨hin, hin, nm_r (e' := vp_updL pv s (pv s ||| ((1 : Int64) <<< ((nI i).toInt64 &&& 63)))) (by rw [nI_clamp (by omega)]) (nm_r (nI_1 s) (ih _ ?_))⟩))
    · intro t ht j
      rw [h t ht j]
      constructor
      · rintro (a | ⟨a, b, c⟩)
        · exact Or.inl a
        · exact Or.inr ⟨by omega, b, c⟩
      · rintro (a | ⟨a, b, c⟩)
        · exact Or.inl a
        · by_cases e : t = s
          · subst e; exact absurd b hb
          · exact Or.inr ⟨by omega, b, c⟩
    · intro t ht j
      by_cases e : t = s
      · subst e
        rw [pk_uLs, lo_or, h t ht j, lo_one (by omega)]
        constructor
        · rintro ((a | ⟨a, b, c⟩) | a)
          · exact Or.inl a
          · exact Or.inr ⟨by omega, b, c⟩
          · exact Or.inr ⟨by omega, hb, a⟩
        · rintro (a | ⟨a, b, c⟩)
          · exact Or.inl (Or.inl a)
          · exact Or.inr c
      · rw [pk_uLn e, h t ht j]
        constructor
        · rintro (a | ⟨a, b, c⟩)
          · exact Or.inl a
          · exact Or.inr ⟨by omega, b, c⟩
        · rintro (a | ⟨a, b, c⟩)
          · exact Or.inl a
          · exact Or.inr ⟨by omega, b, c⟩
theorem xf_bf37 {fc : Nat → Int32} {post : SX → Prop} (hp : pg_ok R V G n xopAt xaAt xbAt fc) (hR : R ≤ 32) (hn : n ≤ 32) (h0 : ∀ s, s < 32 → xprev s = 0) (K : ∀ nx pv af : Nat → Int64, (∀ i, i < n → ∀ s, lb_t (nx i) s = true ↔ pg_e n xopAt xaAt xbAt i s) → (∀ s, s < n → ∀ i, lb_t (pv s) i = true ↔ pg_e n xopAt xaAt xbAt i s) → (∀ i, i < n → af i = nx i) → post (xmaxLength, nI V, nI G, xheapLimit, nI n, xcursor, xstate, xpending, xreachable, xsingleSites, xexactVars, ximproved, xopAt, xaAt, xbAt, xcAt, xinputs, xrep, xpts, xdone, xflowsTo, xtried, xloads, xstores, nx, pv, af, xvarSet, xgen, xkill, xholdsIn, xreads, xcovers, xneedIn, xneedAfter, xverdicts, xrunStatus, xrunSteps, xrunOutputs, xrunReads, xrunWrites, xrunMade, xrunPlace, xvars, xcells, xheapSite, xoutputs)) : ∃ n37, wX_buildFlow_37 post xmaxLength (nI V) (nI G) xheapLimit (nI n) xcursor xstate xpending xreachable xsingleSites xexactVars ximproved n37 0 xopAt xaAt xbAt xcAt xinputs xrep xpts xdone xflowsTo xtried xloads xstores xnext xprev xafter xvarSet xgen xkill xholdsIn xreads xcovers xneedIn xneedAfter xverdicts xrunStatus xrunSteps xrunOutputs xrunReads xrunWrites xrunMade xrunPlace xvars xcells xheapSite xoutputs := by
  refine lc_3 (fun d i (nx pv af : Nat → Int64) => wX_buildFlow_37 post xmaxLength (nI V) (nI G) xheapLimit (nI n) xcursor xstate xpending xreachable xsingleSites xexactVars ximproved d (nI i) xopAt xaAt xbAt xcAt xinputs xrep xpts xdone xflowsTo xtried xloads xstores nx pv af xvarSet xgen xkill xholdsIn xreads xcovers xneedIn xneedAfter xverdicts xrunStatus xrunSteps xrunOutputs xrunReads xrunWrites xrunMade xrunPlace xvars xcells xheapSite xoutputs) (fun k nx pv af => (∀ i, i < k → ∀ s, lb_t (nx i) s = true ↔ pg_e n xopAt xaAt xbAt i s) ∧ (∀ s, s < 32 → ∀ i, lb_t (pv s) i = true ↔ i < k ∧ pg_e n xopAt xaAt xbAt i s) ∧ (∀ i, i < k → af i = nx i)) n xnext xprev xafter ?_ ?_ ?_
  · refine ⟨fun i hi => absurd hi (Nat.not_lt_zero i), fun s hs i => ?_, fun i hi => absurd hi (Nat.not_lt_zero i)⟩
    rw [h0 s hs]
    exact ⟨fun z => absurd z lo_0, fun z => absurd z.1 (Nat.not_lt_zero i)⟩
  · rintro d nx pv af ⟨a, b, c⟩
    refine br_t (nI_le (Nat.le_refl n) (by omega)) (K nx pv af a (fun s hs i => ?_) c)
    rw [b s (by omega) i]
    exact ⟨fun z => z.2, fun z => ⟨z.1, z⟩⟩
  · rintro d i nx pv af hi ⟨a, b, c⟩ ih
    have hin : vp_in (nI i) 32 := vp_in_nI (by omega) (by omega)
    refine br_f (nI_ge hi (by omega)) (xf_succ hp hR hn hi (fun m hm => ⟨hin, nm_r (e' := vp_updL nx i m) (by rw [nI_clamp (by omega)]) ⟨hin, nm_r (e' := vp_updL af i m) (by rw [nI_clamp (by omega)]) (xf_bf68 hn hi (fun pv' hpv => ih _ pv' _ ⟨?_, ?_, ?_⟩))⟩⟩))
    · intro j hj s
      by_cases e : j = i
      · subst e; rw [pk_uLs]; exact hm s
      · rw [pk_uLn e]; exact a j (by omega) s
    · intro s hs j
      rw [hpv s hs j, b s hs j]
      constructor
      · rintro (⟨x, y⟩ | ⟨x, y, rfl⟩)
        · exact ⟨by omega, y⟩
        · exact ⟨by omega, (hm s).mp y⟩
      · rintro ⟨x, y⟩
        by_cases e : j = i
        · subst e; exact Or.inr ⟨y.2.1, (hm s).mpr y, rfl⟩
        · exact Or.inl ⟨by omega, y⟩
    · intro j hj
      by_cases e : j = i
      · subst e; rw [pk_uLs, pk_uLs]
      · rw [pk_uLn e, pk_uLn e]; exact c j (by omega)
theorem xf_buildFlow {fc : Nat → Int32} {post : SX → Prop} (hp : pg_ok R V G n xopAt xaAt xbAt fc) (hR : R ≤ 32) (hn : n ≤ 32) (K : ∀ nx pv af : Nat → Int64, (∀ i, i < n → ∀ s, lb_t (nx i) s = true ↔ pg_e n xopAt xaAt xbAt i s) → (∀ s, s < n → ∀ i, lb_t (pv s) i = true ↔ pg_e n xopAt xaAt xbAt i s) → (∀ i, i < n → af i = nx i) → post (xmaxLength, nI V, nI G, xheapLimit, nI n, xcursor, xstate, xpending, xreachable, xsingleSites, xexactVars, ximproved, xopAt, xaAt, xbAt, xcAt, xinputs, xrep, xpts, xdone, xflowsTo, xtried, xloads, xstores, nx, pv, af, xvarSet, xgen, xkill, xholdsIn, xreads, xcovers, xneedIn, xneedAfter, xverdicts, xrunStatus, xrunSteps, xrunOutputs, xrunReads, xrunWrites, xrunMade, xrunPlace, xvars, xcells, xheapSite, xoutputs)) : wpX_buildFlow post (xmaxLength, nI V, nI G, xheapLimit, nI n, xcursor, xstate, xpending, xreachable, xsingleSites, xexactVars, ximproved, xopAt, xaAt, xbAt, xcAt, xinputs, xrep, xpts, xdone, xflowsTo, xtried, xloads, xstores, xnext, xprev, xafter, xvarSet, xgen, xkill, xholdsIn, xreads, xcovers, xneedIn, xneedAfter, xverdicts, xrunStatus, xrunSteps, xrunOutputs, xrunReads, xrunWrites, xrunMade, xrunPlace, xvars, xcells, xheapSite, xoutputs) := by
  refine lc_3 (fun d i (nx pv af : Nat → Int64) => wX_buildFlow_2 post xmaxLength (nI V) (nI G) xheapLimit (nI n) xcursor xstate xpending xreachable xsingleSites xexactVars ximproved d (nI i) xopAt xaAt xbAt xcAt xinputs xrep xpts xdone xflowsTo xtried xloads xstores nx pv af xvarSet xgen xkill xholdsIn xreads xcovers xneedIn xneedAfter xverdicts xrunStatus xrunSteps xrunOutputs xrunReads xrunWrites xrunMade xrunPlace xvars xcells xheapSite xoutputs) (fun k _ pv _ => ∀ s, s < k → pv s = 0) 32 xnext xprev xafter (fun s hs => absurd hs (Nat.not_lt_zero s)) ?_ ?_
  · intro d nx pv af h
    exact br_t (nI_le (Nat.le_refl 32) (by omega)) (xf_bf37 hp hR hn h K)
  · intro d i nx pv af hi h ih
    have hin : vp_in (nI i) 32 := vp_in_nI hi (by omega)
    refine br_f (nI_ge (b := 32) hi (by omega)) ⟨hin, nm_r (e' := vp_updL nx i 0) (by rw [nI_clamp (by omega)]) ⟨hin, nm_r (e' := vp_updL pv i 0) (by rw [nI_clamp (by omega)]) ⟨hin, nm_r (e' := vp_updL af i 0) (by rw [nI_clamp (by omega)]) (nm_r (nI_1 i) (ih _ _ _ ?_))⟩⟩⟩
    intro s hs
    by_cases e : s = i
    · subst e; exact pk_uLs
    · rw [pk_uLn e]; exact h s (by omega)
theorem xf_cf12 {post : SX → Prop} {J : Int32 → (Nat → Int32) → (Nat → Int32) → (Nat → Int32) → (Nat → Int32) → (Nat → Int32) → (Nat → Int32) → (Nat → Int64) → (Nat → Int64) → (Nat → Int64) → (Nat → Int64) → (Nat → Int32) → (Nat → Int32) → (Nat → Int64) → (Nat → Int64) → (Nat → Int64) → (Nat → Int64) → (Nat → Int64) → (Nat → Int64) → (Nat → Int64) → (Nat → Int32) → (Nat → Int32) → (Nat → Int32) → (Nat → Int32) → (Nat → Int32) → (Nat → Int32) → (Nat → Int32) → (Nat → Int32) → (Nat → Int32) → (Nat → Int32) → (Nat → Int32) → (Nat → Int32) → (Nat → Int64) → (Nat → Int64) → (Nat → Int32) → (Nat → Int64) → Prop} {E : Nat → Nat → Prop} {k : Nat} (hn : n ≤ 32) (hk : k < n) (h0 : ∀ i, i < n → ∀ s, lb_t (xafter i) s = true ↔ gr_W E k i s) (K : ∀ af : Nat → Int64, (∀ i, i < n → ∀ s, lb_t (af i) s = true ↔ gr_W E (k + 1) i s) → J (nI (k + 1)) xopAt xaAt xbAt xcAt xinputs xrep xpts xdone xflowsTo xtried xloads xstores xnext xprev af xvarSet xgen xkill xholdsIn xreads xcovers xneedIn xneedAfter xverdicts xrunStatus xrunSteps xrunOutputs xrunReads xrunWrites xrunMade xrunPlace xvars xcells xheapSite xoutputs) : ∃ n12, wX_closeFlow_12 post J (nI k) xmaxLength (nI V) (nI G) xheapLimit (nI n) xcursor xstate xpending xreachable xsingleSites xexactVars ximproved n12 0 xopAt xaAt xbAt xcAt xinputs xrep xpts xdone xflowsTo xtried xloads xstores xnext xprev xafter xvarSet xgen xkill xholdsIn xreads xcovers xneedIn xneedAfter xverdicts xrunStatus xrunSteps xrunOutputs xrunReads xrunWrites xrunMade xrunPlace xvars xcells xheapSite xoutputs := by
  refine lc_1 (fun d i (af : Nat → Int64) => wX_closeFlow_12 post J (nI k) xmaxLength (nI V) (nI G) xheapLimit (nI n) xcursor xstate xpending xreachable xsingleSites xexactVars ximproved d (nI i) xopAt xaAt xbAt xcAt xinputs xrep xpts xdone xflowsTo xtried xloads xstores xnext xprev af xvarSet xgen xkill xholdsIn xreads xcovers xneedIn xneedAfter xverdicts xrunStatus xrunSteps xrunOutputs xrunReads xrunWrites xrunMade xrunPlace xvars xcells xheapSite xoutputs) (fun i af => ∀ j, j < n → ∀ s, (j < i → (lb_t (af j) s = true ↔ gr_W E (k + 1) j s)) ∧ (i ≤ j → (lb_t (af j) s = true ↔ gr_W E k j s))) n xafter ?_ ?_ ?_
  · intro j hj s
    exact ⟨fun h => absurd h (Nat.not_lt_zero j), fun _ => h0 j hj s⟩
  · intro d af h
    exact br_t (nI_le (Nat.le_refl n) (by omega)) (nm_r (nI_1 k) (K af (fun i hi s => (h i hi s).1 hi)))
  · intro d i af hi h ih
    have hin : vp_in (nI i) 32 := vp_in_nI (by omega) (by omega)
    have hkn : vp_in (nI k) 32 := vp_in_nI (by omega) (by omega)
    have ei : (nI i).toNatClampNeg = i := nI_clamp (by omega)
    have ek : (nI k).toNatClampNeg = k := nI_clamp (by omega)
    have hik := (h i hi k).2 (Nat.le_refl i)
    refine br_f (nI_ge hi (by omega)) ⟨hin, lo_br k (by omega) (fun hb => nm_r (nI_1 i) (ih af ?_)) (fun hb => ⟨hin, hkn, hin, nm_r (e' := vp_updL af i (af i ||| af k)) (by rw [ei, ek]) (nm_r (nI_1 i) (ih _ ?_))⟩)⟩
    · rw [ei] at hb
      intro j hj s
      refine ⟨fun z => ?_, fun z => (h j hj s).2 (by omega)⟩
      by_cases e : j = i
      · subst e
        rw [(h j hj s).2 (Nat.le_refl j)]
        exact ⟨Or.inl, fun y => y.elim (fun a => a) (fun a => absurd (hik.mpr a.1) hb)⟩
      · exact (h j hj s).1 (by omega)
    · rw [ei] at hb
      intro j hj s
      by_cases e : j = i
      · subst e
        refine ⟨fun _ => ?_, fun z => absurd z (by omega)⟩
        have hks : lb_t (af k) s = true ↔ gr_W E k k s := by
          rcases Nat.lt_or_ge k j with a | a
          · rw [(h k hk s).1 a]; exact gr_row
          · exact (h k hk s).2 a
        rw [pk_uLs, lo_or, (h j hj s).2 (Nat.le_refl j), hks]
        exact ⟨fun y => y.elim Or.inl (fun a => Or.inr ⟨hik.mp hb, a⟩), fun y => y.elim Or.inl (fun a => Or.inr a.2)⟩
      · rw [pk_uLn e]
        exact ⟨fun z => (h j hj s).1 (by omega), fun z => (h j hj s).2 (by omega)⟩
theorem xf_closeFlow {post : SX → Prop} {E : Nat → Nat → Prop} (hE : ∀ i s, E i s → i < n ∧ s < n) (hn : n ≤ 32) (h0 : ∀ i, i < n → ∀ s, lb_t (xafter i) s = true ↔ E i s) (K : ∀ (re : Int64) (af : Nat → Int64), (∀ i, i < n → ∀ s, lb_t (af i) s = true ↔ gr_T E i s) → (∀ i, lb_t re i = true ↔ gr_R E n i) → post (xmaxLength, nI V, nI G, xheapLimit, nI n, xcursor, xstate, xpending, re, xsingleSites, xexactVars, ximproved, xopAt, xaAt, xbAt, xcAt, xinputs, xrep, xpts, xdone, xflowsTo, xtried, xloads, xstores, xnext, xprev, af, xvarSet, xgen, xkill, xholdsIn, xreads, xcovers, xneedIn, xneedAfter, xverdicts, xrunStatus, xrunSteps, xrunOutputs, xrunReads, xrunWrites, xrunMade, xrunPlace, xvars, xcells, xheapSite, xoutputs)) : wpX_closeFlow post (xmaxLength, nI V, nI G, xheapLimit, nI n, xcursor, xstate, xpending, xreachable, xsingleSites, xexactVars, ximproved, xopAt, xaAt, xbAt, xcAt, xinputs, xrep, xpts, xdone, xflowsTo, xtried, xloads, xstores, xnext, xprev, xafter, xvarSet, xgen, xkill, xholdsIn, xreads, xcovers, xneedIn, xneedAfter, xverdicts, xrunStatus, xrunSteps, xrunOutputs, xrunReads, xrunWrites, xrunMade, xrunPlace, xvars, xcells, xheapSite, xoutputs) := by
  refine lc_1 (fun d k (af : Nat → Int64) => wX_closeFlow_2 post xmaxLength (nI V) (nI G) xheapLimit (nI n) xcursor xstate xpending xreachable xsingleSites xexactVars ximproved d (nI k) xopAt xaAt xbAt xcAt xinputs xrep xpts xdone xflowsTo xtried xloads xstores xnext xprev af xvarSet xgen xkill xholdsIn xreads xcovers xneedIn xneedAfter xverdicts xrunStatus xrunSteps xrunOutputs xrunReads xrunWrites xrunMade xrunPlace xvars xcells xheapSite xoutputs) (fun k af => ∀ i, i < n → ∀ s, lb_t (af i) s = true ↔ gr_W E k i s) n xafter h0 ?_ ?_
  · intro d af h
    have hT : ∀ i, i < n → ∀ s, lb_t (af i) s = true ↔ gr_T E i s := fun i hi s => by rw [h i hi s, gr_TW hE]
    refine br_t (nI_le (Nat.le_refl n) (by omega)) (pk_le n 0 (fun z => K 0 af hT (fun i => ?_)) (fun z => nm_e (K _ af hT (fun i => ?_))))
    · exact ⟨fun y => absurd y lo_0, fun y => by have := y.1; omega⟩
    · rw [lo_or, lo_1, hT 0 z i]
      constructor
      · rintro (rfl | y)
        · exact ⟨z, Or.inl rfl⟩
        · exact ⟨gr_T_lt hE y, Or.inr y⟩
      · exact fun y => y.2
  · intro d k af hk h ih
    exact br_f (nI_ge hk (by omega)) (xf_cf12 hn hk h (fun af' h' => ih af' h'))
end
end
section
/-! the constraint graph: the invariant, and what each operation does to it -/
def cg_E (flo : Nat → Int64) (f t : Nat) : Prop := f = t ∨ lb_t (flo f) t = true
def cg_R (ρ : Nat → Nat) (rep : Nat → Int32) : Prop := ∀ k, k < 48 → rep k = nI (ρ k) ∧ ρ k < 48 ∧ ρ (ρ k) = ρ k
def cg_B (ρ : Nat → Nat) (pts flo : Nat → Int64) (pend : Int64) : Prop := (∀ k s, k < 48 → lb_t (pts k) s = true → s < 40) ∧ (∀ f t, f < 48 → lb_t (flo f) t = true → t < 48 ∧ ρ t = t ∧ t ≠ f) ∧ (∀ k, lb_t pend k = true → k < 48 ∧ ρ k = k)
def cg_S (L : Nat → Nat → Prop) (ρ : Nat → Nat) (pts flo : Nat → Int64) (loads stores : Nat → Int32) : Prop :=
  (∀ f s, f < 48 → ρ f = f → lb_t (pts f) s = true → L f s) ∧ (∀ f t, f < 48 → ρ f = f → lb_t (flo f) t = true → ∀ s, L f s → L t s) ∧ (∀ k s, k < 48 → (L k s ↔ L (ρ k) s)) ∧
  (∀ f v, f < 48 → ρ f = f → bt (loads f) v = true → ∀ s x, L f s → L (8 + s) x → L v x) ∧ (∀ f v, f < 48 → ρ f = f → bt (stores f) v = true → ∀ s x, L f s → L v x → L (8 + s) x)
def cg_K (c G : Nat) (op fa fb : Nat → Int32) (ρ : Nat → Nat) (pts flo : Nat → Int64) (loads stores : Nat → Int32) : Prop := ∀ i, i < c →
  (op i = 6 → lb_t (pts (ρ (pn (fa i)))) (pn (fb i)) = true) ∧ (op i = 7 → lb_t (pts (ρ (pn (fa i)))) (G + i) = true) ∧ (op i = 3 → cg_E flo (ρ (pn (fb i))) (ρ (pn (fa i)))) ∧
  (op i = 8 → bt (loads (ρ (pn (fb i)))) (pn (fa i)) = true) ∧ (op i = 9 → bt (stores (ρ (pn (fa i)))) (pn (fb i)) = true)
def cg_D (D : Nat → Nat → Prop) (ρ : Nat → Nat) (pts flo : Nat → Int64) (loads stores : Nat → Int32) : Prop := ∀ f s, f < 48 → ρ f = f → D f s →
  lb_t (pts f) s = true ∧ (∀ t, lb_t (flo f) t = true → lb_t (pts t) s = true) ∧ (∀ v, v < 8 → bt (loads f) v = true → cg_E flo (ρ (8 + s)) (ρ v)) ∧ (∀ v, v < 8 → bt (stores f) v = true → cg_E flo (ρ v) (ρ (8 + s)))
def cg_P (ρ : Nat → Nat) (pts done : Nat → Int64) (pend : Int64) : Prop := ∀ f s, f < 48 → ρ f = f → ¬ lb_t pend f = true → lb_t (pts f) s = true → lb_t (done f) s = true
def cg_M (ρ : Nat → Nat) (pts : Nat → Int64) (pend : Int64) : Nat := ct_n (fun q => !lb_t (pts (q / 40)) (q % 40)) 1920 + ct_n (fun k => decide (ρ k = k)) 48 + ct_n (fun k => lb_t pend k) 48
def cg_I (c G : Nat) (op fa fb : Nat → Int32) (L D : Nat → Nat → Prop) (m : Nat) (ρ : Nat → Nat) (rep : Nat → Int32) (pts done flo : Nat → Int64) (loads stores : Nat → Int32) (pend : Int64) : Prop :=
  cg_R ρ rep ∧ cg_B ρ pts flo pend ∧ cg_S L ρ pts flo loads stores ∧ cg_K c G op fa fb ρ pts flo loads stores ∧ cg_D D ρ pts flo loads stores ∧ cg_P ρ pts done pend ∧ cg_M ρ pts pend ≤ m
def cg_Inc (pts : Nat → Int64) (pend : Int64) (z : Nat) (set : Int64) (pts' : Nat → Int64) (pend' : Int64) : Prop :=
  (pts' = pts ∧ pend' = pend ∧ pts z ||| set = pts z) ∨ (pts' = vp_updL pts z (pts z ||| set) ∧ pend' = pend ||| ((1 : Int64) <<< ((nI z).toInt64 &&& 63)) ∧ ¬ pts z ||| set = pts z)
section
variable {c G : Nat} {op fa fb : Nat → Int32} {L D : Nat → Nat → Prop} {m : Nat} {ρ : Nat → Nat} {rep : Nat → Int32} {pts done flo : Nat → Int64} {loads stores : Nat → Int32} {pend : Int64}
theorem cg_Emono {flo flo' : Nat → Int64} (h : ∀ f t, lb_t (flo f) t = true → lb_t (flo' f) t = true) {f t : Nat} (e : cg_E flo f t) : cg_E flo' f t := e.elim Or.inl (fun a => Or.inr (h f t a))
theorem cg_Imono {z : Nat} {set : Int64} {pts' : Nat → Int64} {pend' : Int64} (h : cg_Inc pts pend z set pts' pend') : ∀ k s, lb_t (pts k) s = true → lb_t (pts' k) s = true := by
  intro k s hs
  rcases h with ⟨rfl, _, _⟩ | ⟨rfl, _, _⟩
  · exact hs
  · by_cases e : k = z
    · subst e; rw [pk_uLs, lo_or]; exact Or.inl hs
    · rw [pk_uLn e]; exact hs
theorem cg_Iset {z : Nat} {set : Int64} {pts' : Nat → Int64} {pend' : Int64} (h : cg_Inc pts pend z set pts' pend') : ∀ s, lb_t set s = true → lb_t (pts' z) s = true := by
  intro s hs
  rcases h with ⟨rfl, _, e⟩ | ⟨rfl, _, _⟩
  · rw [← e, lo_or]; exact Or.inr hs
  · rw [pk_uLs, lo_or]; exact Or.inr hs
theorem cg_Ibit {z : Nat} {set : Int64} {pts' : Nat → Int64} {pend' : Int64} (h : cg_Inc pts pend z set pts' pend') : ∀ k s, lb_t (pts' k) s = true → lb_t (pts k) s = true ∨ (k = z ∧ lb_t set s = true) := by
  intro k s hs
  rcases h with ⟨rfl, _, e⟩ | ⟨rfl, _, _⟩
  · exact Or.inl hs
  · by_cases e : k = z
    · subst e; rw [pk_uLs, lo_or] at hs; exact hs.elim Or.inl (fun a => Or.inr ⟨rfl, a⟩)
    · rw [pk_uLn e] at hs; exact Or.inl hs
theorem cg_Ipend {z : Nat} {set : Int64} {pts' : Nat → Int64} {pend' : Int64} (hz : z < 48) (h : cg_Inc pts pend z set pts' pend') : ∀ k, lb_t pend' k = true → lb_t pend k = true ∨ k = z := by
  intro k hk
  rcases h with ⟨_, rfl, _⟩ | ⟨_, rfl, _⟩
  · exact Or.inl hk
  · rw [lo_or, lo_one (by omega)] at hk; exact hk
theorem cg_Ikeep {z : Nat} {set : Int64} {pts' : Nat → Int64} {pend' : Int64} (hz : z < 48) (h : cg_Inc pts pend z set pts' pend') : ∀ f, ¬ lb_t pend' f = true → pts' f = pts f ∧ ¬ lb_t pend f = true := by
  intro f hf
  rcases h with ⟨rfl, rfl, _⟩ | ⟨rfl, rfl, _⟩
  · exact ⟨rfl, hf⟩
  · rw [lo_or, lo_one (by omega)] at hf
    exact ⟨pk_uLn (fun e => hf (Or.inr e)), fun e => hf (Or.inl e)⟩
theorem cg_Im {z : Nat} {set : Int64} {pts' : Nat → Int64} {pend' : Int64} (hz : z < 48) (hs : ∀ s, lb_t set s = true → s < 40) (h : cg_Inc pts pend z set pts' pend') : cg_M ρ pts' pend' ≤ cg_M ρ pts pend := by
  have hm := cg_Imono h
  have hp := cg_Ipend hz h
  have hset := cg_Iset h
  rcases h with ⟨rfl, rfl, _⟩ | ⟨e1, e2, e3⟩
  · exact Nat.le_refl _
  · have hx : ∃ s, lb_t set s = true ∧ ¬ lb_t (pts z) s = true := by
      apply Classical.byContradiction
      intro q
      apply e3
      apply lo_ext
      intro i
      rw [lo_or]
      refine ⟨fun a => a.elim (fun b => b) (fun b => Classical.byContradiction (fun w => q ⟨i, b, w⟩)), Or.inl⟩
    obtain ⟨s, h1, h2⟩ := hx
    have hs40 := hs s h1
    have ed : (z * 40 + s) / 40 = z := by omega
    have em : (z * 40 + s) % 40 = s := by omega
    have a1 : ct_n (fun q => !lb_t (pts' (q / 40)) (q % 40)) 1920 + 1 ≤ ct_n (fun q => !lb_t (pts (q / 40)) (q % 40)) 1920 := by
      refine ct_lt (j0 := z * 40 + s) 1920 (fun j _ hj => ?_) (by omega) ?_ ?_
      · cases hb : lb_t (pts (j / 40)) (j % 40)
        · rfl
        · rw [hm _ _ hb] at hj; exact absurd hj (by decide)
      · show (!lb_t (pts' ((z * 40 + s) / 40)) ((z * 40 + s) % 40)) = false
        rw [ed, em, hset s h1]; rfl
      · show (!lb_t (pts ((z * 40 + s) / 40)) ((z * 40 + s) % 40)) = true
        rw [ed, em, ts_nt h2]; rfl
    have a2 : ct_n (fun k => lb_t pend' k) 48 ≤ ct_n (fun k => lb_t pend k) 48 + 1 := ct_le1 (j0 := z) 48 (fun j _ hj h => (hp j h).elim (fun a => a) (fun a => absurd a hj))
    unfold cg_M
    omega
theorem cg_inc {z : Nat} {set : Int64} {pts' : Nat → Int64} {pend' : Int64} (hI : cg_I c G op fa fb L D m ρ rep pts done flo loads stores pend) (hz : z < 48) (hr : ρ z = z) (h4 : ∀ s, lb_t set s = true → s < 40) (hs : ∀ s, lb_t set s = true → L z s) (h : cg_Inc pts pend z set pts' pend') : cg_I c G op fa fb L D m ρ rep pts' done flo loads stores pend' := by
  obtain ⟨hR, ⟨b1, b2, b3⟩, ⟨s1, s2, s3, s4, s5⟩, hK, hD, hP, hM⟩ := hI
  have hm := cg_Imono h
  have hb := cg_Ibit h
  refine ⟨hR, ⟨fun k s hk hs' => ?_, b2, fun k hk => ?_⟩, ⟨fun f s hf hρ hs' => ?_, s2, s3, s4, s5⟩, fun i hi => ?_, fun f s hf hρ hd => ?_, fun f s hf hρ hp hs' => ?_, Nat.le_trans (cg_Im hz h4 h) hM⟩
  · rcases hb k s hs' with a | ⟨_, a⟩
    · exact b1 k s hk a
    · exact h4 s a
  · rcases cg_Ipend hz h k hk with a | a
    · exact b3 k a
    · subst a; exact ⟨hz, hr⟩
  · rcases hb f s hs' with a | ⟨e, a⟩
    · exact s1 f s hf hρ a
    · subst e; exact hs s a
  · obtain ⟨k1, k2, k3, k4, k5⟩ := hK i hi
    exact ⟨fun o => hm _ _ (k1 o), fun o => hm _ _ (k2 o), k3, k4, k5⟩
  · obtain ⟨d1, d2, d3, d4⟩ := hD f s hf hρ hd
    exact ⟨hm _ _ d1, fun t ht => hm _ _ (d2 t ht), d3, d4⟩
  · obtain ⟨e, hp'⟩ := cg_Ikeep hz h f hp
    rw [e] at hs'
    exact hP f s hf hρ hp' hs'
theorem cg_edge {f t : Nat} (hI : cg_I c G op fa fb L D m ρ rep pts done flo loads stores pend) (hf : f < 48) (ht : t < 48) (rf : ρ f = f) (rt : ρ t = t) (hne : ¬ f = t) (hL : ∀ s, L f s → L t s) (hsub : ∀ s, lb_t (pts f) s = true → lb_t (pts t) s = true) :
    cg_I c G op fa fb L D m ρ rep pts done (vp_updL flo f (flo f ||| ((1 : Int64) <<< ((nI t).toInt64 &&& 63)))) loads stores pend ∧ (∀ g u, lb_t (flo g) u = true → lb_t (vp_updL flo f (flo f ||| ((1 : Int64) <<< ((nI t).toInt64 &&& 63))) g) u = true) ∧ lb_t (vp_updL flo f (flo f ||| ((1 : Int64) <<< ((nI t).toInt64 &&& 63))) f) t = true := by
  obtain ⟨hR, ⟨b1, b2, b3⟩, ⟨s1, s2, s3, s4, s5⟩, hK, hD, hP, hM⟩ := hI
  have hm : ∀ g u, lb_t (flo g) u = true → lb_t (vp_updL flo f (flo f ||| ((1 : Int64) <<< ((nI t).toInt64 &&& 63))) g) u = true := by
    intro g u hu
    by_cases e : g = f
    · subst e; rw [pk_uLs, lo_or]; exact Or.inl hu
    · rw [pk_uLn e]; exact hu
  have hb : ∀ g u, lb_t (vp_updL flo f (flo f ||| ((1 : Int64) <<< ((nI t).toInt64 &&& 63))) g) u = true → lb_t (flo g) u = true ∨ (g = f ∧ u = t) := by
    intro g u hu
    by_cases e : g = f
    · subst e; rw [pk_uLs, lo_or, lo_one (by omega)] at hu
      exact hu.elim Or.inl (fun a => Or.inr ⟨rfl, a⟩)
    · rw [pk_uLn e] at hu; exact Or.inl hu
  refine ⟨⟨hR, ⟨b1, fun g u hg hu => ?_, b3⟩, ⟨s1, fun g u hg hρ hu => ?_, s3, s4, s5⟩, fun i hi => ?_, fun g s hg hρ hd => ?_, hP, hM⟩, hm, ?_⟩
  · rcases hb g u hu with a | ⟨rfl, rfl⟩
    · exact b2 g u hg a
    · exact ⟨ht, rt, fun e => hne e.symm⟩
  · rcases hb g u hu with a | ⟨rfl, rfl⟩
    · exact s2 g u hg hρ a
    · exact hL
  · obtain ⟨k1, k2, k3, k4, k5⟩ := hK i hi
    exact ⟨k1, k2, fun o => cg_Emono hm (k3 o), k4, k5⟩
  · obtain ⟨d1, d2, d3, d4⟩ := hD g s hg hρ hd
    refine ⟨d1, fun u hu => ?_, fun v hv h => cg_Emono hm (d3 v hv h), fun v hv h => cg_Emono hm (d4 v hv h)⟩
    rcases hb g u hu with a | ⟨rfl, rfl⟩
    · exact d2 u a
    · exact hsub s d1
  · rw [pk_uLs, lo_or, lo_one (by omega)]; exact Or.inr rfl
theorem cg_Dsub {D' : Nat → Nat → Prop} (h : ∀ f s, f < 48 → ρ f = f → D' f s → D f s) (hI : cg_I c G op fa fb L D m ρ rep pts done flo loads stores pend) : cg_I c G op fa fb L D' m ρ rep pts done flo loads stores pend := by
  obtain ⟨hR, hB, hS, hK, hD, hP, hM⟩ := hI
  exact ⟨hR, hB, hS, hK, fun f s hf hρ hd => hD f s hf hρ (h f s hf hρ hd), hP, hM⟩
/-- at rest with nothing pending, the sets are the least solution -/
theorem cg_end {n : Nat} (hI : cg_I n G op fa fb (pt_L n G op fa fb) (fun f s => lb_t (done f) s = true) m ρ rep pts done flo loads stores 0)
    (hv : ∀ i, i < n → (op i = 3 ∨ op i = 6 ∨ op i = 7 ∨ op i = 8 ∨ op i = 9 → pn (fa i) < 8) ∧ (op i = 3 ∨ op i = 8 ∨ op i = 9 → pn (fb i) < 8)) {k s : Nat} (hk : k < 48) : lb_t (pts (ρ k)) s = true ↔ pt_L n G op fa fb k s := by
  obtain ⟨hR, ⟨b1, b2, b3⟩, ⟨s1, s2, s3, s4, s5⟩, hK, hD, hP, hM⟩ := hI
  constructor
  · intro h
    rw [s3 k s hk]
    exact s1 _ s (hR k hk).2.1 (hR k hk).2.2 h
  · intro h
    have hpd : ∀ f s, f < 48 → ρ f = f → lb_t (pts f) s = true → lb_t (done f) s = true := fun f s hf hρ a => hP f s hf hρ lo_0 a
    have hE : ∀ f t s, f < 48 → ρ f = f → cg_E flo f t → lb_t (pts f) s = true → lb_t (pts t) s = true := by
      intro f t s hf hρ e a
      rcases e with rfl | e
      · exact a
      · exact (hD f s hf hρ (hpd f s hf hρ a)).2.1 t e
    have := h (fun k s => k < 48 → lb_t (pts (ρ k)) s = true) (by
      intro i hi
      obtain ⟨k1, k2, k3, k4, k5⟩ := hK i hi
      obtain ⟨va, vb⟩ := hv i hi
      refine ⟨fun o _ => k1 o, fun o _ => k2 o, fun o s a _ => ?_, fun o s x a b _ => ?_, fun o s x a b h8 => ?_⟩
      · have hb8 := vb (Or.inl o)
        exact hE _ _ s (hR _ (by omega)).2.1 (hR _ (by omega)).2.2 (k3 o) (a (by omega))
      · have hb8 := vb (Or.inr (Or.inl o))
        have ha8 := va (by simp [o])
        have a' := a (by omega)
        have hs := b1 _ s (hR _ (by omega)).2.1 a'
        have b' := b (by omega)
        have r := hR (pn (fb i)) (by omega)
        have r2 := hR (8 + s) (by omega)
        exact hE _ _ x r2.2.1 r2.2.2 ((hD _ s r.2.1 r.2.2 (hpd _ s r.2.1 r.2.2 a')).2.2.1 _ ha8 (k4 o)) b'
      · have hb8 := vb (Or.inr (Or.inr o))
        have ha8 := va (by simp [o])
        have a' := a (by omega)
        have b' := b (by omega)
        have r := hR (pn (fa i)) (by omega)
        have r2 := hR (pn (fb i)) (by omega)
        exact hE _ _ x r2.2.1 r2.2.2 ((hD _ s r.2.1 r.2.2 (hpd _ s r.2.1 r.2.2 a')).2.2.2 _ hb8 (k5 o)) b')
    exact this hk
end
end
section
/-! merging two nodes of one cycle -/
def cg_g (g k x : Nat) : Nat := if x = g then k else x
section
variable {c G : Nat} {op fa fb : Nat → Int32} {L : Nat → Nat → Prop} {m : Nat} {ρ : Nat → Nat} {rep rep' : Nat → Int32} {pts done flo flo' : Nat → Int64} {loads stores : Nat → Int32} {pend : Int64} {g k : Nat}
theorem cg_g1 : cg_g g k g = k := if_pos rfl
theorem cg_g2 {x : Nat} (h : ¬ x = g) : cg_g g k x = x := if_neg h
theorem cg_mrg (hI : cg_I c G op fa fb L (fun f s => lb_t (done f) s = true) m ρ rep pts done flo loads stores pend) (hg : g < 48) (hk : k < 48) (hgk : ¬ g = k) (rg : ρ g = g) (rk : ρ k = k) (hL : ∀ s, L g s ↔ L k s) (hv : ∀ i, i < c → op i = 3 → pn (fb i) < 48)
    (hrep : ∀ j, j < 48 → rep' j = if rep j = nI g then nI k else rep j)
    (f1 : ∀ t, ¬ lb_t (flo' g) t = true) (f2 : ∀ t, lb_t (flo' k) t = true ↔ ¬ t = g ∧ ¬ t = k ∧ (lb_t (flo k) t = true ∨ lb_t (flo g) t = true))
    (f3 : ∀ f, f < 48 → ¬ f = g → ¬ f = k → ∀ t, lb_t (flo' f) t = true ↔ (¬ t = g ∧ lb_t (flo f) t = true) ∨ (t = k ∧ lb_t (flo f) g = true)) :
    cg_I c G op fa fb L (fun f s => lb_t (vp_updL done k (done k &&& done g) f) s = true) m (fun j => cg_g g k (ρ j)) rep' (vp_updL pts k (pts k ||| pts g)) (vp_updL done k (done k &&& done g)) flo' (upd loads k (loads k ||| loads g)) (upd stores k (stores k ||| stores g)) ((pend &&& (((1 : Int64) <<< ((nI g).toInt64 &&& 63)) ^^^ (-1))) ||| ((1 : Int64) <<< ((nI k).toInt64 &&& 63))) := by
  obtain ⟨hR, ⟨b1, b2, b3⟩, ⟨s1, s2, s3, s4, s5⟩, hK, hD, hP, hM⟩ := hI
  have hkg : ¬ k = g := fun e => hgk e.symm
  have hrt : ∀ f, f < 48 → cg_g g k (ρ f) = f → ρ f = f ∧ ¬ f = g := by
    intro f hf e
    by_cases a : ρ f = g
    · rw [a, cg_g1] at e
      subst e
      rw [rk] at a
      exact absurd a hkg
    · rw [cg_g2 a] at e
      refine ⟨e, fun z => ?_⟩
      subst z
      exact a rg
  have hrt2 : ∀ f, ρ f = f → ¬ f = g → cg_g g k (ρ f) = f := fun f e a => by rw [e, cg_g2 a]
  have hpt : ∀ f s, lb_t (pts f) s = true → lb_t (vp_updL pts k (pts k ||| pts g) (cg_g g k f)) s = true := by
    intro f s hs
    by_cases e : f = g
    · subst e; rw [cg_g1, pk_uLs, lo_or]; exact Or.inr hs
    · rw [cg_g2 e]
      by_cases e2 : f = k
      · subst e2; rw [pk_uLs, lo_or]; exact Or.inl hs
      · rw [pk_uLn e2]; exact hs
  have hpt2 : ∀ f s, lb_t (pts f) s = true → lb_t (vp_updL pts k (pts k ||| pts g) f) s = true := by
    intro f s hs
    by_cases e2 : f = k
    · subst e2; rw [pk_uLs, lo_or]; exact Or.inl hs
    · rw [pk_uLn e2]; exact hs
  have hld : ∀ (a : Nat → Int32) f v, bt (a f) v = true → bt (upd a k (a k ||| a g) (cg_g g k f)) v = true := by
    intro a f v hs
    by_cases e : f = g
    · subst e; rw [cg_g1, pk_us, bo_or]; exact Or.inr hs
    · rw [cg_g2 e]
      by_cases e2 : f = k
      · subst e2; rw [pk_us, bo_or]; exact Or.inl hs
      · rw [pk_un e2]; exact hs
  have hE : ∀ x y, x < 48 → cg_E flo x y → cg_E flo' (cg_g g k x) (cg_g g k y) := by
    intro x y hx e
    rcases e with rfl | e
    · exact Or.inl rfl
    · by_cases ex : x = g
      · subst ex
        rw [cg_g1]
        by_cases ey : y = k
        · subst ey; rw [cg_g2 hkg]; exact Or.inl rfl
        · have eg : ¬ y = x := (b2 x y hx e).2.2
          rw [cg_g2 eg]
          exact Or.inr ((f2 y).mpr ⟨eg, ey, Or.inr e⟩)
      · rw [cg_g2 ex]
        by_cases ek : x = k
        · subst ek
          by_cases ey : y = g
          · subst ey; rw [cg_g1]; exact Or.inl rfl
          · rw [cg_g2 ey]
            exact Or.inr ((f2 y).mpr ⟨ey, (b2 x y hx e).2.2, Or.inl e⟩)
        · by_cases ey : y = g
          · subst ey; rw [cg_g1]
            exact Or.inr ((f3 x hx ex ek k).mpr (Or.inr ⟨rfl, e⟩))
          · rw [cg_g2 ey]
            exact Or.inr ((f3 x hx ex ek y).mpr (Or.inl ⟨ey, e⟩))
  have hpd : ∀ f, lb_t ((pend &&& (((1 : Int64) <<< ((nI g).toInt64 &&& 63)) ^^^ (-1))) ||| ((1 : Int64) <<< ((nI k).toInt64 &&& 63))) f = true ↔ (lb_t pend f = true ∧ ¬ f = g) ∨ f = k := by
    intro f
    rw [lo_or, lo_diff, lo_one (by omega), lo_one (by omega)]
  refine ⟨?_, ⟨?_, ?_, ?_⟩, ⟨?_, ?_, ?_, ?_, ?_⟩, ?_, ?_, ?_, ?_⟩
  · intro j hj
    obtain ⟨r1, r2, r3⟩ := hR j hj
    show rep' j = nI (cg_g g k (ρ j)) ∧ cg_g g k (ρ j) < 48 ∧ cg_g g k (ρ (cg_g g k (ρ j))) = cg_g g k (ρ j)
    rw [hrep j hj, r1]
    by_cases e : ρ j = g
    · rw [e, if_pos rfl, cg_g1]
      exact ⟨rfl, hk, by rw [rk, cg_g2 hkg]⟩
    · rw [cg_g2 e, if_neg (fun z => e ((nI_eq (by omega) (by omega)).mp z))]
      exact ⟨rfl, r2, by rw [r3, cg_g2 e]⟩
  · intro f s hf hs
    by_cases e : f = k
    · subst e; rw [pk_uLs, lo_or] at hs
      exact hs.elim (fun a => b1 f s hf a) (fun a => b1 g s hg a)
    · rw [pk_uLn e] at hs; exact b1 f s hf hs
  · intro f t hf ht
    by_cases e1 : f = g
    · subst e1; exact absurd ht (f1 t)
    · by_cases e2 : f = k
      · subst e2
        obtain ⟨t1, t2, t3⟩ := (f2 t).mp ht
        have h3 : t < 48 ∧ ρ t = t := t3.elim (fun a => ⟨(b2 f t hf a).1, (b2 f t hf a).2.1⟩) (fun a => ⟨(b2 g t hg a).1, (b2 g t hg a).2.1⟩)
        exact ⟨h3.1, hrt2 t h3.2 t1, t2⟩
      · rcases (f3 f hf e1 e2 t).mp ht with ⟨a, b⟩ | ⟨a, b⟩
        · have h3 := b2 f t hf b
          exact ⟨h3.1, hrt2 t h3.2.1 a, h3.2.2⟩
        · subst a
          exact ⟨hk, hrt2 t rk hkg, fun z => e2 z.symm⟩
  · intro f hf
    rcases (hpd f).mp hf with ⟨a, b⟩ | a
    · exact ⟨(b3 f a).1, hrt2 f (b3 f a).2 b⟩
    · subst a; exact ⟨hk, hrt2 f rk hkg⟩
  · intro f s hf hρ hs
    obtain ⟨r1, r2⟩ := hrt f hf hρ
    by_cases e : f = k
    · subst e; rw [pk_uLs, lo_or] at hs
      exact hs.elim (fun a => s1 f s hf r1 a) (fun a => (hL s).mp (s1 g s hg rg a))
    · rw [pk_uLn e] at hs; exact s1 f s hf r1 hs
  · intro f t hf hρ ht s hs
    obtain ⟨r1, r2⟩ := hrt f hf hρ
    by_cases e2 : f = k
    · subst e2
      obtain ⟨t1, t2, t3⟩ := (f2 t).mp ht
      exact t3.elim (fun a => s2 f t hf r1 a s hs) (fun a => s2 g t hg rg a s ((hL s).mpr hs))
    · rcases (f3 f hf r2 e2 t).mp ht with ⟨a, b⟩ | ⟨a, b⟩
      · exact s2 f t hf r1 b s hs
      · subst a; exact (hL s).mp (s2 f g hf r1 b s hs)
  · intro j s hj
    show L j s ↔ L (cg_g g k (ρ j)) s
    by_cases e : ρ j = g
    · rw [s3 j s hj, e, cg_g1]; exact hL s
    · rw [cg_g2 e]; exact s3 j s hj
  · intro f v hf hρ hv s x h1 h2
    obtain ⟨r1, r2⟩ := hrt f hf hρ
    by_cases e : f = k
    · subst e; rw [pk_us, bo_or] at hv
      exact hv.elim (fun a => s4 f v hf r1 a s x h1 h2) (fun a => s4 g v hg rg a s x ((hL s).mpr h1) h2)
    · rw [pk_un e] at hv; exact s4 f v hf r1 hv s x h1 h2
  · intro f v hf hρ hv s x h1 h2
    obtain ⟨r1, r2⟩ := hrt f hf hρ
    by_cases e : f = k
    · subst e; rw [pk_us, bo_or] at hv
      exact hv.elim (fun a => s5 f v hf r1 a s x h1 h2) (fun a => s5 g v hg rg a s x ((hL s).mpr h1) h2)
    · rw [pk_un e] at hv; exact s5 f v hf r1 hv s x h1 h2
  · intro i hi
    obtain ⟨k1, k2, k3, k4, k5⟩ := hK i hi
    refine ⟨fun o => hpt _ _ (k1 o), fun o => hpt _ _ (k2 o), fun o => ?_, fun o => hld _ _ _ (k4 o), fun o => hld _ _ _ (k5 o)⟩
    exact hE _ _ (hR _ (hv i hi o)).2.1 (k3 o)
  · intro f s hf hρ hd
    have hd : lb_t (vp_updL done k (done k &&& done g) f) s = true := hd
    obtain ⟨r1, r2⟩ := hrt f hf hρ
    by_cases e : f = k
    · subst e
      rw [pk_uLs, lo_and] at hd
      obtain ⟨d1, d2, d3, d4⟩ := hD f s hf r1 hd.1
      obtain ⟨g1, g2, g3, g4⟩ := hD g s hg rg hd.2
      have hs40 := b1 f s hf d1
      refine ⟨hpt2 _ _ d1, fun t ht => ?_, fun v hv hb => ?_, fun v hv hb => ?_⟩
      · obtain ⟨t1, t2, t3⟩ := (f2 t).mp ht
        exact hpt2 _ _ (t3.elim (fun a => d2 t a) (fun a => g2 t a))
      · rw [pk_us, bo_or] at hb
        exact hE _ _ (hR (8 + s) (by omega)).2.1 (hb.elim (fun a => d3 v hv a) (fun a => g3 v hv a))
      · rw [pk_us, bo_or] at hb
        exact hE _ _ (hR v (by omega)).2.1 (hb.elim (fun a => d4 v hv a) (fun a => g4 v hv a))
    · rw [pk_uLn e] at hd
      obtain ⟨d1, d2, d3, d4⟩ := hD f s hf r1 hd
      have hs40 := b1 f s hf d1
      refine ⟨hpt2 _ _ d1, fun t ht => ?_, fun v hv hb => ?_, fun v hv hb => ?_⟩
      · rcases (f3 f hf r2 e t).mp ht with ⟨a, b⟩ | ⟨a, b⟩
        · exact hpt2 _ _ (d2 t b)
        · subst a
          have q := hpt g s (d2 g b)
          rwa [cg_g1] at q
      · rw [pk_un e] at hb
        exact hE _ _ (hR (8 + s) (by omega)).2.1 (d3 v hv hb)
      · rw [pk_un e] at hb
        exact hE _ _ (hR v (by omega)).2.1 (d4 v hv hb)
  · intro f s hf hρ hp hs
    obtain ⟨r1, r2⟩ := hrt f hf hρ
    by_cases e : f = k
    · exact absurd ((hpd f).mpr (Or.inr e)) hp
    · rw [pk_uLn e] at hs ⊢
      exact hP f s hf r1 (fun a => hp ((hpd f).mpr (Or.inl ⟨a, r2⟩))) hs
  · have a1 : ct_n (fun q => !lb_t (vp_updL pts k (pts k ||| pts g) (q / 40)) (q % 40)) 1920 ≤ ct_n (fun q => !lb_t (pts (q / 40)) (q % 40)) 1920 := by
      refine ct_le 1920 (fun j _ hj => ?_)
      cases hb : lb_t (pts (j / 40)) (j % 40)
      · rfl
      · rw [hpt2 _ _ hb] at hj; exact absurd hj (by decide)
    have a2 : ct_n (fun j => decide (cg_g g k (ρ j) = j)) 48 + 1 ≤ ct_n (fun j => decide (ρ j = j)) 48 := by
      refine ct_lt (j0 := g) 48 (fun j hj h => ?_) hg ?_ ?_
      · exact decide_eq_true (hrt j hj (of_decide_eq_true h)).1
      · refine decide_eq_false ?_
        rw [rg, cg_g1]; exact hkg
      · exact decide_eq_true rg
    have a3 : ct_n (fun j => lb_t ((pend &&& (((1 : Int64) <<< ((nI g).toInt64 &&& 63)) ^^^ (-1))) ||| ((1 : Int64) <<< ((nI k).toInt64 &&& 63))) j) 48 ≤ ct_n (fun j => lb_t pend j) 48 + 1 :=
      ct_le1 (j0 := k) 48 (fun j _ hj h => ((hpd j).mp h).elim (fun a => a.1) (fun a => absurd a hj))
    unfold cg_M at hM ⊢
    dsimp only
    omega
end
end
section
section
variable {xmaxLength : Int32} {xvariableCount : Int32} {xglobalCount : Int32} {xheapLimit : Int32} {xlength : Int32} {xcursor : Int32} {xstate : Int32} {xpending : Int64} {xreachable : Int64} {xsingleSites : Int64} {xexactVars : Int32} {ximproved : Int32} {xopAt : (Nat → Int32)} {xaAt : (Nat → Int32)} {xbAt : (Nat → Int32)} {xcAt : (Nat → Int32)} {xinputs : (Nat → Int32)} {xrep : (Nat → Int32)} {xpts : (Nat → Int64)} {xdone : (Nat → Int64)} {xflowsTo : (Nat → Int64)} {xtried : (Nat → Int64)} {xloads : (Nat → Int32)} {xstores : (Nat → Int32)} {xnext : (Nat → Int64)} {xprev : (Nat → Int64)} {xafter : (Nat → Int64)} {xvarSet : (Nat → Int64)} {xgen : (Nat → Int64)} {xkill : (Nat → Int64)} {xholdsIn : (Nat → Int64)} {xreads : (Nat → Int32)} {xcovers : (Nat → Int32)} {xneedIn : (Nat → Int32)} {xneedAfter : (Nat → Int32)} {xverdicts : (Nat → Int32)} {xrunStatus : (Nat → Int32)} {xrunSteps : (Nat → Int32)} {xrunOutputs : (Nat → Int32)} {xrunReads : (Nat → Int32)} {xrunWrites : (Nat → Int32)} {xrunMade : (Nat → Int32)} {xrunPlace : (Nat → Int32)} {xvars : (Nat → Int64)} {xcells : (Nat → Int64)} {xheapSite : (Nat → Int32)} {xoutputs : (Nat → Int64)}
variable {R V G n : Nat}
theorem xl_lowBit {post : Int32 → Prop} {x : Int64} (hz : ¬ x = 0) (h : ∀ k, k < 64 → lb_t x k = true → (∀ j, j < k → ¬ lb_t x j = true) → post (nI k)) : wpX_lowBit post (xmaxLength, xvariableCount, xglobalCount, xheapLimit, xlength, xcursor, xstate, xpending, xreachable, xsingleSites, xexactVars, ximproved, xopAt, xaAt, xbAt, xcAt, xinputs, xrep, xpts, xdone, xflowsTo, xtried, xloads, xstores, xnext, xprev, xafter, xvarSet, xgen, xkill, xholdsIn, xreads, xcovers, xneedIn, xneedAfter, xverdicts, xrunStatus, xrunSteps, xrunOutputs, xrunReads, xrunWrites, xrunMade, xrunPlace, xvars, xcells, xheapSite, xoutputs) x := by
  refine lc_0 (fun d i => wX_lowBit_2 post x xmaxLength xvariableCount xglobalCount xheapLimit xlength xcursor xstate xpending xreachable xsingleSites xexactVars ximproved xopAt xaAt xbAt xcAt xinputs xrep xpts xdone xflowsTo xtried xloads xstores xnext xprev xafter xvarSet xgen xkill xholdsIn xreads xcovers xneedIn xneedAfter xverdicts xrunStatus xrunSteps xrunOutputs xrunReads xrunWrites xrunMade xrunPlace xvars xcells xheapSite xoutputs d (nI i)) (fun i => ∀ j, j < i → ¬ lb_t x j = true) 63 (fun j hj => absurd hj (Nat.not_lt_zero j)) ?_ ?_
  · intro d hl
    refine br_t (nI_le (Nat.le_refl 63) (by omega)) (h 63 (by omega) ?_ hl)
    obtain ⟨i, hi, hb⟩ := lb_nz hz
    by_cases e : i = 63
    · rw [← e]; exact hb
    · exact absurd hb (hl i (by omega))
  · intro d i hi hl ih
    exact br_f (nI_ge (b := 63) hi (by omega)) (lo_br i (by omega) (fun hb => nm_r (nI_1 i) (ih (fun j hj => by
      by_cases e : j = i
      · rw [e]; exact hb
      · exact hl j (by omega)))) (fun hb => h i (by omega) hb hl))
theorem xc_include {post : SX → Prop} {z : Nat} {set : Int64} (hz : z < 48) (K : ∀ (pd : Int64) (pt : Nat → Int64), cg_Inc xpts xpending z set pt pd → post (xmaxLength, xvariableCount, xglobalCount, xheapLimit, xlength, xcursor, xstate, pd, xreachable, xsingleSites, xexactVars, ximproved, xopAt, xaAt, xbAt, xcAt, xinputs, xrep, pt, xdone, xflowsTo, xtried, xloads, xstores, xnext, xprev, xafter, xvarSet, xgen, xkill, xholdsIn, xreads, xcovers, xneedIn, xneedAfter, xverdicts, xrunStatus, xrunSteps, xrunOutputs, xrunReads, xrunWrites, xrunMade, xrunPlace, xvars, xcells, xheapSite, xoutputs)) : wpX_include post (xmaxLength, xvariableCount, xglobalCount, xheapLimit, xlength, xcursor, xstate, xpending, xreachable, xsingleSites, xexactVars, ximproved, xopAt, xaAt, xbAt, xcAt, xinputs, xrep, xpts, xdone, xflowsTo, xtried, xloads, xstores, xnext, xprev, xafter, xvarSet, xgen, xkill, xholdsIn, xreads, xcovers, xneedIn, xneedAfter, xverdicts, xrunStatus, xrunSteps, xrunOutputs, xrunReads, xrunWrites, xrunMade, xrunPlace, xvars, xcells, xheapSite, xoutputs) (nI z) set := by
  have e : (nI z).toNatClampNeg = z := nI_clamp (by omega)
  have hin : vp_in (nI z) 48 := vp_in_nI hz (by omega)
  unfold wpX_include
  simp only [e]
  exact ⟨hin, nm_e ⟨hin, br_c (fun h => K _ _ (Or.inl ⟨rfl, rfl, h⟩)) (fun h => ⟨hin, nm_e (nm_e (K _ _ (Or.inr ⟨rfl, rfl, h⟩)))⟩)⟩⟩
theorem xc_addEdge {c : Nat} {op fa fb : Nat → Int32} {L D : Nat → Nat → Prop} {m : Nat} {ρ : Nat → Nat} {post : SX → Prop} {a b : Nat} (hI : cg_I c G op fa fb L D m ρ xrep xpts xdone xflowsTo xloads xstores xpending) (ha : a < 48) (hb : b < 48) (hL : ∀ s, L a s → L b s)
    (K : ∀ (pd : Int64) (pt fl : Nat → Int64), cg_I c G op fa fb L D m ρ xrep pt xdone fl xloads xstores pd → (∀ k s, lb_t (xpts k) s = true → lb_t (pt k) s = true) → (∀ f t, lb_t (xflowsTo f) t = true → lb_t (fl f) t = true) → cg_E fl (ρ a) (ρ b) → post (xmaxLength, xvariableCount, xglobalCount, xheapLimit, xlength, xcursor, xstate, pd, xreachable, xsingleSites, xexactVars, ximproved, xopAt, xaAt, xbAt, xcAt, xinputs, xrep, pt, xdone, fl, xtried, xloads, xstores, xnext, xprev, xafter, xvarSet, xgen, xkill, xholdsIn, xreads, xcovers, xneedIn, xneedAfter, xverdicts, xrunStatus, xrunSteps, xrunOutputs, xrunReads, xrunWrites, xrunMade, xrunPlace, xvars, xcells, xheapSite, xoutputs)) : wpX_addEdge post (xmaxLength, xvariableCount, xglobalCount, xheapLimit, xlength, xcursor, xstate, xpending, xreachable, xsingleSites, xexactVars, ximproved, xopAt, xaAt, xbAt, xcAt, xinputs, xrep, xpts, xdone, xflowsTo, xtried, xloads, xstores, xnext, xprev, xafter, xvarSet, xgen, xkill, xholdsIn, xreads, xcovers, xneedIn, xneedAfter, xverdicts, xrunStatus, xrunSteps, xrunOutputs, xrunReads, xrunWrites, xrunMade, xrunPlace, xvars, xcells, xheapSite, xoutputs) (nI a) (nI b) := by
  obtain ⟨ra1, ra2, ra3⟩ := hI.1 a ha
  obtain ⟨rb1, rb2, rb3⟩ := hI.1 b hb
  have ea : (nI a).toNatClampNeg = a := nI_clamp (by omega)
  have eb : (nI b).toNatClampNeg = b := nI_clamp (by omega)
  have er : (nI (ρ a)).toNatClampNeg = ρ a := nI_clamp (by omega)
  have hia : vp_in (nI a) 48 := vp_in_nI ha (by omega)
  have hib : vp_in (nI b) 48 := vp_in_nI hb (by omega)
  have hir : vp_in (nI (ρ a)) 48 := vp_in_nI ra2 (by omega)
  unfold wpX_addEdge
  simp only [ea, eb]
  refine ⟨hia, nm_r ra1 ⟨hib, nm_r rb1 (br_c (fun h => ?_) (fun h => ⟨hir, ?_⟩))⟩⟩
  · rw [nI_eq (by omega) (by omega)] at h
    exact K _ _ _ hI (fun _ _ z => z) (fun _ _ z => z) (Or.inl h)
  · have hne : ¬ ρ a = ρ b := fun z => h (by rw [z])
    simp only [er]
    refine lo_br (ρ b) (by omega) (fun hbit => ⟨hir, hir, nm_e ⟨hir, xc_include rb2 (fun pd pt hinc => ?_)⟩⟩) (fun hbit => K _ _ _ hI (fun _ _ z => z) (fun _ _ z => z) (Or.inr hbit))
    have hset := cg_Iset hinc
    have hsub : ∀ s, L (ρ a) s → L (ρ b) s := fun s z => (hI.2.2.1.2.2.1 b s hb).mp (hL s ((hI.2.2.1.2.2.1 a s ha).mpr z))
    have hI2 := cg_inc hI rb2 rb3 (fun s hs => hI.2.1.1 _ s ra2 hs) (fun s hs => hsub s (hI.2.2.1.1 _ s ra2 ra3 hs)) hinc
    have hI3 := cg_edge hI2 ra2 rb2 ra3 rb3 hne hsub (fun s hs => by
      rcases cg_Ibit hinc _ _ hs with z | ⟨z, _⟩
      · exact hset s z
      · exact absurd z hne)
    exact K _ _ _ hI3.1 (cg_Imono hinc) hI3.2.1 (Or.inr hI3.2.2)
end
end
section
section
variable {xmaxLength : Int32} {xvariableCount : Int32} {xglobalCount : Int32} {xheapLimit : Int32} {xlength : Int32} {xcursor : Int32} {xstate : Int32} {xpending : Int64} {xreachable : Int64} {xsingleSites : Int64} {xexactVars : Int32} {ximproved : Int32} {xopAt : (Nat → Int32)} {xaAt : (Nat → Int32)} {xbAt : (Nat → Int32)} {xcAt : (Nat → Int32)} {xinputs : (Nat → Int32)} {xrep : (Nat → Int32)} {xpts : (Nat → Int64)} {xdone : (Nat → Int64)} {xflowsTo : (Nat → Int64)} {xtried : (Nat → Int64)} {xloads : (Nat → Int32)} {xstores : (Nat → Int32)} {xnext : (Nat → Int64)} {xprev : (Nat → Int64)} {xafter : (Nat → Int64)} {xvarSet : (Nat → Int64)} {xgen : (Nat → Int64)} {xkill : (Nat → Int64)} {xholdsIn : (Nat → Int64)} {xreads : (Nat → Int32)} {xcovers : (Nat → Int32)} {xneedIn : (Nat → Int32)} {xneedAfter : (Nat → Int32)} {xverdicts : (Nat → Int32)} {xrunStatus : (Nat → Int32)} {xrunSteps : (Nat → Int32)} {xrunOutputs : (Nat → Int32)} {xrunReads : (Nat → Int32)} {xrunWrites : (Nat → Int32)} {xrunMade : (Nat → Int32)} {xrunPlace : (Nat → Int32)} {xvars : (Nat → Int64)} {xcells : (Nat → Int64)} {xheapSite : (Nat → Int32)} {xoutputs : (Nat → Int64)}
variable {R V G n : Nat}

/-- rest for the instruction i added -/
theorem cg_Ks {c : Nat} {op fa fb : Nat → Int32} {ρ : Nat → Nat} {pts flo : Nat → Int64} {loads stores : Nat → Int32} (h : cg_K c G op fa fb ρ pts flo loads stores)
    (h6 : op c = 6 → lb_t (pts (ρ (pn (fa c)))) (pn (fb c)) = true) (h7 : op c = 7 → lb_t (pts (ρ (pn (fa c)))) (G + c) = true) (h3 : op c = 3 → cg_E flo (ρ (pn (fb c))) (ρ (pn (fa c))))
    (h8 : op c = 8 → bt (loads (ρ (pn (fb c)))) (pn (fa c)) = true) (h9 : op c = 9 → bt (stores (ρ (pn (fa c)))) (pn (fb c)) = true) : cg_K (c + 1) G op fa fb ρ pts flo loads stores := by
  intro i hi
  by_cases e : i = c
  · subst e; exact ⟨h6, h7, h3, h8, h9⟩
  · exact h i (by omega)
theorem cg_Is {c : Nat} {op fa fb : Nat → Int32} {L D : Nat → Nat → Prop} {m : Nat} {ρ : Nat → Nat} {rep : Nat → Int32} {pts done flo : Nat → Int64} {loads stores : Nat → Int32} {pend : Int64} (h : cg_I c G op fa fb L D m ρ rep pts done flo loads stores pend)
    (h6 : op c = 6 → lb_t (pts (ρ (pn (fa c)))) (pn (fb c)) = true) (h7 : op c = 7 → lb_t (pts (ρ (pn (fa c)))) (G + c) = true) (h3 : op c = 3 → cg_E flo (ρ (pn (fb c))) (ρ (pn (fa c))))
    (h8 : op c = 8 → bt (loads (ρ (pn (fb c)))) (pn (fa c)) = true) (h9 : op c = 9 → bt (stores (ρ (pn (fa c)))) (pn (fb c)) = true) : cg_I (c + 1) G op fa fb L D m ρ rep pts done flo loads stores pend := by
  obtain ⟨hR, hB, hS, hK, hD, hP, hM⟩ := h
  exact ⟨hR, hB, hS, cg_Ks hK h6 h7 h3 h8 h9, hD, hP, hM⟩
def cs_I (i G n : Nat) (op fa fb : Nat → Int32) (rep : Nat → Int32) (pts done flo : Nat → Int64) (loads stores : Nat → Int32) (pend : Int64) : Prop :=
  cg_I i G op fa fb (pt_L n G op fa fb) (fun _ _ => False) 1968 (fun k => k) rep pts done flo loads stores pend
theorem cs_load {i a b : Nat} {op fa fb : Nat → Int32} {rep : Nat → Int32} {pts done flo : Nat → Int64} {loads stores : Nat → Int32} {pend : Int64} (hi : i < n) (ho : op i = 8) (ha : fa i = nI a) (hb : fb i = nI b) (ha8 : a < 8) (hb8 : b < 8) (h : cs_I i G n op fa fb rep pts done flo loads stores pend) : cs_I (i + 1) G n op fa fb rep pts done flo (upd loads b (loads b ||| ((1 : Int32) <<< (nI a &&& 31)))) stores pend := by
  have ea : pn (fa i) = a := by rw [ha]; exact pn_nI (by omega)
  have eb : pn (fb i) = b := by rw [hb]; exact pn_nI (by omega)
  obtain ⟨hR, hB, ⟨s1, s2, s3, s4, s5⟩, hK, hD, hP, hM⟩ := h
  have hm : ∀ f v, bt (loads f) v = true → bt (upd loads b (loads b ||| ((1 : Int32) <<< (nI a &&& 31))) f) v = true := by
    intro f v hv
    by_cases e : f = b
    · subst e; rw [pk_us, bo_or]; exact Or.inl hv
    · rw [pk_un e]; exact hv
  refine cg_Is ⟨hR, hB, ⟨s1, s2, s3, fun f v hf hr hv => ?_, s5⟩, fun j hj => ?_, fun _ _ _ _ z => z.elim, hP, hM⟩ (fun z => ?_) (fun z => ?_) (fun z => ?_) (fun _ => ?_) (fun z => ?_)
  · by_cases e : f = b
    · subst e
      rw [pk_us, bo_or, bo_one (by omega)] at hv
      rcases hv with hv | hv
      · exact s4 f v hf hr hv
      · subst hv
        intro s x h1 h2
        have t := (pt_LC n G op fa fb i hi).2.2.2.1 ho s x
        rw [ea, eb] at t
        exact t h1 h2
    · rw [pk_un e] at hv; exact s4 f v hf hr hv
  · obtain ⟨k1, k2, k3, k4, k5⟩ := hK j hj
    exact ⟨k1, k2, k3, fun o => hm _ _ (k4 o), k5⟩
  · rw [ho] at z; exact absurd z (by decide)
  · rw [ho] at z; exact absurd z (by decide)
  · rw [ho] at z; exact absurd z (by decide)
  · show bt (upd loads b (loads b ||| ((1 : Int32) <<< (nI a &&& 31))) (pn (fb i))) (pn (fa i)) = true
    rw [ea, eb, pk_us, bo_or, bo_one (by omega)]; exact Or.inr rfl
  · rw [ho] at z; exact absurd z (by decide)
theorem cs_store {i a b : Nat} {op fa fb : Nat → Int32} {rep : Nat → Int32} {pts done flo : Nat → Int64} {loads stores : Nat → Int32} {pend : Int64} (hi : i < n) (ho : op i = 9) (ha : fa i = nI a) (hb : fb i = nI b) (ha8 : a < 8) (hb8 : b < 8) (h : cs_I i G n op fa fb rep pts done flo loads stores pend) : cs_I (i + 1) G n op fa fb rep pts done flo loads (upd stores a (stores a ||| ((1 : Int32) <<< (nI b &&& 31)))) pend := by
  have ea : pn (fa i) = a := by rw [ha]; exact pn_nI (by omega)
  have eb : pn (fb i) = b := by rw [hb]; exact pn_nI (by omega)
  obtain ⟨hR, hB, ⟨s1, s2, s3, s4, s5⟩, hK, hD, hP, hM⟩ := h
  have hm : ∀ f v, bt (stores f) v = true → bt (upd stores a (stores a ||| ((1 : Int32) <<< (nI b &&& 31))) f) v = true := by
    intro f v hv
    by_cases e : f = a
    · subst e; rw [pk_us, bo_or]; exact Or.inl hv
    · rw [pk_un e]; exact hv
  refine cg_Is ⟨hR, hB, ⟨s1, s2, s3, s4, fun f v hf hr hv => ?_⟩, fun j hj => ?_, fun _ _ _ _ z => z.elim, hP, hM⟩ (fun z => ?_) (fun z => ?_) (fun z => ?_) (fun z => ?_) (fun _ => ?_)
  · by_cases e : f = a
    · subst e
      rw [pk_us, bo_or, bo_one (by omega)] at hv
      rcases hv with hv | hv
      · exact s5 f v hf hr hv
      · subst hv
        intro s x h1 h2
        have t := (pt_LC n G op fa fb i hi).2.2.2.2 ho s x
        rw [ea, eb] at t
        exact t h1 h2
    · rw [pk_un e] at hv; exact s5 f v hf hr hv
  · obtain ⟨k1, k2, k3, k4, k5⟩ := hK j hj
    exact ⟨k1, k2, k3, k4, fun o => hm _ _ (k5 o)⟩
  · rw [ho] at z; exact absurd z (by decide)
  · rw [ho] at z; exact absurd z (by decide)
  · rw [ho] at z; exact absurd z (by decide)
  · rw [ho] at z; exact absurd z (by decide)
  · show bt (upd stores a (stores a ||| ((1 : Int32) <<< (nI b &&& 31))) (pn (fa i))) (pn (fb i)) = true
    rw [ea, eb, pk_us, bo_or, bo_one (by omega)]; exact Or.inr rfl
theorem cs_inc {i a q : Nat} {op fa fb : Nat → Int32} {rep : Nat → Int32} {pts done flo pts' : Nat → Int64} {loads stores : Nat → Int32} {pend pend' : Int64} (ha : pn (fa i) = a) (ha8 : a < 8) (hq : q < 40) (hL : pt_L n G op fa fb a q) (h67 : (op i = 6 ∧ pn (fb i) = q) ∨ (op i = 7 ∧ G + i = q)) (h : cs_I i G n op fa fb rep pts done flo loads stores pend) (hinc : cg_Inc pts pend a ((1 : Int64) <<< ((nI q).toInt64 &&& 63)) pts' pend') : cs_I (i + 1) G n op fa fb rep pts' done flo loads stores pend' := by
  have hset := cg_Iset hinc
  have hs : ∀ s, lb_t ((1 : Int64) <<< ((nI q).toInt64 &&& 63)) s = true → s = q := fun s z => (lo_one (by omega)).mp z
  have h2 : cs_I i G n op fa fb rep pts' done flo loads stores pend' := cg_inc h (by omega) rfl (fun s z => by rw [hs s z]; exact hq) (fun s z => by rw [hs s z]; exact hL) hinc
  have hb : lb_t (pts' a) q = true := hset q ((lo_one (by omega)).mpr rfl)
  refine cg_Is h2 (fun z => ?_) (fun z => ?_) (fun z => ?_) (fun z => ?_) (fun z => ?_)
  · rcases h67 with ⟨h6, e⟩ | ⟨h7, e⟩
    · show lb_t (pts' (pn (fa i))) (pn (fb i)) = true
      rw [ha, e]; exact hb
    · rw [h7] at z; exact absurd z (by decide)
  · rcases h67 with ⟨h6, e⟩ | ⟨h7, e⟩
    · rw [h6] at z; exact absurd z (by decide)
    · show lb_t (pts' (pn (fa i))) (G + i) = true
      rw [ha, e]; exact hb
  all_goals (rcases h67 with ⟨h6, e⟩ | ⟨h7, e⟩)
  all_goals first
    | (rw [h6] at z; exact absurd z (by decide))
    | (rw [h7] at z; exact absurd z (by decide))
theorem cs_none {i : Nat} {op fa fb : Nat → Int32} {rep : Nat → Int32} {pts done flo : Nat → Int64} {loads stores : Nat → Int32} {pend : Int64} (h3 : ¬ op i = 3) (h6 : ¬ op i = 6) (h7 : ¬ op i = 7) (h8 : ¬ op i = 8) (h9 : ¬ op i = 9) (h : cs_I i G n op fa fb rep pts done flo loads stores pend) : cs_I (i + 1) G n op fa fb rep pts done flo loads stores pend :=
  cg_Is h (fun z => absurd z h6) (fun z => absurd z h7) (fun z => absurd z h3) (fun z => absurd z h8) (fun z => absurd z h9)
theorem cs_zero {op fa fb : Nat → Int32} {rep : Nat → Int32} {pts done flo : Nat → Int64} {loads stores : Nat → Int32} (h : ∀ j, j < 48 → rep j = nI j ∧ pts j = 0 ∧ done j = 0 ∧ flo j = 0 ∧ loads j = 0 ∧ stores j = 0) : cs_I 0 G n op fa fb rep pts done flo loads stores 0 := by
  refine ⟨fun k hk => ⟨(h k hk).1, hk, rfl⟩, ⟨fun k s hk z => ?_, fun f t hf z => ?_, fun k z => absurd z lo_0⟩, ⟨fun f s hf _ z => ?_, fun f t hf _ z => ?_, fun k s hk => Iff.rfl, fun f v hf _ z => ?_, fun f v hf _ z => ?_⟩, fun i hi => absurd hi (Nat.not_lt_zero i), fun _ _ _ _ z => z.elim, fun f s hf _ _ z => ?_, ?_⟩
  · rw [(h k hk).2.1] at z; exact absurd z lo_0
  · rw [(h f hf).2.2.2.1] at z; exact absurd z lo_0
  · rw [(h f hf).2.1] at z; exact absurd z lo_0
  · rw [(h f hf).2.2.2.1] at z; exact absurd z lo_0
  · rw [(h f hf).2.2.2.2.1] at z; exact absurd z bo_0
  · rw [(h f hf).2.2.2.2.2] at z; exact absurd z bo_0
  · rw [(h f hf).2.1] at z; exact absurd z lo_0
  · have a1 := ct_bd (fun q => !lb_t (pts (q / 40)) (q % 40)) 1920
    have a2 := ct_bd (fun k => decide ((fun k => k) k = k)) 48
    have a3 : ct_n (fun k => lb_t 0 k) 48 = 0 := ct_0 48 (fun j _ => lb_0 j)
    unfold cg_M
    omega
theorem xc_sc70 {fc : Nat → Int32} {post : SX → Prop} (hp : pg_ok R V G n xopAt xaAt xbAt fc) (hV : V ≤ 8) (hG : G ≤ 8) (hn : n ≤ 32) (h0 : cs_I 0 G n xopAt xaAt xbAt xrep xpts xdone xflowsTo xloads xstores xpending)
    (K : ∀ (pd : Int64) (pt fl : Nat → Int64) (ld st : Nat → Int32), cs_I n G n xopAt xaAt xbAt xrep pt xdone fl ld st pd → post (xmaxLength, xvariableCount, nI G, xheapLimit, nI n, xcursor, xstate, pd, xreachable, xsingleSites, xexactVars, ximproved, xopAt, xaAt, xbAt, xcAt, xinputs, xrep, pt, xdone, fl, xtried, ld, st, xnext, xprev, xafter, xvarSet, xgen, xkill, xholdsIn, xreads, xcovers, xneedIn, xneedAfter, xverdicts, xrunStatus, xrunSteps, xrunOutputs, xrunReads, xrunWrites, xrunMade, xrunPlace, xvars, xcells, xheapSite, xoutputs)) : ∃ n70, wX_startConstraints_70 post n70 0 xmaxLength xvariableCount (nI G) xheapLimit (nI n) xcursor xstate xpending xreachable xsingleSites xexactVars ximproved xopAt xaAt xbAt xcAt xinputs xrep xpts xdone xflowsTo xtried xloads xstores xnext xprev xafter xvarSet xgen xkill xholdsIn xreads xcovers xneedIn xneedAfter xverdicts xrunStatus xrunSteps xrunOutputs xrunReads xrunWrites xrunMade xrunPlace xvars xcells xheapSite xoutputs := by
  refine lc_5 (fun d i (pd : Int64) (pt fl : Nat → Int64) (ld st : Nat → Int32) => wX_startConstraints_70 post d (nI i) xmaxLength xvariableCount (nI G) xheapLimit (nI n) xcursor xstate pd xreachable xsingleSites xexactVars ximproved xopAt xaAt xbAt xcAt xinputs xrep pt xdone fl xtried ld st xnext xprev xafter xvarSet xgen xkill xholdsIn xreads xcovers xneedIn xneedAfter xverdicts xrunStatus xrunSteps xrunOutputs xrunReads xrunWrites xrunMade xrunPlace xvars xcells xheapSite xoutputs) (fun i pd pt fl ld st => cs_I i G n xopAt xaAt xbAt xrep pt xdone fl ld st pd) n xpending xpts xflowsTo xloads xstores h0 ?_ ?_
  · intro d pd pt fl ld st h
    exact br_t (nI_le (Nat.le_refl n) (by omega)) (K pd pt fl ld st h)
  · intro d i pd pt fl ld st hi h ih
    have e : (nI i).toNatClampNeg = i := nI_clamp (by omega)
    have hin : vp_in (nI i) 32 := vp_in_nI (by omega) (by omega)
    obtain ⟨⟨o, ho1, ho2, ho⟩, h10, hn10, h2, h6, h11, hb, hc⟩ := hp i hi
    have hlo : ∀ k : Nat, k < 13 → (xopAt i = nI k ↔ o = k) := fun k hk => by rw [ho, nI_eq (by omega) (by omega)]
    refine br_f (nI_ge hi (by omega)) ⟨hin, nm_r (e' := xaAt i) (by rw [e]) ⟨hin, nm_r (e' := xbAt i) (by rw [e]) ⟨hin, nm_r (e' := nI o) (by rw [e, ho]) ?_⟩⟩⟩
    refine pk_lt o 3 (fun z => nm_r (nI_1 i) (ih _ _ _ _ _ ?_)) (fun z => pk_lt 9 o (fun y => nm_r (nI_1 i) (ih _ _ _ _ _ ?_)) (fun y => ?_))
    · refine cs_none ?_ ?_ ?_ ?_ ?_ h
      · exact fun q => by have := (hlo 3 (by omega)).mp q; omega
      · exact fun q => by have := (hlo 6 (by omega)).mp q; omega
      · exact fun q => by have := (hlo 7 (by omega)).mp q; omega
      · exact fun q => by have := (hlo 8 (by omega)).mp q; omega
      · exact fun q => by have := (hlo 9 (by omega)).mp q; omega
    · refine cs_none ?_ ?_ ?_ ?_ ?_ h
      · exact fun q => by have := (hlo 3 (by omega)).mp q; omega
      · exact fun q => by have := (hlo 6 (by omega)).mp q; omega
      · exact fun q => by have := (hlo 7 (by omega)).mp q; omega
      · exact fun q => by have := (hlo 8 (by omega)).mp q; omega
      · exact fun q => by have := (hlo 9 (by omega)).mp q; omega
    have hA : ∃ a, a < V ∧ xaAt i = nI a := hn10 (fun q => by have := (hlo 10 (by omega)).mp q; omega)
    obtain ⟨a, ha, ea⟩ := hA
    have pa : pn (xaAt i) = a := by rw [ea]; exact pn_nI (by omega)
    rw [ea]
    refine pk_eq o 3 (fun o3 => ?_) (fun o3 => pk_eq o 4 (fun o4 => nm_r (nI_1 i) (ih _ _ _ _ _ ?_)) (fun o4 => pk_eq o 5 (fun o5 => nm_r (nI_1 i) (ih _ _ _ _ _ ?_)) (fun o5 => pk_eq o 6 (fun o6 => ?_) (fun o6 => pk_eq o 7 (fun o7 => ?_) (fun o7 => pk_eq o 8 (fun o8 => ?_) (fun o8 => pk_eq o 9 (fun o9 => ?_) (fun o9 => trivial)))))))
    · obtain ⟨b, hb2, eb⟩ := hb (Or.inl ((hlo 3 (by omega)).mpr o3))
      have pb : pn (xbAt i) = b := by rw [eb]; exact pn_nI (by omega)
      rw [eb]
      refine xc_addEdge h (by omega) (by omega) (fun s hs => ?_) (fun pd' pt' fl' hI' _ _ hE => nm_r (nI_1 i) (ih _ _ _ _ _ ?_))
      · have t := (pt_LC n G xopAt xaAt xbAt i hi).2.2.1 ((hlo 3 (by omega)).mpr o3) s
        rw [pa, pb] at t
        exact t hs
      · refine cg_Is hI' ?_ ?_ (fun _ => by rw [pa, pb]; exact hE) ?_ ?_
        · exact fun q => by have := (hlo 6 (by omega)).mp q; omega
        · exact fun q => by have := (hlo 7 (by omega)).mp q; omega
        · exact fun q => by have := (hlo 8 (by omega)).mp q; omega
        · exact fun q => by have := (hlo 9 (by omega)).mp q; omega
    · refine cs_none ?_ ?_ ?_ ?_ ?_ h
      · exact fun q => by have := (hlo 3 (by omega)).mp q; omega
      · exact fun q => by have := (hlo 6 (by omega)).mp q; omega
      · exact fun q => by have := (hlo 7 (by omega)).mp q; omega
      · exact fun q => by have := (hlo 8 (by omega)).mp q; omega
      · exact fun q => by have := (hlo 9 (by omega)).mp q; omega
    · refine cs_none ?_ ?_ ?_ ?_ ?_ h
      · exact fun q => by have := (hlo 3 (by omega)).mp q; omega
      · exact fun q => by have := (hlo 6 (by omega)).mp q; omega
      · exact fun q => by have := (hlo 7 (by omega)).mp q; omega
      · exact fun q => by have := (hlo 8 (by omega)).mp q; omega
      · exact fun q => by have := (hlo 9 (by omega)).mp q; omega
    · obtain ⟨b, hb2, eb⟩ := h6 ((hlo 6 (by omega)).mpr o6)
      have pb : pn (xbAt i) = b := by rw [eb]; exact pn_nI (by omega)
      rw [eb]
      refine xc_include (by omega) (fun pd' pt' hinc => nm_r (nI_1 i) (ih _ _ _ _ _ (cs_inc pa (by omega) (by omega) ?_ (Or.inl ⟨(hlo 6 (by omega)).mpr o6, pb⟩) h hinc)))
      have t := (pt_LC n G xopAt xaAt xbAt i hi).1 ((hlo 6 (by omega)).mpr o6)
      rwa [pa, pb] at t
    · rw [nI_add]
      refine xc_include (by omega) (fun pd' pt' hinc => nm_r (nI_1 i) (ih _ _ _ _ _ (cs_inc pa (by omega) (by omega) ?_ (Or.inr ⟨(hlo 7 (by omega)).mpr o7, rfl⟩) h hinc)))
      have t := (pt_LC n G xopAt xaAt xbAt i hi).2.1 ((hlo 7 (by omega)).mpr o7)
      rwa [pa] at t
    · obtain ⟨b, hb2, eb⟩ := hb (Or.inr (Or.inr (Or.inr (Or.inl ((hlo 8 (by omega)).mpr o8)))))
      have hib : vp_in (nI b) 48 := vp_in_nI (by omega) (by omega)
      rw [eb]
      exact ⟨hib, hib, nm_r (e' := upd ld b (ld b ||| ((1 : Int32) <<< (nI a &&& 31)))) (by rw [nI_clamp (by omega)]) (nm_r (nI_1 i) (ih _ _ _ _ _ (cs_load hi ((hlo 8 (by omega)).mpr o8) ea eb (by omega) (by omega) h)))⟩
    · obtain ⟨b, hb2, eb⟩ := hb (Or.inr (Or.inr (Or.inr (Or.inr ((hlo 9 (by omega)).mpr o9)))))
      have hia : vp_in (nI a) 48 := vp_in_nI (by omega) (by omega)
      rw [eb]
      exact ⟨hia, hia, nm_r (e' := upd st a (st a ||| ((1 : Int32) <<< (nI b &&& 31)))) (by rw [nI_clamp (by omega)]) (nm_r (nI_1 i) (ih _ _ _ _ _ (cs_store hi ((hlo 9 (by omega)).mpr o9) ea eb (by omega) (by omega) h)))⟩
theorem xc_start {fc : Nat → Int32} {post : SX → Prop} (hp : pg_ok R V G n xopAt xaAt xbAt fc) (hV : V ≤ 8) (hG : G ≤ 8) (hn : n ≤ 32)
    (K : ∀ (pd : Int64) (rp : Nat → Int32) (pt dn fl tr : Nat → Int64) (ld st : Nat → Int32), cs_I n G n xopAt xaAt xbAt rp pt dn fl ld st pd → (∀ j, j < 48 → dn j = 0) → post (xmaxLength, xvariableCount, nI G, xheapLimit, nI n, xcursor, xstate, pd, xreachable, xsingleSites, xexactVars, ximproved, xopAt, xaAt, xbAt, xcAt, xinputs, rp, pt, dn, fl, tr, ld, st, xnext, xprev, xafter, xvarSet, xgen, xkill, xholdsIn, xreads, xcovers, xneedIn, xneedAfter, xverdicts, xrunStatus, xrunSteps, xrunOutputs, xrunReads, xrunWrites, xrunMade, xrunPlace, xvars, xcells, xheapSite, xoutputs)) : wpX_startConstraints post (xmaxLength, xvariableCount, nI G, xheapLimit, nI n, xcursor, xstate, xpending, xreachable, xsingleSites, xexactVars, ximproved, xopAt, xaAt, xbAt, xcAt, xinputs, xrep, xpts, xdone, xflowsTo, xtried, xloads, xstores, xnext, xprev, xafter, xvarSet, xgen, xkill, xholdsIn, xreads, xcovers, xneedIn, xneedAfter, xverdicts, xrunStatus, xrunSteps, xrunOutputs, xrunReads, xrunWrites, xrunMade, xrunPlace, xvars, xcells, xheapSite, xoutputs) := by
  refine lc_7 (fun d i (rp : Nat → Int32) (pt dn fl tr : Nat → Int64) (ld st : Nat → Int32) => wX_startConstraints_7 post xmaxLength xvariableCount (nI G) xheapLimit (nI n) xcursor xstate 0 xreachable xsingleSites xexactVars ximproved d (nI i) xopAt xaAt xbAt xcAt xinputs rp pt dn fl tr ld st xnext xprev xafter xvarSet xgen xkill xholdsIn xreads xcovers xneedIn xneedAfter xverdicts xrunStatus xrunSteps xrunOutputs xrunReads xrunWrites xrunMade xrunPlace xvars xcells xheapSite xoutputs) (fun i rp pt dn fl _ ld st => ∀ j, j < i → rp j = nI j ∧ pt j = 0 ∧ dn j = 0 ∧ fl j = 0 ∧ ld j = 0 ∧ st j = 0) 48 xrep xpts xdone xflowsTo xtried xloads xstores (fun j hj => absurd hj (Nat.not_lt_zero j)) ?_ ?_
  · intro d rp pt dn fl tr ld st h
    exact br_t (nI_le (Nat.le_refl 48) (by omega)) (xc_sc70 hp hV hG hn (cs_zero h) (fun pd pt' fl' ld' st' hI => K _ _ _ _ _ _ _ _ hI (fun j hj => (h j hj).2.2.1)))
  · intro d i rp pt dn fl tr ld st hi h ih
    have hin : vp_in (nI i) 48 := vp_in_nI hi (by omega)
    have e : (nI i).toNatClampNeg = i := nI_clamp (by omega)
    refine br_f (nI_ge (b := 48) hi (by omega)) ⟨hin, nm_r (e' := upd rp i (nI i)) (by rw [e]) ⟨hin, nm_r (e' := vp_updL pt i 0) (by rw [e]) ⟨hin, nm_r (e' := vp_updL dn i 0) (by rw [e]) ⟨hin, nm_r (e' := vp_updL fl i 0) (by rw [e]) ⟨hin, nm_r (e' := vp_updL tr i 0) (by rw [e]) ⟨hin, nm_r (e' := upd ld i 0) (by rw [e]) ⟨hin, nm_r (e' := upd st i 0) (by rw [e]) (nm_r (nI_1 i) (ih _ _ _ _ _ _ _ ?_))⟩⟩⟩⟩⟩⟩⟩
    intro j hj
    by_cases e2 : j = i
    · subst e2; exact ⟨pk_us, pk_uLs, pk_uLs, pk_uLs, pk_us, pk_us⟩
    · rw [pk_un e2, pk_uLn e2, pk_uLn e2, pk_uLn e2, pk_un e2, pk_un e2]; exact h j (by omega)
end
end
section
section
variable {xmaxLength : Int32} {xvariableCount : Int32} {xglobalCount : Int32} {xheapLimit : Int32} {xlength : Int32} {xcursor : Int32} {xstate : Int32} {xpending : Int64} {xreachable : Int64} {xsingleSites : Int64} {xexactVars : Int32} {ximproved : Int32} {xopAt : (Nat → Int32)} {xaAt : (Nat → Int32)} {xbAt : (Nat → Int32)} {xcAt : (Nat → Int32)} {xinputs : (Nat → Int32)} {xrep : (Nat → Int32)} {xpts : (Nat → Int64)} {xdone : (Nat → Int64)} {xflowsTo : (Nat → Int64)} {xtried : (Nat → Int64)} {xloads : (Nat → Int32)} {xstores : (Nat → Int32)} {xnext : (Nat → Int64)} {xprev : (Nat → Int64)} {xafter : (Nat → Int64)} {xvarSet : (Nat → Int64)} {xgen : (Nat → Int64)} {xkill : (Nat → Int64)} {xholdsIn : (Nat → Int64)} {xreads : (Nat → Int32)} {xcovers : (Nat → Int32)} {xneedIn : (Nat → Int32)} {xneedAfter : (Nat → Int32)} {xverdicts : (Nat → Int32)} {xrunStatus : (Nat → Int32)} {xrunSteps : (Nat → Int32)} {xrunOutputs : (Nat → Int32)} {xrunReads : (Nat → Int32)} {xrunWrites : (Nat → Int32)} {xrunMade : (Nat → Int32)} {xrunPlace : (Nat → Int32)} {xvars : (Nat → Int64)} {xcells : (Nat → Int64)} {xheapSite : (Nat → Int32)} {xoutputs : (Nat → Int64)}
variable {c G : Nat} {op fa fb : Nat → Int32} {L D : Nat → Nat → Prop} {m : Nat} {ρ : Nat → Nat} {post : SX → Prop}
theorem xc_dv77 {J28 J49 : Int32 → Int32 → Int32 → Int32 → Int32 → Int32 → Int32 → Int32 → Int64 → Int64 → Int64 → Int32 → Int32 → (Nat → Int32) → (Nat → Int32) → (Nat → Int32) → (Nat → Int32) → (Nat → Int32) → (Nat → Int32) → (Nat → Int64) → (Nat → Int64) → (Nat → Int64) → (Nat → Int64) → (Nat → Int32) → (Nat → Int32) → (Nat → Int64) → (Nat → Int64) → (Nat → Int64) → (Nat → Int64) → (Nat → Int64) → (Nat → Int64) → (Nat → Int64) → (Nat → Int32) → (Nat → Int32) → (Nat → Int32) → (Nat → Int32) → (Nat → Int32) → (Nat → Int32) → (Nat → Int32) → (Nat → Int32) → (Nat → Int32) → (Nat → Int32) → (Nat → Int32) → (Nat → Int32) → (Nat → Int64) → (Nat → Int64) → (Nat → Int32) → (Nat → Int64) → Prop} {x2 : Int64} {x4 x5 : Int32} {s v : Nat} (hs : s < 40) (hv : v < 8) (hI : cg_I c G op fa fb L D m ρ xrep xpts xdone xflowsTo xloads xstores xpending)
    (hSt : bt x5 v = true → ∀ x, L v x → L (8 + s) x)
    (K : ∀ (pd : Int64) (pt fl : Nat → Int64), cg_I c G op fa fb L D m ρ xrep pt xdone fl xloads xstores pd → (∀ k s, lb_t (xpts k) s = true → lb_t (pt k) s = true) → (∀ f t, lb_t (xflowsTo f) t = true → lb_t (fl f) t = true) → (bt x5 v = true → cg_E fl (ρ v) (ρ (8 + s))) → J49 (nI (v + 1)) xmaxLength xvariableCount xglobalCount xheapLimit xlength xcursor xstate pd xreachable xsingleSites xexactVars ximproved xopAt xaAt xbAt xcAt xinputs xrep pt xdone fl xtried xloads xstores xnext xprev xafter xvarSet xgen xkill xholdsIn xreads xcovers xneedIn xneedAfter xverdicts xrunStatus xrunSteps xrunOutputs xrunReads xrunWrites xrunMade xrunPlace xvars xcells xheapSite xoutputs) : wX_derive_77 post J28 J49 x2 x4 x5 (nI s) (nI v) xmaxLength xvariableCount xglobalCount xheapLimit xlength xcursor xstate xpending xreachable xsingleSites xexactVars ximproved xopAt xaAt xbAt xcAt xinputs xrep xpts xdone xflowsTo xtried xloads xstores xnext xprev xafter xvarSet xgen xkill xholdsIn xreads xcovers xneedIn xneedAfter xverdicts xrunStatus xrunSteps xrunOutputs xrunReads xrunWrites xrunMade xrunPlace xvars xcells xheapSite xoutputs := by
  have e8 : (8 : Int32) + nI s = nI (8 + s) := nI_add 8 s
  unfold wX_derive_77
  rw [e8]
  exact bo_br v (by omega) (fun hb => nm_r (nI_1 v) (K _ _ _ hI (fun _ _ z => z) (fun _ _ z => z) (fun z => absurd z hb))) (fun hb => xc_addEdge hI (by omega) (by omega) (hSt hb) (fun pd pt fl hI' m1 m2 hE => nm_r (nI_1 v) (K _ _ _ hI' m1 m2 (fun _ => hE))))
theorem xc_dv49 {J28 : Int32 → Int32 → Int32 → Int32 → Int32 → Int32 → Int32 → Int32 → Int64 → Int64 → Int64 → Int32 → Int32 → (Nat → Int32) → (Nat → Int32) → (Nat → Int32) → (Nat → Int32) → (Nat → Int32) → (Nat → Int32) → (Nat → Int64) → (Nat → Int64) → (Nat → Int64) → (Nat → Int64) → (Nat → Int32) → (Nat → Int32) → (Nat → Int64) → (Nat → Int64) → (Nat → Int64) → (Nat → Int64) → (Nat → Int64) → (Nat → Int64) → (Nat → Int64) → (Nat → Int32) → (Nat → Int32) → (Nat → Int32) → (Nat → Int32) → (Nat → Int32) → (Nat → Int32) → (Nat → Int32) → (Nat → Int32) → (Nat → Int32) → (Nat → Int32) → (Nat → Int32) → (Nat → Int32) → (Nat → Int64) → (Nat → Int64) → (Nat → Int32) → (Nat → Int64) → Prop} {x2 : Int64} {x4 x5 : Int32} {s : Nat} (hs : s < 40) (hI : cg_I c G op fa fb L D m ρ xrep xpts xdone xflowsTo xloads xstores xpending)
    (hLd : ∀ v, v < 8 → bt x4 v = true → ∀ x, L (8 + s) x → L v x) (hSt : ∀ v, v < 8 → bt x5 v = true → ∀ x, L v x → L (8 + s) x)
    (K : ∀ (pd : Int64) (pt fl : Nat → Int64), cg_I c G op fa fb L D m ρ xrep pt xdone fl xloads xstores pd → (∀ k s, lb_t (xpts k) s = true → lb_t (pt k) s = true) → (∀ f t, lb_t (xflowsTo f) t = true → lb_t (fl f) t = true) → (∀ v, v < 8 → (bt x4 v = true → cg_E fl (ρ (8 + s)) (ρ v)) ∧ (bt x5 v = true → cg_E fl (ρ v) (ρ (8 + s)))) → J28 (nI (s + 1)) xmaxLength xvariableCount xglobalCount xheapLimit xlength xcursor xstate pd xreachable xsingleSites xexactVars ximproved xopAt xaAt xbAt xcAt xinputs xrep pt xdone fl xtried xloads xstores xnext xprev xafter xvarSet xgen xkill xholdsIn xreads xcovers xneedIn xneedAfter xverdicts xrunStatus xrunSteps xrunOutputs xrunReads xrunWrites xrunMade xrunPlace xvars xcells xheapSite xoutputs) : ∃ n49, wX_derive_49 post J28 x2 x4 x5 (nI s) n49 0 xmaxLength xvariableCount xglobalCount xheapLimit xlength xcursor xstate xpending xreachable xsingleSites xexactVars ximproved xopAt xaAt xbAt xcAt xinputs xrep xpts xdone xflowsTo xtried xloads xstores xnext xprev xafter xvarSet xgen xkill xholdsIn xreads xcovers xneedIn xneedAfter xverdicts xrunStatus xrunSteps xrunOutputs xrunReads xrunWrites xrunMade xrunPlace xvars xcells xheapSite xoutputs := by
  have e8 : (8 : Int32) + nI s = nI (8 + s) := nI_add 8 s
  refine lc_3 (fun d v (pd : Int64) (pt fl : Nat → Int64) => wX_derive_49 post J28 x2 x4 x5 (nI s) d (nI v) xmaxLength xvariableCount xglobalCount xheapLimit xlength xcursor xstate pd xreachable xsingleSites xexactVars ximproved xopAt xaAt xbAt xcAt xinputs xrep pt xdone fl xtried xloads xstores xnext xprev xafter xvarSet xgen xkill xholdsIn xreads xcovers xneedIn xneedAfter xverdicts xrunStatus xrunSteps xrunOutputs xrunReads xrunWrites xrunMade xrunPlace xvars xcells xheapSite xoutputs) (fun v pd pt fl => cg_I c G op fa fb L D m ρ xrep pt xdone fl xloads xstores pd ∧ (∀ k s, lb_t (xpts k) s = true → lb_t (pt k) s = true) ∧ (∀ f t, lb_t (xflowsTo f) t = true → lb_t (fl f) t = true) ∧ (∀ u, u < v → (bt x4 u = true → cg_E fl (ρ (8 + s)) (ρ u)) ∧ (bt x5 u = true → cg_E fl (ρ u) (ρ (8 + s))))) 8 xpending xpts xflowsTo ⟨hI, fun _ _ z => z, fun _ _ z => z, fun u hu => absurd hu (Nat.not_lt_zero u)⟩ ?_ ?_
  · rintro d pd pt fl ⟨h1, h2, h3, h4⟩
    exact br_t (nI_le (Nat.le_refl 8) (by omega)) (nm_r (nI_1 s) (K pd pt fl h1 h2 h3 h4))
  · rintro d v pd pt fl hv ⟨h1, h2, h3, h4⟩ ih
    refine br_f (nI_ge (b := 8) hv (by omega)) (bo_br v (by omega) (fun hb => ?_) (fun hb => ?_))
    · refine xc_dv77 hs hv h1 (hSt v hv) (fun pd' pt' fl' hI' m1 m2 hE => ih _ _ _ ⟨hI', fun k s z => m1 _ _ (h2 k s z), fun f t z => m2 _ _ (h3 f t z), fun u hu => ?_⟩)
      by_cases e : u = v
      · subst e; exact ⟨fun z => absurd z hb, hE⟩
      · exact ⟨fun z => cg_Emono m2 ((h4 u (by omega)).1 z), fun z => cg_Emono m2 ((h4 u (by omega)).2 z)⟩
    · rw [e8]
      refine xc_addEdge h1 (by omega) (by omega) (hLd v hv hb) (fun pd1 pt1 fl1 hI1 n1 n2 hE1 => ?_)
      refine xc_dv77 hs hv hI1 (hSt v hv) (fun pd' pt' fl' hI' m1 m2 hE => ih _ _ _ ⟨hI', fun k s z => m1 _ _ (n1 _ _ (h2 k s z)), fun f t z => m2 _ _ (n2 _ _ (h3 f t z)), fun u hu => ?_⟩)
      by_cases e : u = v
      · subst e; exact ⟨fun _ => cg_Emono m2 hE1, hE⟩
      · exact ⟨fun z => cg_Emono m2 (cg_Emono n2 ((h4 u (by omega)).1 z)), fun z => cg_Emono m2 (cg_Emono n2 ((h4 u (by omega)).2 z))⟩
theorem xc_derive {node : Nat} {fresh : Int64} (hI : cg_I c G op fa fb L D m ρ xrep xpts xdone xflowsTo xloads xstores xpending) (hn : node < 48) (rn : ρ node = node) (hf : ∀ s, lb_t fresh s = true → s < 40 ∧ L node s)
    (K : ∀ (pd : Int64) (pt fl : Nat → Int64), cg_I c G op fa fb L D m ρ xrep pt xdone fl xloads xstores pd → (∀ k s, lb_t (xpts k) s = true → lb_t (pt k) s = true) → (∀ f t, lb_t (xflowsTo f) t = true → lb_t (fl f) t = true) → (∀ s, lb_t fresh s = true → ∀ v, v < 8 → (bt (xloads node) v = true → cg_E fl (ρ (8 + s)) (ρ v)) ∧ (bt (xstores node) v = true → cg_E fl (ρ v) (ρ (8 + s)))) → post (xmaxLength, xvariableCount, xglobalCount, xheapLimit, xlength, xcursor, xstate, pd, xreachable, xsingleSites, xexactVars, ximproved, xopAt, xaAt, xbAt, xcAt, xinputs, xrep, pt, xdone, fl, xtried, xloads, xstores, xnext, xprev, xafter, xvarSet, xgen, xkill, xholdsIn, xreads, xcovers, xneedIn, xneedAfter, xverdicts, xrunStatus, xrunSteps, xrunOutputs, xrunReads, xrunWrites, xrunMade, xrunPlace, xvars, xcells, xheapSite, xoutputs)) : wpX_derive post (xmaxLength, xvariableCount, xglobalCount, xheapLimit, xlength, xcursor, xstate, xpending, xreachable, xsingleSites, xexactVars, ximproved, xopAt, xaAt, xbAt, xcAt, xinputs, xrep, xpts, xdone, xflowsTo, xtried, xloads, xstores, xnext, xprev, xafter, xvarSet, xgen, xkill, xholdsIn, xreads, xcovers, xneedIn, xneedAfter, xverdicts, xrunStatus, xrunSteps, xrunOutputs, xrunReads, xrunWrites, xrunMade, xrunPlace, xvars, xcells, xheapSite, xoutputs) (nI node) fresh := by
  have e : (nI node).toNatClampNeg = node := nI_clamp (by omega)
  have hin : vp_in (nI node) 48 := vp_in_nI hn (by omega)
  have hS := hI.2.2.1
  refine ⟨hin, nm_r (e' := xloads node) (by rw [e]) ⟨hin, nm_r (e' := xstores node) (by rw [e]) (br_c (fun h => ?_) (fun h => ?_))⟩⟩
  · rw [bt_z] at h
    refine K _ _ _ hI (fun _ _ z => z) (fun _ _ z => z) (fun s hs v hv => ?_)
    have hh := h v (by omega)
    rw [b_or, Bool.or_eq_false_iff] at hh
    exact ⟨fun z => by rw [hh.1] at z; exact absurd z (by decide), fun z => by rw [hh.2] at z; exact absurd z (by decide)⟩
  · refine lc_3 (fun d s (pd : Int64) (pt fl : Nat → Int64) => wX_derive_28 post fresh (xloads node) (xstores node) d (nI s) xmaxLength xvariableCount xglobalCount xheapLimit xlength xcursor xstate pd xreachable xsingleSites xexactVars ximproved xopAt xaAt xbAt xcAt xinputs xrep pt xdone fl xtried xloads xstores xnext xprev xafter xvarSet xgen xkill xholdsIn xreads xcovers xneedIn xneedAfter xverdicts xrunStatus xrunSteps xrunOutputs xrunReads xrunWrites xrunMade xrunPlace xvars xcells xheapSite xoutputs) (fun s pd pt fl => cg_I c G op fa fb L D m ρ xrep pt xdone fl xloads xstores pd ∧ (∀ k s, lb_t (xpts k) s = true → lb_t (pt k) s = true) ∧ (∀ f t, lb_t (xflowsTo f) t = true → lb_t (fl f) t = true) ∧ (∀ u, u < s → lb_t fresh u = true → ∀ v, v < 8 → (bt (xloads node) v = true → cg_E fl (ρ (8 + u)) (ρ v)) ∧ (bt (xstores node) v = true → cg_E fl (ρ v) (ρ (8 + u))))) 40 xpending xpts xflowsTo ⟨hI, fun _ _ z => z, fun _ _ z => z, fun u hu => absurd hu (Nat.not_lt_zero u)⟩ ?_ ?_
    · rintro d pd pt fl ⟨h1, h2, h3, h4⟩
      exact br_t (nI_le (Nat.le_refl 40) (by omega)) (K pd pt fl h1 h2 h3 (fun s hs => h4 s (hf s hs).1 hs))
    · rintro d s pd pt fl hs ⟨h1, h2, h3, h4⟩ ih
      refine br_f (nI_ge (b := 40) hs (by omega)) (lo_br s (by omega) (fun hb => nm_r (nI_1 s) (ih _ _ _ ⟨h1, h2, h3, fun u hu z => ?_⟩)) (fun hb => ?_))
      · by_cases e : u = s
        · subst e; exact absurd z hb
        · exact h4 u (by omega) z
      · have hl := (hf s hb).2
        refine xc_dv49 hs h1 (fun v hv hbv x => hS.2.2.2.1 node v hn rn hbv s x hl) (fun v hv hbv x => hS.2.2.2.2 node v hn rn hbv s x hl) (fun pd' pt' fl' hI' m1 m2 hE => ih _ _ _ ⟨hI', fun k s z => m1 _ _ (h2 k s z), fun f t z => m2 _ _ (h3 f t z), fun u hu z => ?_⟩)
        by_cases e : u = s
        · subst e; exact hE
        · exact fun v hv => ⟨fun w => cg_Emono m2 ((h4 u (by omega) z v hv).1 w), fun w => cg_Emono m2 ((h4 u (by omega) z v hv).2 w)⟩
theorem xc_flood {pst : Int64 → Prop} {a : Nat} {pend : Int64} (hB : cg_B ρ xpts xflowsTo pend) (hS : cg_S L ρ xpts xflowsTo xloads xstores) (ha : a < 48) (ra : ρ a = a)
    (K : ∀ r : Int64, (∀ j, lb_t r j = true → j < 48 ∧ ρ j = j ∧ ∀ s, L a s → L j s) → pst r) : wpX_flood pst (xmaxLength, xvariableCount, xglobalCount, xheapLimit, xlength, xcursor, xstate, xpending, xreachable, xsingleSites, xexactVars, ximproved, xopAt, xaAt, xbAt, xcAt, xinputs, xrep, xpts, xdone, xflowsTo, xtried, xloads, xstores, xnext, xprev, xafter, xvarSet, xgen, xkill, xholdsIn, xreads, xcovers, xneedIn, xneedAfter, xverdicts, xrunStatus, xrunSteps, xrunOutputs, xrunReads, xrunWrites, xrunMade, xrunPlace, xvars, xcells, xheapSite, xoutputs) (nI a) := by
  have h1 : ∀ j, lb_t ((1 : Int64) <<< ((nI a).toInt64 &&& 63)) j = true → j < 48 ∧ ρ j = j ∧ ∀ s, L a s → L j s := by
    intro j hj
    rw [lo_one (by omega)] at hj
    subst hj
    exact ⟨ha, ra, fun _ z => z⟩
  refine nm_e ⟨49, ?_⟩
  refine pk_loopD (fun n k (s : Int64 × Int64) => wX_flood_11 pst xmaxLength xvariableCount xglobalCount xheapLimit xlength xcursor xstate xpending xreachable xsingleSites xexactVars ximproved xopAt xaAt xbAt xcAt xinputs xrep xpts xdone xflowsTo xtried xloads xstores xnext xprev xafter xvarSet xgen xkill xholdsIn xreads xcovers xneedIn xneedAfter xverdicts xrunStatus xrunSteps xrunOutputs xrunReads xrunWrites xrunMade xrunPlace xvars xcells xheapSite xoutputs n s.1 s.2 (nI k)) (fun k s => k ≤ 48 ∧ (∀ j, lb_t s.1 j = true → j < 48 ∧ ρ j = j ∧ ∀ x, L a x → L j x) ∧ (∀ j, lb_t s.2 j = true → j < 48 ∧ ρ j = j ∧ ∀ x, L a x → L j x)) ?_ ?_ 48 (_, _) ⟨Nat.le_refl 48, h1, h1⟩
  · rintro d ⟨x, y⟩ ⟨_, hx, hy⟩
    exact br_t (by decide) (K x hx)
  · rintro d k ⟨x, y⟩ ⟨hk, hx, hy⟩ ih
    refine br_f (nI_nle (by omega) (by omega)) (br_c (fun _ => K x hx) (fun hz => xl_lowBit hz (fun t ht hbt hl => ?_)))
    obtain ⟨t1, t2, t3⟩ := hy t hbt
    have e : (nI t).toNatClampNeg = t := nI_clamp (by omega)
    have hfr : ∀ j, lb_t (xflowsTo t &&& (x ^^^ (-1))) j = true → j < 48 ∧ ρ j = j ∧ ∀ z, L a z → L j z := by
      intro j hj
      rw [lo_diff] at hj
      have q := hB.2.1 t j t1 hj.1
      exact ⟨q.1, q.2.1, fun z w => hS.2.1 t j t1 t2 hj.1 z (t3 z w)⟩
    refine nm_e ⟨vp_in_nI t1 (by omega), nm_r (e' := xflowsTo t &&& (x ^^^ (-1))) (by rw [e]) (nm_e (nm_e (nm_r (pk_m1 k) (ih (_, _) ⟨by omega, ?_, ?_⟩))))⟩
    · intro j hj
      rw [lo_or] at hj
      exact hj.elim (hx j) (hfr j)
    · intro j hj
      rw [lo_or, lo_and] at hj
      exact hj.elim (fun z => hy j z.1) (hfr j)
end
end
section
section
variable {xmaxLength : Int32} {xvariableCount : Int32} {xglobalCount : Int32} {xheapLimit : Int32} {xlength : Int32} {xcursor : Int32} {xstate : Int32} {xpending : Int64} {xreachable : Int64} {xsingleSites : Int64} {xexactVars : Int32} {ximproved : Int32} {xopAt : (Nat → Int32)} {xaAt : (Nat → Int32)} {xbAt : (Nat → Int32)} {xcAt : (Nat → Int32)} {xinputs : (Nat → Int32)} {xrep : (Nat → Int32)} {xpts : (Nat → Int64)} {xdone : (Nat → Int64)} {xflowsTo : (Nat → Int64)} {xtried : (Nat → Int64)} {xloads : (Nat → Int32)} {xstores : (Nat → Int32)} {xnext : (Nat → Int64)} {xprev : (Nat → Int64)} {xafter : (Nat → Int64)} {xvarSet : (Nat → Int64)} {xgen : (Nat → Int64)} {xkill : (Nat → Int64)} {xholdsIn : (Nat → Int64)} {xreads : (Nat → Int32)} {xcovers : (Nat → Int32)} {xneedIn : (Nat → Int32)} {xneedAfter : (Nat → Int32)} {xverdicts : (Nat → Int32)} {xrunStatus : (Nat → Int32)} {xrunSteps : (Nat → Int32)} {xrunOutputs : (Nat → Int32)} {xrunReads : (Nat → Int32)} {xrunWrites : (Nat → Int32)} {xrunMade : (Nat → Int32)} {xrunPlace : (Nat → Int32)} {xvars : (Nat → Int64)} {xcells : (Nat → Int64)} {xheapSite : (Nat → Int32)} {xoutputs : (Nat → Int64)}
variable {c G : Nat} {op fa fb : Nat → Int32} {L D : Nat → Nat → Prop} {m : Nat} {ρ : Nat → Nat} {post : SX → Prop}
def cg_0 (c G : Nat) (op fa fb : Nat → Int32) (L : Nat → Nat → Prop) (m : Nat) (ρ : Nat → Nat) (rep : Nat → Int32) (pts done flo : Nat → Int64) (loads stores : Nat → Int32) (pend : Int64) : Prop :=
  cg_I c G op fa fb L (fun f s => lb_t (done f) s = true) m ρ rep pts done flo loads stores pend
theorem xc_merge {g k : Nat} (hI : cg_0 c G op fa fb L m ρ xrep xpts xdone xflowsTo xloads xstores xpending) (hg : g < 48) (hk : k < 48) (hgk : ¬ g = k) (rg : ρ g = g) (rk : ρ k = k) (hL : ∀ s, L g s ↔ L k s) (hv : ∀ i, i < c → op i = 3 → pn (fb i) < 48)
    (K : ∀ (pd : Int64) (rp : Nat → Int32) (pt dn fl : Nat → Int64) (ld st : Nat → Int32) (r2 : Nat → Nat), cg_0 c G op fa fb L m r2 rp pt dn fl ld st pd → (∀ j, ρ j = j → ¬ j = g → r2 j = j) → post (xmaxLength, xvariableCount, xglobalCount, xheapLimit, xlength, xcursor, xstate, pd, xreachable, xsingleSites, xexactVars, ximproved, xopAt, xaAt, xbAt, xcAt, xinputs, rp, pt, dn, fl, xtried, ld, st, xnext, xprev, xafter, xvarSet, xgen, xkill, xholdsIn, xreads, xcovers, xneedIn, xneedAfter, xverdicts, xrunStatus, xrunSteps, xrunOutputs, xrunReads, xrunWrites, xrunMade, xrunPlace, xvars, xcells, xheapSite, xoutputs)) : wpX_merge post (xmaxLength, xvariableCount, xglobalCount, xheapLimit, xlength, xcursor, xstate, xpending, xreachable, xsingleSites, xexactVars, ximproved, xopAt, xaAt, xbAt, xcAt, xinputs, xrep, xpts, xdone, xflowsTo, xtried, xloads, xstores, xnext, xprev, xafter, xvarSet, xgen, xkill, xholdsIn, xreads, xcovers, xneedIn, xneedAfter, xverdicts, xrunStatus, xrunSteps, xrunOutputs, xrunReads, xrunWrites, xrunMade, xrunPlace, xvars, xcells, xheapSite, xoutputs) (nI g) (nI k) := by
  have eg : (nI g).toNatClampNeg = g := nI_clamp (by omega)
  have ek : (nI k).toNatClampNeg = k := nI_clamp (by omega)
  have hig : vp_in (nI g) 48 := vp_in_nI hg (by omega)
  have hik : vp_in (nI k) 48 := vp_in_nI hk (by omega)
  have hkg : ¬ k = g := fun e => hgk e.symm
  refine nm_e (nm_e ?_)
  refine lc_2 (fun d i (rp : Nat → Int32) (fl : Nat → Int64) => wX_merge_12 post (nI g) (nI k) ((1 : Int64) <<< ((nI g).toInt64 &&& 63)) ((1 : Int64) <<< ((nI k).toInt64 &&& 63)) xmaxLength xvariableCount xglobalCount xheapLimit xlength xcursor xstate xpending xreachable xsingleSites xexactVars ximproved d (nI i) xopAt xaAt xbAt xcAt xinputs rp xpts xdone fl xtried xloads xstores xnext xprev xafter xvarSet xgen xkill xholdsIn xreads xcovers xneedIn xneedAfter xverdicts xrunStatus xrunSteps xrunOutputs xrunReads xrunWrites xrunMade xrunPlace xvars xcells xheapSite xoutputs) (fun i rp fl => ∀ j, j < 48 → (j < i → rp j = (if xrep j = nI g then nI k else xrep j) ∧ ∀ t, lb_t (fl j) t = true ↔ (¬ t = g ∧ lb_t (xflowsTo j) t = true) ∨ (t = k ∧ lb_t (xflowsTo j) g = true)) ∧ (i ≤ j → rp j = xrep j ∧ fl j = xflowsTo j)) 48 xrep xflowsTo ?_ ?_ ?_
  · intro j hj
    exact ⟨fun h => absurd h (Nat.not_lt_zero j), fun _ => ⟨rfl, rfl⟩⟩
  · intro d rp fl h
    refine br_t (nI_le (Nat.le_refl 48) (by omega)) ⟨hik, hig, hik, nm_r (e' := vp_updL fl k ((fl k ||| fl g) &&& ((((1 : Int64) <<< ((nI g).toInt64 &&& 63)) ||| ((1 : Int64) <<< ((nI k).toInt64 &&& 63))) ^^^ (-1)))) (by rw [eg, ek]) ⟨hig, nm_r (e' := vp_updL (vp_updL fl k ((fl k ||| fl g) &&& ((((1 : Int64) <<< ((nI g).toInt64 &&& 63)) ||| ((1 : Int64) <<< ((nI k).toInt64 &&& 63))) ^^^ (-1)))) g 0) (by rw [eg]) ⟨hik, hig, hik, nm_r (e' := vp_updL xpts k (xpts k ||| xpts g)) (by rw [eg, ek]) ⟨hik, hig, hik, nm_r (e' := vp_updL xdone k (xdone k &&& xdone g)) (by rw [eg, ek]) ⟨hik, hig, hik, nm_r (e' := upd xloads k (xloads k ||| xloads g)) (by rw [eg, ek]) ⟨hik, hig, hik, nm_r (e' := upd xstores k (xstores k ||| xstores g)) (by rw [eg, ek]) (nm_e ?_)⟩⟩⟩⟩⟩⟩
    refine K _ _ _ _ _ _ _ _ (cg_mrg hI hg hk hgk rg rk hL hv (fun j hj => ((h j hj).1 hj).1) (fun t => ?_) (fun t => ?_) (fun f hf f1 f2 t => ?_)) (fun j hj hjg => ?_)
    · rw [pk_uLs]; exact lo_0
    · rw [pk_uLn hkg, pk_uLs, lo_diff, lo_or, lo_or, lo_one (by omega), lo_one (by omega), ((h k hk).1 hk).2 t, ((h g hg).1 hg).2 t]
      constructor
      · rintro ⟨a, b⟩
        refine ⟨fun z => b (Or.inl z), fun z => b (Or.inr z), ?_⟩
        rcases a with (⟨_, a⟩ | ⟨a, _⟩) | (⟨_, a⟩ | ⟨a, _⟩)
        · exact Or.inl a
        · exact absurd (Or.inr a) b
        · exact Or.inr a
        · exact absurd (Or.inr a) b
      · rintro ⟨a, b, z⟩
        refine ⟨z.elim (fun w => Or.inl (Or.inl ⟨a, w⟩)) (fun w => Or.inr (Or.inl ⟨a, w⟩)), fun w => w.elim a b⟩
    · rw [pk_uLn f1, pk_uLn f2]; exact ((h f hf).1 hf).2 t
    · show cg_g g k (ρ j) = j
      rw [hj, cg_g2 hjg]
  · intro d i rp fl hi h ih
    have ei : (nI i).toNatClampNeg = i := nI_clamp (by omega)
    have hii : vp_in (nI i) 48 := vp_in_nI hi (by omega)
    obtain ⟨h1, h2⟩ := (h i hi).2 (Nat.le_refl i)
    have key : ∀ (rp' : Nat → Int32), (∀ j, ¬ j = i → rp' j = rp j) → rp' i = (if xrep i = nI g then nI k else xrep i) → wX_merge_38 post (wX_merge_12 post (nI g) (nI k) ((1 : Int64) <<< ((nI g).toInt64 &&& 63)) ((1 : Int64) <<< ((nI k).toInt64 &&& 63)) xmaxLength xvariableCount xglobalCount xheapLimit xlength xcursor xstate xpending xreachable xsingleSites xexactVars ximproved d) (nI g) (nI k) ((1 : Int64) <<< ((nI g).toInt64 &&& 63)) ((1 : Int64) <<< ((nI k).toInt64 &&& 63)) (nI i) xmaxLength xvariableCount xglobalCount xheapLimit xlength xcursor xstate xpending xreachable xsingleSites xexactVars ximproved xopAt xaAt xbAt xcAt xinputs rp' xpts xdone fl xtried xloads xstores xnext xprev xafter xvarSet xgen xkill xholdsIn xreads xcovers xneedIn xneedAfter xverdicts xrunStatus xrunSteps xrunOutputs xrunReads xrunWrites xrunMade xrunPlace xvars xcells xheapSite xoutputs := by
      intro rp' q1 q2
      have hb : (fl i &&& ((1 : Int64) <<< ((nI g).toInt64 &&& 63))) = 0 ↔ ¬ lb_t (xflowsTo i) g = true := by
        rw [lo_z, h2]
        constructor
        · intro z w
          exact z g (lo_and.mpr ⟨w, (lo_one (by omega)).mpr rfl⟩)
        · intro z j w
          rw [lo_and, lo_one (by omega)] at w
          obtain ⟨w1, w2⟩ := w
          subst w2
          exact z w1
      have hrest : ∀ fl' : Nat → Int64, (∀ j, ¬ j = i → fl' j = fl j) → (∀ t, lb_t (fl' i) t = true ↔ (¬ t = g ∧ lb_t (xflowsTo i) t = true) ∨ (t = k ∧ lb_t (xflowsTo i) g = true)) → ∀ j, j < 48 → (j < i + 1 → rp' j = (if xrep j = nI g then nI k else xrep j) ∧ ∀ t, lb_t (fl' j) t = true ↔ (¬ t = g ∧ lb_t (xflowsTo j) t = true) ∨ (t = k ∧ lb_t (xflowsTo j) g = true)) ∧ (i + 1 ≤ j → rp' j = xrep j ∧ fl' j = xflowsTo j) := by
        intro fl' q3 q4 j hj
        by_cases e : j = i
        · subst e
          exact ⟨fun _ => ⟨q2, q4⟩, fun z => by omega⟩
        · rw [q1 j e, q3 j e]
          exact ⟨fun z => (h j hj).1 (by omega), fun z => (h j hj).2 (by omega)⟩
      refine ⟨hii, ?_⟩
      simp only [ei]
      refine br_c (fun z => nm_r (nI_1 i) (ih rp' fl (hrest fl (fun _ _ => rfl) (fun t => ?_)))) (fun z => ⟨hii, hii, nm_e (nm_r (nI_1 i) (ih rp' _ (hrest _ (fun j hj => pk_uLn hj) (fun t => ?_))))⟩)
      · rw [hb] at z
        rw [h2]
        constructor
        · intro w
          exact Or.inl ⟨fun e => z (by rw [← e]; exact w), w⟩
        · rintro (⟨_, w⟩ | ⟨_, w⟩)
          · exact w
          · exact absurd w z
      · rw [hb] at z
        have z : lb_t (xflowsTo i) g = true := Classical.byContradiction z
        rw [pk_uLs, lo_or, lo_diff, lo_one (by omega), lo_one (by omega), h2]
        constructor
        · rintro (⟨w1, w2⟩ | w)
          · exact Or.inl ⟨w2, w1⟩
          · exact Or.inr ⟨w, z⟩
        · rintro (⟨w1, w2⟩ | ⟨w, _⟩)
          · exact Or.inl ⟨w2, w1⟩
          · exact Or.inr w
    refine br_f (nI_ge (b := 48) hi (by omega)) ⟨hii, ?_⟩
    simp only [ei]
    refine br_c (fun z => ⟨hii, nm_e (key _ (fun j hj => pk_un hj) ?_)⟩) (fun z => key rp (fun _ _ => rfl) ?_)
    · rw [pk_us, ← h1, if_pos z]
    · rw [← h1, if_neg z]
end
end
section
section
variable {xmaxLength : Int32} {xvariableCount : Int32} {xglobalCount : Int32} {xheapLimit : Int32} {xlength : Int32} {xcursor : Int32} {xstate : Int32} {xpending : Int64} {xreachable : Int64} {xsingleSites : Int64} {xexactVars : Int32} {ximproved : Int32} {xopAt : (Nat → Int32)} {xaAt : (Nat → Int32)} {xbAt : (Nat → Int32)} {xcAt : (Nat → Int32)} {xinputs : (Nat → Int32)} {xrep : (Nat → Int32)} {xpts : (Nat → Int64)} {xdone : (Nat → Int64)} {xflowsTo : (Nat → Int64)} {xtried : (Nat → Int64)} {xloads : (Nat → Int32)} {xstores : (Nat → Int32)} {xnext : (Nat → Int64)} {xprev : (Nat → Int64)} {xafter : (Nat → Int64)} {xvarSet : (Nat → Int64)} {xgen : (Nat → Int64)} {xkill : (Nat → Int64)} {xholdsIn : (Nat → Int64)} {xreads : (Nat → Int32)} {xcovers : (Nat → Int32)} {xneedIn : (Nat → Int32)} {xneedAfter : (Nat → Int32)} {xverdicts : (Nat → Int32)} {xrunStatus : (Nat → Int32)} {xrunSteps : (Nat → Int32)} {xrunOutputs : (Nat → Int32)} {xrunReads : (Nat → Int32)} {xrunWrites : (Nat → Int32)} {xrunMade : (Nat → Int32)} {xrunPlace : (Nat → Int32)} {xvars : (Nat → Int64)} {xcells : (Nat → Int64)} {xheapSite : (Nat → Int32)} {xoutputs : (Nat → Int64)}
variable {c G : Nat} {op fa fb : Nat → Int32} {L D : Nat → Nat → Prop} {m : Nat} {ρ : Nat → Nat} {post : SX → Prop}
theorem xc_co84 {node : Nat} {cyc : Int64} (hI : cg_0 c G op fa fb L m ρ xrep xpts xdone xflowsTo xloads xstores xpending) (hn : node < 48) (rn : ρ node = node) (hv : ∀ i, i < c → op i = 3 → pn (fb i) < 48)
    (hc : ∀ j, lb_t cyc j = true → j < 48 ∧ ¬ j = node ∧ ρ j = j ∧ ∀ s, L j s ↔ L node s)
    (K : ∀ (pd : Int64) (rp : Nat → Int32) (pt dn fl : Nat → Int64) (ld st : Nat → Int32) (r2 : Nat → Nat), cg_0 c G op fa fb L m r2 rp pt dn fl ld st pd → r2 node = node → post (xmaxLength, xvariableCount, xglobalCount, xheapLimit, xlength, xcursor, xstate, pd, xreachable, xsingleSites, xexactVars, ximproved, xopAt, xaAt, xbAt, xcAt, xinputs, rp, pt, dn, fl, xtried, ld, st, xnext, xprev, xafter, xvarSet, xgen, xkill, xholdsIn, xreads, xcovers, xneedIn, xneedAfter, xverdicts, xrunStatus, xrunSteps, xrunOutputs, xrunReads, xrunWrites, xrunMade, xrunPlace, xvars, xcells, xheapSite, xoutputs)) : ∃ n84, wX_collapse_84 post (nI node) cyc n84 0 xmaxLength xvariableCount xglobalCount xheapLimit xlength xcursor xstate xpending xreachable xsingleSites xexactVars ximproved xopAt xaAt xbAt xcAt xinputs xrep xpts xdone xflowsTo xtried xloads xstores xnext xprev xafter xvarSet xgen xkill xholdsIn xreads xcovers xneedIn xneedAfter xverdicts xrunStatus xrunSteps xrunOutputs xrunReads xrunWrites xrunMade xrunPlace xvars xcells xheapSite xoutputs := by
  refine lc_7 (fun d i (pd : Int64) (rp : Nat → Int32) (pt dn fl : Nat → Int64) (ld st : Nat → Int32) => wX_collapse_84 post (nI node) cyc d (nI i) xmaxLength xvariableCount xglobalCount xheapLimit xlength xcursor xstate pd xreachable xsingleSites xexactVars ximproved xopAt xaAt xbAt xcAt xinputs rp pt dn fl xtried ld st xnext xprev xafter xvarSet xgen xkill xholdsIn xreads xcovers xneedIn xneedAfter xverdicts xrunStatus xrunSteps xrunOutputs xrunReads xrunWrites xrunMade xrunPlace xvars xcells xheapSite xoutputs) (fun i pd rp pt dn fl ld st => ∃ r2 : Nat → Nat, cg_0 c G op fa fb L m r2 rp pt dn fl ld st pd ∧ r2 node = node ∧ ∀ j, i ≤ j → lb_t cyc j = true → r2 j = j) 48 xpending xrep xpts xdone xflowsTo xloads xstores ⟨ρ, hI, rn, fun j _ hj => (hc j hj).2.2.1⟩ ?_ ?_
  · rintro d pd rp pt dn fl ld st ⟨r2, h1, h2, _⟩
    exact br_t (nI_le (Nat.le_refl 48) (by omega)) (K _ _ _ _ _ _ _ r2 h1 h2)
  · rintro d i pd rp pt dn fl ld st hi ⟨r2, h1, h2, h3⟩ ih
    refine br_f (nI_ge (b := 48) hi (by omega)) (lo_br i (by omega) (fun hb => nm_r (nI_1 i) (ih _ _ _ _ _ _ _ ⟨r2, h1, h2, fun j hj => h3 j (by omega)⟩)) (fun hb => ?_))
    obtain ⟨c1, c2, c3, c4⟩ := hc i hb
    exact xc_merge h1 hi hn c2 (h3 i (Nat.le_refl i) hb) h2 c4 hv (fun pd' rp' pt' dn' fl' ld' st' r3 hI3 hr3 => nm_r (nI_1 i) (ih _ _ _ _ _ _ _ ⟨r3, hI3, hr3 node h2 (fun e => c2 e.symm), fun j hj hbj => hr3 j (h3 j (by omega) hbj) (by omega)⟩))
theorem xc_collapse {node oth : Nat} (hI : cg_0 c G op fa fb L m ρ xrep xpts xdone xflowsTo xloads xstores xpending) (hn : node < 48) (rn : ρ node = node) (ho : oth < 48) (ro : ρ oth = oth) (hL : ∀ s, L node s → L oth s) (hv : ∀ i, i < c → op i = 3 → pn (fb i) < 48)
    (K : ∀ (pd : Int64) (rp : Nat → Int32) (pt dn fl : Nat → Int64) (ld st : Nat → Int32) (r2 : Nat → Nat), cg_0 c G op fa fb L m r2 rp pt dn fl ld st pd → r2 node = node → post (xmaxLength, xvariableCount, xglobalCount, xheapLimit, xlength, xcursor, xstate, pd, xreachable, xsingleSites, xexactVars, ximproved, xopAt, xaAt, xbAt, xcAt, xinputs, rp, pt, dn, fl, xtried, ld, st, xnext, xprev, xafter, xvarSet, xgen, xkill, xholdsIn, xreads, xcovers, xneedIn, xneedAfter, xverdicts, xrunStatus, xrunSteps, xrunOutputs, xrunReads, xrunWrites, xrunMade, xrunPlace, xvars, xcells, xheapSite, xoutputs)) : wpX_collapse post (xmaxLength, xvariableCount, xglobalCount, xheapLimit, xlength, xcursor, xstate, xpending, xreachable, xsingleSites, xexactVars, ximproved, xopAt, xaAt, xbAt, xcAt, xinputs, xrep, xpts, xdone, xflowsTo, xtried, xloads, xstores, xnext, xprev, xafter, xvarSet, xgen, xkill, xholdsIn, xreads, xcovers, xneedIn, xneedAfter, xverdicts, xrunStatus, xrunSteps, xrunOutputs, xrunReads, xrunWrites, xrunMade, xrunPlace, xvars, xcells, xheapSite, xoutputs) (nI node) (nI oth) := by
  unfold wpX_collapse
  refine xc_flood hI.2.1 hI.2.2.1 ho ro (fun r hr => lo_br node (by omega) (fun _ => K _ _ _ _ _ _ _ ρ hI rn) (fun hb => ?_))
  refine lc_1 (fun d i (cyc : Int64) => wX_collapse_23 post (nI node) r xmaxLength xvariableCount xglobalCount xheapLimit xlength xcursor xstate xpending xreachable xsingleSites xexactVars ximproved xopAt xaAt xbAt xcAt xinputs xrep xpts xdone xflowsTo xtried xloads xstores xnext xprev xafter xvarSet xgen xkill xholdsIn xreads xcovers xneedIn xneedAfter xverdicts xrunStatus xrunSteps xrunOutputs xrunReads xrunWrites xrunMade xrunPlace xvars xcells xheapSite xoutputs d cyc (nI i)) (fun _ cyc => ∀ j, lb_t cyc j = true → j < 48 ∧ ¬ j = node ∧ ρ j = j ∧ ∀ s, L j s ↔ L node s) 48 0 (fun j hj => absurd hj lo_0) ?_ ?_
  · intro d cyc h
    exact br_t (nI_le (Nat.le_refl 48) (by omega)) (xc_co84 hI hn rn hv h K)
  · intro d i cyc hi h ih
    refine br_f (nI_ge (b := 48) hi (by omega)) (pk_eq i node (fun _ => nm_r (nI_1 i) (ih cyc h)) (fun hne => lo_br i (by omega) (fun _ => nm_r (nI_1 i) (ih cyc h)) (fun hbi => ?_)))
    obtain ⟨a1, a2, a3⟩ := hr i hbi
    refine xc_flood hI.2.1 hI.2.2.1 hi a2 (fun q hq => lo_br node (by omega) (fun _ => nm_r (nI_1 i) (ih cyc h)) (fun hbq => nm_e (nm_r (nI_1 i) (ih _ (fun j hj => ?_)))))
    rw [lo_or, lo_one (by omega)] at hj
    rcases hj with hj | hj
    · exact h j hj
    · subst hj
      exact ⟨hi, hne, a2, fun s => ⟨fun z => (hq node hbq).2.2 s z, fun z => a3 s (hL s z)⟩⟩
theorem xc_vi144 {node : Nat} {sus : Int64} (hI : cg_0 c G op fa fb L m ρ xrep xpts xdone xflowsTo xloads xstores xpending) (hn : node < 48) (rn : ρ node = node) (hs : ∀ j, lb_t sus j = true → ∀ s, L node s → L j s) (hv : ∀ i, i < c → op i = 3 → pn (fb i) < 48)
    (K : ∀ (pd : Int64) (rp : Nat → Int32) (pt dn fl : Nat → Int64) (ld st : Nat → Int32) (r2 : Nat → Nat), cg_0 c G op fa fb L m r2 rp pt dn fl ld st pd → post (xmaxLength, xvariableCount, xglobalCount, xheapLimit, xlength, xcursor, xstate, pd, xreachable, xsingleSites, xexactVars, ximproved, xopAt, xaAt, xbAt, xcAt, xinputs, rp, pt, dn, fl, xtried, ld, st, xnext, xprev, xafter, xvarSet, xgen, xkill, xholdsIn, xreads, xcovers, xneedIn, xneedAfter, xverdicts, xrunStatus, xrunSteps, xrunOutputs, xrunReads, xrunWrites, xrunMade, xrunPlace, xvars, xcells, xheapSite, xoutputs)) : ∃ n144, wX_visit_144 post (nI node) sus n144 0 xmaxLength xvariableCount xglobalCount xheapLimit xlength xcursor xstate xpending xreachable xsingleSites xexactVars ximproved xopAt xaAt xbAt xcAt xinputs xrep xpts xdone xflowsTo xtried xloads xstores xnext xprev xafter xvarSet xgen xkill xholdsIn xreads xcovers xneedIn xneedAfter xverdicts xrunStatus xrunSteps xrunOutputs xrunReads xrunWrites xrunMade xrunPlace xvars xcells xheapSite xoutputs := by
  refine lc_7 (fun d i (pd : Int64) (rp : Nat → Int32) (pt dn fl : Nat → Int64) (ld st : Nat → Int32) => wX_visit_144 post (nI node) sus d (nI i) xmaxLength xvariableCount xglobalCount xheapLimit xlength xcursor xstate pd xreachable xsingleSites xexactVars ximproved xopAt xaAt xbAt xcAt xinputs rp pt dn fl xtried ld st xnext xprev xafter xvarSet xgen xkill xholdsIn xreads xcovers xneedIn xneedAfter xverdicts xrunStatus xrunSteps xrunOutputs xrunReads xrunWrites xrunMade xrunPlace xvars xcells xheapSite xoutputs) (fun _ pd rp pt dn fl ld st => ∃ r2 : Nat → Nat, cg_0 c G op fa fb L m r2 rp pt dn fl ld st pd ∧ r2 node = node) 48 xpending xrep xpts xdone xflowsTo xloads xstores ⟨ρ, hI, rn⟩ ?_ ?_
  · rintro d pd rp pt dn fl ld st ⟨r2, h1, h2⟩
    exact br_t (nI_le (Nat.le_refl 48) (by omega)) (K _ _ _ _ _ _ _ r2 h1)
  · rintro d i pd rp pt dn fl ld st hi ⟨r2, h1, h2⟩ ih
    have ei : (nI i).toNatClampNeg = i := nI_clamp (by omega)
    obtain ⟨q1, q2, q3⟩ := h1.1 i hi
    refine br_f (nI_ge (b := 48) hi (by omega)) (lo_br i (by omega) (fun hb => nm_r (nI_1 i) (ih _ _ _ _ _ _ _ ⟨r2, h1, h2⟩)) (fun hb => ⟨vp_in_nI hi (by omega), br_c (fun z => ?_) (fun z => nm_r (nI_1 i) (ih _ _ _ _ _ _ _ ⟨r2, h1, h2⟩))⟩))
    rw [ei, q1, nI_eq (by omega) (by omega)] at z
    exact xc_collapse h1 hn h2 hi z (hs i hb) hv (fun pd' rp' pt' dn' fl' ld' st' r3 hI3 hr3 => nm_r (nI_1 i) (ih _ _ _ _ _ _ _ ⟨r3, hI3, hr3⟩))
theorem xc_visit {node : Nat} (hI : cg_I c G op fa fb L (fun f s => lb_t (xdone f) s = true) m ρ xrep xpts (vp_updL xdone node (xpts node)) xflowsTo xloads xstores xpending) (hn : node < 48) (rn : ρ node = node) (hv : ∀ i, i < c → op i = 3 → pn (fb i) < 48)
    (K : ∀ (pd : Int64) (rp : Nat → Int32) (pt dn fl tr : Nat → Int64) (ld st : Nat → Int32) (r2 : Nat → Nat), cg_0 c G op fa fb L m r2 rp pt dn fl ld st pd → post (xmaxLength, xvariableCount, xglobalCount, xheapLimit, xlength, xcursor, xstate, pd, xreachable, xsingleSites, xexactVars, ximproved, xopAt, xaAt, xbAt, xcAt, xinputs, rp, pt, dn, fl, tr, ld, st, xnext, xprev, xafter, xvarSet, xgen, xkill, xholdsIn, xreads, xcovers, xneedIn, xneedAfter, xverdicts, xrunStatus, xrunSteps, xrunOutputs, xrunReads, xrunWrites, xrunMade, xrunPlace, xvars, xcells, xheapSite, xoutputs)) : wpX_visit post (xmaxLength, xvariableCount, xglobalCount, xheapLimit, xlength, xcursor, xstate, xpending, xreachable, xsingleSites, xexactVars, ximproved, xopAt, xaAt, xbAt, xcAt, xinputs, xrep, xpts, xdone, xflowsTo, xtried, xloads, xstores, xnext, xprev, xafter, xvarSet, xgen, xkill, xholdsIn, xreads, xcovers, xneedIn, xneedAfter, xverdicts, xrunStatus, xrunSteps, xrunOutputs, xrunReads, xrunWrites, xrunMade, xrunPlace, xvars, xcells, xheapSite, xoutputs) (nI node) := by
  have e : (nI node).toNatClampNeg = node := nI_clamp (by omega)
  have hin : vp_in (nI node) 48 := vp_in_nI hn (by omega)
  refine ⟨hin, hin, nm_r (e' := xpts node &&& (xdone node ^^^ (-1))) (by rw [e]) ⟨hin, hin, nm_r (e' := vp_updL xdone node (xpts node)) (by rw [e]) (br_c (fun h => ?_) (fun h => ?_))⟩⟩
  · refine K _ _ _ _ _ _ _ _ ρ (cg_Dsub (fun f s hf hr hd => ?_) hI)
    by_cases ef : f = node
    · subst ef
      rw [pk_uLs] at hd
      rw [lo_z] at h
      exact Classical.byContradiction (fun z => h s (lo_diff.mpr ⟨hd, z⟩))
    · rw [pk_uLn ef] at hd; exact hd
  · refine xc_derive hI hn rn (fun s hs => ?_) (fun pd1 pt1 fl1 hI1 m1 m2 hE => ⟨hin, nm_r (e' := fl1 node) (by rw [e]) ?_⟩)
    · have q := (lo_diff.mp hs).1
      exact ⟨hI.2.1.1 node s hn q, hI.2.2.1.1 node s hn rn q⟩
    · refine lc_3 (fun d i (sus : Int64) (pd : Int64) (pt : Nat → Int64) => wX_visit_57 post (nI node) (xpts node &&& (xdone node ^^^ (-1))) (fl1 node) d sus (nI i) xmaxLength xvariableCount xglobalCount xheapLimit xlength xcursor xstate pd xreachable xsingleSites xexactVars ximproved xopAt xaAt xbAt xcAt xinputs xrep pt (vp_updL xdone node (xpts node)) fl1 xtried xloads xstores xnext xprev xafter xvarSet xgen xkill xholdsIn xreads xcovers xneedIn xneedAfter xverdicts xrunStatus xrunSteps xrunOutputs xrunReads xrunWrites xrunMade xrunPlace xvars xcells xheapSite xoutputs) (fun i sus pd pt => cg_I c G op fa fb L (fun f s => lb_t (xdone f) s = true) m ρ xrep pt (vp_updL xdone node (xpts node)) fl1 xloads xstores pd ∧ (∀ k s, lb_t (pt1 k) s = true → lb_t (pt k) s = true) ∧ (∀ t, t < i → lb_t (fl1 node) t = true → ∀ s, lb_t (xpts node &&& (xdone node ^^^ (-1))) s = true → lb_t (pt t) s = true) ∧ (∀ t, lb_t sus t = true → ∀ s, L node s → L t s)) 48 0 pd1 pt1 ⟨hI1, fun _ _ z => z, fun t ht => absurd ht (Nat.not_lt_zero t), fun t ht => absurd ht lo_0⟩ ?_ ?_
      · rintro d sus pd pt ⟨h1, h2, h3, h4⟩
        refine br_t (nI_le (Nat.le_refl 48) (by omega)) ⟨hin, nm_e ⟨hin, hin, nm_e (xc_vi144 (ρ := ρ) ?_ hn rn (fun j hj => h4 j (lo_and.mp hj).1) hv (fun pd' rp' pt' dn' fl' ld' st' r2 hI2 => K _ _ _ _ _ _ _ _ r2 hI2))⟩⟩
        obtain ⟨hR, hB, hS, hK, hD, hP, hM⟩ := h1
        refine ⟨hR, hB, hS, hK, fun f s hf hr hd => ?_, hP, hM⟩
        have hd : lb_t (vp_updL xdone node (xpts node) f) s = true := hd
        by_cases ef : f = node
        · subst ef
          rw [pk_uLs] at hd
          by_cases hdn : lb_t (xdone f) s = true
          · exact hD f s hf hr hdn
          · have hfr : lb_t (xpts f &&& (xdone f ^^^ (-1))) s = true := lo_diff.mpr ⟨hd, hdn⟩
            exact ⟨h2 _ _ (m1 _ _ hd), fun t ht => h3 t (hB.2.1 f t hf ht).1 ht s hfr, fun v hv hb => (hE s hfr v hv).1 hb, fun v hv hb => (hE s hfr v hv).2 hb⟩
        · rw [pk_uLn ef] at hd; exact hD f s hf hr hd
      · rintro d i sus pd pt hi ⟨h1, h2, h3, h4⟩ ih
        have hii : vp_in (nI i) 48 := vp_in_nI hi (by omega)
        refine br_f (nI_ge (b := 48) hi (by omega)) (lo_br i (by omega) (fun hb => nm_r (nI_1 i) (ih _ _ _ ⟨h1, h2, fun t ht hbt => ?_, h4⟩)) (fun hb => xc_include hi (fun pd' pt' hinc => ?_)))
        · by_cases et : t = i
          · subst et; exact absurd hbt hb
          · exact h3 t (by omega) hbt
        · have hLi : ∀ s, L node s → L i s := h1.2.2.1.2.1 node i hn rn hb
          have h1' := cg_inc h1 hi (h1.2.1.2.1 node i hn hb).2.1 (fun s hs => hI.2.1.1 node s hn (lo_diff.mp hs).1) (fun s hs => hLi s (hI.2.2.1.1 node s hn rn (lo_diff.mp hs).1)) hinc
          have hmo := cg_Imono hinc
          have hse := cg_Iset hinc
          have h3' : ∀ t, t < i + 1 → lb_t (fl1 node) t = true → ∀ s, lb_t (xpts node &&& (xdone node ^^^ (-1))) s = true → lb_t (pt' t) s = true := by
            intro t ht hbt s hs
            by_cases et : t = i
            · subst et; exact hse s hs
            · exact hmo _ _ (h3 t (by omega) hbt s hs)
          refine ⟨hii, hin, br_c (fun _ => nm_e (nm_r (nI_1 i) (ih _ _ _ ⟨h1', fun k s z => hmo _ _ (h2 k s z), h3', fun t ht => ?_⟩))) (fun _ => nm_r (nI_1 i) (ih _ _ _ ⟨h1', fun k s z => hmo _ _ (h2 k s z), h3', h4⟩))⟩
          rw [lo_or, lo_one (by omega)] at ht
          rcases ht with ht | ht
          · exact h4 t ht
          · subst ht; exact hLi
end
end
section
section
variable {xmaxLength : Int32} {xvariableCount : Int32} {xglobalCount : Int32} {xheapLimit : Int32} {xlength : Int32} {xcursor : Int32} {xstate : Int32} {xpending : Int64} {xreachable : Int64} {xsingleSites : Int64} {xexactVars : Int32} {ximproved : Int32} {xopAt : (Nat → Int32)} {xaAt : (Nat → Int32)} {xbAt : (Nat → Int32)} {xcAt : (Nat → Int32)} {xinputs : (Nat → Int32)} {xrep : (Nat → Int32)} {xpts : (Nat → Int64)} {xdone : (Nat → Int64)} {xflowsTo : (Nat → Int64)} {xtried : (Nat → Int64)} {xloads : (Nat → Int32)} {xstores : (Nat → Int32)} {xnext : (Nat → Int64)} {xprev : (Nat → Int64)} {xafter : (Nat → Int64)} {xvarSet : (Nat → Int64)} {xgen : (Nat → Int64)} {xkill : (Nat → Int64)} {xholdsIn : (Nat → Int64)} {xreads : (Nat → Int32)} {xcovers : (Nat → Int32)} {xneedIn : (Nat → Int32)} {xneedAfter : (Nat → Int32)} {xverdicts : (Nat → Int32)} {xrunStatus : (Nat → Int32)} {xrunSteps : (Nat → Int32)} {xrunOutputs : (Nat → Int32)} {xrunReads : (Nat → Int32)} {xrunWrites : (Nat → Int32)} {xrunMade : (Nat → Int32)} {xrunPlace : (Nat → Int32)} {xvars : (Nat → Int64)} {xcells : (Nat → Int64)} {xheapSite : (Nat → Int32)} {xoutputs : (Nat → Int64)}
variable {R V G n : Nat} {op fa fb : Nat → Int32} {post : SX → Prop}
theorem cg_low {L : Nat → Nat → Prop} {k node : Nat} {ρ : Nat → Nat} {rep : Nat → Int32} {pts done flo : Nat → Int64} {loads stores : Nat → Int32} {pend : Int64} (h : cg_0 n G op fa fb L (k + 1) ρ rep pts done flo loads stores pend) (hb : lb_t pend node = true) (hl : ∀ j, j < node → ¬ lb_t pend j = true) :
    cg_I n G op fa fb L (fun f s => lb_t (done f) s = true) k ρ rep pts (vp_updL done node (pts node)) flo loads stores (pend &&& (pend - 1)) := by
  obtain ⟨hR, ⟨b1, b2, b3⟩, hS, hK, hD, hP, hM⟩ := h
  have hq : ∀ f, lb_t (pend &&& (pend - 1)) f = true ↔ lb_t pend f = true ∧ f ≠ node := fun f => lo_low hb hl
  refine ⟨hR, ⟨b1, b2, fun f hf => b3 f ((hq f).mp hf).1⟩, hS, hK, hD, fun f s hf hr hp hs => ?_, ?_⟩
  · by_cases e : f = node
    · subst e; rw [pk_uLs]; exact hs
    · rw [pk_uLn e]
      exact hP f s hf hr (fun z => hp ((hq f).mpr ⟨z, e⟩)) hs
  · have a := ct_lt (p := fun j => lb_t (pend &&& (pend - 1)) j) (q := fun j => lb_t pend j) (j0 := node) 48 (fun j _ hj => ((hq j).mp hj).1) (b3 node hb).1 (ts_nt (fun z => ((hq node).mp z).2 rfl)) hb
    unfold cg_M at hM ⊢
    omega
theorem cg_fin {L : Nat → Nat → Prop} {ρ : Nat → Nat} {rep : Nat → Int32} {pts done flo : Nat → Int64} {loads stores : Nat → Int32} {pend : Int64} (h : cg_0 n G op fa fb L 0 ρ rep pts done flo loads stores pend) : pend = 0 := by
  obtain ⟨hR, ⟨b1, b2, b3⟩, hS, hK, hD, hP, hM⟩ := h
  unfold cg_M at hM
  have a : ct_n (fun j => lb_t pend j) 48 = 0 := by omega
  rw [lo_z]
  intro i hi
  have := ct_z 48 a i (b3 i hi).1
  rw [hi] at this
  exact absurd this (by decide)
theorem xc_solve (hv : ∀ i, i < n → (op i = 3 ∨ op i = 6 ∨ op i = 7 ∨ op i = 8 ∨ op i = 9 → pn (fa i) < 8) ∧ (op i = 3 ∨ op i = 8 ∨ op i = 9 → pn (fb i) < 8))
    (K : ∀ (rp : Nat → Int32) (pt dn fl tr : Nat → Int64) (ld st : Nat → Int32) (r2 : Nat → Nat), (∀ j, j < 48 → rp j = nI (r2 j) ∧ r2 j < 48) → (∀ j, j < 48 → ∀ s, lb_t (pt (r2 j)) s = true ↔ pt_L n G op fa fb j s) → post (xmaxLength, xvariableCount, xglobalCount, xheapLimit, xlength, xcursor, xstate, 0, xreachable, xsingleSites, xexactVars, ximproved, xopAt, xaAt, xbAt, xcAt, xinputs, rp, pt, dn, fl, tr, ld, st, xnext, xprev, xafter, xvarSet, xgen, xkill, xholdsIn, xreads, xcovers, xneedIn, xneedAfter, xverdicts, xrunStatus, xrunSteps, xrunOutputs, xrunReads, xrunWrites, xrunMade, xrunPlace, xvars, xcells, xheapSite, xoutputs)) :
    ∀ (k : Nat) (pd : Int64) (rp : Nat → Int32) (pt dn fl tr : Nat → Int64) (ld st : Nat → Int32) (r2 : Nat → Nat), k ≤ 4096 → cg_0 n G op fa fb (pt_L n G op fa fb) k r2 rp pt dn fl ld st pd → wX_solveConstraints_4 post (k + 1) (nI k) xmaxLength xvariableCount xglobalCount xheapLimit xlength xcursor xstate pd xreachable xsingleSites xexactVars ximproved xopAt xaAt xbAt xcAt xinputs rp pt dn fl tr ld st xnext xprev xafter xvarSet xgen xkill xholdsIn xreads xcovers xneedIn xneedAfter xverdicts xrunStatus xrunSteps xrunOutputs xrunReads xrunWrites xrunMade xrunPlace xvars xcells xheapSite xoutputs := by
  have fin : ∀ (m : Nat) (rp : Nat → Int32) (pt dn fl tr : Nat → Int64) (ld st : Nat → Int32) (r2 : Nat → Nat), cg_0 n G op fa fb (pt_L n G op fa fb) m r2 rp pt dn fl ld st 0 → post (xmaxLength, xvariableCount, xglobalCount, xheapLimit, xlength, xcursor, xstate, 0, xreachable, xsingleSites, xexactVars, ximproved, xopAt, xaAt, xbAt, xcAt, xinputs, rp, pt, dn, fl, tr, ld, st, xnext, xprev, xafter, xvarSet, xgen, xkill, xholdsIn, xreads, xcovers, xneedIn, xneedAfter, xverdicts, xrunStatus, xrunSteps, xrunOutputs, xrunReads, xrunWrites, xrunMade, xrunPlace, xvars, xcells, xheapSite, xoutputs) :=
    fun m rp pt dn fl tr ld st r2 h => K _ _ _ _ _ _ _ r2 (fun j hj => ⟨(h.1 j hj).1, (h.1 j hj).2.1⟩) (fun j hj s => cg_end h hv hj)
  intro k
  induction k with
  | zero =>
    intro pd rp pt dn fl tr ld st r2 _ h
    have := cg_fin h
    subst this
    exact br_t (by decide) (fin 0 _ _ _ _ _ _ _ r2 h)
  | succ k ih =>
    intro pd rp pt dn fl tr ld st r2 hk h
    refine br_f (nI_nle (by omega) (by omega)) (br_c (fun z => ?_) (fun z => xl_lowBit z (fun node _ hb hl => nm_e ?_)))
    · subst z; exact fin _ _ _ _ _ _ _ _ r2 h
    · have hn := h.2.1.2.2 node hb
      exact xc_visit (cg_low h hb hl) hn.1 hn.2 (fun i hi o => by have := (hv i hi).2 (Or.inl o); omega) (fun pd' rp' pt' dn' fl' tr' ld' st' r3 h3 => nm_r (pk_m1 k) (ih _ _ _ _ _ _ _ _ r3 (by omega) h3))
theorem cs_rest {rep : Nat → Int32} {pts done flo : Nat → Int64} {loads stores : Nat → Int32} {pend : Int64} (h : cs_I n G n op fa fb rep pts done flo loads stores pend) (hd : ∀ j, j < 48 → done j = 0) : cg_0 n G op fa fb (pt_L n G op fa fb) 4096 (fun k => k) rep pts done flo loads stores pend := by
  obtain ⟨hR, hB, hS, hK, hD, hP, hM⟩ := h
  refine ⟨hR, hB, hS, hK, fun f s hf _ z => ?_, hP, Nat.le_trans hM (by omega)⟩
  have z : lb_t (done f) s = true := z
  rw [hd f hf] at z
  exact absurd z lo_0
theorem xc_solveC (hv : ∀ i, i < n → (op i = 3 ∨ op i = 6 ∨ op i = 7 ∨ op i = 8 ∨ op i = 9 → pn (fa i) < 8) ∧ (op i = 3 ∨ op i = 8 ∨ op i = 9 → pn (fb i) < 8))
    (h : cs_I n G n op fa fb xrep xpts xdone xflowsTo xloads xstores xpending) (hd : ∀ j, j < 48 → xdone j = 0)
    (K : ∀ (rp : Nat → Int32) (pt dn fl tr : Nat → Int64) (ld st : Nat → Int32) (r2 : Nat → Nat), (∀ j, j < 48 → rp j = nI (r2 j) ∧ r2 j < 48) → (∀ j, j < 48 → ∀ s, lb_t (pt (r2 j)) s = true ↔ pt_L n G op fa fb j s) → post (xmaxLength, xvariableCount, xglobalCount, xheapLimit, xlength, xcursor, xstate, 0, xreachable, xsingleSites, xexactVars, ximproved, xopAt, xaAt, xbAt, xcAt, xinputs, rp, pt, dn, fl, tr, ld, st, xnext, xprev, xafter, xvarSet, xgen, xkill, xholdsIn, xreads, xcovers, xneedIn, xneedAfter, xverdicts, xrunStatus, xrunSteps, xrunOutputs, xrunReads, xrunWrites, xrunMade, xrunPlace, xvars, xcells, xheapSite, xoutputs)) : wpX_solveConstraints post (xmaxLength, xvariableCount, xglobalCount, xheapLimit, xlength, xcursor, xstate, xpending, xreachable, xsingleSites, xexactVars, ximproved, xopAt, xaAt, xbAt, xcAt, xinputs, xrep, xpts, xdone, xflowsTo, xtried, xloads, xstores, xnext, xprev, xafter, xvarSet, xgen, xkill, xholdsIn, xreads, xcovers, xneedIn, xneedAfter, xverdicts, xrunStatus, xrunSteps, xrunOutputs, xrunReads, xrunWrites, xrunMade, xrunPlace, xvars, xcells, xheapSite, xoutputs) :=
  ⟨4097, xc_solve hv K 4096 _ _ _ _ _ _ _ _ _ (Nat.le_refl _) (cs_rest h hd)⟩
end
end
section
theorem lo_sgl {x : Int64} (h0 : ¬ x = 0) (h : x &&& (x - 1) = 0) : ∃ k, ∀ i, lb_t x i = true ↔ i = k := by
  obtain ⟨k, hk, hb⟩ := lb_nz h0
  rw [lo_z] at h
  refine ⟨k, fun i => ⟨fun hi => ?_, fun e => by rw [e]; exact hb⟩⟩
  rcases Nat.lt_trichotomy i k with a | a | a
  · exact absurd ((lb_dec x hk).mpr ⟨hb, i, a, hi⟩) (h k)
  · exact a
  · exact absurd ((lb_dec x (lb_lt hi)).mpr ⟨hi, k, a, hb⟩) (h i)
theorem lo_sgl' {x : Int64} {k : Nat} (h : ∀ i, lb_t x i = true → i = k) : x &&& (x - 1) = 0 := by
  rw [lo_z]
  intro i hi
  have h64 := lb_lt hi
  obtain ⟨h1, j, hj, h2⟩ := (lb_dec x h64).mp hi
  have a := h i h1
  have b := h j h2
  omega
section
variable {xmaxLength : Int32} {xvariableCount : Int32} {xglobalCount : Int32} {xheapLimit : Int32} {xlength : Int32} {xcursor : Int32} {xstate : Int32} {xpending : Int64} {xreachable : Int64} {xsingleSites : Int64} {xexactVars : Int32} {ximproved : Int32} {xopAt : (Nat → Int32)} {xaAt : (Nat → Int32)} {xbAt : (Nat → Int32)} {xcAt : (Nat → Int32)} {xinputs : (Nat → Int32)} {xrep : (Nat → Int32)} {xpts : (Nat → Int64)} {xdone : (Nat → Int64)} {xflowsTo : (Nat → Int64)} {xtried : (Nat → Int64)} {xloads : (Nat → Int32)} {xstores : (Nat → Int32)} {xnext : (Nat → Int64)} {xprev : (Nat → Int64)} {xafter : (Nat → Int64)} {xvarSet : (Nat → Int64)} {xgen : (Nat → Int64)} {xkill : (Nat → Int64)} {xholdsIn : (Nat → Int64)} {xreads : (Nat → Int32)} {xcovers : (Nat → Int32)} {xneedIn : (Nat → Int32)} {xneedAfter : (Nat → Int32)} {xverdicts : (Nat → Int32)} {xrunStatus : (Nat → Int32)} {xrunSteps : (Nat → Int32)} {xrunOutputs : (Nat → Int32)} {xrunReads : (Nat → Int32)} {xrunWrites : (Nat → Int32)} {xrunMade : (Nat → Int32)} {xrunPlace : (Nat → Int32)} {xvars : (Nat → Int64)} {xcells : (Nat → Int64)} {xheapSite : (Nat → Int32)} {xoutputs : (Nat → Int64)}
variable {R V G n : Nat} {L : Nat → Nat → Prop} {T : Nat → Nat → Prop} {EX : Nat → Prop} {r2 : Nat → Nat}

theorem xa_cl78 {post : SX → Prop} {SG : Nat → Prop} (hss : ∀ s, s < 40 → (lb_t xsingleSites s = true ↔ SG s)) (hr : ∀ j, j < 48 → xrep j = nI (r2 j) ∧ r2 j < 48) (hp : ∀ j, j < 48 → ∀ s, lb_t (xpts (r2 j)) s = true ↔ L j s) (hL : ∀ j s, L j s → s < 40)
    (K : ∀ (ev : Int32) (vs : Nat → Int64), (∀ v, v < 8 → (bt ev v = true ↔ an_EX L SG v)) → (∀ v, v < 8 → ∀ s, lb_t (vs v) s = true ↔ L v s) → post (xmaxLength, xvariableCount, nI G, xheapLimit, nI n, xcursor, xstate, xpending, xreachable, xsingleSites, ev, ximproved, xopAt, xaAt, xbAt, xcAt, xinputs, xrep, xpts, xdone, xflowsTo, xtried, xloads, xstores, xnext, xprev, xafter, vs, xgen, xkill, xholdsIn, xreads, xcovers, xneedIn, xneedAfter, xverdicts, xrunStatus, xrunSteps, xrunOutputs, xrunReads, xrunWrites, xrunMade, xrunPlace, xvars, xcells, xheapSite, xoutputs)) : ∃ n78, wX_classify_78 post xmaxLength xvariableCount (nI G) xheapLimit (nI n) xcursor xstate xpending xreachable xsingleSites ximproved n78 0 0 xopAt xaAt xbAt xcAt xinputs xrep xpts xdone xflowsTo xtried xloads xstores xnext xprev xafter xvarSet xgen xkill xholdsIn xreads xcovers xneedIn xneedAfter xverdicts xrunStatus xrunSteps xrunOutputs xrunReads xrunWrites xrunMade xrunPlace xvars xcells xheapSite xoutputs := by
  refine lc_2 (fun d v (ev : Int32) (vs : Nat → Int64) => wX_classify_78 post xmaxLength xvariableCount (nI G) xheapLimit (nI n) xcursor xstate xpending xreachable xsingleSites ximproved d (nI v) ev xopAt xaAt xbAt xcAt xinputs xrep xpts xdone xflowsTo xtried xloads xstores xnext xprev xafter vs xgen xkill xholdsIn xreads xcovers xneedIn xneedAfter xverdicts xrunStatus xrunSteps xrunOutputs xrunReads xrunWrites xrunMade xrunPlace xvars xcells xheapSite xoutputs) (fun v ev vs => (∀ u, u < v → (bt ev u = true ↔ an_EX L SG u) ∧ ∀ s, lb_t (vs u) s = true ↔ L u s) ∧ (∀ u, v ≤ u → ¬ bt ev u = true)) 8 0 xvarSet ⟨fun u hu => absurd hu (Nat.not_lt_zero u), fun u _ => bo_0⟩ ?_ ?_
  · rintro d ev vs ⟨h1, h2⟩
    exact br_t (nI_le (Nat.le_refl 8) (by omega)) (K ev vs (fun v hv => (h1 v hv).1) (fun v hv => (h1 v hv).2))
  · rintro d v ev vs hv ⟨h1, h2⟩ ih
    have e : (nI v).toNatClampNeg = v := nI_clamp (by omega)
    obtain ⟨q1, q2⟩ := hr v (by omega)
    have e2 : (xrep (nI v).toNatClampNeg).toNatClampNeg = r2 v := by rw [e, q1]; exact nI_clamp (by omega)
    have hset := hp v (by omega)
    have keep : ∀ ev' : Int32, (∀ u, ¬ u = v → (bt ev' u = true ↔ bt ev u = true)) → (bt ev' v = true ↔ an_EX L SG v) → (∀ u, u < v + 1 → (bt ev' u = true ↔ an_EX L SG u) ∧ ∀ s, lb_t (vp_updL vs v (xpts (r2 v)) u) s = true ↔ L u s) ∧ (∀ u, v + 1 ≤ u → ¬ bt ev' u = true) := by
      intro ev' a b
      refine ⟨fun u hu => ?_, fun u hu => ?_⟩
      · by_cases eu : u = v
        · subst eu; rw [pk_uLs]; exact ⟨b, hset⟩
        · rw [pk_uLn eu, a u eu]; exact h1 u (by omega)
      · rw [a u (by omega)]; exact h2 u (by omega)
    have hno : ¬ bt ev v = true := h2 v (Nat.le_refl v)
    refine br_f (nI_ge (b := 8) hv (by omega)) ⟨vp_in_nI (by omega) (by omega), ⟨by rw [e, q1]; exact vp_in_nI q2 (by omega), nm_r (e' := xpts (r2 v)) (by rw [e2]) ⟨vp_in_nI hv (by omega), nm_r (e' := vp_updL vs v (xpts (r2 v))) (by rw [e]) (br_c (fun z => ?_) (fun z => br_c (fun y => br_c (fun w => ?_) (fun w => ?_)) (fun y => ?_)))⟩⟩⟩
    · refine nm_r (nI_1 v) (ih _ _ (keep ev (fun _ _ => Iff.rfl) ⟨fun q => absurd q hno, fun q => ?_⟩))
      obtain ⟨s, _, q, _⟩ := q
      rw [lo_z] at z
      exact absurd ((hset s).mpr q) (z s)
    · refine nm_r (nI_1 v) (ih _ _ (keep ev (fun _ _ => Iff.rfl) ⟨fun q => absurd q hno, fun q => ?_⟩))
      obtain ⟨s, q1, q2, _⟩ := q
      rw [lo_z] at w
      exact absurd (lo_and.mpr ⟨(hset s).mpr q2, (hss s (hL v s q2)).mpr q1⟩) (w s)
    · refine nm_e (nm_r (nI_1 v) (ih _ _ (keep _ (fun u hu => ?_) ⟨fun _ => ?_, fun _ => ?_⟩)))
      · rw [bo_or, bo_one (by omega)]
        exact ⟨fun q => q.elim (fun q => q) (fun q => absurd q hu), Or.inl⟩
      · obtain ⟨k, hk⟩ := lo_sgl z y
        have : ∃ s, lb_t (xpts (r2 v) &&& xsingleSites) s = true := Classical.byContradiction (fun q => w (lo_z.mpr (fun i hi => q ⟨i, hi⟩)))
        obtain ⟨s, hs⟩ := this
        rw [lo_and] at hs
        have hLs := (hset s).mp hs.1
        refine ⟨s, (hss s (hL v s hLs)).mp hs.2, hLs, fun t ht => ?_⟩
        rw [(hk t).mp ((hset t).mpr ht), (hk s).mp hs.1]
      · rw [bo_or, bo_one (by omega)]; exact Or.inr rfl
    · refine nm_r (nI_1 v) (ih _ _ (keep ev (fun _ _ => Iff.rfl) ⟨fun q => absurd q hno, fun q => ?_⟩))
      obtain ⟨s, _, _, q⟩ := q
      exact absurd (lo_sgl' (fun i hi => q i ((hset i).mp hi))) y
theorem xa_classify {post : SX → Prop} (hn : n ≤ 32) (hG : G ≤ 8) (haf : ∀ i, i < n → (lb_t (xafter i) i = true ↔ T i i)) (hr : ∀ j, j < 48 → xrep j = nI (r2 j) ∧ r2 j < 48) (hp : ∀ j, j < 48 → ∀ s, lb_t (xpts (r2 j)) s = true ↔ L j s) (hL : ∀ j s, L j s → s < 40)
    (K : ∀ (ss : Int64) (ev : Int32) (vs : Nat → Int64), (∀ s, lb_t ss s = true ↔ an_SG G n xopAt T s) → (∀ v, v < 8 → (bt ev v = true ↔ an_EX L (an_SG G n xopAt T) v)) → (∀ v, v < 8 → ∀ s, lb_t (vs v) s = true ↔ L v s) → post (xmaxLength, xvariableCount, nI G, xheapLimit, nI n, xcursor, xstate, xpending, xreachable, ss, ev, ximproved, xopAt, xaAt, xbAt, xcAt, xinputs, xrep, xpts, xdone, xflowsTo, xtried, xloads, xstores, xnext, xprev, xafter, vs, xgen, xkill, xholdsIn, xreads, xcovers, xneedIn, xneedAfter, xverdicts, xrunStatus, xrunSteps, xrunOutputs, xrunReads, xrunWrites, xrunMade, xrunPlace, xvars, xcells, xheapSite, xoutputs)) : wpX_classify post (xmaxLength, xvariableCount, nI G, xheapLimit, nI n, xcursor, xstate, xpending, xreachable, xsingleSites, xexactVars, ximproved, xopAt, xaAt, xbAt, xcAt, xinputs, xrep, xpts, xdone, xflowsTo, xtried, xloads, xstores, xnext, xprev, xafter, xvarSet, xgen, xkill, xholdsIn, xreads, xcovers, xneedIn, xneedAfter, xverdicts, xrunStatus, xrunSteps, xrunOutputs, xrunReads, xrunWrites, xrunMade, xrunPlace, xvars, xcells, xheapSite, xoutputs) := by
  refine nm_e ?_
  refine lc_1 (fun d i (ss : Int64) => wX_classify_14 post xmaxLength xvariableCount (nI G) xheapLimit (nI n) xcursor xstate xpending xreachable xexactVars ximproved xopAt xaAt xbAt xcAt xinputs xrep xpts xdone xflowsTo xtried xloads xstores xnext xprev xafter xvarSet xgen xkill xholdsIn xreads xcovers xneedIn xneedAfter xverdicts xrunStatus xrunSteps xrunOutputs xrunReads xrunWrites xrunMade xrunPlace xvars xcells xheapSite xoutputs d (nI i) ss) (fun i ss => ∀ s, lb_t ss s = true ↔ s < G ∨ ∃ j, j < i ∧ s = G + j ∧ xopAt j = 7 ∧ ¬ T j j) n _ ?_ ?_ ?_
  · intro s
    rcases Nat.lt_or_ge s 64 with h | h
    · rw [lb_ge G (by omega) s h, decide_eq_true_iff]
      exact ⟨Or.inl, fun z => z.elim (fun z => z) (fun ⟨j, hj, _⟩ => absurd hj (Nat.not_lt_zero j))⟩
    · rw [lb_big h]
      exact ⟨fun z => absurd z (by decide), fun z => z.elim (fun z => by omega) (fun ⟨j, hj, _⟩ => absurd hj (Nat.not_lt_zero j))⟩
  · intro d ss h
    exact br_t (nI_le (Nat.le_refl n) (by omega)) (xa_cl78 (SG := an_SG G n xopAt T) (fun s _ => h s) hr hp hL (fun ev vs h1 h2 => K ss ev vs h h1 h2))
  · intro d i ss hi h ih
    have e : (nI i).toNatClampNeg = i := nI_clamp (by omega)
    have hin : vp_in (nI i) 32 := vp_in_nI (by omega) (by omega)
    have same : (¬ (xopAt i = 7 ∧ ¬ T i i)) → ∀ s, lb_t ss s = true ↔ s < G ∨ ∃ j, j < i + 1 ∧ s = G + j ∧ xopAt j = 7 ∧ ¬ T j j := by
      intro q s
      rw [h s]
      constructor
      · rintro (a | ⟨j, hj, a⟩)
        · exact Or.inl a
        · exact Or.inr ⟨j, by omega, a⟩
      · rintro (a | ⟨j, hj, a, b⟩)
        · exact Or.inl a
        · by_cases ej : j = i
          · subst ej; exact absurd b q
          · exact Or.inr ⟨j, by omega, a, b⟩
    refine br_f (nI_ge hi (by omega)) ⟨hin, ?_⟩
    simp only [e]
    refine br_c (fun z => ⟨hin, lo_br i (by omega) (fun hb => nm_e (nm_r (nI_1 i) (ih _ (fun s => ?_)))) (fun hb => nm_r (nI_1 i) (ih ss (same (fun q => q.2 ((haf i hi).mp hb)))))⟩) (fun z => nm_r (nI_1 i) (ih ss (same (fun q => z q.1))))
    have e3 : (1 : Int64) <<< ((nI G + nI i).toInt64 &&& 63) = (1 : Int64) <<< ((nI (G + i)).toInt64 &&& 63) := by rw [nI_add]
    rw [e3, lo_or, lo_one (by omega), h s]
    constructor
    · rintro ((a | ⟨j, hj, a⟩) | a)
      · exact Or.inl a
      · exact Or.inr ⟨j, by omega, a⟩
      · exact Or.inr ⟨i, by omega, a, z, fun q => hb ((haf i hi).mpr q)⟩
    · rintro (a | ⟨j, hj, a, b⟩)
      · exact Or.inl (Or.inl a)
      · by_cases ej : j = i
        · subst ej; exact Or.inr a
        · exact Or.inl (Or.inr ⟨j, by omega, a, b⟩)
end
section
variable {xmaxLength : Int32} {xvariableCount : Int32} {xglobalCount : Int32} {xheapLimit : Int32} {xlength : Int32} {xcursor : Int32} {xstate : Int32} {xpending : Int64} {xreachable : Int64} {xsingleSites : Int64} {xexactVars : Int32} {ximproved : Int32} {xopAt : (Nat → Int32)} {xaAt : (Nat → Int32)} {xbAt : (Nat → Int32)} {xcAt : (Nat → Int32)} {xinputs : (Nat → Int32)} {xrep : (Nat → Int32)} {xpts : (Nat → Int64)} {xdone : (Nat → Int64)} {xflowsTo : (Nat → Int64)} {xtried : (Nat → Int64)} {xloads : (Nat → Int32)} {xstores : (Nat → Int32)} {xnext : (Nat → Int64)} {xprev : (Nat → Int64)} {xafter : (Nat → Int64)} {xvarSet : (Nat → Int64)} {xgen : (Nat → Int64)} {xkill : (Nat → Int64)} {xholdsIn : (Nat → Int64)} {xreads : (Nat → Int32)} {xcovers : (Nat → Int32)} {xneedIn : (Nat → Int32)} {xneedAfter : (Nat → Int32)} {xverdicts : (Nat → Int32)} {xrunStatus : (Nat → Int32)} {xrunSteps : (Nat → Int32)} {xrunOutputs : (Nat → Int32)} {xrunReads : (Nat → Int32)} {xrunWrites : (Nat → Int32)} {xrunMade : (Nat → Int32)} {xrunPlace : (Nat → Int32)} {xvars : (Nat → Int64)} {xcells : (Nat → Int64)} {xheapSite : (Nat → Int32)} {xoutputs : (Nat → Int64)}
variable {R V G n : Nat} {L : Nat → Nat → Prop} {EX : Nat → Prop} {post : Int32 → Prop}

theorem xa_isExact {v : Nat} (hex : ∀ v, v < 8 → (bt xexactVars v = true ↔ EX v)) (hv : v < 8) (h1 : EX v → post 1) (h0 : ¬ EX v → post 0) : wpX_isExact post (xmaxLength, nI V, xglobalCount, xheapLimit, nI n, xcursor, xstate, xpending, xreachable, xsingleSites, xexactVars, ximproved, xopAt, xaAt, xbAt, xcAt, xinputs, xrep, xpts, xdone, xflowsTo, xtried, xloads, xstores, xnext, xprev, xafter, xvarSet, xgen, xkill, xholdsIn, xreads, xcovers, xneedIn, xneedAfter, xverdicts, xrunStatus, xrunSteps, xrunOutputs, xrunReads, xrunWrites, xrunMade, xrunPlace, xvars, xcells, xheapSite, xoutputs) (nI v) :=
  bo_br v (by omega) (fun z => h0 (fun q => z ((hex v hv).mpr q))) (fun z => h1 ((hex v hv).mp z))
theorem xa_sameCell {v w : Nat} (hex : ∀ v, v < 8 → (bt xexactVars v = true ↔ EX v)) (hvs : ∀ v, v < 8 → ∀ s, lb_t (xvarSet v) s = true ↔ L v s) (hv : v < 8) (hw : w < 8) (h1 : an_SC L EX v w → post 1) (h0 : ¬ an_SC L EX v w → post 0) : wpX_sameCell post (xmaxLength, nI V, xglobalCount, xheapLimit, nI n, xcursor, xstate, xpending, xreachable, xsingleSites, xexactVars, ximproved, xopAt, xaAt, xbAt, xcAt, xinputs, xrep, xpts, xdone, xflowsTo, xtried, xloads, xstores, xnext, xprev, xafter, xvarSet, xgen, xkill, xholdsIn, xreads, xcovers, xneedIn, xneedAfter, xverdicts, xrunStatus, xrunSteps, xrunOutputs, xrunReads, xrunWrites, xrunMade, xrunPlace, xvars, xcells, xheapSite, xoutputs) (nI v) (nI w) := by
  have ev : (nI v).toNatClampNeg = v := nI_clamp (by omega)
  have ew : (nI w).toNatClampNeg = w := nI_clamp (by omega)
  unfold wpX_sameCell
  refine xa_isExact hex hv (fun a => br_f (by decide) (xa_isExact hex hw (fun b => br_f (by decide) ⟨vp_in_nI hv (by omega), vp_in_nI hw (by omega), ?_⟩) (fun b => br_t rfl (h0 (fun z => b z.2.1))))) (fun a => br_t rfl (h0 (fun z => a z.1)))
  rw [ev, ew]
  refine br_c (fun z => h1 ⟨a, b, fun s => ?_⟩) (fun z => h0 (fun q => z (lo_ext (fun s => ?_))))
  · rw [← hvs v hv s, ← hvs w hw s, z]
  · rw [hvs v hv s, hvs w hw s]; exact q.2.2 s
theorem xa_assigns {i u : Nat} (hn : n ≤ 32) (hi : i < n) (h1 : an_AS xopAt xaAt i u → post 1) (h0 : ¬ an_AS xopAt xaAt i u → post 0) : wpX_assigns post (xmaxLength, nI V, xglobalCount, xheapLimit, nI n, xcursor, xstate, xpending, xreachable, xsingleSites, xexactVars, ximproved, xopAt, xaAt, xbAt, xcAt, xinputs, xrep, xpts, xdone, xflowsTo, xtried, xloads, xstores, xnext, xprev, xafter, xvarSet, xgen, xkill, xholdsIn, xreads, xcovers, xneedIn, xneedAfter, xverdicts, xrunStatus, xrunSteps, xrunOutputs, xrunReads, xrunWrites, xrunMade, xrunPlace, xvars, xcells, xheapSite, xoutputs) (nI i) (nI u) := by
  have e : (nI i).toNatClampNeg = i := nI_clamp (by omega)
  have hin : vp_in (nI i) 32 := vp_in_nI (by omega) (by omega)
  unfold wpX_assigns
  simp only [e]
  exact ⟨hin, br_c (fun a => h0 (fun z => z.1 a)) (fun a => ⟨hin, br_c (fun b => h1 ⟨a, b⟩) (fun b => h0 (fun z => b z.2))⟩)⟩
theorem xa_est {fc : Nat → Int32} {i v x : Nat} (hp : pg_ok R V G n xopAt xaAt xbAt fc) (hV : V ≤ 8) (hn : n ≤ 32) (hi : i < n) (hex : ∀ v, v < 8 → (bt xexactVars v = true ↔ EX v)) (hvs : ∀ v, v < 8 → ∀ s, lb_t (xvarSet v) s = true ↔ L v s) (hv : v < 8) (hx : x < 8) (h1 : an_ES xopAt xaAt xbAt EX (an_SC L EX) i v x → post 1) (h0 : ¬ an_ES xopAt xaAt xbAt EX (an_SC L EX) i v x → post 0) : wpX_establishes post (xmaxLength, nI V, xglobalCount, xheapLimit, nI n, xcursor, xstate, xpending, xreachable, xsingleSites, xexactVars, ximproved, xopAt, xaAt, xbAt, xcAt, xinputs, xrep, xpts, xdone, xflowsTo, xtried, xloads, xstores, xnext, xprev, xafter, xvarSet, xgen, xkill, xholdsIn, xreads, xcovers, xneedIn, xneedAfter, xverdicts, xrunStatus, xrunSteps, xrunOutputs, xrunReads, xrunWrites, xrunMade, xrunPlace, xvars, xcells, xheapSite, xoutputs) (nI i) (nI v) (nI x) := by
  have e : (nI i).toNatClampNeg = i := nI_clamp (by omega)
  have hin : vp_in (nI i) 32 := vp_in_nI (by omega) (by omega)
  obtain ⟨ho, h10, hn10, h2, h6, h11, hb, hc⟩ := hp i hi
  have d98 : ∀ o : Int32, o = 9 → ¬ o = 8 := fun o z => by rw [z]; decide
  refine ⟨hin, nm_r (e' := xaAt i) (by rw [e]) ⟨hin, nm_r (e' := xbAt i) (by rw [e]) ⟨hin, ?_⟩⟩⟩
  simp only [e]
  refine br_c (fun o9 => ?_) (fun o9 => ⟨hin, br_c (fun o8 => ?_) (fun o8 => h0 (fun z => z.elim (fun q => o9 q.1) (fun q => o8 q.1)))⟩)
  · obtain ⟨a, ha, ea⟩ := hn10 (by rw [o9]; decide)
    have pa : pn (xaAt i) = a := by rw [ea]; exact pn_nI (by omega)
    refine br_c (fun zb => xa_isExact hex hv (fun hE => br_f (by decide) ?_) (fun hE => br_t rfl (br_c (fun za => h1 (Or.inl ⟨o9, zb, Or.inr ⟨hE, za⟩⟩)) (fun za => h0 (fun z => ?_))))) (fun zb => h0 (fun z => ?_))
    · rw [ea]
      refine xa_sameCell hex hvs (by omega) hv (fun q => ⟨narrow_b1, h1 (Or.inl ⟨o9, zb, Or.inl ⟨hE, ?_⟩⟩)⟩) (fun q => ⟨narrow_b0, h0 (fun z => ?_)⟩)
      · rw [pa]; exact q
      · rcases z with ⟨_, _, ⟨_, z⟩ | ⟨z, _⟩⟩ | ⟨z, _⟩
        · rw [pa] at z; exact q z
        · exact z hE
        · exact d98 _ o9 z
    · rcases z with ⟨_, _, ⟨z, _⟩ | ⟨_, z⟩⟩ | ⟨z, _⟩
      · exact hE z
      · exact za z
      · exact d98 _ o9 z
    · rcases z with ⟨_, z, _⟩ | ⟨z, _⟩
      · exact zb z
      · exact d98 _ o9 z
  · obtain ⟨b, hb2, eb⟩ := hb (Or.inr (Or.inr (Or.inr (Or.inl o8))))
    have pb : pn (xbAt i) = b := by rw [eb]; exact pn_nI (by omega)
    refine br_c (fun za => xa_isExact hex hv (fun hE => br_f (by decide) ?_) (fun hE => br_t rfl (br_c (fun zb => br_c (fun zx => h0 (fun z => ?_)) (fun zx => h1 (Or.inr ⟨o8, za, Or.inr ⟨hE, zb, fun q => zx (by rw [q])⟩⟩))) (fun zb => h0 (fun z => ?_))))) (fun za => h0 (fun z => ?_))
    · rw [eb]
      refine xa_sameCell hex hvs (by omega) hv (fun q => ⟨narrow_b1, h1 (Or.inr ⟨o8, za, Or.inl ⟨hE, ?_⟩⟩)⟩) (fun q => ⟨narrow_b0, h0 (fun z => ?_)⟩)
      · rw [pb]; exact q
      · rcases z with ⟨z, _⟩ | ⟨_, _, ⟨_, z⟩ | ⟨z, _⟩⟩
        · exact o9 z
        · rw [pb] at z; exact q z
        · exact z hE
    · rw [nI_eq (by omega) (by omega)] at zx
      rcases z with ⟨z, _⟩ | ⟨_, _, ⟨z, _⟩ | ⟨_, _, z⟩⟩
      · exact o9 z
      · exact hE z
      · exact z zx
    · rcases z with ⟨z, _⟩ | ⟨_, _, ⟨z, _⟩ | ⟨_, z, _⟩⟩
      · exact o9 z
      · exact hE z
      · exact zb z
    · rcases z with ⟨z, _⟩ | ⟨_, z, _⟩
      · exact o9 z
      · exact za z
theorem xa_des {fc : Nat → Int32} {i v x : Nat} (hp : pg_ok R V G n xopAt xaAt xbAt fc) (hV : V ≤ 8) (hn : n ≤ 32) (hi : i < n) (hex : ∀ v, v < 8 → (bt xexactVars v = true ↔ EX v)) (hvs : ∀ v, v < 8 → ∀ s, lb_t (xvarSet v) s = true ↔ L v s) (hv : v < 8) (hx : x < 8) (h1 : an_DE xopAt xaAt EX (an_MT L) i v x → post 1) (h0 : ¬ an_DE xopAt xaAt EX (an_MT L) i v x → post 0) : wpX_destroys post (xmaxLength, nI V, xglobalCount, xheapLimit, nI n, xcursor, xstate, xpending, xreachable, xsingleSites, xexactVars, ximproved, xopAt, xaAt, xbAt, xcAt, xinputs, xrep, xpts, xdone, xflowsTo, xtried, xloads, xstores, xnext, xprev, xafter, xvarSet, xgen, xkill, xholdsIn, xreads, xcovers, xneedIn, xneedAfter, xverdicts, xrunStatus, xrunSteps, xrunOutputs, xrunReads, xrunWrites, xrunMade, xrunPlace, xvars, xcells, xheapSite, xoutputs) (nI i) (nI v) (nI x) := by
  have e : (nI i).toNatClampNeg = i := nI_clamp (by omega)
  have ev : (nI v).toNatClampNeg = v := nI_clamp (by omega)
  have hin : vp_in (nI i) 32 := vp_in_nI (by omega) (by omega)
  obtain ⟨ho, h10, hn10, h2, h6, h11, hb, hc⟩ := hp i hi
  have rest : ¬ an_AS xopAt xaAt i x → ¬ (xopAt i = 9 ∧ an_MT L (pn (xaAt i)) v) → wX_destroys_47 post (nI i) (nI v) xmaxLength (nI V) xglobalCount xheapLimit (nI n) xcursor xstate xpending xreachable xsingleSites xexactVars ximproved xopAt xaAt xbAt xcAt xinputs xrep xpts xdone xflowsTo xtried xloads xstores xnext xprev xafter xvarSet xgen xkill xholdsIn xreads xcovers xneedIn xneedAfter xverdicts xrunStatus xrunSteps xrunOutputs xrunReads xrunWrites xrunMade xrunPlace xvars xcells xheapSite xoutputs := by
    intro n1 n2
    unfold wX_destroys_47
    refine xa_isExact hex hv (fun hE => br_f (by decide) (h0 (fun z => ?_))) (fun hE => br_t rfl (xa_assigns hn hi (fun q => br_f (by decide) (h1 (Or.inr (Or.inr ⟨hE, q⟩)))) (fun q => br_t rfl (h0 (fun z => ?_)))))
    · rcases z with z | z | z
      · exact n1 z
      · exact n2 z
      · exact z.1 hE
    · rcases z with z | z | z
      · exact n1 z
      · exact n2 z
      · exact q z.2
  unfold wpX_destroys
  refine xa_assigns hn hi (fun q => br_f (by decide) (h1 (Or.inl q))) (fun q => br_t rfl ⟨hin, ?_⟩)
  simp only [e, ev]
  refine br_c (fun o9 => ?_) (fun o9 => rest q (fun z => o9 z.1))
  obtain ⟨a, ha, ea⟩ := hn10 (by rw [o9]; decide)
  have pa : pn (xaAt i) = a := by rw [ea]; exact pn_nI (by omega)
  have eac : (xaAt i).toNatClampNeg = a := pa
  rw [eac]
  refine ⟨hin, ⟨by rw [ea]; exact vp_in_nI (by omega) (by omega), vp_in_nI hv (by omega), br_c (fun z => rest q (fun y => ?_)) (fun z => h1 (Or.inr (Or.inl ⟨o9, ?_⟩)))⟩⟩
  · obtain ⟨_, s, s1, s2⟩ := y
    rw [pa] at s1
    rw [lo_z] at z
    exact z s (lo_and.mpr ⟨(hvs a (by omega) s).mpr s1, (hvs v hv s).mpr s2⟩)
  · have : ∃ s, lb_t (xvarSet a &&& xvarSet v) s = true := Classical.byContradiction (fun q => z (lo_z.mpr (fun i hi => q ⟨i, hi⟩)))
    obtain ⟨s, hs⟩ := this
    rw [lo_and] at hs
    rw [pa]
    exact ⟨s, (hvs a (by omega) s).mp hs.1, (hvs v hv s).mp hs.2⟩
end
end
section
/-! the worklist of the holding pass -/
def hw_S (E : Nat → Nat → Prop) (ge ki : Nat → Int64) (j i : Nat) (f : Bool) : Prop := hd_S E (fun i => lb_t (ge i) j = true) (fun i => lb_t (ki i) j = true) i f
def hw_C (E : Nat → Nat → Prop) (n : Nat) (ge ki H : Nat → Int64) : Prop := (∀ j, ¬ lb_t (H 0) j = true) ∧ (∀ i j, i < n → lb_t (H i) j = true → gr_R E n i) ∧ (∀ s j, gr_R E n s → j < 64 → ¬ hw_S E ge ki j s false → lb_t (H s) j = true)
def hw_c (ge ki H : Nat → Int64) (i s : Nat) : Prop := ∀ j, lb_t (H s) j = true → lb_t (ge i) j = true ∨ (lb_t (H i) j = true ∧ ¬ lb_t (ki i) j = true)
def hw_M (H : Nat → Int64) (td : Int64) : Nat := ct_n (fun q => lb_t (H (q / 64)) (q % 64)) 2048 + ct_n (fun k => lb_t td k) 32
def hw_I (E : Nat → Nat → Prop) (n : Nat) (ge ki : Nat → Int64) (m : Nat) (H : Nat → Int64) (td : Int64) : Prop :=
  hw_C E n ge ki H ∧ (∀ k, lb_t td k = true → gr_R E n k) ∧ (∀ i s, gr_R E n i → ¬ lb_t td i = true → E i s → hw_c ge ki H i s) ∧ hw_M H td ≤ m
def hw_J (E : Nat → Nat → Prop) (n : Nat) (ge ki : Nat → Int64) (m i : Nat) (out H0 : Int64) (s : Nat) (H : Nat → Int64) (td : Int64) : Prop :=
  hw_C E n ge ki H ∧ (∀ k, lb_t td k = true → gr_R E n k) ∧ (∀ i' s', ¬ i' = i → gr_R E n i' → ¬ lb_t td i' = true → E i' s' → hw_c ge ki H i' s') ∧ (lb_t td i = true ∨ H i = H0) ∧ (∀ s', s' < s → E i s' → ∀ j, lb_t (H s') j = true → lb_t out j = true) ∧ hw_M H td ≤ m
section
variable {E : Nat → Nat → Prop} {n : Nat} {ge ki H : Nat → Int64} {td out H0 : Int64} {m i s : Nat}
theorem hw_begin (hn : n ≤ 32) (h : hw_I E n ge ki (m + 1) H td) (hb : lb_t td i = true) (hl : ∀ j, j < i → ¬ lb_t td j = true) : hw_J E n ge ki m i out (H i) 0 H (td &&& (td - 1)) := by
  obtain ⟨hC, hT, hc, hM⟩ := h
  have hq : ∀ f, lb_t (td &&& (td - 1)) f = true ↔ lb_t td f = true ∧ f ≠ i := fun f => lo_low hb hl
  refine ⟨hC, fun k hk => hT k ((hq k).mp hk).1, fun i' s' hne hr ht => hc i' s' hr (fun z => ht ((hq i').mpr ⟨z, hne⟩)), Or.inr rfl, fun s' hs => absurd hs (Nat.not_lt_zero s'), ?_⟩
  have hi := (hT i hb).1
  have a := ct_lt (p := fun j => lb_t (td &&& (td - 1)) j) (q := fun j => lb_t td j) (j0 := i) 32 (fun j _ hj => ((hq j).mp hj).1) (by omega) (ts_nt (fun z => ((hq i).mp z).2 rfl)) hb
  unfold hw_M at hM ⊢
  omega
theorem hw_out (hE : ∀ i s, E i s → i < n ∧ s < n) (hC : hw_C E n ge ki H) (hr : gr_R E n i) (e : E i s) {j : Nat} (hj : j < 64) (h : ¬ hw_S E ge ki j s false) : lb_t (ge i ||| (H i &&& (ki i ^^^ (-1)))) j = true := by
  rw [lo_or, lo_diff]
  rcases hd_hi hE hr e h with a | ⟨a, b⟩
  · exact Or.inl a
  · exact Or.inr ⟨hC.2.2 i j hr hj a, b⟩
theorem hw_skip1 (he : ¬ E i s) (h : hw_J E n ge ki m i out H0 s H td) : hw_J E n ge ki m i out H0 (s + 1) H td := by
  obtain ⟨hC, hT, hc, hi, hs, hM⟩ := h
  refine ⟨hC, hT, hc, hi, fun s' h1 e => ?_, hM⟩
  by_cases q : s' = s
  · subst q; exact absurd e he
  · exact hs s' (by omega) e
theorem hw_skip2 (hm : H s &&& out = H s) (h : hw_J E n ge ki m i out H0 s H td) : hw_J E n ge ki m i out H0 (s + 1) H td := by
  obtain ⟨hC, hT, hc, hi, hs, hM⟩ := h
  refine ⟨hC, hT, hc, hi, fun s' h1 e j hj => ?_, hM⟩
  by_cases q : s' = s
  · subst q; rw [← hm, lo_and] at hj; exact hj.2
  · exact hs s' (by omega) e j hj
theorem hw_step (hE : ∀ i s, E i s → i < n ∧ s < n) (hn : n ≤ 32) (hr : gr_R E n i) (e : E i s) (ho : ∀ j, j < 64 → ¬ hw_S E ge ki j s false → lb_t out j = true) (hm : ¬ H s &&& out = H s) (h : hw_J E n ge ki m i out H0 s H td) : hw_J E n ge ki m i out H0 (s + 1) (vp_updL H s (H s &&& out)) (td ||| ((1 : Int64) <<< ((nI s).toInt64 &&& 63))) := by
  obtain ⟨⟨c1, c2, c3⟩, hT, hc, hi, hs, hM⟩ := h
  have hsn := (hE i s e).2
  have hsub : ∀ k j, lb_t (vp_updL H s (H s &&& out) k) j = true → lb_t (H k) j = true := by
    intro k j hj
    by_cases q : k = s
    · subst q; rw [pk_uLs, lo_and] at hj; exact hj.1
    · rw [pk_uLn q] at hj; exact hj
  have hq : ∀ f, lb_t (td ||| ((1 : Int64) <<< ((nI s).toInt64 &&& 63))) f = true ↔ lb_t td f = true ∨ f = s := fun f => by rw [lo_or, lo_one (by omega)]
  refine ⟨⟨fun j hj => c1 j (hsub 0 j hj), fun k j hk hj => c2 k j hk (hsub k j hj), fun k j hk hj hh => ?_⟩, fun k hk => ?_, fun i' s' hne hr' ht e' j hj => ?_, ?_, fun s' h1 e' j hj => ?_, ?_⟩
  · by_cases q : k = s
    · subst q; rw [pk_uLs, lo_and]; exact ⟨c3 k j hk hj hh, ho j hj hh⟩
    · rw [pk_uLn q]; exact c3 k j hk hj hh
  · rcases (hq k).mp hk with a | a
    · exact hT k a
    · subst a; exact gr_R_s hE hr e
  · have n1 : ¬ i' = s := fun z => ht ((hq i').mpr (Or.inr z))
    rw [pk_uLn n1]
    exact hc i' s' hne hr' (fun z => ht ((hq i').mpr (Or.inl z))) e' j (hsub s' j hj)
  · by_cases q : i = s
    · exact Or.inl ((hq i).mpr (Or.inr q))
    · rcases hi with a | a
      · exact Or.inl ((hq i).mpr (Or.inl a))
      · rw [pk_uLn q]; exact Or.inr a
  · by_cases q : s' = s
    · subst q; rw [pk_uLs, lo_and] at hj; exact hj.2
    · exact hs s' (by omega) e' j (hsub s' j hj)
  · have hx : ∃ j, lb_t (H s) j = true ∧ ¬ lb_t out j = true := by
      apply Classical.byContradiction
      intro q
      apply hm
      apply lo_ext
      intro j
      rw [lo_and]
      exact ⟨fun a => a.1, fun a => ⟨a, Classical.byContradiction (fun w => q ⟨j, a, w⟩)⟩⟩
    obtain ⟨j, h1, h2⟩ := hx
    have hj := lb_lt h1
    have ed : (s * 64 + j) / 64 = s := by omega
    have em : (s * 64 + j) % 64 = j := by omega
    have a1 : ct_n (fun q => lb_t (vp_updL H s (H s &&& out) (q / 64)) (q % 64)) 2048 + 1 ≤ ct_n (fun q => lb_t (H (q / 64)) (q % 64)) 2048 := by
      refine ct_lt (j0 := s * 64 + j) 2048 (fun k _ hk => hsub _ _ hk) (by omega) ?_ ?_
      · show lb_t (vp_updL H s (H s &&& out) ((s * 64 + j) / 64)) ((s * 64 + j) % 64) = false
        rw [ed, em, pk_uLs]
        exact ts_nt (fun z => h2 (lo_and.mp z).2)
      · show lb_t (H ((s * 64 + j) / 64)) ((s * 64 + j) % 64) = true
        rw [ed, em]; exact h1
    have a2 : ct_n (fun k => lb_t (td ||| ((1 : Int64) <<< ((nI s).toInt64 &&& 63))) k) 32 ≤ ct_n (fun k => lb_t td k) 32 + 1 := ct_le1 (j0 := s) 32 (fun k _ hk h => ((hq k).mp h).elim (fun a => a) (fun a => absurd a hk))
    unfold hw_M at hM ⊢
    omega
theorem hw_done (hE : ∀ i s, E i s → i < n ∧ s < n) (h : hw_J E n ge ki m i (ge i ||| (H0 &&& (ki i ^^^ (-1)))) H0 n H td) : hw_I E n ge ki m H td := by
  obtain ⟨hC, hT, hc, hi, hs, hM⟩ := h
  refine ⟨hC, hT, fun i' s' hr ht e => ?_, hM⟩
  by_cases q : i' = i
  · subst q
    intro j hj
    have o := hs s' (hE i' s' e).2 e j hj
    rw [lo_or, lo_diff] at o
    rcases hi with a | a
    · exact absurd a ht
    · rw [a]; exact o
  · exact hc i' s' q hr ht e
theorem hw_end (hE : ∀ i s, E i s → i < n ∧ s < n) (h : hw_I E n ge ki m H 0) {j : Nat} (hi : i < n) (hj : j < 64) : lb_t (H i) j = true ↔ gr_R E n i ∧ ¬ hw_S E ge ki j i false := by
  obtain ⟨hC, hT, hc, hM⟩ := h
  constructor
  · intro hb
    refine ⟨hC.2.1 i j hi hb, ?_⟩
    exact hd_lo hE (by omega) (H := fun i => lb_t (H i) j = true) (hC.1 j) (fun i s hr e hs => hc i s hr lo_0 e j hs) hb
  · rintro ⟨hr, hh⟩
    exact hC.2.2 i j hr hj hh
theorem hw_zero (hn : n ≤ 32) (h : hw_I E n ge ki 0 H td) : td = 0 := by
  obtain ⟨hC, hT, hc, hM⟩ := h
  unfold hw_M at hM
  have a : ct_n (fun j => lb_t td j) 32 = 0 := by omega
  rw [lo_z]
  intro k hk
  have hkn := (hT k hk).1
  have t := ct_z 32 a k (by omega)
  rw [hk] at t
  exact absurd t (by decide)
theorem hw_init (hn : n ≤ 32) (hH : ∀ k, k < 32 → (0 < k → gr_R E n k → H k = -1) ∧ (¬ (0 < k ∧ gr_R E n k) → H k = 0)) (htd : ∀ k, lb_t td k = true ↔ gr_R E n k) : hw_I E n ge ki 2080 H td := by
  refine ⟨⟨fun j hj => ?_, fun k j hk hj => ?_, fun k j hk hj hh => ?_⟩, fun k hk => (htd k).mp hk, fun k s hr ht => absurd ((htd k).mpr hr) ht, ?_⟩
  · rw [(hH 0 (by omega)).2 (by omega)] at hj; exact lo_0 hj
  · apply Classical.byContradiction
    intro q
    rw [(hH k (by omega)).2 (fun z => q z.2)] at hj
    exact lo_0 hj
  · rcases Nat.eq_zero_or_pos k with z | z
    · subst z; exact absurd hd_0 hh
    · have hk2 := hk.1
      rw [(hH k (by omega)).1 z hk]; exact lb_m1 j hj
  · have a1 := ct_bd (fun q => lb_t (H (q / 64)) (q % 64)) 2048
    have a2 := ct_bd (fun k => lb_t td k) 32
    unfold hw_M
    omega
end
end
section
def an_HL (E : Nat → Nat → Prop) (n : Nat) (ES DE : Nat → Nat → Nat → Prop) (i v x : Nat) : Prop := gr_R E n i ∧ ¬ hd_S E (fun i => ES i v x) (fun i => DE i v x) i false
section
variable {xmaxLength : Int32} {xvariableCount : Int32} {xglobalCount : Int32} {xheapLimit : Int32} {xlength : Int32} {xcursor : Int32} {xstate : Int32} {xpending : Int64} {xreachable : Int64} {xsingleSites : Int64} {xexactVars : Int32} {ximproved : Int32} {xopAt : (Nat → Int32)} {xaAt : (Nat → Int32)} {xbAt : (Nat → Int32)} {xcAt : (Nat → Int32)} {xinputs : (Nat → Int32)} {xrep : (Nat → Int32)} {xpts : (Nat → Int64)} {xdone : (Nat → Int64)} {xflowsTo : (Nat → Int64)} {xtried : (Nat → Int64)} {xloads : (Nat → Int32)} {xstores : (Nat → Int32)} {xnext : (Nat → Int64)} {xprev : (Nat → Int64)} {xafter : (Nat → Int64)} {xvarSet : (Nat → Int64)} {xgen : (Nat → Int64)} {xkill : (Nat → Int64)} {xholdsIn : (Nat → Int64)} {xreads : (Nat → Int32)} {xcovers : (Nat → Int32)} {xneedIn : (Nat → Int32)} {xneedAfter : (Nat → Int32)} {xverdicts : (Nat → Int32)} {xrunStatus : (Nat → Int32)} {xrunSteps : (Nat → Int32)} {xrunOutputs : (Nat → Int32)} {xrunReads : (Nat → Int32)} {xrunWrites : (Nat → Int32)} {xrunMade : (Nat → Int32)} {xrunPlace : (Nat → Int32)} {xvars : (Nat → Int64)} {xcells : (Nat → Int64)} {xheapSite : (Nat → Int32)} {xoutputs : (Nat → Int64)}
variable {R V G n : Nat} {L : Nat → Nat → Prop} {EX : Nat → Prop} {E : Nat → Nat → Prop} {fc : Nat → Int32} {post : SX → Prop}

theorem xh_ph20 {J8 : Int64 → Int64 → Int32 → Prop} {i v : Nat} {md0 ls0 : Int64} (hp : pg_ok R V G n xopAt xaAt xbAt fc) (hV : V ≤ 8) (hn : n ≤ 32) (hex : ∀ v, v < 8 → (bt xexactVars v = true ↔ EX v)) (hvs : ∀ v, v < 8 → ∀ s, lb_t (xvarSet v) s = true ↔ L v s) (hi : i < n) (hv : v < V)
    (K : ∀ md ls : Int64, (∀ j, lb_t md j = true ↔ lb_t md0 j = true ∨ (j / 8 = v ∧ j % 8 < V ∧ (an_ES xopAt xaAt xbAt EX (an_SC L EX)) i v (j % 8))) → (∀ j, lb_t ls j = true ↔ lb_t ls0 j = true ∨ (j / 8 = v ∧ j % 8 < V ∧ ¬ (an_ES xopAt xaAt xbAt EX (an_SC L EX)) i v (j % 8) ∧ (an_DE xopAt xaAt EX (an_MT L)) i v (j % 8))) → J8 md ls (nI (v + 1))) : ∃ n20, wX_prepareHolding_20 post J8 (nI i) (nI v) xmaxLength (nI V) xglobalCount xheapLimit (nI n) xcursor xstate xpending xreachable xsingleSites xexactVars ximproved xopAt xaAt xbAt xcAt xinputs xrep xpts xdone xflowsTo xtried xloads xstores xnext xprev xafter xvarSet xgen xkill xholdsIn xreads xcovers xneedIn xneedAfter xverdicts xrunStatus xrunSteps xrunOutputs xrunReads xrunWrites xrunMade xrunPlace xvars xcells xheapSite xoutputs n20 md0 ls0 0 := by
  refine lc_2 (fun d x (md ls : Int64) => wX_prepareHolding_20 post J8 (nI i) (nI v) xmaxLength (nI V) xglobalCount xheapLimit (nI n) xcursor xstate xpending xreachable xsingleSites xexactVars ximproved xopAt xaAt xbAt xcAt xinputs xrep xpts xdone xflowsTo xtried xloads xstores xnext xprev xafter xvarSet xgen xkill xholdsIn xreads xcovers xneedIn xneedAfter xverdicts xrunStatus xrunSteps xrunOutputs xrunReads xrunWrites xrunMade xrunPlace xvars xcells xheapSite xoutputs d md ls (nI x)) (fun x md ls => (∀ j, lb_t md j = true ↔ lb_t md0 j = true ∨ (j / 8 = v ∧ j % 8 < x ∧ (an_ES xopAt xaAt xbAt EX (an_SC L EX)) i v (j % 8))) ∧ (∀ j, lb_t ls j = true ↔ lb_t ls0 j = true ∨ (j / 8 = v ∧ j % 8 < x ∧ ¬ (an_ES xopAt xaAt xbAt EX (an_SC L EX)) i v (j % 8) ∧ (an_DE xopAt xaAt EX (an_MT L)) i v (j % 8)))) V md0 ls0 ?_ ?_ ?_
  · exact ⟨fun j => ⟨Or.inl, fun z => z.elim (fun z => z) (fun z => absurd z.2.1 (Nat.not_lt_zero _))⟩, fun j => ⟨Or.inl, fun z => z.elim (fun z => z) (fun z => absurd z.2.1 (Nat.not_lt_zero _))⟩⟩
  · rintro d md ls ⟨h1, h2⟩
    exact br_t (nI_le (Nat.le_refl V) (by omega)) (nm_r (nI_1 v) (K md ls h1 h2))
  · rintro d x md ls hx ⟨h1, h2⟩ ih
    have ep : (nI v * 8) + nI x = nI (v * 8 + x) := by
      have : nI v * 8 = nI (v * 8) := pk_mul v 8
      rw [this, nI_add]
    have bit : ∀ j, lb_t ((1 : Int64) <<< ((nI v * 8 + nI x).toInt64 &&& 63)) j = true ↔ j / 8 = v ∧ j % 8 = x := by
      intro j
      rw [ep, lo_one (by omega)]
      omega
    have grow : ∀ (P : Nat → Prop) (a b : Int64), (∀ j, lb_t a j = true ↔ lb_t b j = true ∨ (j / 8 = v ∧ j % 8 < x ∧ P (j % 8))) → P x → ∀ j, lb_t (a ||| ((1 : Int64) <<< ((nI v * 8 + nI x).toInt64 &&& 63))) j = true ↔ lb_t b j = true ∨ (j / 8 = v ∧ j % 8 < x + 1 ∧ P (j % 8)) := by
      intro P a b h hP j
      rw [lo_or, h j, bit j]
      constructor
      · rintro ((z | ⟨z1, z2, z3⟩) | ⟨z1, z2⟩)
        · exact Or.inl z
        · exact Or.inr ⟨z1, by omega, z3⟩
        · exact Or.inr ⟨z1, by omega, by rw [z2]; exact hP⟩
      · rintro (z | ⟨z1, z2, z3⟩)
        · exact Or.inl (Or.inl z)
        · by_cases q : j % 8 = x
          · exact Or.inr ⟨z1, q⟩
          · exact Or.inl (Or.inr ⟨z1, by omega, z3⟩)
    have same : ∀ (P : Nat → Prop) (a b : Int64), (∀ j, lb_t a j = true ↔ lb_t b j = true ∨ (j / 8 = v ∧ j % 8 < x ∧ P (j % 8))) → ¬ P x → ∀ j, lb_t a j = true ↔ lb_t b j = true ∨ (j / 8 = v ∧ j % 8 < x + 1 ∧ P (j % 8)) := by
      intro P a b h hP j
      rw [h j]
      constructor
      · rintro (z | ⟨z1, z2, z3⟩)
        · exact Or.inl z
        · exact Or.inr ⟨z1, by omega, z3⟩
      · rintro (z | ⟨z1, z2, z3⟩)
        · exact Or.inl z
        · by_cases q : j % 8 = x
          · rw [q] at z3; exact absurd z3 hP
          · exact Or.inr ⟨z1, by omega, z3⟩
    refine br_f (nI_ge hx (by omega)) (nm_e (xa_est hp hV hn hi hex hvs (by omega) (by omega) (fun hE => br_f (by decide) (nm_e (nm_r (nI_1 x) (ih _ _ ⟨?_, ?_⟩)))) (fun hE => br_t rfl (xa_des hp hV hn hi hex hvs (by omega) (by omega) (fun hD => br_f (by decide) (nm_e (nm_r (nI_1 x) (ih _ _ ⟨?_, ?_⟩)))) (fun hD => br_t rfl (nm_r (nI_1 x) (ih _ _ ⟨?_, ?_⟩)))))))
    · exact grow (fun y => (an_ES xopAt xaAt xbAt EX (an_SC L EX)) i v y) md md0 h1 hE
    · exact same (fun y => ¬ (an_ES xopAt xaAt xbAt EX (an_SC L EX)) i v y ∧ (an_DE xopAt xaAt EX (an_MT L)) i v y) ls ls0 h2 (fun z => z.1 hE)
    · exact same (fun y => (an_ES xopAt xaAt xbAt EX (an_SC L EX)) i v y) md md0 h1 hE
    · exact grow (fun y => ¬ (an_ES xopAt xaAt xbAt EX (an_SC L EX)) i v y ∧ (an_DE xopAt xaAt EX (an_MT L)) i v y) ls ls0 h2 ⟨hE, hD⟩
    · exact same (fun y => (an_ES xopAt xaAt xbAt EX (an_SC L EX)) i v y) md md0 h1 hE
    · exact same (fun y => ¬ (an_ES xopAt xaAt xbAt EX (an_SC L EX)) i v y ∧ (an_DE xopAt xaAt EX (an_MT L)) i v y) ls ls0 h2 (fun z => hD z.2)
theorem xh_prep {i : Nat} (hp : pg_ok R V G n xopAt xaAt xbAt fc) (hV : V ≤ 8) (hn : n ≤ 32) (hex : ∀ v, v < 8 → (bt xexactVars v = true ↔ EX v)) (hvs : ∀ v, v < 8 → ∀ s, lb_t (xvarSet v) s = true ↔ L v s) (hi : i < n)
    (K : ∀ md ls : Int64, (∀ j, lb_t md j = true ↔ j / 8 < V ∧ j % 8 < V ∧ (an_ES xopAt xaAt xbAt EX (an_SC L EX)) i (j / 8) (j % 8)) → (∀ j, lb_t ls j = true ↔ j / 8 < V ∧ j % 8 < V ∧ ¬ (an_ES xopAt xaAt xbAt EX (an_SC L EX)) i (j / 8) (j % 8) ∧ (an_DE xopAt xaAt EX (an_MT L)) i (j / 8) (j % 8)) → post (xmaxLength, nI V, xglobalCount, xheapLimit, nI n, xcursor, xstate, xpending, xreachable, xsingleSites, xexactVars, ximproved, xopAt, xaAt, xbAt, xcAt, xinputs, xrep, xpts, xdone, xflowsTo, xtried, xloads, xstores, xnext, xprev, xafter, xvarSet, vp_updL xgen i md, vp_updL xkill i ls, xholdsIn, xreads, xcovers, xneedIn, xneedAfter, xverdicts, xrunStatus, xrunSteps, xrunOutputs, xrunReads, xrunWrites, xrunMade, xrunPlace, xvars, xcells, xheapSite, xoutputs)) : wpX_prepareHolding post (xmaxLength, nI V, xglobalCount, xheapLimit, nI n, xcursor, xstate, xpending, xreachable, xsingleSites, xexactVars, ximproved, xopAt, xaAt, xbAt, xcAt, xinputs, xrep, xpts, xdone, xflowsTo, xtried, xloads, xstores, xnext, xprev, xafter, xvarSet, xgen, xkill, xholdsIn, xreads, xcovers, xneedIn, xneedAfter, xverdicts, xrunStatus, xrunSteps, xrunOutputs, xrunReads, xrunWrites, xrunMade, xrunPlace, xvars, xcells, xheapSite, xoutputs) (nI i) := by
  have e : (nI i).toNatClampNeg = i := nI_clamp (by omega)
  have hin : vp_in (nI i) 32 := vp_in_nI (by omega) (by omega)
  refine lc_2 (fun d v (md ls : Int64) => wX_prepareHolding_8 post (nI i) xmaxLength (nI V) xglobalCount xheapLimit (nI n) xcursor xstate xpending xreachable xsingleSites xexactVars ximproved xopAt xaAt xbAt xcAt xinputs xrep xpts xdone xflowsTo xtried xloads xstores xnext xprev xafter xvarSet xgen xkill xholdsIn xreads xcovers xneedIn xneedAfter xverdicts xrunStatus xrunSteps xrunOutputs xrunReads xrunWrites xrunMade xrunPlace xvars xcells xheapSite xoutputs d md ls (nI v)) (fun v md ls => (∀ j, lb_t md j = true ↔ j / 8 < v ∧ j % 8 < V ∧ (an_ES xopAt xaAt xbAt EX (an_SC L EX)) i (j / 8) (j % 8)) ∧ (∀ j, lb_t ls j = true ↔ j / 8 < v ∧ j % 8 < V ∧ ¬ (an_ES xopAt xaAt xbAt EX (an_SC L EX)) i (j / 8) (j % 8) ∧ (an_DE xopAt xaAt EX (an_MT L)) i (j / 8) (j % 8))) V 0 0 ?_ ?_ ?_
  · exact ⟨fun j => ⟨fun z => absurd z lo_0, fun z => absurd z.1 (Nat.not_lt_zero _)⟩, fun j => ⟨fun z => absurd z lo_0, fun z => absurd z.1 (Nat.not_lt_zero _)⟩⟩
  · rintro d md ls ⟨h1, h2⟩
    exact br_t (nI_le (Nat.le_refl V) (by omega)) ⟨hin, nm_r (e' := vp_updL xgen i md) (by rw [e]) ⟨hin, nm_r (e' := vp_updL xkill i ls) (by rw [e]) (K md ls h1 h2)⟩⟩
  · rintro d v md ls hv ⟨h1, h2⟩ ih
    refine br_f (nI_ge hv (by omega)) (xh_ph20 hp hV hn hex hvs hi hv (fun md' ls' q1 q2 => ih _ _ ⟨fun j => ?_, fun j => ?_⟩))
    · rw [q1 j, h1 j]
      constructor
      · rintro (⟨z1, z2⟩ | ⟨z1, z2, z3⟩)
        · exact ⟨by omega, z2⟩
        · exact ⟨by omega, z2, by rw [z1]; exact z3⟩
      · rintro ⟨z1, z2, z3⟩
        by_cases q : j / 8 = v
        · rw [q] at z3; exact Or.inr ⟨q, z2, z3⟩
        · exact Or.inl ⟨by omega, z2, z3⟩
    · rw [q2 j, h2 j]
      constructor
      · rintro (⟨z1, z2⟩ | ⟨z1, z2, z3⟩)
        · exact ⟨by omega, z2⟩
        · exact ⟨by omega, z2, by rw [z1]; exact z3⟩
      · rintro ⟨z1, z2, z3⟩
        by_cases q : j / 8 = v
        · rw [q] at z3; exact Or.inr ⟨q, z2, z3⟩
        · exact Or.inl ⟨by omega, z2, z3⟩
theorem xh_132 {J77 : Int64 → Int32 → (Nat → Int32) → (Nat → Int32) → (Nat → Int32) → (Nat → Int32) → (Nat → Int32) → (Nat → Int32) → (Nat → Int64) → (Nat → Int64) → (Nat → Int64) → (Nat → Int64) → (Nat → Int32) → (Nat → Int32) → (Nat → Int64) → (Nat → Int64) → (Nat → Int64) → (Nat → Int64) → (Nat → Int64) → (Nat → Int64) → (Nat → Int64) → (Nat → Int32) → (Nat → Int32) → (Nat → Int32) → (Nat → Int32) → (Nat → Int32) → (Nat → Int32) → (Nat → Int32) → (Nat → Int32) → (Nat → Int32) → (Nat → Int32) → (Nat → Int32) → (Nat → Int32) → (Nat → Int64) → (Nat → Int64) → (Nat → Int32) → (Nat → Int64) → Prop} {k m i : Nat} {out H0 td0 : Int64} (hE : ∀ i s, E i s → i < n ∧ s < n) (hn : n ≤ 32) (hnx : ∀ i, i < n → ∀ s, lb_t (xnext i) s = true ↔ E i s) (hr : gr_R E n i) (ho : ∀ s, E i s → ∀ j, j < 64 → ¬ hw_S E xgen xkill j s false → lb_t out j = true) (h0 : hw_J E n xgen xkill m i out H0 0 xholdsIn td0)
    (K : ∀ (td : Int64) (H : Nat → Int64), hw_J E n xgen xkill m i out H0 n H td → J77 td (nI k) xopAt xaAt xbAt xcAt xinputs xrep xpts xdone xflowsTo xtried xloads xstores xnext xprev xafter xvarSet xgen xkill H xreads xcovers xneedIn xneedAfter xverdicts xrunStatus xrunSteps xrunOutputs xrunReads xrunWrites xrunMade xrunPlace xvars xcells xheapSite xoutputs) : ∃ n132, wX_solveHolding_132 post J77 (nI (k + 1)) (nI i) out xmaxLength (nI V) xglobalCount xheapLimit (nI n) xcursor xstate xpending xreachable xsingleSites xexactVars ximproved n132 td0 0 xopAt xaAt xbAt xcAt xinputs xrep xpts xdone xflowsTo xtried xloads xstores xnext xprev xafter xvarSet xgen xkill xholdsIn xreads xcovers xneedIn xneedAfter xverdicts xrunStatus xrunSteps xrunOutputs xrunReads xrunWrites xrunMade xrunPlace xvars xcells xheapSite xoutputs := by
  have hi := hr.1
  have ei : (nI i).toNatClampNeg = i := nI_clamp (by omega)
  have hin : vp_in (nI i) 32 := vp_in_nI (by omega) (by omega)
  refine lc_2 (fun d s (td : Int64) (H : Nat → Int64) => wX_solveHolding_132 post J77 (nI (k + 1)) (nI i) out xmaxLength (nI V) xglobalCount xheapLimit (nI n) xcursor xstate xpending xreachable xsingleSites xexactVars ximproved d td (nI s) xopAt xaAt xbAt xcAt xinputs xrep xpts xdone xflowsTo xtried xloads xstores xnext xprev xafter xvarSet xgen xkill H xreads xcovers xneedIn xneedAfter xverdicts xrunStatus xrunSteps xrunOutputs xrunReads xrunWrites xrunMade xrunPlace xvars xcells xheapSite xoutputs) (fun s td H => hw_J E n xgen xkill m i out H0 s H td) n td0 xholdsIn h0 ?_ ?_
  · intro d td H h
    exact br_t (nI_le (Nat.le_refl n) (by omega)) (nm_r (pk_m1 k) (K td H h))
  · intro d s td H hs h ih
    have es : (nI s).toNatClampNeg = s := nI_clamp (by omega)
    have hsn : vp_in (nI s) 32 := vp_in_nI (by omega) (by omega)
    refine br_f (nI_ge hs (by omega)) ⟨hin, ?_⟩
    rw [ei, es]
    refine lo_br s (by omega) (fun hb => nm_r (nI_1 s) (ih _ _ (hw_skip1 (fun z => hb ((hnx i hi s).mpr z)) h))) (fun hb => ⟨hsn, nm_e ⟨hsn, br_c (fun z => nm_r (nI_1 s) (ih _ _ (hw_skip2 z h))) (fun z => ⟨hsn, nm_e (nm_e (nm_r (nI_1 s) (ih _ _ ?_)))⟩)⟩⟩)
    have e := (hnx i hi s).mp hb
    exact hw_step hE hn hr e (ho s e) z h
theorem xh_77 (hE : ∀ i s, E i s → i < n ∧ s < n) (hn : n ≤ 32) (hnx : ∀ i, i < n → ∀ s, lb_t (xnext i) s = true ↔ E i s)
    (K : ∀ H : Nat → Int64, (∀ i, i < n → ∀ j, j < 64 → (lb_t (H i) j = true ↔ gr_R E n i ∧ ¬ hw_S E xgen xkill j i false)) → post (xmaxLength, nI V, xglobalCount, xheapLimit, nI n, xcursor, xstate, xpending, xreachable, xsingleSites, xexactVars, ximproved, xopAt, xaAt, xbAt, xcAt, xinputs, xrep, xpts, xdone, xflowsTo, xtried, xloads, xstores, xnext, xprev, xafter, xvarSet, xgen, xkill, H, xreads, xcovers, xneedIn, xneedAfter, xverdicts, xrunStatus, xrunSteps, xrunOutputs, xrunReads, xrunWrites, xrunMade, xrunPlace, xvars, xcells, xheapSite, xoutputs)) : ∀ (k : Nat) (td : Int64) (H : Nat → Int64), k ≤ 8192 → hw_I E n xgen xkill k H td → wX_solveHolding_77 post xmaxLength (nI V) xglobalCount xheapLimit (nI n) xcursor xstate xpending xreachable xsingleSites xexactVars ximproved (k + 1) td (nI k) xopAt xaAt xbAt xcAt xinputs xrep xpts xdone xflowsTo xtried xloads xstores xnext xprev xafter xvarSet xgen xkill H xreads xcovers xneedIn xneedAfter xverdicts xrunStatus xrunSteps xrunOutputs xrunReads xrunWrites xrunMade xrunPlace xvars xcells xheapSite xoutputs := by
  intro k
  induction k with
  | zero =>
    intro td H _ h
    have := hw_zero hn h
    subst this
    exact br_t (by decide) (K H (fun i hi j hj => hw_end hE h hi hj))
  | succ k ih =>
    intro td H hk h
    refine br_f (nI_nle (by omega) (by omega)) (br_c (fun z => ?_) (fun z => xl_lowBit z (fun i _ hb hl => nm_e ?_)))
    · subst z; exact K H (fun i hi j hj => hw_end hE h hi hj)
    · have hr := h.2.1 i hb
      have hi := hr.1
      have ei : (nI i).toNatClampNeg = i := nI_clamp (by omega)
      have hin : vp_in (nI i) 32 := vp_in_nI (by omega) (by omega)
      exact ⟨hin, hin, hin, nm_r (e' := xgen i ||| (H i &&& (xkill i ^^^ (-1)))) (by rw [ei]) (xh_132 hE hn hnx hr (fun s e j hj hh => hw_out hE h.1 hr e hj hh) (hw_begin hn h hb hl) (fun td' H' h' => ih td' H' (by omega) (hw_done hE h')))⟩
theorem xh_solve (hE : ∀ i s, E i s → i < n ∧ s < n) (hp : pg_ok R V G n xopAt xaAt xbAt fc) (hV : V ≤ 8) (hn : n ≤ 32) (hex : ∀ v, v < 8 → (bt xexactVars v = true ↔ EX v)) (hvs : ∀ v, v < 8 → ∀ s, lb_t (xvarSet v) s = true ↔ L v s) (hnx : ∀ i, i < n → ∀ s, lb_t (xnext i) s = true ↔ E i s) (hre : ∀ i, lb_t xreachable i = true ↔ gr_R E n i)
    (K : ∀ ge ki H : Nat → Int64, (∀ i, i < n → ∀ v x, v < V → x < V → (lb_t (H i) (v * 8 + x) = true ↔ an_HL E n (an_ES xopAt xaAt xbAt EX (an_SC L EX)) (an_DE xopAt xaAt EX (an_MT L)) i v x)) → (∀ i, i < n → ∀ j, lb_t (H i) j = true → j / 8 < V ∧ j % 8 < V) → post (xmaxLength, nI V, xglobalCount, xheapLimit, nI n, xcursor, xstate, xpending, xreachable, xsingleSites, xexactVars, ximproved, xopAt, xaAt, xbAt, xcAt, xinputs, xrep, xpts, xdone, xflowsTo, xtried, xloads, xstores, xnext, xprev, xafter, xvarSet, ge, ki, H, xreads, xcovers, xneedIn, xneedAfter, xverdicts, xrunStatus, xrunSteps, xrunOutputs, xrunReads, xrunWrites, xrunMade, xrunPlace, xvars, xcells, xheapSite, xoutputs)) : wpX_solveHolding post (xmaxLength, nI V, xglobalCount, xheapLimit, nI n, xcursor, xstate, xpending, xreachable, xsingleSites, xexactVars, ximproved, xopAt, xaAt, xbAt, xcAt, xinputs, xrep, xpts, xdone, xflowsTo, xtried, xloads, xstores, xnext, xprev, xafter, xvarSet, xgen, xkill, xholdsIn, xreads, xcovers, xneedIn, xneedAfter, xverdicts, xrunStatus, xrunSteps, xrunOutputs, xrunReads, xrunWrites, xrunMade, xrunPlace, xvars, xcells, xheapSite, xoutputs) := by
  refine lc_1 (fun d i (H : Nat → Int64) => wX_solveHolding_2 post xmaxLength (nI V) xglobalCount xheapLimit (nI n) xcursor xstate xpending xreachable xsingleSites xexactVars ximproved d (nI i) xopAt xaAt xbAt xcAt xinputs xrep xpts xdone xflowsTo xtried xloads xstores xnext xprev xafter xvarSet xgen xkill H xreads xcovers xneedIn xneedAfter xverdicts xrunStatus xrunSteps xrunOutputs xrunReads xrunWrites xrunMade xrunPlace xvars xcells xheapSite xoutputs) (fun i H => ∀ t, t < i → H t = 0) 32 xholdsIn (fun t ht => absurd ht (Nat.not_lt_zero t)) ?_ ?_
  · intro d H0 h0
    refine br_t (nI_le (Nat.le_refl 32) (by omega)) ?_
    refine lc_3 (fun d i (ge ki H : Nat → Int64) => wX_solveHolding_23 post d (nI i) xmaxLength (nI V) xglobalCount xheapLimit (nI n) xcursor xstate xpending xreachable xsingleSites xexactVars ximproved xopAt xaAt xbAt xcAt xinputs xrep xpts xdone xflowsTo xtried xloads xstores xnext xprev xafter xvarSet ge ki H xreads xcovers xneedIn xneedAfter xverdicts xrunStatus xrunSteps xrunOutputs xrunReads xrunWrites xrunMade xrunPlace xvars xcells xheapSite xoutputs) (fun i ge ki H => (∀ t, t < i → ∀ j, (lb_t (ge t) j = true ↔ j / 8 < V ∧ j % 8 < V ∧ (an_ES xopAt xaAt xbAt EX (an_SC L EX)) t (j / 8) (j % 8)) ∧ (lb_t (ki t) j = true ↔ j / 8 < V ∧ j % 8 < V ∧ ¬ (an_ES xopAt xaAt xbAt EX (an_SC L EX)) t (j / 8) (j % 8) ∧ (an_DE xopAt xaAt EX (an_MT L)) t (j / 8) (j % 8))) ∧ (∀ t, t < 32 → (0 < t → t < i → gr_R E n t → H t = -1) ∧ (¬ (0 < t ∧ t < i ∧ gr_R E n t) → H t = 0))) n xgen xkill H0 ⟨fun t ht => absurd ht (Nat.not_lt_zero t), fun t ht => ⟨fun _ z => absurd z (Nat.not_lt_zero t), fun _ => h0 t ht⟩⟩ ?_ ?_
    · rintro d ge ki H ⟨h1, h2⟩
      refine br_t (nI_le (Nat.le_refl n) (by omega)) ⟨8193, xh_77 hE hn hnx (fun H' hH => ?_) 8192 _ _ (Nat.le_refl _) ?_⟩
      · refine K ge ki H' (fun i hi v x hv hx => ?_) (fun i hi j hj => ?_)
        · rw [hH i hi (v * 8 + x) (by omega)]
          have e1 : (v * 8 + x) / 8 = v := by omega
          have e2 : (v * 8 + x) % 8 = x := by omega
          have c1 : ∀ t, t < n → (lb_t (ge t) (v * 8 + x) = true ↔ (an_ES xopAt xaAt xbAt EX (an_SC L EX)) t v x) := by
            intro t ht
            rw [(h1 t ht _).1, e1, e2]
            exact ⟨fun z => z.2.2, fun z => ⟨hv, hx, z⟩⟩
          have c2 : ∀ t, t < n → ¬ lb_t (ge t) (v * 8 + x) = true → (lb_t (ki t) (v * 8 + x) = true ↔ (an_DE xopAt xaAt EX (an_MT L)) t v x) := by
            intro t ht hng
            rw [(h1 t ht _).2, e1, e2]
            exact ⟨fun z => z.2.2.2, fun z => ⟨hv, hx, fun q => hng ((c1 t ht).mpr q), z⟩⟩
          constructor
          · rintro ⟨z1, z2⟩
            refine ⟨z1, fun q => z2 (hd_congr hE (fun t ht => (c1 t ht).symm) (fun t ht hng => (c2 t ht (fun w => hng ((c1 t ht).mp w))).symm) q)⟩
          · rintro ⟨z1, z2⟩
            exact ⟨z1, fun q => z2 (hd_congr hE c1 c2 q)⟩
        · apply Classical.byContradiction
          intro hq
          have h64 := lb_lt hj
          rw [hH i hi j h64] at hj
          refine hj.2 (hd_none hE (fun t ht z => hq ?_) (fun t ht z => hq ?_) hj.1)
          · have := (h1 t ht j).1.mp z
            exact ⟨this.1, this.2.1⟩
          · have := (h1 t ht j).2.mp z
            exact ⟨this.1, this.2.1⟩
      · have hI := hw_init (ge := ge) (ki := ki) (E := E) (n := n) (H := H) (td := xreachable) hn (fun t ht => ⟨fun z1 z2 => (h2 t ht).1 z1 z2.1 z2, fun z => (h2 t ht).2 (fun w => z ⟨w.1, w.2.2⟩)⟩) hre
        obtain ⟨a, b, c, d⟩ := hI
        exact ⟨a, b, c, by omega⟩
    · rintro d i ge ki H hi ⟨h1, h2⟩ ih
      have e : (nI i).toNatClampNeg = i := nI_clamp (by omega)
      have hin : vp_in (nI i) 32 := vp_in_nI (by omega) (by omega)
      refine br_f (nI_ge hi (by omega)) (xh_prep hp hV hn hex hvs hi (fun md ls q1 q2 => ?_))
      have h1' : ∀ t, t < i + 1 → ∀ j, (lb_t (vp_updL ge i md t) j = true ↔ j / 8 < V ∧ j % 8 < V ∧ (an_ES xopAt xaAt xbAt EX (an_SC L EX)) t (j / 8) (j % 8)) ∧ (lb_t (vp_updL ki i ls t) j = true ↔ j / 8 < V ∧ j % 8 < V ∧ ¬ (an_ES xopAt xaAt xbAt EX (an_SC L EX)) t (j / 8) (j % 8) ∧ (an_DE xopAt xaAt EX (an_MT L)) t (j / 8) (j % 8)) := by
        intro t ht j
        by_cases et : t = i
        · subst et; rw [pk_uLs, pk_uLs]; exact ⟨q1 j, q2 j⟩
        · rw [pk_uLn et, pk_uLn et]; exact h1 t (by omega) j
      have h2' : ¬ (0 < i ∧ gr_R E n i) → ∀ t, t < 32 → (0 < t → t < i + 1 → gr_R E n t → H t = -1) ∧ (¬ (0 < t ∧ t < i + 1 ∧ gr_R E n t) → H t = 0) := by
        intro hq t ht
        refine ⟨fun z1 z2 z3 => ?_, fun z => (h2 t ht).2 (fun w => z ⟨w.1, by omega, w.2.2⟩)⟩
        by_cases et : t = i
        · subst et; exact absurd ⟨z1, z3⟩ hq
        · exact (h2 t ht).1 z1 (by omega) z3
      refine pk_le i 0 (fun z => nm_r (nI_1 i) (ih _ _ _ ⟨h1', h2' (fun w => by omega)⟩)) (fun z => lo_br i (by omega) (fun hb => nm_r (nI_1 i) (ih _ _ _ ⟨h1', h2' (fun w => hb ((hre i).mpr w.2))⟩)) (fun hb => ⟨hin, nm_r (e' := vp_updL H i (-1)) (by rw [e]) (nm_r (nI_1 i) (ih _ _ _ ⟨h1', fun t ht => ?_⟩))⟩))
      by_cases et : t = i
      · subst et
        rw [pk_uLs]
        exact ⟨fun _ _ _ => rfl, fun w => absurd ⟨z, by omega, (hre t).mp hb⟩ w⟩
      · rw [pk_uLn et]
        exact ⟨fun z1 z2 z3 => (h2 t ht).1 z1 (by omega) z3, fun w => (h2 t ht).2 (fun y => w ⟨y.1, by omega, y.2.2⟩)⟩
  · intro d i H hi h ih
    refine br_f (nI_ge (b := 32) hi (by omega)) ⟨vp_in_nI hi (by omega), nm_r (e' := vp_updL H i 0) (by rw [nI_clamp (by omega)]) (nm_r (nI_1 i) (ih _ (fun t ht => ?_)))⟩
    by_cases et : t = i
    · subst et; exact pk_uLs
    · rw [pk_uLn et]; exact h t (by omega)
/-- what the forwarding pass decides for instruction i -/
def vs_1 (V : Nat) (op fb : Nat → Int32) (HL : Nat → Nat → Nat → Prop) (i : Nat) (w : Int32) : Prop :=
  (op i = 8 ∧ ∃ x, x < V ∧ w = nI (16 + x) ∧ HL i (pn (fb i)) x ∧ ∀ y, y < x → ¬ HL i (pn (fb i)) y) ∨ ((op i = 8 → ∀ x, x < V → ¬ HL i (pn (fb i)) x) ∧ w = 0)
theorem xh_fwd {HL : Nat → Nat → Nat → Prop} (hp : pg_ok R V G n xopAt xaAt xbAt fc) (hV : V ≤ 8) (hn : n ≤ 32) (hre : ∀ i, lb_t xreachable i = true ↔ gr_R E n i) (hHr : ∀ i v x, HL i v x → gr_R E n i)
    (hH : ∀ i, i < n → ∀ v x, v < V → x < V → (lb_t (xholdsIn i) (v * 8 + x) = true ↔ HL i v x)) (hH2 : ∀ i, i < n → ∀ j, lb_t (xholdsIn i) j = true → j / 8 < V ∧ j % 8 < V)
    (K : ∀ vd : Nat → Int32, (∀ i, i < n → vs_1 V xopAt xbAt HL i (vd i)) → post (xmaxLength, nI V, xglobalCount, xheapLimit, nI n, xcursor, xstate, xpending, xreachable, xsingleSites, xexactVars, ximproved, xopAt, xaAt, xbAt, xcAt, xinputs, xrep, xpts, xdone, xflowsTo, xtried, xloads, xstores, xnext, xprev, xafter, xvarSet, xgen, xkill, xholdsIn, xreads, xcovers, xneedIn, xneedAfter, vd, xrunStatus, xrunSteps, xrunOutputs, xrunReads, xrunWrites, xrunMade, xrunPlace, xvars, xcells, xheapSite, xoutputs)) : wpX_chooseForwarded post (xmaxLength, nI V, xglobalCount, xheapLimit, nI n, xcursor, xstate, xpending, xreachable, xsingleSites, xexactVars, ximproved, xopAt, xaAt, xbAt, xcAt, xinputs, xrep, xpts, xdone, xflowsTo, xtried, xloads, xstores, xnext, xprev, xafter, xvarSet, xgen, xkill, xholdsIn, xreads, xcovers, xneedIn, xneedAfter, xverdicts, xrunStatus, xrunSteps, xrunOutputs, xrunReads, xrunWrites, xrunMade, xrunPlace, xvars, xcells, xheapSite, xoutputs) := by
  refine lc_1 (fun d i (vd : Nat → Int32) => wX_chooseForwarded_2 post xmaxLength (nI V) xglobalCount xheapLimit (nI n) xcursor xstate xpending xreachable xsingleSites xexactVars ximproved d (nI i) xopAt xaAt xbAt xcAt xinputs xrep xpts xdone xflowsTo xtried xloads xstores xnext xprev xafter xvarSet xgen xkill xholdsIn xreads xcovers xneedIn xneedAfter vd xrunStatus xrunSteps xrunOutputs xrunReads xrunWrites xrunMade xrunPlace xvars xcells xheapSite xoutputs) (fun i vd => ∀ t, t < i → vd t = 0) 32 xverdicts (fun t ht => absurd ht (Nat.not_lt_zero t)) ?_ ?_
  · intro d vd0 h0
    refine br_t (nI_le (Nat.le_refl 32) (by omega)) ?_
    refine lc_1 (fun d i (vd : Nat → Int32) => wX_chooseForwarded_23 post xmaxLength (nI V) xglobalCount xheapLimit (nI n) xcursor xstate xpending xreachable xsingleSites xexactVars ximproved d (nI i) xopAt xaAt xbAt xcAt xinputs xrep xpts xdone xflowsTo xtried xloads xstores xnext xprev xafter xvarSet xgen xkill xholdsIn xreads xcovers xneedIn xneedAfter vd xrunStatus xrunSteps xrunOutputs xrunReads xrunWrites xrunMade xrunPlace xvars xcells xheapSite xoutputs) (fun i vd => (∀ t, t < i → vs_1 V xopAt xbAt HL t (vd t)) ∧ (∀ t, i ≤ t → t < 32 → vd t = 0)) n vd0 ⟨fun t ht => absurd ht (Nat.not_lt_zero t), fun t _ ht => h0 t ht⟩ ?_ ?_
    · rintro d vd ⟨h1, _⟩
      exact br_t (nI_le (Nat.le_refl n) (by omega)) (K vd h1)
    · rintro d i vd hi ⟨h1, h2⟩ ih
      have e : (nI i).toNatClampNeg = i := nI_clamp (by omega)
      have hin : vp_in (nI i) 32 := vp_in_nI (by omega) (by omega)
      obtain ⟨ho, h10, hn10, h2', h6, h11, hb', hc⟩ := hp i hi
      have keep : (xopAt i = 8 → ∀ x, x < V → ¬ HL i (pn (xbAt i)) x) → (∀ t, t < i + 1 → vs_1 V xopAt xbAt HL t (vd t)) ∧ (∀ t, i + 1 ≤ t → t < 32 → vd t = 0) := by
        intro q
        refine ⟨fun t ht => ?_, fun t z1 z2 => h2 t (by omega) z2⟩
        by_cases et : t = i
        · subst et; exact Or.inr ⟨q, h2 t (Nat.le_refl t) (by omega)⟩
        · exact h1 t (by omega)
      refine br_f (nI_ge hi (by omega)) ⟨hin, ?_⟩
      simp only [e]
      refine br_c (fun o8 => lo_br i (by omega) (fun hb => nm_r (nI_1 i) (ih _ (keep (fun _ x _ q => hb ((hre i).mpr (hHr _ _ _ q)))))) (fun hb => ⟨hin, hin, ?_⟩)) (fun o8 => nm_r (nI_1 i) (ih _ (keep (fun q => absurd q o8))))
      obtain ⟨b, hb2, eb⟩ := hb' (Or.inr (Or.inr (Or.inr (Or.inl o8))))
      have pb : pn (xbAt i) = b := by rw [eb]; exact pn_nI (by omega)
      have e8 : xbAt i * 8 = nI (b * 8) := by rw [eb]; exact pk_mul b 8
      rw [e8]
      have bits : ∀ x, lb_t (((xholdsIn i).toUInt64 >>> ((nI (b * 8)).toInt64.toUInt64 &&& Int64.toUInt64 63)).toInt64 &&& 255) x = true ↔ x < V ∧ HL i b x := by
        intro x
        rw [lo_and, lb_ushr _ (by omega)]
        constructor
        · rintro ⟨z1, z2⟩
          have hx : x < 8 := by
            rw [lb_255 x (lb_lt z2)] at z2
            exact of_decide_eq_true z2
          have q := hH2 i hi _ z1
          have hxV : x < V := by omega
          exact ⟨hxV, (hH i hi b x hb2 hxV).mp z1⟩
        · rintro ⟨z1, z2⟩
          exact ⟨(hH i hi b x hb2 z1).mpr z2, by rw [lb_255 x (by omega)]; exact decide_eq_true (by omega)⟩
      refine nm_e (br_c (fun z => nm_r (nI_1 i) (ih _ (keep (fun _ x hx q => ?_)))) (fun z => xl_lowBit z (fun x _ hbx hl => ⟨hin, nm_r (e' := upd vd i (nI (16 + x))) (by rw [← nI_add]; rfl) (nm_r (nI_1 i) (ih _ ⟨fun t ht => ?_, fun t z1 z2 => ?_⟩))⟩)))
      · rw [lo_z] at z
        rw [pb] at q
        exact z x ((bits x).mpr ⟨hx, q⟩)
      · by_cases et : t = i
        · subst et
          rw [pk_us]
          have q := (bits x).mp hbx
          refine Or.inl ⟨o8, x, q.1, rfl, by rw [pb]; exact q.2, fun y hy w => ?_⟩
          rw [pb] at w
          exact hl y hy ((bits y).mpr ⟨by omega, w⟩)
        · rw [pk_un et]; exact h1 t (by omega)
      · rw [pk_un (by omega)]; exact h2 t (by omega) z2
  · intro d i vd hi h ih
    refine br_f (nI_ge (b := 32) hi (by omega)) ⟨vp_in_nI hi (by omega), nm_r (e' := upd vd i 0) (by rw [nI_clamp (by omega)]) (nm_r (nI_1 i) (ih _ (fun t ht => ?_)))⟩
    by_cases et : t = i
    · subst et; exact pk_us
    · rw [pk_un et]; exact h t (by omega)
end
end
section
/-! the worklist of the needing pass -/
def nw_T (rd cv th ass : Nat → Nat → Prop) (i : Nat) (O : Nat → Prop) (j : Nat) : Prop :=
  (j < 8 ∧ (rd i j ∨ (¬ cv i j ∧ ¬ th i j ∧ ((¬ ass i j ∧ O j) ∨ (ass i j ∧ O (8 + j)))))) ∨ (8 ≤ j ∧ j < 16 ∧ (rd i (j - 8) ∨ (¬ cv i (j - 8) ∧ O j)))
def nw_O (E : Nat → Nat → Prop) (N : Nat → Int32) (i j : Nat) : Prop := ∃ s, E i s ∧ bt (N s) j = true
def nw_N (E : Nat → Nat → Prop) (rd cv th ass : Nat → Nat → Prop) (v i : Nat) (f : Bool) : Prop := nd_N E (fun i => rd i v) (fun i f => cv i v ∨ (th i v ∧ f = false)) (fun i => ass i v) i f
def nw_x (v : Nat) (f : Bool) : Nat := if f = true then 8 + v else v
def nw_P (n : Nat) (su : Nat → Nat → Nat) (N : Nat → Int32) (i q : Nat) : Bool := decide (su i (q / 16) < n) && !bt (N (su i (q / 16))) (q % 16)
def nw_g (n : Nat) (su : Nat → Nat → Nat) (N : Nat → Int32) (td : Int64) (i : Nat) : Nat := (if lb_t td i = true then 1 else 0) + ct_n (nw_P n su N i) 32
def nw_I (E : Nat → Nat → Prop) (n : Nat) (su : Nat → Nat → Nat) (rd cv th ass : Nat → Nat → Prop) (m : Nat) (N : Nat → Int32) (td : Int64) : Prop :=
  (∀ i j, i < n → bt (N i) j = true → nw_T rd cv th ass i (nw_O E N i) j) ∧ (∀ i v f, i < n → v < 8 → bt (N i) (nw_x v f) = true → nw_N E rd cv th ass v i f) ∧
  (∀ i j, gr_R E n i → ¬ lb_t td i = true → nw_T rd cv th ass i (nw_O E N i) j → bt (N i) j = true) ∧ (∀ k, lb_t td k = true → gr_R E n k) ∧ sm_n (nw_g n su N td) 32 ≤ m
section
variable {E : Nat → Nat → Prop} {n : Nat} {su : Nat → Nat → Nat} {rd cv th ass : Nat → Nat → Prop} {N : Nat → Int32} {td : Int64} {m i : Nat}
theorem nw_Tm {O O' : Nat → Prop} (h : ∀ j, O j → O' j) {j : Nat} (t : nw_T rd cv th ass i O j) : nw_T rd cv th ass i O' j := by
  rcases t with ⟨a, b | ⟨b, c, d⟩⟩ | ⟨a, b, c⟩
  · exact Or.inl ⟨a, Or.inl b⟩
  · exact Or.inl ⟨a, Or.inr ⟨b, c, d.elim (fun z => Or.inl ⟨z.1, h _ z.2⟩) (fun z => Or.inr ⟨z.1, h _ z.2⟩)⟩⟩
  · exact Or.inr ⟨a, b, c.elim Or.inl (fun z => Or.inr ⟨z.1, h _ z.2⟩)⟩
theorem nw_snd {O : Nat → Prop} (hO : ∀ v f, v < 8 → O (nw_x v f) → ∃ s, E i s ∧ nw_N E rd cv th ass v s f) {v : Nat} {f : Bool} (hv : v < 8) (t : nw_T rd cv th ass i O (nw_x v f)) : nw_N E rd cv th ass v i f := by
  cases f with
  | false =>
    have ex : nw_x v false = v := rfl
    rw [ex] at t
    rcases t with ⟨_, b | ⟨b, c, d⟩⟩ | ⟨a, _, _⟩
    · exact nd_r b
    · rcases d with ⟨d1, d2⟩ | ⟨d1, d2⟩
      · obtain ⟨s, e, h⟩ := hO v false hv d2
        exact nd_s e (fun z => z.elim b (fun w => c w.1)) (fun z => absurd z d1) (fun _ => h)
      · obtain ⟨s, e, h⟩ := hO v true hv d2
        exact nd_s e (fun z => z.elim b (fun w => c w.1)) (fun _ => h) (fun z => absurd d1 z)
    · omega
  | true =>
    have ex : nw_x v true = 8 + v := rfl
    rw [ex] at t
    rcases t with ⟨a, _⟩ | ⟨_, _, c⟩
    · omega
    · have e8 : 8 + v - 8 = v := by omega
      rw [e8] at c
      rcases c with c | ⟨c, d⟩
      · exact nd_r c
      · obtain ⟨s, e, h⟩ := hO v true hv d
        exact nd_s e (fun z => z.elim c (fun w => absurd w.2 (by decide))) (fun _ => h) (fun _ => h)
theorem nw_end (hE : ∀ i s, E i s → i < n ∧ s < n) (h : nw_I E n su rd cv th ass m N 0) (hr : gr_R E n i) {v : Nat} {f : Bool} (hv : v < 8) : bt (N i) (nw_x v f) = true ↔ nw_N E rd cv th ass v i f := by
  obtain ⟨h1, h2, h3, h4, h5⟩ := h
  constructor
  · exact h2 i v f hr.1 hv
  · intro z
    refine z (fun i f => gr_R E n i → bt (N i) (nw_x v f) = true) (fun i f a r => ?_) (fun i f s e o a b r => ?_) hr
    · refine h3 i _ r lo_0 ?_
      cases f with
      | false => exact Or.inl ⟨hv, Or.inl a⟩
      | true =>
        refine Or.inr ⟨by show 8 ≤ 8 + v; omega, by show 8 + v < 16; omega, Or.inl ?_⟩
        have e8 : nw_x v true - 8 = v := by show 8 + v - 8 = v; omega
        rw [e8]; exact a
    · have rs := gr_R_s hE r e
      refine h3 i _ r lo_0 ?_
      cases f with
      | false =>
        refine Or.inl ⟨hv, Or.inr ⟨fun q => o (Or.inl q), fun q => o (Or.inr ⟨q, rfl⟩), ?_⟩⟩
        by_cases ha : ass i v
        · exact Or.inr ⟨ha, s, e, a ha rs⟩
        · exact Or.inl ⟨ha, s, e, b ha rs⟩
      | true =>
        have e8 : nw_x v true - 8 = v := by show 8 + v - 8 = v; omega
        refine Or.inr ⟨by show 8 ≤ 8 + v; omega, by show 8 + v < 16; omega, Or.inr ⟨?_, s, e, ?_⟩⟩
        · rw [e8]; exact fun q => o (Or.inl q)
        · by_cases ha : ass i v
          · exact a ha rs
          · exact b ha rs
theorem nw_pop (hn : n ≤ 32) (h : nw_I E n su rd cv th ass (m + 1) N td) (hb : lb_t td i = true) (hl : ∀ j, j < i → ¬ lb_t td j = true) : sm_n (nw_g n su N (td &&& (td - 1))) 32 ≤ m := by
  obtain ⟨h1, h2, h3, h4, h5⟩ := h
  have hq : ∀ f, lb_t (td &&& (td - 1)) f = true ↔ lb_t td f = true ∧ f ≠ i := fun f => lo_low hb hl
  have hi := (h4 i hb).1
  have a := sm_lt (g := nw_g n su N (td &&& (td - 1))) (h := nw_g n su N td) (j0 := i) 32 (fun j _ => ?_) (by omega) ?_
  · omega
  · unfold nw_g
    by_cases z : lb_t (td &&& (td - 1)) j = true
    · rw [if_pos z, if_pos ((hq j).mp z).1]; exact Nat.le_refl _
    · rw [if_neg z]; omega
  · unfold nw_g
    rw [if_pos hb, if_neg (fun z => ((hq i).mp z).2 rfl)]; omega
theorem nw_same (hn : n ≤ 32) (h : nw_I E n su rd cv th ass (m + 1) N td) (hb : lb_t td i = true) (hl : ∀ j, j < i → ¬ lb_t td j = true) (hr : ∀ j, bt (N i) j = true ↔ nw_T rd cv th ass i (nw_O E N i) j) : nw_I E n su rd cv th ass m N (td &&& (td - 1)) := by
  have hp := nw_pop hn h hb hl
  obtain ⟨h1, h2, h3, h4, h5⟩ := h
  have hq : ∀ f, lb_t (td &&& (td - 1)) f = true ↔ lb_t td f = true ∧ f ≠ i := fun f => lo_low hb hl
  refine ⟨h1, h2, fun k j hk hk2 t => ?_, fun k hk => h4 k ((hq k).mp hk).1, hp⟩
  by_cases e : k = i
  · subst e; exact (hr j).mpr t
  · exact h3 k j hk (fun z => hk2 ((hq k).mpr ⟨z, e⟩)) t
theorem nw_step (hE : ∀ i s, E i s → i < n ∧ s < n) (hn : n ≤ 32) (hsu : ∀ i s, E i s → su i 0 = s ∨ su i 1 = s) {r : Int32} {pv : Int64} (h : nw_I E n su rd cv th ass (m + 1) N td) (hb : lb_t td i = true) (hl : ∀ j, j < i → ¬ lb_t td j = true) (hr : ∀ j, bt r j = true ↔ nw_T rd cv th ass i (nw_O E N i) j) (hne : ¬ r = N i)
    (hpv : ∀ k, lb_t pv k = true ↔ E k i ∧ gr_R E n k) : nw_I E n su rd cv th ass m (upd N i r) ((td &&& (td - 1)) ||| pv) := by
  have hp := nw_pop hn h hb hl
  obtain ⟨h1, h2, h3, h4, h5⟩ := h
  have hi := (h4 i hb).1
  have hq : ∀ f, lb_t (td &&& (td - 1)) f = true ↔ lb_t td f = true ∧ f ≠ i := fun f => lo_low hb hl
  have hmon : ∀ k j, bt (N k) j = true → bt (upd N i r k) j = true := by
    intro k j hj
    by_cases e : k = i
    · subst e; rw [pk_us, hr j]; exact h1 k j hi hj
    · rw [pk_un e]; exact hj
  have hO : ∀ k j, nw_O E N k j → nw_O E (upd N i r) k j := fun k j ⟨s, e, a⟩ => ⟨s, e, hmon s j a⟩
  refine ⟨fun k j hk hj => ?_, fun k v f hk hv hj => ?_, fun k j hk hk2 t => ?_, fun k hk => ?_, ?_⟩
  · by_cases e : k = i
    · subst e; rw [pk_us, hr j] at hj; exact nw_Tm (hO k) hj
    · rw [pk_un e] at hj; exact nw_Tm (hO k) (h1 k j hk hj)
  · by_cases e : k = i
    · subst e
      rw [pk_us, hr] at hj
      exact nw_snd (fun v f hv ⟨s, e, a⟩ => ⟨s, e, h2 s v f (hE k s e).2 hv a⟩) hv hj
    · rw [pk_un e] at hj; exact h2 k v f hk hv hj
  · have nE : ¬ E k i := fun z => hk2 (lo_or.mpr (Or.inr ((hpv k).mpr ⟨z, hk⟩)))
    have hO2 : ∀ j, nw_O E (upd N i r) k j → nw_O E N k j := by
      rintro j ⟨s, e, a⟩
      have ns : ¬ s = i := fun z => nE (by rw [← z]; exact e)
      rw [pk_un ns] at a
      exact ⟨s, e, a⟩
    have t2 := nw_Tm hO2 t
    by_cases e : k = i
    · subst e; rw [pk_us, hr j]; exact t2
    · rw [pk_un e]
      exact h3 k j hk (fun z => hk2 (lo_or.mpr (Or.inl ((hq k).mpr ⟨z, e⟩)))) t2
  · rcases lo_or.mp hk with a | a
    · exact h4 k ((hq k).mp a).1
    · exact ((hpv k).mp a).2
  · have hx : ∃ j, j < 16 ∧ bt r j = true ∧ ¬ bt (N i) j = true := by
      apply Classical.byContradiction
      intro q
      apply hne
      apply bo_ext
      intro j
      constructor
      · intro hj
        have t := (hr j).mp hj
        have hj16 : j < 16 := by
          rcases t with ⟨a, _⟩ | ⟨_, a, _⟩ <;> omega
        exact Classical.byContradiction (fun w => q ⟨j, hj16, hj, w⟩)
      · intro hj
        rw [hr j]; exact h1 i j hi hj
    obtain ⟨j0, hj0, hj1, hj2⟩ := hx
    refine Nat.le_trans (sm_le 32 (fun k hk => ?_)) hp
    have hPle : ∀ q, q < 32 → nw_P n su (upd N i r) k q = true → nw_P n su N k q = true := by
      intro q _ hz
      unfold nw_P at hz ⊢
      rw [Bool.and_eq_true] at hz ⊢
      refine ⟨hz.1, ?_⟩
      cases hc : bt (N (su k (q / 16))) (q % 16)
      · rfl
      · rw [hmon _ _ hc] at hz; exact absurd hz.2 (by decide)
    unfold nw_g
    by_cases z : lb_t (td &&& (td - 1)) k = true
    · rw [if_pos z, if_pos (lo_or.mpr (Or.inl z))]
      have := ct_le 32 hPle
      omega
    · by_cases y : lb_t pv k = true
      · rw [if_neg z, if_pos (lo_or.mpr (Or.inr y))]
        have hEk := ((hpv k).mp y).1
        have key : ∀ t, t < 2 → su k t = i → ct_n (nw_P n su (upd N i r) k) 32 + 1 ≤ ct_n (nw_P n su N k) 32 := by
          intro t ht hs
          have ed : (t * 16 + j0) / 16 = t := by omega
          have em : (t * 16 + j0) % 16 = j0 := by omega
          refine ct_lt (j0 := t * 16 + j0) 32 hPle (by omega) ?_ ?_
          · unfold nw_P
            rw [ed, em, hs, pk_us, hj1]; simp
          · unfold nw_P
            rw [ed, em, hs, ts_nt hj2, decide_eq_true hi]; rfl
        rcases hsu k i hEk with a | a
        · have := key 0 (by omega) a; omega
        · have := key 1 (by omega) a; omega
      · rw [if_neg z, if_neg (fun w => (lo_or.mp w).elim z y)]
        have := ct_le 32 hPle
        omega
theorem nw_zero (hn : n ≤ 32) (h : nw_I E n su rd cv th ass 0 N td) : td = 0 := by
  obtain ⟨h1, h2, h3, h4, h5⟩ := h
  rw [lo_z]
  intro k hk
  have hkn := (h4 k hk).1
  have a := sm_mem (g := nw_g n su N td) (j0 := k) 32 (by omega)
  have b : 1 ≤ nw_g n su N td k := by unfold nw_g; rw [if_pos hk]; omega
  omega
theorem nw_init (hn : n ≤ 32) (hN : ∀ k, k < 32 → N k = 0) (htd : ∀ k, lb_t td k = true ↔ gr_R E n k) : nw_I E n su rd cv th ass 1056 N td := by
  refine ⟨fun k j hk hj => ?_, fun k v f hk hv hj => ?_, fun k j hk hk2 => absurd ((htd k).mpr hk) hk2, fun k hk => (htd k).mp hk, ?_⟩
  · rw [hN k (by omega)] at hj; exact absurd hj bo_0
  · rw [hN k (by omega)] at hj; exact absurd hj bo_0
  · refine sm_bd (c := 33) 32 (fun k hk => ?_)
    unfold nw_g
    have a := ct_bd (nw_P n su N k) 32
    by_cases z : lb_t td k = true
    · rw [if_pos z]; omega
    · rw [if_neg z]; omega
end
end
section
def an_RD (V : Nat) (op fb : Nat → Int32) (HL : Nat → Nat → Nat → Prop) (MT : Nat → Nat → Prop) (i v : Nat) : Prop := op i = 8 ∧ (∀ x, x < V → ¬ HL i (pn (fb i)) x) ∧ MT (pn (fb i)) v
def an_OV (op fa : Nat → Int32) (SC : Nat → Nat → Prop) (i v : Nat) (f : Bool) : Prop := op i = 9 ∧ (SC (pn (fa i)) v ∨ (fa i = nI v ∧ f = false))
def an_NA (E : Nat → Nat → Prop) (n : Nat) (RD : Nat → Nat → Prop) (OV : Nat → Nat → Bool → Prop) (AS : Nat → Nat → Prop) (i v : Nat) : Prop := gr_R E n i ∧ ∃ s, E i s ∧ nd_N E (fun i => RD i v) (fun i f => OV i v f) (fun i => AS i v) s false
section
variable {xmaxLength : Int32} {xvariableCount : Int32} {xglobalCount : Int32} {xheapLimit : Int32} {xlength : Int32} {xcursor : Int32} {xstate : Int32} {xpending : Int64} {xreachable : Int64} {xsingleSites : Int64} {xexactVars : Int32} {ximproved : Int32} {xopAt : (Nat → Int32)} {xaAt : (Nat → Int32)} {xbAt : (Nat → Int32)} {xcAt : (Nat → Int32)} {xinputs : (Nat → Int32)} {xrep : (Nat → Int32)} {xpts : (Nat → Int64)} {xdone : (Nat → Int64)} {xflowsTo : (Nat → Int64)} {xtried : (Nat → Int64)} {xloads : (Nat → Int32)} {xstores : (Nat → Int32)} {xnext : (Nat → Int64)} {xprev : (Nat → Int64)} {xafter : (Nat → Int64)} {xvarSet : (Nat → Int64)} {xgen : (Nat → Int64)} {xkill : (Nat → Int64)} {xholdsIn : (Nat → Int64)} {xreads : (Nat → Int32)} {xcovers : (Nat → Int32)} {xneedIn : (Nat → Int32)} {xneedAfter : (Nat → Int32)} {xverdicts : (Nat → Int32)} {xrunStatus : (Nat → Int32)} {xrunSteps : (Nat → Int32)} {xrunOutputs : (Nat → Int32)} {xrunReads : (Nat → Int32)} {xrunWrites : (Nat → Int32)} {xrunMade : (Nat → Int32)} {xrunPlace : (Nat → Int32)} {xvars : (Nat → Int64)} {xcells : (Nat → Int64)} {xheapSite : (Nat → Int32)} {xoutputs : (Nat → Int64)}
variable {R V G n : Nat} {L : Nat → Nat → Prop} {EX : Nat → Prop} {E : Nat → Nat → Prop} {fc : Nat → Int32} {post : SX → Prop} {pst : Int32 → Prop}

theorem xn_prep {i : Nat} (hp : pg_ok R V G n xopAt xaAt xbAt fc) (hV : V ≤ 8) (hn : n ≤ 32) (hex : ∀ v, v < 8 → (bt xexactVars v = true ↔ EX v)) (hvs : ∀ v, v < 8 → ∀ s, lb_t (xvarSet v) s = true ↔ L v s) (hi : i < n)
    (K : ∀ r c : Int32, (∀ v, bt r v = true ↔ v < V ∧ xopAt i = 8 ∧ xverdicts i = 0 ∧ an_MT L (pn (xbAt i)) v) → (∀ v, bt c v = true ↔ v < V ∧ xopAt i = 9 ∧ an_SC L EX (pn (xaAt i)) v) → post (xmaxLength, nI V, xglobalCount, xheapLimit, nI n, xcursor, xstate, xpending, xreachable, xsingleSites, xexactVars, ximproved, xopAt, xaAt, xbAt, xcAt, xinputs, xrep, xpts, xdone, xflowsTo, xtried, xloads, xstores, xnext, xprev, xafter, xvarSet, xgen, xkill, xholdsIn, upd xreads i r, upd xcovers i c, xneedIn, xneedAfter, xverdicts, xrunStatus, xrunSteps, xrunOutputs, xrunReads, xrunWrites, xrunMade, xrunPlace, xvars, xcells, xheapSite, xoutputs)) : wpX_prepareNeeding post (xmaxLength, nI V, xglobalCount, xheapLimit, nI n, xcursor, xstate, xpending, xreachable, xsingleSites, xexactVars, ximproved, xopAt, xaAt, xbAt, xcAt, xinputs, xrep, xpts, xdone, xflowsTo, xtried, xloads, xstores, xnext, xprev, xafter, xvarSet, xgen, xkill, xholdsIn, xreads, xcovers, xneedIn, xneedAfter, xverdicts, xrunStatus, xrunSteps, xrunOutputs, xrunReads, xrunWrites, xrunMade, xrunPlace, xvars, xcells, xheapSite, xoutputs) (nI i) := by
  have e : (nI i).toNatClampNeg = i := nI_clamp (by omega)
  have hin : vp_in (nI i) 32 := vp_in_nI (by omega) (by omega)
  obtain ⟨ho, h10, hn10, h2', h6, h11, hb', hc⟩ := hp i hi
  refine lc_2 (fun d v (r c : Int32) => wX_prepareNeeding_7 post (nI i) xmaxLength (nI V) xglobalCount xheapLimit (nI n) xcursor xstate xpending xreachable xsingleSites xexactVars ximproved xopAt xaAt xbAt xcAt xinputs xrep xpts xdone xflowsTo xtried xloads xstores xnext xprev xafter xvarSet xgen xkill xholdsIn xreads xcovers xneedIn xneedAfter xverdicts xrunStatus xrunSteps xrunOutputs xrunReads xrunWrites xrunMade xrunPlace xvars xcells xheapSite xoutputs d r c (nI v)) (fun v r c => (∀ u, bt r u = true ↔ u < v ∧ xopAt i = 8 ∧ xverdicts i = 0 ∧ an_MT L (pn (xbAt i)) u) ∧ (∀ u, bt c u = true ↔ u < v ∧ xopAt i = 9 ∧ an_SC L EX (pn (xaAt i)) u)) V 0 0 ⟨fun u => ⟨fun z => absurd z bo_0, fun z => absurd z.1 (Nat.not_lt_zero u)⟩, fun u => ⟨fun z => absurd z bo_0, fun z => absurd z.1 (Nat.not_lt_zero u)⟩⟩ ?_ ?_
  · rintro d r c ⟨h1, h2⟩
    exact br_t (nI_le (Nat.le_refl V) (by omega)) ⟨hin, nm_r (e' := upd xreads i r) (by rw [e]) ⟨hin, nm_r (e' := upd xcovers i c) (by rw [e]) (K r c h1 h2)⟩⟩
  · rintro d v r c hv ⟨h1, h2⟩ ih
    have ev : (nI v).toNatClampNeg = v := nI_clamp (by omega)
    have same : ∀ (P : Nat → Prop) (a : Int32), (∀ u, bt a u = true ↔ u < v ∧ P u) → ¬ P v → ∀ u, bt a u = true ↔ u < v + 1 ∧ P u := by
      intro P a h hP u
      rw [h u]
      constructor
      · rintro ⟨z1, z2⟩; exact ⟨by omega, z2⟩
      · rintro ⟨z1, z2⟩
        by_cases q : u = v
        · subst q; exact absurd z2 hP
        · exact ⟨by omega, z2⟩
    have grow : ∀ (P : Nat → Prop) (a : Int32), (∀ u, bt a u = true ↔ u < v ∧ P u) → P v → ∀ u, bt (a ||| ((1 : Int32) <<< (nI v &&& 31))) u = true ↔ u < v + 1 ∧ P u := by
      intro P a h hP u
      rw [bo_or, h u, bo_one (by omega)]
      constructor
      · rintro (⟨z1, z2⟩ | z)
        · exact ⟨by omega, z2⟩
        · subst z; exact ⟨by omega, hP⟩
      · rintro ⟨z1, z2⟩
        by_cases q : u = v
        · exact Or.inr q
        · exact Or.inl ⟨by omega, z2⟩
    have key : ∀ r' : Int32, (∀ u, bt r' u = true ↔ u < v + 1 ∧ xopAt i = 8 ∧ xverdicts i = 0 ∧ an_MT L (pn (xbAt i)) u) → wX_prepareNeeding_67 post (wX_prepareNeeding_7 post (nI i) xmaxLength (nI V) xglobalCount xheapLimit (nI n) xcursor xstate xpending xreachable xsingleSites xexactVars ximproved xopAt xaAt xbAt xcAt xinputs xrep xpts xdone xflowsTo xtried xloads xstores xnext xprev xafter xvarSet xgen xkill xholdsIn xreads xcovers xneedIn xneedAfter xverdicts xrunStatus xrunSteps xrunOutputs xrunReads xrunWrites xrunMade xrunPlace xvars xcells xheapSite xoutputs d) (nI i) r' c (nI v) xmaxLength (nI V) xglobalCount xheapLimit (nI n) xcursor xstate xpending xreachable xsingleSites xexactVars ximproved xopAt xaAt xbAt xcAt xinputs xrep xpts xdone xflowsTo xtried xloads xstores xnext xprev xafter xvarSet xgen xkill xholdsIn xreads xcovers xneedIn xneedAfter xverdicts xrunStatus xrunSteps xrunOutputs xrunReads xrunWrites xrunMade xrunPlace xvars xcells xheapSite xoutputs := by
      intro r' hr'
      refine ⟨hin, ?_⟩
      simp only [e]
      refine br_c (fun o9 => ⟨hin, ?_⟩) (fun o9 => nm_r (nI_1 v) (ih _ _ ⟨hr', same (fun u => xopAt i = 9 ∧ an_SC L EX (pn (xaAt i)) u) c h2 (fun z => o9 z.1)⟩))
      obtain ⟨a, ha, ea⟩ := hn10 (by rw [o9]; decide)
      have pa : pn (xaAt i) = a := by rw [ea]; exact pn_nI (by omega)
      rw [ea]
      refine xa_sameCell hex hvs (by omega) (by omega) (fun q => br_f (by decide) (nm_e (nm_r (nI_1 v) (ih _ _ ⟨hr', ?_⟩)))) (fun q => br_t rfl (nm_r (nI_1 v) (ih _ _ ⟨hr', ?_⟩)))
      · exact grow (fun u => xopAt i = 9 ∧ an_SC L EX (pn (xaAt i)) u) c h2 ⟨o9, by rw [pa]; exact q⟩
      · exact same (fun u => xopAt i = 9 ∧ an_SC L EX (pn (xaAt i)) u) c h2 (fun z => q (by rw [← pa]; exact z.2))
    refine br_f (nI_ge hv (by omega)) ⟨hin, ?_⟩
    simp only [e, ev]
    have s1 := same (fun u => xopAt i = 8 ∧ xverdicts i = 0 ∧ an_MT L (pn (xbAt i)) u) r h1
    refine br_c (fun o8 => ⟨hin, br_c (fun vz => ⟨hin, ?_⟩) (fun vz => key r (s1 (fun z => vz z.2.1)))⟩) (fun o8 => key r (s1 (fun z => o8 z.1)))
    obtain ⟨b, hb2, eb⟩ := hb' (Or.inr (Or.inr (Or.inr (Or.inl o8))))
    have pb : pn (xbAt i) = b := by rw [eb]; exact pn_nI (by omega)
    have ebc : (xbAt i).toNatClampNeg = b := pb
    rw [ebc]
    refine ⟨by rw [eb]; exact vp_in_nI (by omega) (by omega), vp_in_nI (by omega) (by omega), br_c (fun z => key r (s1 (fun w => ?_))) (fun z => nm_e (key _ (grow (fun u => xopAt i = 8 ∧ xverdicts i = 0 ∧ an_MT L (pn (xbAt i)) u) r h1 ⟨o8, vz, ?_⟩)))⟩
    · obtain ⟨_, _, s, q1, q2⟩ := w
      rw [pb] at q1
      rw [lo_z] at z
      exact z s (lo_and.mpr ⟨(hvs b (by omega) s).mpr q1, (hvs v (by omega) s).mpr q2⟩)
    · have : ∃ s, lb_t (xvarSet b &&& xvarSet v) s = true := Classical.byContradiction (fun q => z (lo_z.mpr (fun i hi => q ⟨i, hi⟩)))
      obtain ⟨s, hs⟩ := this
      rw [lo_and] at hs
      rw [pb]
      exact ⟨s, (hvs b (by omega) s).mp hs.1, (hvs v (by omega) s).mp hs.2⟩
theorem xn_out {i : Nat} (hE : ∀ i s, E i s → i < n ∧ s < n) (hn : n ≤ 32) (hi : i < n) (hnx : ∀ i, i < n → ∀ s, lb_t (xnext i) s = true ↔ E i s) (K : ∀ o : Int32, (∀ j, bt o j = true ↔ nw_O E xneedIn i j) → pst o) : wpX_needOut pst (xmaxLength, nI V, xglobalCount, xheapLimit, nI n, xcursor, xstate, xpending, xreachable, xsingleSites, xexactVars, ximproved, xopAt, xaAt, xbAt, xcAt, xinputs, xrep, xpts, xdone, xflowsTo, xtried, xloads, xstores, xnext, xprev, xafter, xvarSet, xgen, xkill, xholdsIn, xreads, xcovers, xneedIn, xneedAfter, xverdicts, xrunStatus, xrunSteps, xrunOutputs, xrunReads, xrunWrites, xrunMade, xrunPlace, xvars, xcells, xheapSite, xoutputs) (nI i) := by
  have e : (nI i).toNatClampNeg = i := nI_clamp (by omega)
  have hin : vp_in (nI i) 32 := vp_in_nI (by omega) (by omega)
  refine lc_1 (fun d s (o : Int32) => wX_needOut_4 pst (nI i) xmaxLength (nI V) xglobalCount xheapLimit (nI n) xcursor xstate xpending xreachable xsingleSites xexactVars ximproved xopAt xaAt xbAt xcAt xinputs xrep xpts xdone xflowsTo xtried xloads xstores xnext xprev xafter xvarSet xgen xkill xholdsIn xreads xcovers xneedIn xneedAfter xverdicts xrunStatus xrunSteps xrunOutputs xrunReads xrunWrites xrunMade xrunPlace xvars xcells xheapSite xoutputs d o (nI s)) (fun s o => ∀ j, bt o j = true ↔ ∃ t, t < s ∧ E i t ∧ bt (xneedIn t) j = true) n 0 (fun j => ⟨fun z => absurd z bo_0, fun ⟨t, ht, _⟩ => absurd ht (Nat.not_lt_zero t)⟩) ?_ ?_
  · intro d o h
    refine br_t (nI_le (Nat.le_refl n) (by omega)) (K o (fun j => ?_))
    rw [h j]
    exact ⟨fun ⟨t, _, a, b⟩ => ⟨t, a, b⟩, fun ⟨t, a, b⟩ => ⟨t, (hE i t a).2, a, b⟩⟩
  · intro d s o hs h ih
    have es : (nI s).toNatClampNeg = s := nI_clamp (by omega)
    refine br_f (nI_ge hs (by omega)) ⟨hin, ?_⟩
    simp only [e, es]
    refine lo_br s (by omega) (fun hb => nm_r (nI_1 s) (ih o (fun j => ?_))) (fun hb => ⟨vp_in_nI (by omega) (by omega), nm_e (nm_r (nI_1 s) (ih _ (fun j => ?_)))⟩)
    · rw [h j]
      constructor
      · rintro ⟨t, a, b⟩; exact ⟨t, by omega, b⟩
      · rintro ⟨t, a, b, c⟩
        by_cases q : t = s
        · subst q; exact absurd ((hnx i hi t).mpr b) hb
        · exact ⟨t, by omega, b, c⟩
    · rw [bo_or, h j]
      constructor
      · rintro (⟨t, a, b⟩ | a)
        · exact ⟨t, by omega, b⟩
        · exact ⟨s, by omega, (hnx i hi s).mp hb, a⟩
      · rintro ⟨t, a, b, c⟩
        by_cases q : t = s
        · subst q; exact Or.inr c
        · exact Or.inl ⟨t, by omega, b, c⟩
theorem xn_71 {i : Nat} {O : Nat → Prop} {x3 x4 x6 z0 : Int32} {th ass : Nat → Nat → Prop} (hn : n ≤ 32) (hi : i < n) (h3 : ∀ j, bt x3 j = true ↔ j < 8 ∧ O j) (h4 : ∀ j, bt x4 j = true ↔ j < 8 ∧ O (8 + j)) (h6 : ∀ j, j < 8 → (bt x6 j = true ↔ ass i j)) (hz : ∀ j, j < 8 → (bt z0 j = true ↔ th i j))
    (K : ∀ r : Int32, (∀ j, bt r j = true ↔ nw_T (fun i v => bt (xreads i) v = true) (fun i v => bt (xcovers i) v = true) th ass i O j) → pst r) : wX_needBefore_71 pst (nI i) x3 x4 x6 z0 xmaxLength (nI V) xglobalCount xheapLimit (nI n) xcursor xstate xpending xreachable xsingleSites xexactVars ximproved xopAt xaAt xbAt xcAt xinputs xrep xpts xdone xflowsTo xtried xloads xstores xnext xprev xafter xvarSet xgen xkill xholdsIn xreads xcovers xneedIn xneedAfter xverdicts xrunStatus xrunSteps xrunOutputs xrunReads xrunWrites xrunMade xrunPlace xvars xcells xheapSite xoutputs := by
  have e : (nI i).toNatClampNeg = i := nI_clamp (by omega)
  have hin : vp_in (nI i) 32 := vp_in_nI (by omega) (by omega)
  refine nm_e ⟨hin, hin, nm_r (e' := xreads i ||| ((((x3 &&& (x6 ^^^ (-1))) ||| (x4 &&& x6)) &&& (xcovers i ^^^ (-1))) &&& (z0 ^^^ (-1)))) (by rw [e]) ⟨hin, hin, nm_r (e' := xreads i ||| (x4 &&& (xcovers i ^^^ (-1)))) (by rw [e]) (K _ (fun j => ?_))⟩⟩
  rw [bo_or, bo_and, bo_255]
  unfold nw_T
  constructor
  · rintro (⟨z, hj⟩ | z)
    · left
      refine ⟨hj, ?_⟩
      rw [bo_or, bo_diff, bo_diff, bo_or, bo_diff, bo_and, h3, h4, h6 j hj, hz j hj] at z
      rcases z with z | ⟨⟨z, z2⟩, z3⟩
      · exact Or.inl z
      · refine Or.inr ⟨z2, z3, ?_⟩
        rcases z with ⟨⟨_, a⟩, b⟩ | ⟨⟨_, a⟩, b⟩
        · exact Or.inl ⟨b, a⟩
        · exact Or.inr ⟨b, a⟩
    · right
      have h32 := bt_lt z
      rw [b_shl8 _ h32, Bool.and_eq_true, decide_eq_true_iff, bo_and, bo_255, bo_or, bo_diff, h4] at z
      obtain ⟨z1, z2, z3⟩ := z
      refine ⟨z1, by omega, ?_⟩
      rcases z2 with z2 | ⟨⟨_, z2⟩, z4⟩
      · exact Or.inl z2
      · refine Or.inr ⟨z4, ?_⟩
        rwa [show 8 + (j - 8) = j by omega] at z2
  · rintro (⟨hj, z⟩ | ⟨h8, h16, z⟩)
    · left
      refine ⟨?_, hj⟩
      rw [bo_or, bo_diff, bo_diff, bo_or, bo_diff, bo_and, h3, h4, h6 j hj, hz j hj]
      rcases z with z | ⟨z1, z2, z3⟩
      · exact Or.inl z
      · refine Or.inr ⟨⟨?_, z1⟩, z2⟩
        rcases z3 with ⟨a, b⟩ | ⟨a, b⟩
        · exact Or.inl ⟨⟨hj, b⟩, a⟩
        · exact Or.inr ⟨⟨hj, b⟩, a⟩
    · right
      rw [b_shl8 _ (by omega), Bool.and_eq_true, decide_eq_true_iff, bo_and, bo_255, bo_or, bo_diff, h4]
      refine ⟨h8, ?_, by omega⟩
      rcases z with z | ⟨z1, z2⟩
      · exact Or.inl z
      · refine Or.inr ⟨⟨by omega, ?_⟩, z1⟩
        rw [show 8 + (j - 8) = j by omega]; exact z2
theorem xn_a31 : ∀ a, a < 32 → (nI a &&& 31) = nI a := by decide +kernel
theorem xn_bef {i : Nat} (hE : ∀ i s, E i s → i < n ∧ s < n) (hp : pg_ok R V G n xopAt xaAt xbAt fc) (hV : V ≤ 8) (hn : n ≤ 32) (hi : i < n) (hnx : ∀ i, i < n → ∀ s, lb_t (xnext i) s = true ↔ E i s)
    (K : ∀ r : Int32, (∀ j, bt r j = true ↔ nw_T (fun i v => bt (xreads i) v = true) (fun i v => bt (xcovers i) v = true) (fun i v => xopAt i = 9 ∧ xaAt i = nI v) (an_AS xopAt xaAt) i (nw_O E xneedIn i) j) → pst r) : wpX_needBefore pst (xmaxLength, nI V, xglobalCount, xheapLimit, nI n, xcursor, xstate, xpending, xreachable, xsingleSites, xexactVars, ximproved, xopAt, xaAt, xbAt, xcAt, xinputs, xrep, xpts, xdone, xflowsTo, xtried, xloads, xstores, xnext, xprev, xafter, xvarSet, xgen, xkill, xholdsIn, xreads, xcovers, xneedIn, xneedAfter, xverdicts, xrunStatus, xrunSteps, xrunOutputs, xrunReads, xrunWrites, xrunMade, xrunPlace, xvars, xcells, xheapSite, xoutputs) (nI i) := by
  have e : (nI i).toNatClampNeg = i := nI_clamp (by omega)
  have hin : vp_in (nI i) 32 := vp_in_nI (by omega) (by omega)
  obtain ⟨ho, h10, hn10, h2', h6, h11, hb', hc⟩ := hp i hi
  unfold wpX_needBefore
  refine xn_out hE hn hi hnx (fun o ho' => nm_e (nm_e ⟨hin, ?_⟩))
  have h3 : ∀ j, bt (o &&& 255) j = true ↔ j < 8 ∧ nw_O E xneedIn i j := fun j => by rw [bo_and, bo_255, ho' j]; exact And.comm
  have h4 : ∀ j, bt (((o.toUInt32 >>> ((8 : Int32).toUInt32 &&& Int32.toUInt32 31)).toInt32) &&& 255) j = true ↔ j < 8 ∧ nw_O E xneedIn i (8 + j) := fun j => by
    have q : bt ((o.toUInt32 >>> ((8 : Int32).toUInt32 &&& Int32.toUInt32 31)).toInt32) j = bt o (8 + j) := b_ushr 8 (by omega) o j
    rw [bo_and, bo_255, q, ho' (8 + j)]; exact And.comm
  have hown : ¬ xopAt i = 10 → ∀ j, j < 8 → (bt ((1 : Int32) <<< ((xaAt i &&& 31) &&& 31)) j = true ↔ xaAt i = nI j) := by
    intro q j hj
    obtain ⟨a, ha, ea⟩ := hn10 q
    rw [ea, xn_a31 a (by omega), bo_one (by omega), nI_eq (by omega) (by omega)]
    exact eq_comm
  have d9 : ∀ z : Int32, z = 9 → 8 < z := fun z q => by rw [q]; decide
  have key : ∀ z0 : Int32, (∀ j, j < 8 → (bt z0 j = true ↔ an_AS xopAt xaAt i j)) → wX_needBefore_52 pst (nI i) (o &&& 255) (((o.toUInt32 >>> ((8 : Int32).toUInt32 &&& Int32.toUInt32 31)).toInt32) &&& 255) ((1 : Int32) <<< ((xaAt i &&& 31) &&& 31)) z0 xmaxLength (nI V) xglobalCount xheapLimit (nI n) xcursor xstate xpending xreachable xsingleSites xexactVars ximproved xopAt xaAt xbAt xcAt xinputs xrep xpts xdone xflowsTo xtried xloads xstores xnext xprev xafter xvarSet xgen xkill xholdsIn xreads xcovers xneedIn xneedAfter xverdicts xrunStatus xrunSteps xrunOutputs xrunReads xrunWrites xrunMade xrunPlace xvars xcells xheapSite xoutputs := by
    intro z0 hz0
    refine ⟨hin, ?_⟩
    simp only [e]
    refine br_c (fun o9 => xn_71 hn hi h3 h4 hz0 (fun j hj => ?_) K) (fun o9 => xn_71 hn hi h3 h4 hz0 (fun j hj => ?_) K)
    · rw [hown (by rw [o9]; decide) j hj]
      exact ⟨fun z => ⟨o9, z⟩, fun z => z.2⟩
    · exact ⟨fun z => absurd z bo_0, fun z => absurd z.1 o9⟩
  simp only [e]
  refine nm_e ⟨hin, br_c (fun z => key 0 (fun j hj => ?_)) (fun z => key _ (fun j hj => ?_))⟩
  · exact ⟨fun q => absurd q bo_0, fun q => absurd z q.1⟩
  · rw [hown (fun q => z (by rw [q]; decide)) j hj]
    exact ⟨fun q => ⟨z, q⟩, fun q => q.2⟩
theorem xn_58 {su : Nat → Nat → Nat} (hE : ∀ i s, E i s → i < n ∧ s < n) (hsu : ∀ i s, E i s → su i 0 = s ∨ su i 1 = s) (hp : pg_ok R V G n xopAt xaAt xbAt fc) (hV : V ≤ 8) (hn : n ≤ 32) (hnx : ∀ i, i < n → ∀ s, lb_t (xnext i) s = true ↔ E i s) (hpv : ∀ s, s < n → ∀ i, lb_t (xprev s) i = true ↔ E i s) (hre : ∀ i, lb_t xreachable i = true ↔ gr_R E n i)
    (K : ∀ N : Nat → Int32, (∀ i v f, gr_R E n i → v < 8 → (bt (N i) (nw_x v f) = true ↔ nw_N E (fun i v => bt (xreads i) v = true) (fun i v => bt (xcovers i) v = true) (fun i v => xopAt i = 9 ∧ xaAt i = nI v) (an_AS xopAt xaAt) v i f)) → ∃ n133, wX_solveNeeding_133 post xmaxLength (nI V) xglobalCount xheapLimit (nI n) xcursor xstate xpending xreachable xsingleSites xexactVars ximproved n133 0 xopAt xaAt xbAt xcAt xinputs xrep xpts xdone xflowsTo xtried xloads xstores xnext xprev xafter xvarSet xgen xkill xholdsIn xreads xcovers N xneedAfter xverdicts xrunStatus xrunSteps xrunOutputs xrunReads xrunWrites xrunMade xrunPlace xvars xcells xheapSite xoutputs) :
    ∀ (k : Nat) (td : Int64) (N : Nat → Int32), k ≤ 2048 → nw_I E n su (fun i v => bt (xreads i) v = true) (fun i v => bt (xcovers i) v = true) (fun i v => xopAt i = 9 ∧ xaAt i = nI v) (an_AS xopAt xaAt) k N td → wX_solveNeeding_58 post xmaxLength (nI V) xglobalCount xheapLimit (nI n) xcursor xstate xpending xreachable xsingleSites xexactVars ximproved (k + 1) td (nI k) xopAt xaAt xbAt xcAt xinputs xrep xpts xdone xflowsTo xtried xloads xstores xnext xprev xafter xvarSet xgen xkill xholdsIn xreads xcovers N xneedAfter xverdicts xrunStatus xrunSteps xrunOutputs xrunReads xrunWrites xrunMade xrunPlace xvars xcells xheapSite xoutputs := by
  intro k
  induction k with
  | zero =>
    intro td N _ h
    have := nw_zero hn h
    subst this
    exact br_t (by decide) (K N (fun i v f hr hv => nw_end hE h hr hv))
  | succ k ih =>
    intro td N hk h
    refine br_f (nI_nle (by omega) (by omega)) (br_c (fun z => ?_) (fun z => xl_lowBit z (fun i _ hb hl => nm_e ?_)))
    · subst z; exact K N (fun i v f hr hv => nw_end hE h hr hv)
    · have hr := h.2.2.2.1 i hb
      have hi := hr.1
      have ei : (nI i).toNatClampNeg = i := nI_clamp (by omega)
      have hin : vp_in (nI i) 32 := vp_in_nI (by omega) (by omega)
      refine xn_bef hE hp hV hn hi hnx (fun r hr' => ⟨hin, ?_⟩)
      simp only [ei]
      refine br_c (fun z => nm_r (pk_m1 k) (ih _ _ (by omega) (nw_same hn h hb hl (fun j => by rw [← z]; exact hr' j)))) (fun z => ⟨hin, nm_e ⟨hin, nm_e (nm_r (pk_m1 k) (ih _ _ (by omega) (nw_step hE hn hsu h hb hl hr' z (fun q => ?_))))⟩⟩)
      rw [lo_and, hpv i hi q, hre q]
theorem xn_133 {N0 : Nat → Prop} (hE : ∀ i s, E i s → i < n ∧ s < n) (hn : n ≤ 32) (hnx : ∀ i, i < n → ∀ s, lb_t (xnext i) s = true ↔ E i s) (hre : ∀ i, lb_t xreachable i = true ↔ gr_R E n i) (h0 : ∀ t, t < 32 → xneedAfter t = 0)
    (K : ∀ na : Nat → Int32, (∀ i, i < n → ∀ v, v < 8 → (bt (na i) v = true ↔ gr_R E n i ∧ nw_O E xneedIn i v)) → post (xmaxLength, nI V, xglobalCount, xheapLimit, nI n, xcursor, xstate, xpending, xreachable, xsingleSites, xexactVars, ximproved, xopAt, xaAt, xbAt, xcAt, xinputs, xrep, xpts, xdone, xflowsTo, xtried, xloads, xstores, xnext, xprev, xafter, xvarSet, xgen, xkill, xholdsIn, xreads, xcovers, xneedIn, na, xverdicts, xrunStatus, xrunSteps, xrunOutputs, xrunReads, xrunWrites, xrunMade, xrunPlace, xvars, xcells, xheapSite, xoutputs)) : ∃ n133, wX_solveNeeding_133 post xmaxLength (nI V) xglobalCount xheapLimit (nI n) xcursor xstate xpending xreachable xsingleSites xexactVars ximproved n133 0 xopAt xaAt xbAt xcAt xinputs xrep xpts xdone xflowsTo xtried xloads xstores xnext xprev xafter xvarSet xgen xkill xholdsIn xreads xcovers xneedIn xneedAfter xverdicts xrunStatus xrunSteps xrunOutputs xrunReads xrunWrites xrunMade xrunPlace xvars xcells xheapSite xoutputs := by
  refine lc_1 (fun d i (na : Nat → Int32) => wX_solveNeeding_133 post xmaxLength (nI V) xglobalCount xheapLimit (nI n) xcursor xstate xpending xreachable xsingleSites xexactVars ximproved d (nI i) xopAt xaAt xbAt xcAt xinputs xrep xpts xdone xflowsTo xtried xloads xstores xnext xprev xafter xvarSet xgen xkill xholdsIn xreads xcovers xneedIn na xverdicts xrunStatus xrunSteps xrunOutputs xrunReads xrunWrites xrunMade xrunPlace xvars xcells xheapSite xoutputs) (fun i na => (∀ t, t < i → ∀ v, v < 8 → (bt (na t) v = true ↔ gr_R E n t ∧ nw_O E xneedIn t v)) ∧ (∀ t, i ≤ t → t < 32 → na t = 0)) n xneedAfter ⟨fun t ht => absurd ht (Nat.not_lt_zero t), fun t _ ht => h0 t ht⟩ ?_ ?_
  · rintro d na ⟨h1, _⟩
    exact br_t (nI_le (Nat.le_refl n) (by omega)) (K na h1)
  · rintro d i na hi ⟨h1, h2⟩ ih
    have e : (nI i).toNatClampNeg = i := nI_clamp (by omega)
    refine br_f (nI_ge hi (by omega)) (lo_br i (by omega) (fun hb => nm_r (nI_1 i) (ih na ⟨fun t ht v hv => ?_, fun t z1 z2 => h2 t (by omega) z2⟩)) (fun hb => xn_out hE hn hi hnx (fun o ho => ⟨vp_in_nI (by omega) (by omega), nm_r (e' := upd na i (o &&& 255)) (by rw [e]) (nm_r (nI_1 i) (ih _ ⟨fun t ht v hv => ?_, fun t z1 z2 => ?_⟩))⟩)))
    · by_cases q : t = i
      · subst q
        rw [h2 t (Nat.le_refl t) (by omega)]
        exact ⟨fun z => absurd z bo_0, fun z => absurd ((hre t).mpr z.1) hb⟩
      · exact h1 t (by omega) v hv
    · by_cases q : t = i
      · subst q
        rw [pk_us, bo_and, bo_255, ho v]
        exact ⟨fun z => ⟨(hre t).mp hb, z.1⟩, fun z => ⟨z.2, hv⟩⟩
      · rw [pk_un q]; exact h1 t (by omega) v hv
    · rw [pk_un (by omega)]; exact h2 t (by omega) z2
theorem xn_solve {su : Nat → Nat → Nat} {HL : Nat → Nat → Nat → Prop} (hE : ∀ i s, E i s → i < n ∧ s < n) (hsu : ∀ i s, E i s → su i 0 = s ∨ su i 1 = s) (hp : pg_ok R V G n xopAt xaAt xbAt fc) (hV : V ≤ 8) (hn : n ≤ 32) (hex : ∀ v, v < 8 → (bt xexactVars v = true ↔ EX v)) (hvs : ∀ v, v < 8 → ∀ s, lb_t (xvarSet v) s = true ↔ L v s) (hnx : ∀ i, i < n → ∀ s, lb_t (xnext i) s = true ↔ E i s) (hpv : ∀ s, s < n → ∀ i, lb_t (xprev s) i = true ↔ E i s) (hre : ∀ i, lb_t xreachable i = true ↔ gr_R E n i) (hvd : ∀ i, i < n → vs_1 V xopAt xbAt HL i (xverdicts i))
    (K : ∀ rd co ni na : Nat → Int32, (∀ i, i < n → ∀ v, v < V → (bt (na i) v = true ↔ an_NA E n (an_RD V xopAt xbAt HL (an_MT L)) (an_OV xopAt xaAt (an_SC L EX)) (an_AS xopAt xaAt) i v)) → post (xmaxLength, nI V, xglobalCount, xheapLimit, nI n, xcursor, xstate, xpending, xreachable, xsingleSites, xexactVars, ximproved, xopAt, xaAt, xbAt, xcAt, xinputs, xrep, xpts, xdone, xflowsTo, xtried, xloads, xstores, xnext, xprev, xafter, xvarSet, xgen, xkill, xholdsIn, rd, co, ni, na, xverdicts, xrunStatus, xrunSteps, xrunOutputs, xrunReads, xrunWrites, xrunMade, xrunPlace, xvars, xcells, xheapSite, xoutputs)) : wpX_solveNeeding post (xmaxLength, nI V, xglobalCount, xheapLimit, nI n, xcursor, xstate, xpending, xreachable, xsingleSites, xexactVars, ximproved, xopAt, xaAt, xbAt, xcAt, xinputs, xrep, xpts, xdone, xflowsTo, xtried, xloads, xstores, xnext, xprev, xafter, xvarSet, xgen, xkill, xholdsIn, xreads, xcovers, xneedIn, xneedAfter, xverdicts, xrunStatus, xrunSteps, xrunOutputs, xrunReads, xrunWrites, xrunMade, xrunPlace, xvars, xcells, xheapSite, xoutputs) := by
  refine lc_2 (fun d i (ni na : Nat → Int32) => wX_solveNeeding_2 post xmaxLength (nI V) xglobalCount xheapLimit (nI n) xcursor xstate xpending xreachable xsingleSites xexactVars ximproved d (nI i) xopAt xaAt xbAt xcAt xinputs xrep xpts xdone xflowsTo xtried xloads xstores xnext xprev xafter xvarSet xgen xkill xholdsIn xreads xcovers ni na xverdicts xrunStatus xrunSteps xrunOutputs xrunReads xrunWrites xrunMade xrunPlace xvars xcells xheapSite xoutputs) (fun i ni na => ∀ t, t < i → ni t = 0 ∧ na t = 0) 32 xneedIn xneedAfter (fun t ht => absurd ht (Nat.not_lt_zero t)) ?_ ?_
  · intro d ni na h0
    refine br_t (nI_le (Nat.le_refl 32) (by omega)) ?_
    refine lc_2 (fun d i (rd co : Nat → Int32) => wX_solveNeeding_30 post d (nI i) xmaxLength (nI V) xglobalCount xheapLimit (nI n) xcursor xstate xpending xreachable xsingleSites xexactVars ximproved xopAt xaAt xbAt xcAt xinputs xrep xpts xdone xflowsTo xtried xloads xstores xnext xprev xafter xvarSet xgen xkill xholdsIn rd co ni na xverdicts xrunStatus xrunSteps xrunOutputs xrunReads xrunWrites xrunMade xrunPlace xvars xcells xheapSite xoutputs) (fun i rd co => ∀ t, t < i → (∀ v, bt (rd t) v = true ↔ v < V ∧ xopAt t = 8 ∧ xverdicts t = 0 ∧ an_MT L (pn (xbAt t)) v) ∧ (∀ v, bt (co t) v = true ↔ v < V ∧ xopAt t = 9 ∧ an_SC L EX (pn (xaAt t)) v)) n xreads xcovers (fun t ht => absurd ht (Nat.not_lt_zero t)) ?_ ?_
    · intro d rd co h
      have hI := nw_init (E := E) (n := n) (su := su) (rd := fun i v => bt (rd i) v = true) (cv := fun i v => bt (co i) v = true) (th := fun i v => xopAt i = 9 ∧ xaAt i = nI v) (ass := an_AS xopAt xaAt) (N := ni) (td := xreachable) hn (fun t ht => (h0 t ht).1) hre
      have hI2 : nw_I E n su (fun i v => bt (rd i) v = true) (fun i v => bt (co i) v = true) (fun i v => xopAt i = 9 ∧ xaAt i = nI v) (an_AS xopAt xaAt) 2048 ni xreachable := by
        obtain ⟨a, b, c, d, f⟩ := hI
        exact ⟨a, b, c, d, by omega⟩
      refine br_t (nI_le (Nat.le_refl n) (by omega)) ⟨2049, xn_58 hE hsu hp hV hn hnx hpv hre (fun N hN => ?_) 2048 _ _ (Nat.le_refl _) hI2⟩
      refine xn_133 (N0 := fun _ => True) hE hn hnx hre (fun t ht => (h0 t ht).2) (fun na' hna => K _ _ _ _ (fun i hi v hv => ?_))
      rw [hna i hi v (by omega)]
      have vz : ∀ t, t < n → xopAt t = 8 → (xverdicts t = 0 ↔ ∀ x, x < V → ¬ HL t (pn (xbAt t)) x) := by
        intro t ht o8
        rcases hvd t ht with ⟨_, x, hx, e, h1, _⟩ | ⟨h1, e⟩
        · refine ⟨fun z => ?_, fun z => absurd h1 (z x hx)⟩
          rw [e] at z
          exact absurd z (nI_ne0 (by omega) (by omega))
        · exact ⟨fun _ => h1 o8, fun _ => e⟩
      have crd : ∀ t, t < n → (bt (rd t) v = true ↔ an_RD V xopAt xbAt HL (an_MT L) t v) := by
        intro t ht
        rw [(h t ht).1 v]
        constructor
        · rintro ⟨_, o8, z, w⟩; exact ⟨o8, (vz t ht o8).mp z, w⟩
        · rintro ⟨o8, z, w⟩; exact ⟨hv, o8, (vz t ht o8).mpr z, w⟩
      have cov : ∀ t f, t < n → ((bt (co t) v = true ∨ ((xopAt t = 9 ∧ xaAt t = nI v) ∧ f = false)) ↔ an_OV xopAt xaAt (an_SC L EX) t v f) := by
        intro t f ht
        rw [(h t ht).2 v]
        constructor
        · rintro (⟨_, a, b⟩ | ⟨⟨a, b⟩, c⟩)
          · exact ⟨a, Or.inl b⟩
          · exact ⟨a, Or.inr ⟨b, c⟩⟩
        · rintro ⟨a, b | ⟨b, c⟩⟩
          · exact Or.inl ⟨hv, a, b⟩
          · exact Or.inr ⟨⟨a, b⟩, c⟩
      have conv : ∀ s, gr_R E n s → (bt (N s) v = true ↔ nd_N E (fun i => an_RD V xopAt xbAt HL (an_MT L) i v) (fun i f => an_OV xopAt xaAt (an_SC L EX) i v f) (fun i => an_AS xopAt xaAt i v) s false) := by
        intro s hs
        have q := hN s v false hs (by omega)
        have ex : nw_x v false = v := rfl
        rw [ex] at q
        rw [q]
        constructor
        · exact fun z => nd_congr hE (fun t ht w => (crd t ht).mp w) (fun t f ht w => (cov t f ht).mpr w) (fun t ht => Iff.rfl) hs.1 z
        · exact fun z => nd_congr hE (fun t ht w => (crd t ht).mpr w) (fun t f ht w => (cov t f ht).mp w) (fun t ht => Iff.rfl) hs.1 z
      unfold an_NA nw_O
      constructor
      · rintro ⟨r, s, a, b⟩
        exact ⟨r, s, a, (conv s (gr_R_s hE r a)).mp b⟩
      · rintro ⟨r, s, a, b⟩
        exact ⟨r, s, a, (conv s (gr_R_s hE r a)).mpr b⟩
    · intro d i rd co hi h ih
      refine br_f (nI_ge hi (by omega)) (xn_prep hp hV hn hex hvs hi (fun r c q1 q2 => nm_r (nI_1 i) (ih _ _ (fun t ht => ?_))))
      by_cases q : t = i
      · subst q; rw [pk_us, pk_us]; exact ⟨q1, q2⟩
      · rw [pk_un q, pk_un q]; exact h t (by omega)
  · intro d i ni na hi h ih
    have e : (nI i).toNatClampNeg = i := nI_clamp (by omega)
    have hin : vp_in (nI i) 32 := vp_in_nI hi (by omega)
    refine br_f (nI_ge (b := 32) hi (by omega)) ⟨hin, nm_r (e' := upd ni i 0) (by rw [e]) ⟨hin, nm_r (e' := upd na i 0) (by rw [e]) (nm_r (nI_1 i) (ih _ _ (fun t ht => ?_)))⟩⟩
    by_cases q : t = i
    · subst q; exact ⟨pk_us, pk_us⟩
    · rw [pk_un q, pk_un q]; exact h t (by omega)
end
end
section
/-! the analysis as a whole, in terms of the program -/
def pp_E (n G V : Nat) (op fa fb : Nat → Int32) : Nat → Nat → Prop := pg_e n op fa fb
def pp_L (n G V : Nat) (op fa fb : Nat → Int32) : Nat → Nat → Prop := pt_L n G op fa fb
def pp_SG (n G V : Nat) (op fa fb : Nat → Int32) : Nat → Prop := an_SG G n op (gr_T (pg_e n op fa fb))
def pp_EX (n G V : Nat) (op fa fb : Nat → Int32) : Nat → Prop := an_EX (pt_L n G op fa fb) (pp_SG n G V op fa fb)
def pp_SC (n G V : Nat) (op fa fb : Nat → Int32) : Nat → Nat → Prop := an_SC (pt_L n G op fa fb) (pp_EX n G V op fa fb)
def pp_MT (n G V : Nat) (op fa fb : Nat → Int32) : Nat → Nat → Prop := an_MT (pt_L n G op fa fb)
def pp_ES (n G V : Nat) (op fa fb : Nat → Int32) : Nat → Nat → Nat → Prop := an_ES op fa fb (pp_EX n G V op fa fb) (pp_SC n G V op fa fb)
def pp_DE (n G V : Nat) (op fa fb : Nat → Int32) : Nat → Nat → Nat → Prop := an_DE op fa (pp_EX n G V op fa fb) (pp_MT n G V op fa fb)
def pp_HL (n G V : Nat) (op fa fb : Nat → Int32) : Nat → Nat → Nat → Prop := an_HL (pg_e n op fa fb) n (pp_ES n G V op fa fb) (pp_DE n G V op fa fb)
def pp_RD (n G V : Nat) (op fa fb : Nat → Int32) : Nat → Nat → Prop := an_RD V op fb (pp_HL n G V op fa fb) (pp_MT n G V op fa fb)
def pp_OV (n G V : Nat) (op fa fb : Nat → Int32) : Nat → Nat → Bool → Prop := an_OV op fa (pp_SC n G V op fa fb)
def pp_NA (n G V : Nat) (op fa fb : Nat → Int32) : Nat → Nat → Prop := an_NA (pg_e n op fa fb) n (pp_RD n G V op fa fb) (pp_OV n G V op fa fb) (an_AS op fa)
def pp_R (n G V : Nat) (op fa fb : Nat → Int32) : Nat → Prop := gr_R (pg_e n op fa fb) n
/-- what both analyses decide for instruction i -/
def vs_2 (n G V : Nat) (op fa fb : Nat → Int32) (i : Nat) (w : Int32) : Prop :=
  (op i = 9 ∧ pp_R n G V op fa fb i ∧ ¬ pp_NA n G V op fa fb i (pn (fa i)) ∧ w = 1) ∨ (¬ (op i = 9 ∧ pp_R n G V op fa fb i ∧ ¬ pp_NA n G V op fa fb i (pn (fa i))) ∧ vs_1 V op fb (pp_HL n G V op fa fb) i w)
def ax_c (vd : Nat → Int32) (n : Nat) : Nat := ct_n (fun t => decide (¬ vd t = 0)) n
/-- the component's results, as its getters read them -/
def ax_P (n G V : Nat) (op fa fb : Nat → Int32) (re ss : Int64) (im : Int32) (rp : Nat → Int32) (pt vs H : Nat → Int64) (na vd : Nat → Int32) : Prop :=
  (∀ i, lb_t re i = true ↔ pp_R n G V op fa fb i) ∧ (∀ s, lb_t ss s = true ↔ pp_SG n G V op fa fb s) ∧ (∀ v, v < 8 → ∀ s, lb_t (vs v) s = true ↔ pp_L n G V op fa fb v s) ∧
  (∃ r2 : Nat → Nat, (∀ j, j < 48 → rp j = nI (r2 j) ∧ r2 j < 48) ∧ ∀ j, j < 48 → ∀ s, lb_t (pt (r2 j)) s = true ↔ pp_L n G V op fa fb j s) ∧
  (∀ i, i < n → ∀ v x, v < V → x < V → (lb_t (H i) (v * 8 + x) = true ↔ pp_HL n G V op fa fb i v x)) ∧ (∀ i, i < n → ∀ v, v < V → (bt (na i) v = true ↔ pp_NA n G V op fa fb i v)) ∧
  (∀ i, i < n → vs_2 n G V op fa fb i (vd i)) ∧ im = nI (ax_c vd n)
section
variable {xmaxLength : Int32} {xvariableCount : Int32} {xglobalCount : Int32} {xheapLimit : Int32} {xlength : Int32} {xcursor : Int32} {xstate : Int32} {xpending : Int64} {xreachable : Int64} {xsingleSites : Int64} {xexactVars : Int32} {ximproved : Int32} {xopAt : (Nat → Int32)} {xaAt : (Nat → Int32)} {xbAt : (Nat → Int32)} {xcAt : (Nat → Int32)} {xinputs : (Nat → Int32)} {xrep : (Nat → Int32)} {xpts : (Nat → Int64)} {xdone : (Nat → Int64)} {xflowsTo : (Nat → Int64)} {xtried : (Nat → Int64)} {xloads : (Nat → Int32)} {xstores : (Nat → Int32)} {xnext : (Nat → Int64)} {xprev : (Nat → Int64)} {xafter : (Nat → Int64)} {xvarSet : (Nat → Int64)} {xgen : (Nat → Int64)} {xkill : (Nat → Int64)} {xholdsIn : (Nat → Int64)} {xreads : (Nat → Int32)} {xcovers : (Nat → Int32)} {xneedIn : (Nat → Int32)} {xneedAfter : (Nat → Int32)} {xverdicts : (Nat → Int32)} {xrunStatus : (Nat → Int32)} {xrunSteps : (Nat → Int32)} {xrunOutputs : (Nat → Int32)} {xrunReads : (Nat → Int32)} {xrunWrites : (Nat → Int32)} {xrunMade : (Nat → Int32)} {xrunPlace : (Nat → Int32)} {xvars : (Nat → Int64)} {xcells : (Nat → Int64)} {xheapSite : (Nat → Int32)} {xoutputs : (Nat → Int64)}
variable {R V G n : Nat} {fc : Nat → Int32}

theorem xr_removed {post : SX → Prop} (hp : pg_ok R V G n xopAt xaAt xbAt fc) (hV : V ≤ 8) (hn : n ≤ 32) (hre : ∀ i, lb_t xreachable i = true ↔ pp_R n G V xopAt xaAt xbAt i) (hna : ∀ i, i < n → ∀ v, v < V → (bt (xneedAfter i) v = true ↔ pp_NA n G V xopAt xaAt xbAt i v)) (hvd : ∀ i, i < n → vs_1 V xopAt xbAt (pp_HL n G V xopAt xaAt xbAt) i (xverdicts i))
    (K : ∀ vd : Nat → Int32, (∀ i, i < n → vs_2 n G V xopAt xaAt xbAt i (vd i)) → post (xmaxLength, nI V, nI G, xheapLimit, nI n, xcursor, xstate, xpending, xreachable, xsingleSites, xexactVars, ximproved, xopAt, xaAt, xbAt, xcAt, xinputs, xrep, xpts, xdone, xflowsTo, xtried, xloads, xstores, xnext, xprev, xafter, xvarSet, xgen, xkill, xholdsIn, xreads, xcovers, xneedIn, xneedAfter, vd, xrunStatus, xrunSteps, xrunOutputs, xrunReads, xrunWrites, xrunMade, xrunPlace, xvars, xcells, xheapSite, xoutputs)) : wpX_chooseRemoved post (xmaxLength, nI V, nI G, xheapLimit, nI n, xcursor, xstate, xpending, xreachable, xsingleSites, xexactVars, ximproved, xopAt, xaAt, xbAt, xcAt, xinputs, xrep, xpts, xdone, xflowsTo, xtried, xloads, xstores, xnext, xprev, xafter, xvarSet, xgen, xkill, xholdsIn, xreads, xcovers, xneedIn, xneedAfter, xverdicts, xrunStatus, xrunSteps, xrunOutputs, xrunReads, xrunWrites, xrunMade, xrunPlace, xvars, xcells, xheapSite, xoutputs) := by
  refine lc_1 (fun d i (vd : Nat → Int32) => wX_chooseRemoved_2 post xmaxLength (nI V) (nI G) xheapLimit (nI n) xcursor xstate xpending xreachable xsingleSites xexactVars ximproved d (nI i) xopAt xaAt xbAt xcAt xinputs xrep xpts xdone xflowsTo xtried xloads xstores xnext xprev xafter xvarSet xgen xkill xholdsIn xreads xcovers xneedIn xneedAfter vd xrunStatus xrunSteps xrunOutputs xrunReads xrunWrites xrunMade xrunPlace xvars xcells xheapSite xoutputs) (fun i vd => (∀ t, t < i → vs_2 n G V xopAt xaAt xbAt t (vd t)) ∧ (∀ t, i ≤ t → vd t = xverdicts t)) n xverdicts ⟨fun t ht => absurd ht (Nat.not_lt_zero t), fun t _ => rfl⟩ ?_ ?_
  · rintro d vd ⟨h1, _⟩
    exact br_t (nI_le (Nat.le_refl n) (by omega)) (K vd h1)
  · rintro d i vd hi ⟨h1, h2⟩ ih
    have e : (nI i).toNatClampNeg = i := nI_clamp (by omega)
    have hin : vp_in (nI i) 32 := vp_in_nI (by omega) (by omega)
    obtain ⟨ho, h10, hn10, h2', h6, h11, hb', hc⟩ := hp i hi
    have keep : ¬ (xopAt i = 9 ∧ pp_R n G V xopAt xaAt xbAt i ∧ ¬ pp_NA n G V xopAt xaAt xbAt i (pn (xaAt i))) → (∀ t, t < i + 1 → vs_2 n G V xopAt xaAt xbAt t (vd t)) ∧ (∀ t, i + 1 ≤ t → vd t = xverdicts t) := by
      intro q
      refine ⟨fun t ht => ?_, fun t ht => h2 t (by omega)⟩
      by_cases et : t = i
      · subst et
        rw [h2 t (Nat.le_refl t)]
        exact Or.inr ⟨q, hvd t hi⟩
      · exact h1 t (by omega)
    refine br_f (nI_ge hi (by omega)) ⟨hin, ?_⟩
    simp only [e]
    refine br_c (fun o9 => lo_br i (by omega) (fun hb => nm_r (nI_1 i) (ih _ (keep (fun z => hb ((hre i).mpr z.2.1))))) (fun hb => ⟨hin, hin, ?_⟩)) (fun o9 => nm_r (nI_1 i) (ih _ (keep (fun z => o9 z.1))))
    obtain ⟨a, ha, ea⟩ := hn10 (by rw [o9]; decide)
    have pa : pn (xaAt i) = a := by rw [ea]; exact pn_nI (by omega)
    have hNA := hna i hi a ha
    rw [← pa] at hNA
    rw [ea]
    rw [pa] at hNA
    refine bo_br a (by omega) (fun hz => ⟨hin, nm_e (nm_r (nI_1 i) (ih _ ⟨fun t ht => ?_, fun t ht => ?_⟩))⟩) (fun hz => nm_r (nI_1 i) (ih _ (keep (fun z => z.2.2 ?_))))
    · by_cases et : t = i
      · subst et
        rw [pk_us]
        refine Or.inl ⟨o9, (hre t).mp hb, ?_, rfl⟩
        rw [pa]
        exact fun z => hz (hNA.mpr z)
      · rw [pk_un et]; exact h1 t (by omega)
    · rw [pk_un (by omega)]; exact h2 t (by omega)
    · rw [pa]; exact hNA.mp hz
theorem xr_count {post : SX → Prop} (hn : n ≤ 32) (K : post (xmaxLength, nI V, nI G, xheapLimit, nI n, xcursor, xstate, xpending, xreachable, xsingleSites, xexactVars, nI (ax_c xverdicts n), xopAt, xaAt, xbAt, xcAt, xinputs, xrep, xpts, xdone, xflowsTo, xtried, xloads, xstores, xnext, xprev, xafter, xvarSet, xgen, xkill, xholdsIn, xreads, xcovers, xneedIn, xneedAfter, xverdicts, xrunStatus, xrunSteps, xrunOutputs, xrunReads, xrunWrites, xrunMade, xrunPlace, xvars, xcells, xheapSite, xoutputs)) : wpX_countImproved post (xmaxLength, nI V, nI G, xheapLimit, nI n, xcursor, xstate, xpending, xreachable, xsingleSites, xexactVars, ximproved, xopAt, xaAt, xbAt, xcAt, xinputs, xrep, xpts, xdone, xflowsTo, xtried, xloads, xstores, xnext, xprev, xafter, xvarSet, xgen, xkill, xholdsIn, xreads, xcovers, xneedIn, xneedAfter, xverdicts, xrunStatus, xrunSteps, xrunOutputs, xrunReads, xrunWrites, xrunMade, xrunPlace, xvars, xcells, xheapSite, xoutputs) := by
  refine lc_1 (fun d i (im : Int32) => wX_countImproved_7 post xmaxLength (nI V) (nI G) xheapLimit (nI n) xcursor xstate xpending xreachable xsingleSites xexactVars xopAt xaAt xbAt xcAt xinputs xrep xpts xdone xflowsTo xtried xloads xstores xnext xprev xafter xvarSet xgen xkill xholdsIn xreads xcovers xneedIn xneedAfter xverdicts xrunStatus xrunSteps xrunOutputs xrunReads xrunWrites xrunMade xrunPlace xvars xcells xheapSite xoutputs d (nI i) im) (fun i im => im = nI (ax_c xverdicts i)) n 0 rfl ?_ ?_
  · intro d im h
    subst h
    exact br_t (nI_le (Nat.le_refl n) (by omega)) K
  · intro d i im hi h ih
    have e : (nI i).toNatClampNeg = i := nI_clamp (by omega)
    subst h
    refine br_f (nI_ge hi (by omega)) ⟨vp_in_nI (by omega) (by omega), ?_⟩
    simp only [e]
    refine br_c (fun z => nm_r (nI_1 i) (ih _ ?_)) (fun z => nm_r (nI_1 _) (nm_r (nI_1 i) (ih _ ?_)))
    · unfold ax_c
      simp only [ct_n]
      rw [if_neg (by rw [decide_eq_true_iff]; exact fun w => w z)]; rfl
    · unfold ax_c
      simp only [ct_n]
      rw [if_pos (decide_eq_true z)]
theorem xr_valid {op fa fb : Nat → Int32} (hp : pg_ok R V G n op fa fb fc) (hV : V ≤ 8) : ∀ i, i < n → (op i = 3 ∨ op i = 6 ∨ op i = 7 ∨ op i = 8 ∨ op i = 9 → pn (fa i) < 8) ∧ (op i = 3 ∨ op i = 8 ∨ op i = 9 → pn (fb i) < 8) := by
  intro i hi
  obtain ⟨ho, h10, hn10, h2', h6, h11, hb', hc⟩ := hp i hi
  constructor
  · intro h
    have n10 : ¬ op i = 10 := by
      intro z
      rw [z] at h
      exact absurd h (by decide)
    obtain ⟨a, ha, ea⟩ := hn10 n10
    rw [ea, pn_nI (by omega)]; omega
  · intro h
    obtain ⟨b, hb, eb⟩ := hb' (by
      rcases h with h | h | h
      · exact Or.inl h
      · exact Or.inr (Or.inr (Or.inr (Or.inl h)))
      · exact Or.inr (Or.inr (Or.inr (Or.inr h))))
    rw [eb, pn_nI (by omega)]; omega
def xr_su (n : Nat) (op fa fb : Nat → Int32) (i k : Nat) : Nat := if k = 0 then (if op i = 10 then pn (fa i) else i + 1) else (if op i = 11 then pn (fb i) else n)
theorem xr_sus {op fa fb : Nat → Int32} : ∀ i s, pg_e n op fa fb i s → xr_su n op fa fb i 0 = s ∨ xr_su n op fa fb i 1 = s := by
  rintro i s ⟨_, _, ⟨h, e⟩ | ⟨h, e | ⟨h11, e⟩⟩⟩
  · left; unfold xr_su; rw [if_pos rfl, if_pos h, e]
  · left; unfold xr_su; rw [if_pos rfl, if_neg h, e]
  · right; unfold xr_su; rw [if_neg (by decide), if_pos h11, e]
theorem xr_analyse {post : Int32 → SX → Prop} (hp : pg_ok R V G n xopAt xaAt xbAt fc) (hR : R ≤ 32) (hV : V ≤ 8) (hG : G ≤ 8) (hn : n ≤ 32)
    (K : ∀ (re ss : Int64) (ev im : Int32) (rp : Nat → Int32) (pt dn fl tr : Nat → Int64) (ld st : Nat → Int32) (nx pv af vs ge ki H : Nat → Int64) (rd co ni na vd : Nat → Int32), ax_P n G V xopAt xaAt xbAt re ss im rp pt vs H na vd →
      post im (xmaxLength, nI V, nI G, xheapLimit, nI n, xcursor, 1, 0, re, ss, ev, im, xopAt, xaAt, xbAt, xcAt, xinputs, rp, pt, dn, fl, tr, ld, st, nx, pv, af, vs, ge, ki, H, rd, co, ni, na, vd, xrunStatus, xrunSteps, xrunOutputs, xrunReads, xrunWrites, xrunMade, xrunPlace, xvars, xcells, xheapSite, xoutputs)) : wpX_analyse post (xmaxLength, nI V, nI G, xheapLimit, nI n, xcursor, 0, xpending, xreachable, xsingleSites, xexactVars, ximproved, xopAt, xaAt, xbAt, xcAt, xinputs, xrep, xpts, xdone, xflowsTo, xtried, xloads, xstores, xnext, xprev, xafter, xvarSet, xgen, xkill, xholdsIn, xreads, xcovers, xneedIn, xneedAfter, xverdicts, xrunStatus, xrunSteps, xrunOutputs, xrunReads, xrunWrites, xrunMade, xrunPlace, xvars, xcells, xheapSite, xoutputs) := by
  have hE := pg_e_lt (n := n) (op := xopAt) (fa := xaAt) (fb := xbAt)
  unfold wpX_analyse
  refine br_t rfl ?_
  refine xf_buildFlow hp hR hn (fun nx pv af hnx hpv haf => ?_)
  refine xf_closeFlow (E := pg_e n xopAt xaAt xbAt) hE hn (fun i hi s => by rw [haf i hi]; exact hnx i hi s) (fun re af' haf' hre => ?_)
  refine xc_start hp hV hG hn (fun pd rp0 pt0 dn0 fl0 tr0 ld0 st0 hcs hdn => ?_)
  refine xc_solveC (xr_valid hp hV) hcs hdn (fun rp pt dn fl tr ld st r2 hrp hpt => ?_)
  refine xa_classify (T := gr_T (pg_e n xopAt xaAt xbAt)) (L := pt_L n G xopAt xaAt xbAt) hn hG (fun i hi => haf' i hi i) hrp hpt (fun j s h => (pt_bd hp hV hG hn h).2) (fun ss ev vs hss hev hvs => ?_)
  refine xh_solve (L := pt_L n G xopAt xaAt xbAt) (EX := pp_EX n G V xopAt xaAt xbAt) hE hp hV hn hev hvs hnx hre (fun ge ki H hH hH2 => ?_)
  refine xh_fwd (E := pg_e n xopAt xaAt xbAt) (HL := pp_HL n G V xopAt xaAt xbAt) hp hV hn hre (fun i v x h => h.1) hH hH2 (fun vd hvd => ?_)
  refine xn_solve (su := xr_su n xopAt xaAt xbAt) (HL := pp_HL n G V xopAt xaAt xbAt) hE xr_sus hp hV hn hev hvs hnx hpv hre hvd (fun rd co ni na hna => ?_)
  refine xr_removed hp hV hn hre hna hvd (fun vd' hvd' => ?_)
  refine xr_count hn ?_
  exact K _ _ _ _ _ _ _ _ _ _ _ _ _ _ _ _ _ _ _ _ _ _ _ ⟨hre, hss, hvs, ⟨r2, hrp, hpt⟩, hH, hna, hvd', rfl⟩
end
end
section
/-! the reference: small methods -/
def pg_s (n : Nat) (op fa fb : Nat → Int32) (i k s : Nat) : Prop := s < n ∧ ((k = 0 ∧ ((op i = 10 ∧ s = pn (fa i)) ∨ (¬ op i = 10 ∧ s = i + 1))) ∨ (k = 1 ∧ op i = 11 ∧ s = pn (fb i)))
theorem pg_es {n : Nat} {op fa fb : Nat → Int32} {i s : Nat} : pg_e n op fa fb i s ↔ i < n ∧ ∃ k, k < 2 ∧ pg_s n op fa fb i k s := by
  constructor
  · rintro ⟨hi, hs, ⟨h, e⟩ | ⟨h, e | ⟨h11, e⟩⟩⟩
    · exact ⟨hi, 0, by omega, hs, Or.inl ⟨rfl, Or.inl ⟨h, e⟩⟩⟩
    · exact ⟨hi, 0, by omega, hs, Or.inl ⟨rfl, Or.inr ⟨h, e⟩⟩⟩
    · exact ⟨hi, 1, by omega, hs, Or.inr ⟨rfl, h11, e⟩⟩
  · rintro ⟨hi, k, _, hs, ⟨_, ⟨h, e⟩ | ⟨h, e⟩⟩ | ⟨_, h11, e⟩⟩
    · exact ⟨hi, hs, Or.inl ⟨h, e⟩⟩
    · exact ⟨hi, hs, Or.inr ⟨h, Or.inl e⟩⟩
    · exact ⟨hi, hs, Or.inr ⟨by rw [h11]; decide, Or.inr ⟨h11, e⟩⟩⟩
theorem pg_su {n : Nat} {op fa fb : Nat → Int32} {i k s t : Nat} (h : pg_s n op fa fb i k s) (g : pg_s n op fa fb i k t) : s = t := by
  obtain ⟨_, ⟨a, ⟨b, c⟩ | ⟨b, c⟩⟩ | ⟨a, b, c⟩⟩ := h
  · obtain ⟨_, ⟨d, ⟨e, f⟩ | ⟨e, f⟩⟩ | ⟨d, e, f⟩⟩ := g
    · omega
    · exact absurd b e
    · omega
  · obtain ⟨_, ⟨d, ⟨e, f⟩ | ⟨e, f⟩⟩ | ⟨d, e, f⟩⟩ := g
    · exact absurd e b
    · omega
    · omega
  · obtain ⟨_, ⟨d, _⟩ | ⟨d, e, f⟩⟩ := g
    · omega
    · omega
def yb_H (L : Nat → Nat → Prop) (has : Nat → Int32) : Prop := ∀ k s, k < 48 → s < 40 → (has (k * 40 + s) = 0 ∧ ¬ L k s) ∨ (has (k * 40 + s) = 1 ∧ L k s)
section
variable {yroom : Int32} {yvars : Int32} {yglobals : Int32} {yheap : Int32} {ylength : Int32} {ycursor : Int32} {ystate : Int32} {ygrew : Int32} {yinputs : (Nat → Int32)} {yops : (Nat → Int32)} {yfa : (Nat → Int32)} {yfb : (Nat → Int32)} {yfc : (Nat → Int32)} {yhas : (Nat → Int32)} {ymark : (Nat → Int32)} {yreach : (Nat → Int32)} {ysingle : (Nat → Int32)} {yexact : (Nat → Int32)} {yverdicts : (Nat → Int32)} {yseen : (Nat → Int32)} {yeffect : (Nat → Int32)} {yfacts : (Nat → Int32)} {ywords : (Nat → Int64)} {ycells : (Nat → Int64)} {ysiteOf : (Nat → Int32)} {youts : (Nat → Int64)}
variable {R V G n : Nat} {L : Nat → Nat → Prop} {EX : Nat → Prop} {E : Nat → Nat → Prop} {post : Int32 → Prop}

theorem yn_51 {s : Nat} (hn : n ≤ 32) (hs : s ≤ 64) (h1 : s < n → post (nI s)) (h0 : ¬ s < n → post (-1)) : wY_next_51 post (nI s) yroom (nI V) (nI G) yheap (nI n) ycursor ystate ygrew yinputs yops yfa yfb yfc yhas ymark yreach ysingle yexact yverdicts yseen yeffect yfacts ywords ycells ysiteOf youts :=
  pk_le n s (fun z => h0 (by omega)) (fun z => h1 z)
theorem yn_next {i k : Nat} (hp : pg_ok R V G n yops yfa yfb yfc) (hR : R ≤ 32) (hn : n ≤ 32) (hi : i < n) (hk : k < 2) (h1 : ∀ s, pg_s n yops yfa yfb i k s → post (nI s)) (h0 : (∀ s, ¬ pg_s n yops yfa yfb i k s) → post (-1)) : wpY_next post (yroom, nI V, nI G, yheap, nI n, ycursor, ystate, ygrew, yinputs, yops, yfa, yfb, yfc, yhas, ymark, yreach, ysingle, yexact, yverdicts, yseen, yeffect, yfacts, ywords, ycells, ysiteOf, youts) (nI i) (nI k) := by
  have e : (nI i).toNatClampNeg = i := nI_clamp (by omega)
  have hin : vp_in (nI i) 32 := vp_in_nI (by omega) (by omega)
  obtain ⟨ho, h10, hn10, h2', h6, h11, hb', hc⟩ := hp i hi
  unfold wpY_next
  simp only [e]
  refine pk_eq k 0 (fun k0 => ⟨hin, br_c (fun o => ⟨hin, ?_⟩) (fun o => ?_)⟩) (fun k0 => ⟨hin, br_c (fun o => ⟨hin, ?_⟩) (fun o => ?_)⟩)
  · obtain ⟨a, ha, ea⟩ := h10 o
    have pa : pn (yfa i) = a := by rw [ea]; exact pn_nI (by omega)
    rw [ea]
    refine yn_51 hn (by omega) (fun z => h1 a ⟨z, Or.inl ⟨k0, Or.inl ⟨o, pa.symm⟩⟩⟩) (fun z => h0 (fun s hs => ?_))
    obtain ⟨q, ⟨_, ⟨_, c⟩ | ⟨b, _⟩⟩ | ⟨b, _⟩⟩ := hs
    · rw [pa] at c; omega
    · exact b o
    · omega
  · rw [nI_1]
    refine yn_51 hn (by omega) (fun z => h1 (i + 1) ⟨z, Or.inl ⟨k0, Or.inr ⟨o, rfl⟩⟩⟩) (fun z => h0 (fun s hs => ?_))
    obtain ⟨q, ⟨_, ⟨b, _⟩ | ⟨_, c⟩⟩ | ⟨b, _⟩⟩ := hs
    · exact o b
    · omega
    · omega
  · obtain ⟨b, hb, eb⟩ := h11 o
    have pb : pn (yfb i) = b := by rw [eb]; exact pn_nI (by omega)
    rw [eb]
    refine nm_e (yn_51 hn (by omega) (fun z => h1 b ⟨z, Or.inr ⟨by omega, o, pb.symm⟩⟩) (fun z => h0 (fun s hs => ?_)))
    obtain ⟨q, ⟨c, _⟩ | ⟨_, _, c⟩⟩ := hs
    · omega
    · rw [pb] at c; omega
  · have hm : ¬ nI n ≤ -1 := by
      rw [Int32.le_iff_toInt_le, nI_toInt (by omega), show (-1 : Int32).toInt = -1 by decide]; omega
    refine br_f hm (h0 (fun s hs => ?_))
    obtain ⟨q, ⟨c, _⟩ | ⟨_, c, _⟩⟩ := hs
    · omega
    · exact o c
theorem yn_in {p : Int32} {m : Nat} (hm : m < 2 ^ 31) (h1 : ∀ j, j < m → p = nI j → post 1) (h0 : (¬ ∃ j, j < m ∧ p = nI j) → post 0) : wpY_in post (yroom, nI V, nI G, yheap, nI n, ycursor, ystate, ygrew, yinputs, yops, yfa, yfb, yfc, yhas, ymark, yreach, ysingle, yexact, yverdicts, yseen, yeffect, yfacts, ywords, ycells, ysiteOf, youts) p (nI m) :=
  ix_br hm h0 h0 h1
theorem yb_ix {k s : Nat} (hk : k < 48) (hs : s < 40) : (nI k * 40 + nI s) = nI (k * 40 + s) ∧ vp_in (nI (k * 40 + s)) 1920 ∧ (nI (k * 40 + s)).toNatClampNeg = k * 40 + s := by
  have : nI k * 40 = nI (k * 40) := pk_mul k 40
  rw [this, nI_add]
  exact ⟨rfl, vp_in_nI (by omega) (by omega), nI_clamp (by omega)⟩
theorem yb_meet {u v : Nat} (hH : yb_H L yhas) (hL : ∀ j s, L j s → s < 40) (hu : u < 48) (hv : v < 48) (h1 : an_MT L u v → post 1) (h0 : ¬ an_MT L u v → post 0) : wpY_meet post (yroom, nI V, nI G, yheap, nI n, ycursor, ystate, ygrew, yinputs, yops, yfa, yfb, yfc, yhas, ymark, yreach, ysingle, yexact, yverdicts, yseen, yeffect, yfacts, ywords, ycells, ysiteOf, youts) (nI u) (nI v) := by
  refine lc_0 (fun d s => wY_meet_2 post (nI u) (nI v) yroom (nI V) (nI G) yheap (nI n) ycursor ystate ygrew yinputs yops yfa yfb yfc yhas ymark yreach ysingle yexact yverdicts yseen yeffect yfacts ywords ycells ysiteOf youts d (nI s)) (fun s => ∀ t, t < s → ¬ (L u t ∧ L v t)) 40 (fun t ht => absurd ht (Nat.not_lt_zero t)) ?_ ?_
  · intro d h
    exact br_t (nI_le (Nat.le_refl 40) (by omega)) (h0 (fun ⟨t, z⟩ => h t (hL u t z.1) z))
  · intro d s hs h ih
    obtain ⟨e1, e2, e3⟩ := yb_ix hu hs
    obtain ⟨f1, f2, f3⟩ := yb_ix hv hs
    have next : ¬ (L u s ∧ L v s) → ∀ t, t < s + 1 → ¬ (L u t ∧ L v t) := by
      intro q t ht
      by_cases et : t = s
      · rw [et]; exact q
      · exact h t (by omega)
    refine br_f (nI_ge (b := 40) hs (by omega)) ?_
    rw [e1, f1, e3, f3]
    refine ⟨e2, br_c (fun z => nm_r (nI_1 s) (ih (next (fun w => ?_)))) (fun z => ⟨f2, br_c (fun y => nm_r (nI_1 s) (ih (next (fun w => ?_)))) (fun y => h1 ⟨s, ?_, ?_⟩)⟩)⟩
    · rcases hH u s hu hs with q | q
      · exact q.2 w.1
      · rw [q.1] at z; exact absurd z (by decide)
    · rcases hH v s hv hs with q | q
      · exact q.2 w.2
      · rw [q.1] at y; exact absurd y (by decide)
    · rcases hH u s hu hs with q | q
      · exact absurd q.1 z
      · exact q.2
    · rcases hH v s hv hs with q | q
      · exact absurd q.1 y
      · exact q.2
theorem yb_same {u v : Nat} (hH : yb_H L yhas) (hL : ∀ j s, L j s → s < 40) (hex : ∀ v, v < 8 → (¬ yexact v = 0 ↔ EX v)) (hu : u < 8) (hv : v < 8) (h1 : an_SC L EX u v → post 1) (h0 : ¬ an_SC L EX u v → post 0) : wpY_sameExact post (yroom, nI V, nI G, yheap, nI n, ycursor, ystate, ygrew, yinputs, yops, yfa, yfb, yfc, yhas, ymark, yreach, ysingle, yexact, yverdicts, yseen, yeffect, yfacts, ywords, ycells, ysiteOf, youts) (nI u) (nI v) := by
  have eu : (nI u).toNatClampNeg = u := nI_clamp (by omega)
  have ev : (nI v).toNatClampNeg = v := nI_clamp (by omega)
  unfold wpY_sameExact
  simp only [eu, ev]
  refine ⟨vp_in_nI hu (by omega), br_c (fun z => h0 (fun w => (hex u hu).mpr w.1 z)) (fun zu => ⟨vp_in_nI hv (by omega), br_c (fun z => h0 (fun w => (hex v hv).mpr w.2.1 z)) (fun zv => ?_)⟩)⟩
  refine lc_0 (fun d s => wY_sameExact_22 post (nI u) (nI v) yroom (nI V) (nI G) yheap (nI n) ycursor ystate ygrew yinputs yops yfa yfb yfc yhas ymark yreach ysingle yexact yverdicts yseen yeffect yfacts ywords ycells ysiteOf youts d (nI s)) (fun s => ∀ t, t < s → (L u t ↔ L v t)) 40 (fun t ht => absurd ht (Nat.not_lt_zero t)) ?_ ?_
  · intro d h
    refine br_t (nI_le (Nat.le_refl 40) (by omega)) (h1 ⟨(hex u hu).mp zu, (hex v hv).mp zv, fun s => ⟨fun z => (h s (hL u s z)).mp z, fun z => (h s (hL v s z)).mpr z⟩⟩)
  · intro d s hs h ih
    obtain ⟨e1, e2, e3⟩ := yb_ix (k := u) (by omega) hs
    obtain ⟨f1, f2, f3⟩ := yb_ix (k := v) (by omega) hs
    refine br_f (nI_ge (b := 40) hs (by omega)) ?_
    rw [e1, f1, e3, f3]
    refine ⟨e2, f2, br_c (fun z => nm_r (nI_1 s) (ih (fun t ht => ?_))) (fun z => h0 (fun w => z ?_))⟩
    · by_cases et : t = s
      · subst et
        rcases hH u t (by omega) hs with q | q <;> rcases hH v t (by omega) hs with r | r
        · exact ⟨fun w => absurd w q.2, fun w => absurd w r.2⟩
        · rw [q.1, r.1] at z; exact absurd z (by decide)
        · rw [q.1, r.1] at z; exact absurd z (by decide)
        · exact ⟨fun _ => r.2, fun _ => q.2⟩
      · exact h t (by omega)
    · have w2 := w.2.2 s
      rcases hH u s (by omega) hs with q | q <;> rcases hH v s (by omega) hs with r | r
      · rw [q.1, r.1]
      · exact absurd (w2.mpr r.2) q.2
      · exact absurd (w2.mp q.2) r.2
      · rw [q.1, r.1]
theorem yb_assigns {i u : Nat} (hp : pg_ok R V G n yops yfa yfb yfc) (hn : n ≤ 32) (hi : i < n) (h1 : an_AS yops yfa i u → post 1) (h0 : ¬ an_AS yops yfa i u → post 0) : wpY_assigns post (yroom, nI V, nI G, yheap, nI n, ycursor, ystate, ygrew, yinputs, yops, yfa, yfb, yfc, yhas, ymark, yreach, ysingle, yexact, yverdicts, yseen, yeffect, yfacts, ywords, ycells, ysiteOf, youts) (nI i) (nI u) := by
  have e : (nI i).toNatClampNeg = i := nI_clamp (by omega)
  have hin : vp_in (nI i) 32 := vp_in_nI (by omega) (by omega)
  obtain ⟨⟨o, o1, o2, ho⟩, _⟩ := hp i hi
  unfold wpY_assigns
  simp only [e]
  exact ⟨hin, br_f (by rw [ho]; exact nI_nlt (b := 1) o1 (by omega)) ⟨hin, br_c (fun a => h0 (fun z => z.1 a)) (fun a => ⟨hin, br_c (fun b => h1 ⟨a, b⟩) (fun b => h0 (fun z => b z.2))⟩)⟩⟩
theorem yb_est {i v x : Nat} (hp : pg_ok R V G n yops yfa yfb yfc) (hV : V ≤ 8) (hn : n ≤ 32) (hi : i < n) (hH : yb_H L yhas) (hL : ∀ j s, L j s → s < 40) (hex : ∀ v, v < 8 → (¬ yexact v = 0 ↔ EX v)) (hv : v < 8) (hx : x < 8) (h1 : an_ES yops yfa yfb EX (an_SC L EX) i v x → post 1) (h0 : ¬ an_ES yops yfa yfb EX (an_SC L EX) i v x → post 0) : wpY_establishes post (yroom, nI V, nI G, yheap, nI n, ycursor, ystate, ygrew, yinputs, yops, yfa, yfb, yfc, yhas, ymark, yreach, ysingle, yexact, yverdicts, yseen, yeffect, yfacts, ywords, ycells, ysiteOf, youts) (nI i) (nI v) (nI x) := by
  have e : (nI i).toNatClampNeg = i := nI_clamp (by omega)
  have ev : (nI v).toNatClampNeg = v := nI_clamp (by omega)
  have hin : vp_in (nI i) 32 := vp_in_nI (by omega) (by omega)
  have hvn : vp_in (nI v) 8 := vp_in_nI hv (by omega)
  obtain ⟨ho, h10, hn10, h2, h6, h11, hb, hc⟩ := hp i hi
  have d98 : ∀ o : Int32, o = 9 → ¬ o = 8 := fun o z => by rw [z]; decide
  have notE : yexact v = 0 → ¬ EX v := fun z w => (hex v hv).mpr w z
  refine ⟨hin, nm_r (e' := yfa i) (by rw [e]) ⟨hin, nm_r (e' := yfb i) (by rw [e]) ⟨hin, ?_⟩⟩⟩
  simp only [e, ev]
  refine br_c (fun o9 => ?_) (fun o9 => ⟨hin, br_c (fun o8 => ?_) (fun o8 => h0 (fun z => z.elim (fun q => o9 q.1) (fun q => o8 q.1)))⟩)
  · obtain ⟨a, ha, ea⟩ := hn10 (by rw [o9]; decide)
    have pa : pn (yfa i) = a := by rw [ea]; exact pn_nI (by omega)
    refine br_c (fun zb => ⟨hvn, br_c (fun hE => br_c (fun za => h1 (Or.inl ⟨o9, zb, Or.inr ⟨notE hE, za⟩⟩)) (fun za => h0 (fun z => ?_))) (fun hE => ?_)⟩) (fun zb => h0 (fun z => ?_))
    · rcases z with ⟨_, _, ⟨z, _⟩ | ⟨_, z⟩⟩ | ⟨z, _⟩
      · exact notE hE z
      · exact za z
      · exact d98 _ o9 z
    · have hE := (hex v hv).mp hE
      rw [ea]
      refine yb_same hH hL hex (by omega) hv (fun q => br_f (by decide) (h1 (Or.inl ⟨o9, zb, Or.inl ⟨hE, ?_⟩⟩))) (fun q => br_t rfl (h0 (fun z => ?_)))
      · rw [pa]; exact q
      · rcases z with ⟨_, _, ⟨_, z⟩ | ⟨z, _⟩⟩ | ⟨z, _⟩
        · rw [pa] at z; exact q z
        · exact z hE
        · exact d98 _ o9 z
    · rcases z with ⟨_, z, _⟩ | ⟨z, _⟩
      · exact zb z
      · exact d98 _ o9 z
  · obtain ⟨b, hb2, eb⟩ := hb (Or.inr (Or.inr (Or.inr (Or.inl o8))))
    have pb : pn (yfb i) = b := by rw [eb]; exact pn_nI (by omega)
    refine br_c (fun za => ⟨hvn, br_c (fun hE => br_c (fun zb => br_c (fun zx => h0 (fun z => ?_)) (fun zx => h1 (Or.inr ⟨o8, za, Or.inr ⟨notE hE, zb, fun q => zx (by rw [q])⟩⟩))) (fun zb => h0 (fun z => ?_))) (fun hE => ?_)⟩) (fun za => h0 (fun z => ?_))
    · rw [nI_eq (by omega) (by omega)] at zx
      rcases z with ⟨z, _⟩ | ⟨_, _, ⟨z, _⟩ | ⟨_, _, z⟩⟩
      · exact o9 z
      · exact notE hE z
      · exact z zx
    · rcases z with ⟨z, _⟩ | ⟨_, _, ⟨z, _⟩ | ⟨_, z, _⟩⟩
      · exact o9 z
      · exact notE hE z
      · exact zb z
    · have hE := (hex v hv).mp hE
      rw [eb]
      refine yb_same hH hL hex (by omega) hv (fun q => br_f (by decide) (h1 (Or.inr ⟨o8, za, Or.inl ⟨hE, ?_⟩⟩))) (fun q => br_t rfl (h0 (fun z => ?_)))
      · rw [pb]; exact q
      · rcases z with ⟨z, _⟩ | ⟨_, _, ⟨_, z⟩ | ⟨z, _⟩⟩
        · exact o9 z
        · rw [pb] at z; exact q z
        · exact z hE
    · rcases z with ⟨z, _⟩ | ⟨_, z, _⟩
      · exact o9 z
      · exact za z
theorem yb_des {i v x : Nat} (hp : pg_ok R V G n yops yfa yfb yfc) (hV : V ≤ 8) (hn : n ≤ 32) (hi : i < n) (hH : yb_H L yhas) (hL : ∀ j s, L j s → s < 40) (hex : ∀ v, v < 8 → (¬ yexact v = 0 ↔ EX v)) (hv : v < 8) (hx : x < 8) (h1 : an_DE yops yfa EX (an_MT L) i v x → post 1) (h0 : ¬ an_DE yops yfa EX (an_MT L) i v x → post 0) : wpY_destroys post (yroom, nI V, nI G, yheap, nI n, ycursor, ystate, ygrew, yinputs, yops, yfa, yfb, yfc, yhas, ymark, yreach, ysingle, yexact, yverdicts, yseen, yeffect, yfacts, ywords, ycells, ysiteOf, youts) (nI i) (nI v) (nI x) := by
  have e : (nI i).toNatClampNeg = i := nI_clamp (by omega)
  have ev : (nI v).toNatClampNeg = v := nI_clamp (by omega)
  have hin : vp_in (nI i) 32 := vp_in_nI (by omega) (by omega)
  have hvn : vp_in (nI v) 8 := vp_in_nI hv (by omega)
  have hp' := hp i hi
  obtain ⟨ho, h10, hn10, h2, h6, h11, hb, hc⟩ := hp'
  have rest : ¬ an_AS yops yfa i x → ¬ (yops i = 9 ∧ an_MT L (pn (yfa i)) v) → wY_destroys_38 post (nI i) (nI v) yroom (nI V) (nI G) yheap (nI n) ycursor ystate ygrew yinputs yops yfa yfb yfc yhas ymark yreach ysingle yexact yverdicts yseen yeffect yfacts ywords ycells ysiteOf youts := by
    intro n1 n2
    unfold wY_destroys_38
    simp only [ev]
    refine ⟨hvn, br_c (fun hE => yb_assigns hp hn hi (fun q => br_f (by decide) (h1 (Or.inr (Or.inr ⟨fun w => (hex v hv).mpr w hE, q⟩)))) (fun q => br_t rfl (h0 (fun z => ?_)))) (fun hE => h0 (fun z => ?_))⟩
    · rcases z with z | z | z
      · exact n1 z
      · exact n2 z
      · exact q z.2
    · rcases z with z | z | z
      · exact n1 z
      · exact n2 z
      · exact z.1 ((hex v hv).mp hE)
  unfold wpY_destroys
  refine yb_assigns hp hn hi (fun q => br_f (by decide) (h1 (Or.inl q))) (fun q => br_t rfl ⟨hin, ?_⟩)
  simp only [e]
  refine br_c (fun o9 => ⟨hin, ?_⟩) (fun o9 => rest q (fun z => o9 z.1))
  obtain ⟨a, ha, ea⟩ := hn10 (by rw [o9]; decide)
  have pa : pn (yfa i) = a := by rw [ea]; exact pn_nI (by omega)
  rw [ea]
  refine yb_meet hH hL (by omega) (by omega) (fun z => br_f (by decide) (h1 (Or.inr (Or.inl ⟨o9, by rw [pa]; exact z⟩)))) (fun z => br_t rfl (rest q (fun y => z (by rw [← pa]; exact y.2))))
end
end
section
/-! rounds that mark until nothing is new -/
def yr_c (mk : Nat → Int32) (N : Nat) : Nat := ct_n (fun j => decide (¬ mk j = 0)) N
def yr_P (N : Nat) (T : Nat → Prop) (mk0 : Nat → Int32) (Q : Prop) (more : Int32) (mk : Nat → Int32) : Prop :=
  (∀ j, j < N → ¬ mk j = 0 → T j) ∧ (∀ j, ¬ mk0 j = 0 → ¬ mk j = 0) ∧ ((more = 0 ∧ mk = mk0 ∧ Q) ∨ (more = 1 ∧ yr_c mk0 N + 1 ≤ yr_c mk N))
theorem yr_cm {a b : Nat → Int32} {N : Nat} (h : ∀ j, ¬ a j = 0 → ¬ b j = 0) : yr_c a N ≤ yr_c b N := ct_le N (fun j _ z => decide_eq_true (h j (of_decide_eq_true z)))
theorem yr_cu {a : Nat → Int32} {N s : Nat} (hs : s < N) (h : a s = 0) : yr_c a N + 1 ≤ yr_c (upd a s 1) N := by
  refine ct_lt (j0 := s) N (fun j _ z => decide_eq_true ?_) hs (decide_eq_false (fun z => z h)) (decide_eq_true ?_)
  · by_cases e : j = s
    · subst e; rw [pk_us]; decide
    · rw [pk_un e]; exact of_decide_eq_true z
  · rw [pk_us]; decide
theorem yr_0 {N : Nat} {T : Nat → Prop} {mk0 : Nat → Int32} {Q : Prop} (h : ∀ j, j < N → ¬ mk0 j = 0 → T j) (q : Q) : yr_P N T mk0 Q 0 mk0 := ⟨h, fun _ z => z, Or.inl ⟨rfl, rfl, q⟩⟩
theorem yr_skip {N : Nat} {T : Nat → Prop} {mk0 mk : Nat → Int32} {Q Q' : Prop} {more : Int32} (h : yr_P N T mk0 Q more mk) (q : mk = mk0 → Q → Q') : yr_P N T mk0 Q' more mk :=
  ⟨h.1, h.2.1, h.2.2.elim (fun a => Or.inl ⟨a.1, a.2.1, q a.2.1 a.2.2⟩) Or.inr⟩
theorem yr_many {N : Nat} {T : Nat → Prop} {mk0 mk sn : Nat → Int32} {Q Q' : Prop} {more : Int32} (h : yr_P N T mk0 Q more mk) (h1 : ∀ j, ¬ mk j = 0 → ¬ sn j = 0) (h2 : ∀ j, j < N → ¬ sn j = 0 → T j) (h3 : yr_c mk N + 1 ≤ yr_c sn N) : yr_P N T mk0 Q' 1 sn := by
  have a := yr_cm (N := N) h.2.1
  exact ⟨h2, fun j z => h1 j (h.2.1 j z), Or.inr ⟨rfl, by omega⟩⟩
theorem yr_mark {N s : Nat} {T : Nat → Prop} {mk0 mk : Nat → Int32} {Q Q' : Prop} {more : Int32} (h : yr_P N T mk0 Q more mk) (hs : s < N) (hz : mk s = 0) (ht : T s) : yr_P N T mk0 Q' 1 (upd mk s 1) := by
  refine yr_many h (fun j z => ?_) (fun j hj z => ?_) (yr_cu hs hz)
  · by_cases e : j = s
    · subst e; rw [pk_us]; decide
    · rw [pk_un e]; exact z
  · by_cases e : j = s
    · subst e; exact ht
    · rw [pk_un e] at z; exact h.1 j hj z
def yr_H (N : Nat) (T : Nat → Prop) (C : (Nat → Int32) → Prop) (r : Nat) (more : Int32) (mk : Nat → Int32) : Prop := (∀ j, j < N → ¬ mk j = 0 → T j) ∧ ((more = 1 ∧ r ≤ yr_c mk N) ∨ (more = 0 ∧ C mk))
theorem yr_next {N r : Nat} {T : Nat → Prop} {C : (Nat → Int32) → Prop} {mk0 mk : Nat → Int32} {more : Int32} (hr : r ≤ yr_c mk0 N) (h : yr_P N T mk0 (C mk0) more mk) : yr_H N T C (r + 1) more mk := by
  refine ⟨h.1, h.2.2.elim (fun a => Or.inr ⟨a.1, by rw [a.2.1]; exact a.2.2⟩) (fun a => Or.inl ⟨a.1, by omega⟩)⟩
theorem yr_stop {N r : Nat} {T : Nat → Prop} {C : (Nat → Int32) → Prop} {mk : Nat → Int32} {more : Int32} (h : yr_H N T C r more mk) (hr : N < r) : C mk := by
  rcases h.2 with a | a
  · have := ct_bd (fun j => decide (¬ mk j = 0)) N
    have b := a.2
    unfold yr_c at b
    omega
  · exact a.2
section
variable {yroom : Int32} {yvars : Int32} {yglobals : Int32} {yheap : Int32} {ylength : Int32} {ycursor : Int32} {ystate : Int32} {ygrew : Int32} {yinputs : (Nat → Int32)} {yops : (Nat → Int32)} {yfa : (Nat → Int32)} {yfb : (Nat → Int32)} {yfc : (Nat → Int32)} {yhas : (Nat → Int32)} {ymark : (Nat → Int32)} {yreach : (Nat → Int32)} {ysingle : (Nat → Int32)} {yexact : (Nat → Int32)} {yverdicts : (Nat → Int32)} {yseen : (Nat → Int32)} {yeffect : (Nat → Int32)} {yfacts : (Nat → Int32)} {ywords : (Nat → Int64)} {ycells : (Nat → Int64)} {ysiteOf : (Nat → Int32)} {youts : (Nat → Int64)}
variable {R V G n : Nat} {post : SY → Prop}

/-- the pairs (j, t) ahead of (i, k) are closed -/
def ys_C (n : Nat) (op fa fb : Nat → Int32) (f i k : Nat) (mk : Nat → Int32) : Prop := ∀ j t s, (j < i ∨ (j = i ∧ t < k)) → t < 2 → (j = f ∨ ¬ mk j = 0) → pg_s n op fa fb j t s → ¬ mk s = 0
theorem ys_Cs {op fa fb : Nat → Int32} {f i k : Nat} {mk : Nat → Int32} (h : ys_C n op fa fb f i k mk) (q : (i = f ∨ ¬ mk i = 0) → ∀ s, pg_s n op fa fb i k s → ¬ mk s = 0) : ys_C n op fa fb f i (k + 1) mk := by
  intro j t s hj ht ha hs
  by_cases e : j = i ∧ t = k
  · obtain ⟨e1, e2⟩ := e
    subst e1 e2
    exact q ha s hs
  · exact h j t s (by omega) ht ha hs
theorem ys_C2 {op fa fb : Nat → Int32} {f i : Nat} {mk : Nat → Int32} (h : ys_C n op fa fb f i 2 mk) : ys_C n op fa fb f (i + 1) 0 mk := fun j t s hj ht => h j t s (by omega) ht
theorem ys_52 {J25 J40 : Int32 → Int32 → (Nat → Int32) → (Nat → Int32) → (Nat → Int32) → (Nat → Int32) → (Nat → Int32) → (Nat → Int32) → (Nat → Int32) → (Nat → Int32) → (Nat → Int32) → (Nat → Int32) → (Nat → Int32) → (Nat → Int32) → (Nat → Int32) → (Nat → Int32) → (Nat → Int64) → (Nat → Int64) → (Nat → Int32) → (Nat → Int64) → Prop} {f r i : Nat} {mk0 : Nat → Int32} {more : Int32} (hp : pg_ok R V G n yops yfa yfb yfc) (hR : R ≤ 32) (hn : n ≤ 32) (hi : i < n) (hf : f < 32) (h0 : yr_P 32 (gr_T (pg_e n yops yfa yfb) f) mk0 (ys_C n yops yfa yfb f i 0 mk0) more ymark)
    (K : ∀ (mo : Int32) (mk : Nat → Int32), yr_P 32 (gr_T (pg_e n yops yfa yfb) f) mk0 (ys_C n yops yfa yfb f (i + 1) 0 mk0) mo mk → J40 mo (nI (i + 1)) yinputs yops yfa yfb yfc yhas mk yreach ysingle yexact yverdicts yseen yeffect yfacts ywords ycells ysiteOf youts) : ∃ n52, wY_spread_52 post J25 J40 (nI f) (nI r) (nI i) yroom (nI V) (nI G) yheap (nI n) ycursor ystate ygrew n52 more 0 yinputs yops yfa yfb yfc yhas ymark yreach ysingle yexact yverdicts yseen yeffect yfacts ywords ycells ysiteOf youts := by
  have ei : (nI i).toNatClampNeg = i := nI_clamp (by omega)
  have hin : vp_in (nI i) 32 := vp_in_nI (by omega) (by omega)
  refine lc_2 (fun d k (mo : Int32) (mk : Nat → Int32) => wY_spread_52 post J25 J40 (nI f) (nI r) (nI i) yroom (nI V) (nI G) yheap (nI n) ycursor ystate ygrew d mo (nI k) yinputs yops yfa yfb yfc yhas mk yreach ysingle yexact yverdicts yseen yeffect yfacts ywords ycells ysiteOf youts) (fun k mo mk => yr_P 32 (gr_T (pg_e n yops yfa yfb) f) mk0 (ys_C n yops yfa yfb f i k mk0) mo mk) 2 more ymark h0 ?_ ?_
  · intro d mo mk h
    exact br_t (nI_le (Nat.le_refl 2) (by omega)) (nm_r (nI_1 i) (K mo mk (yr_skip h (fun _ => ys_C2))))
  · intro d k mo mk hk h ih
    have none : (∀ s, ¬ pg_s n yops yfa yfb i k s) → yr_P 32 (gr_T (pg_e n yops yfa yfb) f) mk0 (ys_C n yops yfa yfb f i (k + 1) mk0) mo mk := fun q => yr_skip h (fun _ w => ys_Cs w (fun _ s hs => absurd hs (q s)))
    have idle : ¬ (i = f ∨ ¬ mk i = 0) → yr_P 32 (gr_T (pg_e n yops yfa yfb) f) mk0 (ys_C n yops yfa yfb f i (k + 1) mk0) mo mk := fun q => yr_skip h (fun z w => ys_Cs w (fun a => by rw [z] at q; exact absurd a q))
    have act : ∀ s, (i = f ∨ ¬ mk i = 0) → pg_s n yops yfa yfb i k s → wY_spread_84 post J25 J40 (wY_spread_52 post J25 J40 (nI f) (nI r) (nI i) yroom (nI V) (nI G) yheap (nI n) ycursor ystate ygrew d) (nI f) mo (nI r) (nI i) (nI k) (nI s) yroom (nI V) (nI G) yheap (nI n) ycursor ystate ygrew yinputs yops yfa yfb yfc yhas mk yreach ysingle yexact yverdicts yseen yeffect yfacts ywords ycells ysiteOf youts := by
      intro s ha hs
      have hsn := hs.1
      have es : (nI s).toNatClampNeg = s := nI_clamp (by omega)
      have hsi : vp_in (nI s) 32 := vp_in_nI (by omega) (by omega)
      have hE : (pg_e n yops yfa yfb) i s := pg_es.mpr ⟨hi, k, hk, hs⟩
      refine br_f (nI_pos (by omega)) ⟨hsi, ?_⟩
      simp only [es]
      refine br_c (fun z => ⟨hsi, nm_r (e' := upd mk s 1) rfl (nm_r (nI_1 k) (ih _ _ (yr_mark h (by omega) z ?_)))⟩) (fun z => nm_r (nI_1 k) (ih _ _ (yr_skip h (fun q w => ys_Cs w (fun _ t ht => ?_)))))
      · rcases ha with ha | ha
        · subst ha; exact gr_T_e hE
        · exact gr_T_s (h.1 i (by omega) ha) hE
      · rw [pg_su ht hs, ← q]; exact z
    have negj : (i = f ∨ ¬ mk i = 0) → (∀ s, ¬ pg_s n yops yfa yfb i k s) → wY_spread_84 post J25 J40 (wY_spread_52 post J25 J40 (nI f) (nI r) (nI i) yroom (nI V) (nI G) yheap (nI n) ycursor ystate ygrew d) (nI f) mo (nI r) (nI i) (nI k) (-1) yroom (nI V) (nI G) yheap (nI n) ycursor ystate ygrew yinputs yops yfa yfb yfc yhas mk yreach ysingle yexact yverdicts yseen yeffect yfacts ywords ycells ysiteOf youts := fun _ q => br_t (by decide) (nm_r (nI_1 k) (ih _ _ (none q)))
    refine br_f (nI_ge (b := 2) hk (by omega)) (yn_next hp hR hn hi hk (fun s hs => pk_eq i f (fun e => act s (Or.inl e) hs) (fun e => ⟨hin, ?_⟩)) (fun q => pk_eq i f (fun e => negj (Or.inl e) q) (fun e => ⟨hin, ?_⟩)))
    · simp only [ei]
      exact br_c (fun z => nm_r (nI_1 k) (ih _ _ (idle (fun w => w.elim e (fun y => y z))))) (fun z => act s (Or.inr z) hs)
    · simp only [ei]
      exact br_c (fun z => nm_r (nI_1 k) (ih _ _ (none q))) (fun z => negj (Or.inr z) q)
theorem ys_spread {f : Nat} (hp : pg_ok R V G n yops yfa yfb yfc) (hR : R ≤ 32) (hn : n ≤ 32) (hf : f < 32) (K : ∀ mk : Nat → Int32, (∀ j, j < n → (¬ mk j = 0 ↔ gr_T (pg_e n yops yfa yfb) f j)) → post (yroom, nI V, nI G, yheap, nI n, ycursor, ystate, ygrew, yinputs, yops, yfa, yfb, yfc, yhas, mk, yreach, ysingle, yexact, yverdicts, yseen, yeffect, yfacts, ywords, ycells, ysiteOf, youts)) : wpY_spread post (yroom, nI V, nI G, yheap, nI n, ycursor, ystate, ygrew, yinputs, yops, yfa, yfb, yfc, yhas, ymark, yreach, ysingle, yexact, yverdicts, yseen, yeffect, yfacts, ywords, ycells, ysiteOf, youts) (nI f) := by
  have hE := pg_e_lt (n := n) (op := yops) (fa := yfa) (fb := yfb)
  have fin : ∀ mk : Nat → Int32, (∀ j, j < 32 → ¬ mk j = 0 → gr_T (pg_e n yops yfa yfb) f j) → ys_C n yops yfa yfb f n 0 mk → post (yroom, nI V, nI G, yheap, nI n, ycursor, ystate, ygrew, yinputs, yops, yfa, yfb, yfc, yhas, mk, yreach, ysingle, yexact, yverdicts, yseen, yeffect, yfacts, ywords, ycells, ysiteOf, youts) := by
    intro mk h1 h2
    refine K mk (fun j hj => ⟨h1 j (by omega), fun z => ?_⟩)
    refine z (fun j => ¬ mk j = 0) (fun y e => ?_) (fun y w a e => ?_)
    · obtain ⟨hi, k, hk, hs⟩ := pg_es.mp e
      exact h2 f k y (Or.inl hi) hk (Or.inl rfl) hs
    · obtain ⟨hi, k, hk, hs⟩ := pg_es.mp e
      exact h2 y k w (Or.inl hi) hk (Or.inr a) hs
  refine lc_1 (fun d j (mk : Nat → Int32) => wY_spread_2 post (nI f) yroom (nI V) (nI G) yheap (nI n) ycursor ystate ygrew d (nI j) yinputs yops yfa yfb yfc yhas mk yreach ysingle yexact yverdicts yseen yeffect yfacts ywords ycells ysiteOf youts) (fun j mk => ∀ t, t < j → mk t = 0) 32 ymark (fun t ht => absurd ht (Nat.not_lt_zero t)) ?_ ?_
  · intro d mk h0
    refine br_t (nI_le (Nat.le_refl 32) (by omega)) ?_
    refine lc_2 (fun d r (mo : Int32) (mk : Nat → Int32) => wY_spread_25 post (nI f) yroom (nI V) (nI G) yheap (nI n) ycursor ystate ygrew d mo (nI r) yinputs yops yfa yfb yfc yhas mk yreach ysingle yexact yverdicts yseen yeffect yfacts ywords ycells ysiteOf youts) (fun r mo mk => yr_H 32 (gr_T (pg_e n yops yfa yfb) f) (ys_C n yops yfa yfb f n 0) r mo mk) 33 1 mk ⟨fun j hj z => absurd (h0 j hj) z, Or.inl ⟨rfl, Nat.zero_le _⟩⟩ ?_ ?_
    · intro d mo mk h
      exact br_t (nI_lt (a := 32) (by omega) (by omega)) (fin mk h.1 (yr_stop h (by omega)))
    · intro d r mo mk hr h ih
      refine br_f (nI_nlt (b := r) (a := 32) (by omega) (by omega)) (br_c (fun z => fin mk h.1 ?_) (fun z => ?_))
      · rcases h.2 with a | a
        · rw [a.1] at z; exact absurd z (by decide)
        · exact a.2
      · have hc : r ≤ yr_c mk 32 := by
          rcases h.2 with a | a
          · exact a.2
          · exact absurd a.1 z
        refine lc_2 (fun d1 i (mo' : Int32) (mk' : Nat → Int32) => wY_spread_40 post (wY_spread_25 post (nI f) yroom (nI V) (nI G) yheap (nI n) ycursor ystate ygrew d) (nI f) (nI r) yroom (nI V) (nI G) yheap (nI n) ycursor ystate ygrew d1 mo' (nI i) yinputs yops yfa yfb yfc yhas mk' yreach ysingle yexact yverdicts yseen yeffect yfacts ywords ycells ysiteOf youts) (fun i mo' mk' => yr_P 32 (gr_T (pg_e n yops yfa yfb) f) mk (ys_C n yops yfa yfb f i 0 mk) mo' mk') n 0 mk (yr_0 h.1 (fun j t s hj => by omega)) ?_ ?_
        · intro d' mo' mk' h'
          exact br_t (nI_le (Nat.le_refl n) (by omega)) (nm_r (nI_1 r) (ih _ _ (yr_next hc h')))
        · intro d' i mo' mk' hi h' ih'
          exact br_f (nI_ge hi (by omega)) (ys_52 hp hR hn hi hf h' (fun mo'' mk'' h'' => ih' _ _ h''))
  · intro d j mk hj h ih
    refine br_f (nI_ge (b := 32) hj (by omega)) ⟨vp_in_nI hj (by omega), nm_r (e' := upd mk j 0) (by rw [nI_clamp (by omega)]; rfl) (nm_r (nI_1 j) (ih _ (fun t ht => ?_)))⟩
    by_cases e : t = j
    · subst e; exact pk_us
    · rw [pk_un e]; exact h t (by omega)
end
end
section
/-- what one step does to the seen pairs -/
def yt_S (E : Nat → Nat → Prop) (i f : Nat) (sn0 sn : Nat → Int32) (fr : Int32) : Prop :=
  (∀ j, ¬ sn0 j = 0 → ¬ sn j = 0) ∧ (∀ s, E i s → ¬ sn (2 * s + f) = 0) ∧ (∀ j, ¬ sn j = 0 → ¬ sn0 j = 0 ∨ ∃ s, E i s ∧ j = 2 * s + f) ∧ ((fr = 0 ∧ sn = sn0) ∨ (fr = 1 ∧ yr_c sn0 64 + 1 ≤ yr_c sn 64))
theorem yt_div {k : Nat} (hk : k < 64) : nI k / 2 = nI (k / 2) ∧ nI k - nI k / 2 * 2 = nI (k % 2) := by
  have a := pk_div (a := k) (d := 2) (by omega) (by omega) (by omega)
  have b := pk_rem (a := k) (d := 2) (by omega) (by omega) (by omega)
  exact ⟨a, b⟩
def yt_b (k : Nat) : Bool := decide (k % 2 = 1)
def yt_f (f : Bool) : Nat := if f = true then 1 else 0
section
variable {yroom : Int32} {yvars : Int32} {yglobals : Int32} {yheap : Int32} {ylength : Int32} {ycursor : Int32} {ystate : Int32} {ygrew : Int32} {yinputs : (Nat → Int32)} {yops : (Nat → Int32)} {yfa : (Nat → Int32)} {yfb : (Nat → Int32)} {yfc : (Nat → Int32)} {yhas : (Nat → Int32)} {ymark : (Nat → Int32)} {yreach : (Nat → Int32)} {ysingle : (Nat → Int32)} {yexact : (Nat → Int32)} {yverdicts : (Nat → Int32)} {yseen : (Nat → Int32)} {yeffect : (Nat → Int32)} {yfacts : (Nat → Int32)} {ywords : (Nat → Int64)} {ycells : (Nat → Int64)} {ysiteOf : (Nat → Int32)} {youts : (Nat → Int64)}
variable {R V G n : Nat} {L : Nat → Nat → Prop} {EX : Nat → Prop} {post : Int32 → SY → Prop}

theorem yt_step {i f : Nat} (hp : pg_ok R V G n yops yfa yfb yfc) (hR : R ≤ 32) (hn : n ≤ 32) (hi : i < n) (hf : f < 2) (K : ∀ (fr : Int32) (sn : Nat → Int32), yt_S (pg_e n yops yfa yfb) i f yseen sn fr → post fr (yroom, nI V, nI G, yheap, nI n, ycursor, ystate, ygrew, yinputs, yops, yfa, yfb, yfc, yhas, ymark, yreach, ysingle, yexact, yverdicts, sn, yeffect, yfacts, ywords, ycells, ysiteOf, youts)) : wpY_step post (yroom, nI V, nI G, yheap, nI n, ycursor, ystate, ygrew, yinputs, yops, yfa, yfb, yfc, yhas, ymark, yreach, ysingle, yexact, yverdicts, yseen, yeffect, yfacts, ywords, ycells, ysiteOf, youts) (nI i) (nI f) := by
  refine lc_2 (fun d k (fr : Int32) (sn : Nat → Int32) => wY_step_5 post (nI i) (nI f) yroom (nI V) (nI G) yheap (nI n) ycursor ystate ygrew d fr (nI k) yinputs yops yfa yfb yfc yhas ymark yreach ysingle yexact yverdicts sn yeffect yfacts ywords ycells ysiteOf youts) (fun k fr sn => (∀ j, ¬ yseen j = 0 → ¬ sn j = 0) ∧ (∀ t s, t < k → pg_s n yops yfa yfb i t s → ¬ sn (2 * s + f) = 0) ∧ (∀ j, ¬ sn j = 0 → ¬ yseen j = 0 ∨ ∃ s, (pg_e n yops yfa yfb) i s ∧ j = 2 * s + f) ∧ ((fr = 0 ∧ sn = yseen) ∨ (fr = 1 ∧ yr_c yseen 64 + 1 ≤ yr_c sn 64))) 2 0 yseen ⟨fun _ z => z, fun t s ht => absurd ht (Nat.not_lt_zero t), fun _ z => Or.inl z, Or.inl ⟨rfl, rfl⟩⟩ ?_ ?_
  · rintro d fr sn ⟨h1, h2, h3, h4⟩
    refine br_t (nI_le (Nat.le_refl 2) (by omega)) ⟨?_, K fr sn ⟨h1, fun s e => ?_, h3, h4⟩⟩
    · rcases h4 with z | z
      · rw [z.1]; exact narrow_b0
      · rw [z.1]; exact narrow_b1
    · obtain ⟨_, t, ht, hs⟩ := pg_es.mp e
      exact h2 t s ht hs
  · rintro d k fr sn hk ⟨h1, h2, h3, h4⟩ ih
    have hc : yr_c yseen 64 ≤ yr_c sn 64 := yr_cm h1
    refine br_f (nI_ge (b := 2) hk (by omega)) (yn_next hp hR hn hi hk (fun s hs => ?_) (fun q => br_t (by decide) (nm_r (nI_1 k) (ih _ _ ⟨h1, fun t s ht hs => ?_, h3, h4⟩))))
    · have hsn := hs.1
      have e1 : (2 : Int32) * nI s + nI f = nI (2 * s + f) := by
        have : (2 : Int32) * nI s = nI (2 * s) := pk_mul 2 s
        rw [this, nI_add]
      have e2 : (nI (2 * s + f)).toNatClampNeg = 2 * s + f := nI_clamp (by omega)
      have hin : vp_in (nI (2 * s + f)) 64 := vp_in_nI (by omega) (by omega)
      have hE : (pg_e n yops yfa yfb) i s := pg_es.mpr ⟨hi, k, hk, hs⟩
      refine br_f (nI_pos (by omega)) ?_
      rw [e1, e2]
      refine ⟨hin, br_c (fun z => ⟨hin, nm_r (e' := upd sn (2 * s + f) 1) rfl (nm_r (nI_1 k) (ih _ _ ⟨fun j hj => ?_, fun t u ht hu => ?_, fun j hj => ?_, Or.inr ⟨rfl, ?_⟩⟩))⟩) (fun z => nm_r (nI_1 k) (ih _ _ ⟨h1, fun t u ht hu => ?_, h3, h4⟩))⟩
      · by_cases e : j = 2 * s + f
        · subst e; rw [pk_us]; decide
        · rw [pk_un e]; exact h1 j hj
      · by_cases e : 2 * u + f = 2 * s + f
        · rw [e, pk_us]; decide
        · rw [pk_un e]
          by_cases et : t = k
          · subst et; exact absurd (by rw [pg_su hu hs]) e
          · exact h2 t u (by omega) hu
      · by_cases e : j = 2 * s + f
        · exact Or.inr ⟨s, hE, e⟩
        · rw [pk_un e] at hj; exact h3 j hj
      · have := yr_cu (a := sn) (N := 64) (s := 2 * s + f) (by omega) z
        omega
      · by_cases et : t = k
        · subst et; rw [pg_su hu hs]; exact z
        · exact h2 t u (by omega) hu
    · by_cases et : t = k
      · subst et; exact absurd hs (q s)
      · exact h2 t s (by omega) hs
/-- the flag behind pair k -/
def yh_N (ES DE : Nat → Prop) (k g : Nat) : Prop := (ES (k / 2) ∧ g = 1) ∨ (¬ ES (k / 2) ∧ DE (k / 2) ∧ g = 0) ∨ (¬ ES (k / 2) ∧ ¬ DE (k / 2) ∧ g = k % 2)
def yh_C (E : Nat → Nat → Prop) (ES DE : Nat → Prop) (K : Nat) (mk : Nat → Int32) : Prop := ∀ k g s, k < K → ¬ mk k = 0 → yh_N ES DE k g → E (k / 2) s → ¬ mk (2 * s + g) = 0
def yh_T (E : Nat → Nat → Prop) (ES DE : Nat → Prop) (k : Nat) : Prop := hd_S E ES DE (k / 2) (yt_b k)
theorem yh_Ts {E : Nat → Nat → Prop} {ES DE : Nat → Prop} {k g s : Nat} (h : yh_T E ES DE k) (hg : yh_N ES DE k g) (e : E (k / 2) s) : yh_T E ES DE (2 * s + g) := by
  unfold yh_T at h ⊢
  have e1 : g < 2 → (2 * s + g) / 2 = s := by omega
  rcases hg with ⟨a, b⟩ | ⟨a, b, c⟩ | ⟨a, b, c⟩
  · subst b
    rw [e1 (by omega), show yt_b (2 * s + 1) = true from decide_eq_true (by omega)]
    exact hd_g h e a
  · subst c
    rw [e1 (by omega), show yt_b (2 * s + 0) = false from decide_eq_false (by omega)]
    exact hd_k h e a b
  · have e2 : yt_b (2 * s + g) = yt_b k := by
      unfold yt_b
      rw [show (2 * s + g) % 2 = k % 2 by omega]
    rw [e1 (by omega), e2]
    exact hd_n h e a b
theorem yh_held {i v x : Nat} (hp : pg_ok R V G n yops yfa yfb yfc) (hR : R ≤ 32) (hV : V ≤ 8) (hn : n ≤ 32) (hH : yb_H L yhas) (hL : ∀ j s, L j s → s < 40) (hex : ∀ v, v < 8 → (¬ yexact v = 0 ↔ EX v)) (hi : i < n) (hv : v < 8) (hx : x < 8) (hre : ∀ i, i < n → (¬ yreach i = 0 ↔ gr_R (pg_e n yops yfa yfb) n i))
    (K1 : an_HL (pg_e n yops yfa yfb) n (an_ES yops yfa yfb EX (an_SC L EX)) (an_DE yops yfa EX (an_MT L)) i v x → ∀ sn ef : Nat → Int32, post 1 (yroom, nI V, nI G, yheap, nI n, ycursor, ystate, ygrew, yinputs, yops, yfa, yfb, yfc, yhas, ymark, yreach, ysingle, yexact, yverdicts, sn, ef, yfacts, ywords, ycells, ysiteOf, youts)) (K0 : ¬ an_HL (pg_e n yops yfa yfb) n (an_ES yops yfa yfb EX (an_SC L EX)) (an_DE yops yfa EX (an_MT L)) i v x → ∀ sn ef : Nat → Int32, post 0 (yroom, nI V, nI G, yheap, nI n, ycursor, ystate, ygrew, yinputs, yops, yfa, yfb, yfc, yhas, ymark, yreach, ysingle, yexact, yverdicts, sn, ef, yfacts, ywords, ycells, ysiteOf, youts)) : wpY_heldAt post (yroom, nI V, nI G, yheap, nI n, ycursor, ystate, ygrew, yinputs, yops, yfa, yfb, yfc, yhas, ymark, yreach, ysingle, yexact, yverdicts, yseen, yeffect, yfacts, ywords, ycells, ysiteOf, youts) (nI i) (nI v) (nI x) := by
  have hE := pg_e_lt (n := n) (op := yops) (fa := yfa) (fb := yfb)
  have ei : (nI i).toNatClampNeg = i := nI_clamp (by omega)
  have hin : vp_in (nI i) 32 := vp_in_nI (by omega) (by omega)
  unfold wpY_heldAt
  simp only [ei]
  refine ⟨hin, br_c (fun z => K0 (fun w => (hre i hi).mpr w.1 z) _ _) (fun z => ?_)⟩
  have hr := (hre i hi).mp z
  refine lc_1 (fun d t (ef : Nat → Int32) => wY_heldAt_14 post (nI i) (nI v) (nI x) yroom (nI V) (nI G) yheap (nI n) ycursor ystate ygrew d (nI t) yinputs yops yfa yfb yfc yhas ymark yreach ysingle yexact yverdicts yseen ef yfacts ywords ycells ysiteOf youts) (fun t ef => ∀ u, u < t → (ef u = 1 ∧ (an_ES yops yfa yfb EX (an_SC L EX)) u v x) ∨ (ef u = 2 ∧ ¬ (an_ES yops yfa yfb EX (an_SC L EX)) u v x ∧ (an_DE yops yfa EX (an_MT L)) u v x) ∨ (ef u = 0 ∧ ¬ (an_ES yops yfa yfb EX (an_SC L EX)) u v x ∧ ¬ (an_DE yops yfa EX (an_MT L)) u v x)) n yeffect (fun u hu => absurd hu (Nat.not_lt_zero u)) ?_ ?_
  · intro d ef hef
    refine br_t (nI_le (Nat.le_refl n) (by omega)) ?_
    have fin : ∀ mk : Nat → Int32, (∀ j, j < 64 → ¬ mk j = 0 → yh_T (pg_e n yops yfa yfb) (fun u => (an_ES yops yfa yfb EX (an_SC L EX)) u v x) (fun u => (an_DE yops yfa EX (an_MT L)) u v x) j) → (yh_C (pg_e n yops yfa yfb) (fun u => (an_ES yops yfa yfb EX (an_SC L EX)) u v x) (fun u => (an_DE yops yfa EX (an_MT L)) u v x) (2 * n) mk ∧ ¬ mk 0 = 0) → wY_heldAt_221 post (nI i) yroom (nI V) (nI G) yheap (nI n) ycursor ystate ygrew yinputs yops yfa yfb yfc yhas ymark yreach ysingle yexact yverdicts mk ef yfacts ywords ycells ysiteOf youts := by
      intro mk h1 h2
      have e1 : (2 : Int32) * nI i = nI (2 * i) := pk_mul 2 i
      have e2 : (nI (2 * i)).toNatClampNeg = 2 * i := nI_clamp (by omega)
      unfold wY_heldAt_221
      rw [e1, e2]
      have key : ¬ mk (2 * i) = 0 ↔ hd_S (pg_e n yops yfa yfb) (fun u => (an_ES yops yfa yfb EX (an_SC L EX)) u v x) (fun u => (an_DE yops yfa EX (an_MT L)) u v x) i false := by
        constructor
        · intro w
          have t := h1 (2 * i) (by omega) w
          unfold yh_T at t
          rwa [show 2 * i / 2 = i by omega, show yt_b (2 * i) = false from decide_eq_false (by omega)] at t
        · intro w
          have t := w (fun j f => j < n ∧ ¬ mk (2 * j + yt_f f) = 0) ⟨by omega, h2.2⟩ (by
            rintro j f s ⟨a, b⟩ e
            have hs := (hE j s e).2
            have ed : (2 * j + yt_f f) / 2 = j := by cases f <;> (unfold yt_f; simp; try omega)
            have em : (2 * j + yt_f f) % 2 = yt_f f := by cases f <;> (unfold yt_f; simp; try omega)
            have hk : 2 * j + yt_f f < 2 * n := by cases f <;> (unfold yt_f; simp; omega)
            have c := h2.1 (2 * j + yt_f f)
            unfold yh_N at c
            rw [ed, em] at c
            refine ⟨fun q => ⟨hs, ?_⟩, fun q q2 => ⟨hs, ?_⟩, fun q q2 => ⟨hs, ?_⟩⟩
            · exact c 1 s hk b (Or.inl ⟨q, rfl⟩) e
            · exact c 0 s hk b (Or.inr (Or.inl ⟨q, q2, rfl⟩)) e
            · exact c (yt_f f) s hk b (Or.inr (Or.inr ⟨q, q2, rfl⟩)) e)
          exact t.2
      refine ⟨vp_in_nI (by omega) (by omega), br_c (fun w => K1 ⟨hr, fun q => key.mpr q w⟩ _ _) (fun w => K0 (fun q => q.2 (key.mp w)) _ _)⟩
    refine lc_1 (fun d k (sn : Nat → Int32) => wY_heldAt_81 post (nI i) yroom (nI V) (nI G) yheap (nI n) ycursor ystate ygrew d (nI k) yinputs yops yfa yfb yfc yhas ymark yreach ysingle yexact yverdicts sn ef yfacts ywords ycells ysiteOf youts) (fun k sn => ∀ j, j < k → (j = 0 → sn j = 1) ∧ (¬ j = 0 → sn j = 0)) 64 yseen (fun j hj => absurd hj (Nat.not_lt_zero j)) ?_ ?_
    · intro d sn hsn
      refine br_t (nI_le (Nat.le_refl 64) (by omega)) ?_
      have s0 : ¬ sn 0 = 0 := by rw [(hsn 0 (by omega)).1 rfl]; decide
      have sT : ∀ j, j < 64 → ¬ sn j = 0 → yh_T (pg_e n yops yfa yfb) (fun u => (an_ES yops yfa yfb EX (an_SC L EX)) u v x) (fun u => (an_DE yops yfa EX (an_MT L)) u v x) j := by
        intro j hj w
        by_cases e : j = 0
        · subst e; exact hd_0
        · exact absurd ((hsn j hj).2 e) w
      refine lc_2 (fun d r (mo : Int32) (mk : Nat → Int32) => wY_heldAt_117 post (nI i) d mo (nI r) yroom (nI V) (nI G) yheap (nI n) ycursor ystate ygrew yinputs yops yfa yfb yfc yhas ymark yreach ysingle yexact yverdicts mk ef yfacts ywords ycells ysiteOf youts) (fun r mo mk => yr_H 64 (yh_T (pg_e n yops yfa yfb) (fun u => (an_ES yops yfa yfb EX (an_SC L EX)) u v x) (fun u => (an_DE yops yfa EX (an_MT L)) u v x)) (yh_C (pg_e n yops yfa yfb) (fun u => (an_ES yops yfa yfb EX (an_SC L EX)) u v x) (fun u => (an_DE yops yfa EX (an_MT L)) u v x) (2 * n)) r mo mk ∧ ¬ mk 0 = 0) 65 1 sn ⟨⟨sT, Or.inl ⟨rfl, Nat.zero_le _⟩⟩, s0⟩ ?_ ?_
      · rintro d mo mk ⟨h, hz⟩
        exact br_t (nI_lt (a := 64) (by omega) (by omega)) (fin mk h.1 ⟨yr_stop h (by omega), hz⟩)
      · rintro d r mo mk hr' ⟨h, hz⟩ ih
        refine br_f (nI_nlt (b := r) (a := 64) (by omega) (by omega)) (br_c (fun w => fin mk h.1 ⟨?_, hz⟩) (fun w => ?_))
        · rcases h.2 with a | a
          · rw [a.1] at w; exact absurd w (by decide)
          · exact a.2
        · have hc : r ≤ yr_c mk 64 := by
            rcases h.2 with a | a
            · exact a.2
            · exact absurd a.1 w
          have en : (2 : Int32) * nI n = nI (2 * n) := pk_mul 2 n
          refine lc_2 (fun d1 k (mo' : Int32) (mk' : Nat → Int32) => wY_heldAt_135 post (wY_heldAt_117 post (nI i) d) (nI i) (nI r) d1 mo' (nI k) yroom (nI V) (nI G) yheap (nI n) ycursor ystate ygrew yinputs yops yfa yfb yfc yhas ymark yreach ysingle yexact yverdicts mk' ef yfacts ywords ycells ysiteOf youts) (fun k mo' mk' => yr_P 64 (yh_T (pg_e n yops yfa yfb) (fun u => (an_ES yops yfa yfb EX (an_SC L EX)) u v x) (fun u => (an_DE yops yfa EX (an_MT L)) u v x)) mk (yh_C (pg_e n yops yfa yfb) (fun u => (an_ES yops yfa yfb EX (an_SC L EX)) u v x) (fun u => (an_DE yops yfa EX (an_MT L)) u v x) k mk) mo' mk') (2 * n) 0 mk (yr_0 h.1 (fun k g s hk => absurd hk (Nat.not_lt_zero k))) ?_ ?_
          · intro d' mo' mk' h'
            exact br_t (by rw [en]; exact nI_le (Nat.le_refl _) (by omega)) (nm_r (nI_1 r) (ih _ _ ⟨yr_next hc h', h'.2.1 0 hz⟩))
          · intro d' k mo' mk' hk h' ih'
            obtain ⟨ed, em⟩ := yt_div (k := k) (by omega)
            have ek : (nI k).toNatClampNeg = k := nI_clamp (by omega)
            have ekd : (nI (k / 2)).toNatClampNeg = k / 2 := nI_clamp (by omega)
            have hk2 : k / 2 < n := by omega
            have hki : vp_in (nI k) 64 := vp_in_nI (by omega) (by omega)
            have key : ∀ g, g < 2 → yh_N (fun u => (an_ES yops yfa yfb EX (an_SC L EX)) u v x) (fun u => (an_DE yops yfa EX (an_MT L)) u v x) k g → (∀ g', yh_N (fun u => (an_ES yops yfa yfb EX (an_SC L EX)) u v x) (fun u => (an_DE yops yfa EX (an_MT L)) u v x) k g' → g' = g) → wY_heldAt_181 post (wY_heldAt_117 post (nI i) d) (wY_heldAt_135 post (wY_heldAt_117 post (nI i) d) (nI i) (nI r) d') (nI i) mo' (nI r) (nI k) (nI g) yroom (nI V) (nI G) yheap (nI n) ycursor ystate ygrew yinputs yops yfa yfb yfc yhas ymark yreach ysingle yexact yverdicts mk' ef yfacts ywords ycells ysiteOf youts := by
              intro g hg hN hu
              unfold wY_heldAt_181
              rw [ed, ek]
              refine ⟨hki, br_c (fun y => nm_r (nI_1 k) (ih' _ _ (yr_skip h' (fun q c k2 g2 s hk2 hm hn2 e => ?_)))) (fun y => ⟨by decide, yt_step hp hR hn hk2 hg (fun fr sn' hS => ?_)⟩)⟩
              · by_cases e2 : k2 = k
                · subst e2; rw [q] at y; exact absurd y hm
                · exact c k2 g2 s (by omega) hm hn2 e
              · obtain ⟨t1, t2, t3, t4⟩ := hS
                rcases t4 with ⟨f0, f1⟩ | ⟨f0, f1⟩
                · subst f0 f1
                  refine br_t rfl (nm_r (nI_1 k) (ih' _ _ (yr_skip h' (fun q c k2 g2 s hk2 hm hn2 e => ?_))))
                  by_cases e2 : k2 = k
                  · subst e2
                    rw [hu g2 hn2, ← q]
                    exact t2 s e
                  · exact c k2 g2 s (by omega) hm hn2 e
                · subst f0
                  refine br_f (by decide) (nm_r (nI_1 k) (ih' _ _ (yr_many h' t1 (fun j hj w => ?_) f1)))
                  rcases t3 j w with a | ⟨s, e, a⟩
                  · exact h'.1 j hj a
                  · subst a
                    exact yh_Ts (h'.1 k (by omega) y) hN e
            refine br_f (by rw [en]; exact nI_ge hk (by omega)) ⟨by decide, ?_⟩
            rw [em, ed, ekd]
            refine ⟨vp_in_nI (by omega) (by omega), nm_e ?_⟩
            rcases hef (k / 2) hk2 with ⟨a, b⟩ | ⟨a, b, c⟩ | ⟨a, b, c⟩
            · refine br_t a (key 1 (by omega) (Or.inl ⟨b, rfl⟩) (fun g' hg' => ?_))
              rcases hg' with q | q | q
              · exact q.2
              · exact absurd b q.1
              · exact absurd b q.1
            · refine br_f (by rw [a]; decide) (br_t a (key 0 (by omega) (Or.inr (Or.inl ⟨b, c, rfl⟩)) (fun g' hg' => ?_)))
              rcases hg' with q | q | q
              · exact absurd q.1 b
              · exact q.2.2
              · exact absurd c q.2.1
            · refine br_f (by rw [a]; decide) (br_f (by rw [a]; decide) ⟨by decide, key (k % 2) (by omega) (Or.inr (Or.inr ⟨b, c, rfl⟩)) (fun g' hg' => ?_)⟩)
              rcases hg' with q | q | q
              · exact absurd q.1 b
              · exact absurd q.2.1 c
              · exact q.2.2
    · intro d k sn hk h ih
      have ek : (nI k).toNatClampNeg = k := nI_clamp (by omega)
      have hki : vp_in (nI k) 64 := vp_in_nI hk (by omega)
      refine br_f (nI_ge (b := 64) hk (by omega)) (pk_eq k 0 (fun z => ⟨hki, nm_r (e' := upd sn k 1) (by rw [ek]; rfl) (nm_r (nI_1 k) (ih _ (fun j hj => ?_)))⟩) (fun z => ⟨hki, nm_r (e' := upd sn k 0) (by rw [ek]; rfl) (nm_r (nI_1 k) (ih _ (fun j hj => ?_)))⟩))
      · by_cases e : j = k
        · subst e; rw [pk_us]; exact ⟨fun _ => rfl, fun w => absurd z w⟩
        · rw [pk_un e]; exact h j (by omega)
      · by_cases e : j = k
        · subst e; rw [pk_us]; exact ⟨fun w => absurd w z, fun _ => rfl⟩
        · rw [pk_un e]; exact h j (by omega)
  · intro d t ef ht h ih
    have et : (nI t).toNatClampNeg = t := nI_clamp (by omega)
    have hti : vp_in (nI t) 32 := vp_in_nI (by omega) (by omega)
    have step : ∀ ef' : Nat → Int32, (∀ u, ¬ u = t → ef' u = ef u) → ((ef' t = 1 ∧ (an_ES yops yfa yfb EX (an_SC L EX)) t v x) ∨ (ef' t = 2 ∧ ¬ (an_ES yops yfa yfb EX (an_SC L EX)) t v x ∧ (an_DE yops yfa EX (an_MT L)) t v x) ∨ (ef' t = 0 ∧ ¬ (an_ES yops yfa yfb EX (an_SC L EX)) t v x ∧ ¬ (an_DE yops yfa EX (an_MT L)) t v x)) → ∀ u, u < t + 1 → (ef' u = 1 ∧ (an_ES yops yfa yfb EX (an_SC L EX)) u v x) ∨ (ef' u = 2 ∧ ¬ (an_ES yops yfa yfb EX (an_SC L EX)) u v x ∧ (an_DE yops yfa EX (an_MT L)) u v x) ∨ (ef' u = 0 ∧ ¬ (an_ES yops yfa yfb EX (an_SC L EX)) u v x ∧ ¬ (an_DE yops yfa EX (an_MT L)) u v x) := by
      intro ef' q1 q2 u hu
      by_cases e : u = t
      · subst e; exact q2
      · rw [q1 u e]; exact h u (by omega)
    refine br_f (nI_ge ht (by omega)) ⟨hti, nm_r (e' := upd ef t 0) (by rw [et]) (yb_est hp hV hn ht hH hL hex hv hx (fun q => br_f (by decide) ⟨hti, nm_r (e' := upd (upd ef t 0) t 1) (by rw [et]) (nm_r (nI_1 t) (ih _ (step _ (fun u hu => by rw [pk_un hu, pk_un hu]) (Or.inl ⟨pk_us, q⟩))))⟩) (fun q => br_t rfl (yb_des hp hV hn ht hH hL hex hv hx (fun w => br_f (by decide) ⟨hti, nm_r (e' := upd (upd ef t 0) t 2) (by rw [et]) (nm_r (nI_1 t) (ih _ (step _ (fun u hu => by rw [pk_un hu, pk_un hu]) (Or.inr (Or.inl ⟨pk_us, q, w⟩)))))⟩) (fun w => br_t rfl (nm_r (nI_1 t) (ih _ (step _ (fun u hu => pk_un hu) (Or.inr (Or.inr ⟨pk_us, q, w⟩)))))))))⟩
end
end
section
def yn_N (AS : Nat → Prop) (k g : Nat) : Prop := (AS (k / 2) ∧ g = 1) ∨ (¬ AS (k / 2) ∧ g = k % 2)
def yn_C (E : Nat → Nat → Prop) (RD : Nat → Prop) (OV : Nat → Bool → Prop) (AS : Nat → Prop) (K : Nat) (mk : Nat → Int32) : Prop := ∀ k, k < K → ¬ mk k = 0 → ¬ RD (k / 2) ∧ ∀ g s, ¬ OV (k / 2) (yt_b k) → yn_N AS k g → E (k / 2) s → ¬ mk (2 * s + g) = 0
def yn_T (E : Nat → Nat → Prop) (RD : Nat → Prop) (OV : Nat → Bool → Prop) (AS : Nat → Prop) (i k : Nat) : Prop := nd_N E RD OV AS (k / 2) (yt_b k) → ∃ s, E i s ∧ nd_N E RD OV AS s false
theorem yn_Ts {E : Nat → Nat → Prop} {RD : Nat → Prop} {OV : Nat → Bool → Prop} {AS : Nat → Prop} {i k g s : Nat} (h : yn_T E RD OV AS i k) (ho : ¬ OV (k / 2) (yt_b k)) (hg : yn_N AS k g) (e : E (k / 2) s) : yn_T E RD OV AS i (2 * s + g) := by
  intro z
  have e1 : g < 2 → (2 * s + g) / 2 = s := by omega
  rcases hg with ⟨a, b⟩ | ⟨a, b⟩
  · subst b
    rw [e1 (by omega), show yt_b (2 * s + 1) = true from decide_eq_true (by omega)] at z
    exact h (nd_s e ho (fun _ => z) (fun q => absurd a q))
  · have e2 : yt_b (2 * s + g) = yt_b k := by
      unfold yt_b
      rw [show (2 * s + g) % 2 = k % 2 by omega]
    rw [e1 (by omega), e2] at z
    exact h (nd_s e ho (fun q => absurd q a) (fun _ => z))
section
variable {yroom : Int32} {yvars : Int32} {yglobals : Int32} {yheap : Int32} {ylength : Int32} {ycursor : Int32} {ystate : Int32} {ygrew : Int32} {yinputs : (Nat → Int32)} {yops : (Nat → Int32)} {yfa : (Nat → Int32)} {yfb : (Nat → Int32)} {yfc : (Nat → Int32)} {yhas : (Nat → Int32)} {ymark : (Nat → Int32)} {yreach : (Nat → Int32)} {ysingle : (Nat → Int32)} {yexact : (Nat → Int32)} {yverdicts : (Nat → Int32)} {yseen : (Nat → Int32)} {yeffect : (Nat → Int32)} {yfacts : (Nat → Int32)} {ywords : (Nat → Int64)} {ycells : (Nat → Int64)} {ysiteOf : (Nat → Int32)} {youts : (Nat → Int64)}
variable {R V G n : Nat} {L : Nat → Nat → Prop} {EX : Nat → Prop} {HL : Nat → Nat → Nat → Prop} {post : Int32 → SY → Prop}

theorem yn_needed {i v : Nat} (hp : pg_ok R V G n yops yfa yfb yfc) (hR : R ≤ 32) (hV : V ≤ 8) (hn : n ≤ 32) (hH : yb_H L yhas) (hL : ∀ j s, L j s → s < 40) (hex : ∀ v, v < 8 → (¬ yexact v = 0 ↔ EX v)) (hi : i < n) (hv : v < V) (hre : ∀ i, i < n → (¬ yreach i = 0 ↔ gr_R (pg_e n yops yfa yfb) n i)) (hvd : ∀ t, t < n → yops t = 8 → (¬ 16 ≤ yverdicts t ↔ ∀ x, x < V → ¬ HL t (pn (yfb t)) x))
    (K1 : an_NA (pg_e n yops yfa yfb) n (an_RD V yops yfb HL (an_MT L)) (an_OV yops yfa (an_SC L EX)) (an_AS yops yfa) i v → ∀ sn : Nat → Int32, post 1 (yroom, nI V, nI G, yheap, nI n, ycursor, ystate, ygrew, yinputs, yops, yfa, yfb, yfc, yhas, ymark, yreach, ysingle, yexact, yverdicts, sn, yeffect, yfacts, ywords, ycells, ysiteOf, youts)) (K0 : ¬ an_NA (pg_e n yops yfa yfb) n (an_RD V yops yfb HL (an_MT L)) (an_OV yops yfa (an_SC L EX)) (an_AS yops yfa) i v → ∀ sn : Nat → Int32, post 0 (yroom, nI V, nI G, yheap, nI n, ycursor, ystate, ygrew, yinputs, yops, yfa, yfb, yfc, yhas, ymark, yreach, ysingle, yexact, yverdicts, sn, yeffect, yfacts, ywords, ycells, ysiteOf, youts)) : wpY_neededAt post (yroom, nI V, nI G, yheap, nI n, ycursor, ystate, ygrew, yinputs, yops, yfa, yfb, yfc, yhas, ymark, yreach, ysingle, yexact, yverdicts, yseen, yeffect, yfacts, ywords, ycells, ysiteOf, youts) (nI i) (nI v) := by
  have hE := pg_e_lt (n := n) (op := yops) (fa := yfa) (fb := yfb)
  have ei : (nI i).toNatClampNeg = i := nI_clamp (by omega)
  have hin : vp_in (nI i) 32 := vp_in_nI (by omega) (by omega)
  unfold wpY_neededAt
  simp only [ei]
  refine ⟨hin, br_c (fun z => K0 (fun w => (hre i hi).mpr w.1 z) _) (fun z => ?_)⟩
  have hr := (hre i hi).mp z
  refine lc_1 (fun d k (sn : Nat → Int32) => wY_neededAt_13 post (nI i) (nI v) yroom (nI V) (nI G) yheap (nI n) ycursor ystate ygrew d (nI k) yinputs yops yfa yfb yfc yhas ymark yreach ysingle yexact yverdicts sn yeffect yfacts ywords ycells ysiteOf youts) (fun k sn => ∀ j, j < k → sn j = 0) 64 yseen (fun j hj => absurd hj (Nat.not_lt_zero j)) ?_ ?_
  · intro d sn0 hsn0
    have z0 : (0 : Int32) = nI 0 := rfl
    refine br_t (nI_le (Nat.le_refl 64) (by omega)) (yt_step hp hR hn hi (f := 0) (by omega) (fun fr sn hS => ?_))
    obtain ⟨t1, t2, t3, t4⟩ := hS
    have fin : ∀ mk : Nat → Int32, yn_C (pg_e n yops yfa yfb) (fun u => (an_RD V yops yfb HL (an_MT L)) u v) (fun u f => (an_OV yops yfa (an_SC L EX)) u v f) (fun u => (an_AS yops yfa) u v) (2 * n) mk → (∀ j, ¬ sn j = 0 → ¬ mk j = 0) → post 0 (yroom, nI V, nI G, yheap, nI n, ycursor, ystate, ygrew, yinputs, yops, yfa, yfb, yfc, yhas, ymark, yreach, ysingle, yexact, yverdicts, mk, yeffect, yfacts, ywords, ycells, ysiteOf, youts) := by
      intro mk h1 h2
      refine K0 (fun ⟨_, s, e, q⟩ => ?_) _
      have hs := (hE i s e).2
      refine nd_out (C := fun j f => j < n ∧ ¬ mk (2 * j + yt_f f) = 0) ?_ ?_ q ⟨hs, h2 _ (t2 s e)⟩
      · rintro j f ⟨a, b⟩
        have ed : (2 * j + yt_f f) / 2 = j := by cases f <;> (unfold yt_f; simp; try omega)
        have hk : 2 * j + yt_f f < 2 * n := by cases f <;> (unfold yt_f; simp; omega)
        have c := (h1 _ hk b).1
        rwa [ed] at c
      · rintro j f t ⟨a, b⟩ e2 ho
        have ed : (2 * j + yt_f f) / 2 = j := by cases f <;> (unfold yt_f; simp; try omega)
        have em : (2 * j + yt_f f) % 2 = yt_f f := by cases f <;> (unfold yt_f; simp; try omega)
        have eb : yt_b (2 * j + yt_f f) = f := by
          unfold yt_b
          rw [em]
          cases f <;> rfl
        have hk : 2 * j + yt_f f < 2 * n := by cases f <;> (unfold yt_f; simp; omega)
        have c := (h1 _ hk b).2
        unfold yn_N at c
        rw [ed, em, eb] at c
        exact ⟨fun q => ⟨(hE j t e2).2, c 1 t ho (Or.inl ⟨q, rfl⟩) e2⟩, fun q => ⟨(hE j t e2).2, c (yt_f f) t ho (Or.inr ⟨q, rfl⟩) e2⟩⟩
    have sT : ∀ j, j < 64 → ¬ sn j = 0 → yn_T (pg_e n yops yfa yfb) (fun u => (an_RD V yops yfb HL (an_MT L)) u v) (fun u f => (an_OV yops yfa (an_SC L EX)) u v f) (fun u => (an_AS yops yfa) u v) i j := by
      intro j hj w
      rcases t3 j w with a | ⟨s, e, a⟩
      · exact absurd (hsn0 j hj) a
      · subst a
        intro q
        rw [show (2 * s + 0) / 2 = s by omega, show yt_b (2 * s + 0) = false from decide_eq_false (by omega)] at q
        exact ⟨s, e, q⟩
    have h0 : yr_H 64 (yn_T (pg_e n yops yfa yfb) (fun u => (an_RD V yops yfb HL (an_MT L)) u v) (fun u f => (an_OV yops yfa (an_SC L EX)) u v f) (fun u => (an_AS yops yfa) u v) i) (yn_C (pg_e n yops yfa yfb) (fun u => (an_RD V yops yfb HL (an_MT L)) u v) (fun u f => (an_OV yops yfa (an_SC L EX)) u v f) (fun u => (an_AS yops yfa) u v) (2 * n)) 0 fr sn := by
      refine ⟨sT, ?_⟩
      rcases t4 with ⟨a, b⟩ | ⟨a, b⟩
      · refine Or.inr ⟨a, fun k hk q => ?_⟩
        rw [b] at q
        exact absurd (hsn0 k (by omega)) q
      · exact Or.inl ⟨a, Nat.zero_le _⟩
    refine lc_2 (fun d r (mo : Int32) (mk : Nat → Int32) => wY_neededAt_42 post (nI v) d mo (nI r) yroom (nI V) (nI G) yheap (nI n) ycursor ystate ygrew yinputs yops yfa yfb yfc yhas ymark yreach ysingle yexact yverdicts mk yeffect yfacts ywords ycells ysiteOf youts) (fun r mo mk => yr_H 64 (yn_T (pg_e n yops yfa yfb) (fun u => (an_RD V yops yfb HL (an_MT L)) u v) (fun u f => (an_OV yops yfa (an_SC L EX)) u v f) (fun u => (an_AS yops yfa) u v) i) (yn_C (pg_e n yops yfa yfb) (fun u => (an_RD V yops yfb HL (an_MT L)) u v) (fun u f => (an_OV yops yfa (an_SC L EX)) u v f) (fun u => (an_AS yops yfa) u v) (2 * n)) r mo mk ∧ (∀ j, ¬ sn j = 0 → ¬ mk j = 0)) 65 fr sn ⟨h0, fun _ w => w⟩ ?_ ?_
    · rintro d mo mk ⟨h, hz⟩
      exact br_t (nI_lt (a := 64) (by omega) (by omega)) (fin mk (yr_stop h (by omega)) hz)
    · rintro d r mo mk hr' ⟨h, hz⟩ ih
      refine br_f (nI_nlt (b := r) (a := 64) (by omega) (by omega)) (br_c (fun w => fin mk ?_ hz) (fun w => ?_))
      · rcases h.2 with a | a
        · rw [a.1] at w; exact absurd w (by decide)
        · exact a.2
      · have hc : r ≤ yr_c mk 64 := by
          rcases h.2 with a | a
          · exact a.2
          · exact absurd a.1 w
        have en : (2 : Int32) * nI n = nI (2 * n) := pk_mul 2 n
        refine lc_2 (fun d1 k (mo' : Int32) (mk' : Nat → Int32) => wY_neededAt_58 post (wY_neededAt_42 post (nI v) d) (nI v) (nI r) d1 mo' (nI k) yroom (nI V) (nI G) yheap (nI n) ycursor ystate ygrew yinputs yops yfa yfb yfc yhas ymark yreach ysingle yexact yverdicts mk' yeffect yfacts ywords ycells ysiteOf youts) (fun k mo' mk' => yr_P 64 (yn_T (pg_e n yops yfa yfb) (fun u => (an_RD V yops yfb HL (an_MT L)) u v) (fun u f => (an_OV yops yfa (an_SC L EX)) u v f) (fun u => (an_AS yops yfa) u v) i) mk (yn_C (pg_e n yops yfa yfb) (fun u => (an_RD V yops yfb HL (an_MT L)) u v) (fun u f => (an_OV yops yfa (an_SC L EX)) u v f) (fun u => (an_AS yops yfa) u v) k mk) mo' mk') (2 * n) 0 mk (yr_0 h.1 (fun k hk => absurd hk (Nat.not_lt_zero k))) ?_ ?_
        · intro d' mo' mk' h'
          exact br_t (by rw [en]; exact nI_le (Nat.le_refl _) (by omega)) (nm_r (nI_1 r) (ih _ _ ⟨yr_next hc h', fun j q => h'.2.1 j (hz j q)⟩))
        · intro d' k mo' mk' hk h' ih'
          obtain ⟨ed, em⟩ := yt_div (k := k) (by omega)
          have ek : (nI k).toNatClampNeg = k := nI_clamp (by omega)
          have ekd : (nI (k / 2)).toNatClampNeg = k / 2 := nI_clamp (by omega)
          have hk2 : k / 2 < n := by omega
          have hki : vp_in (nI k) 64 := vp_in_nI (by omega) (by omega)
          have hkd : vp_in (nI (k / 2)) 32 := vp_in_nI (by omega) (by omega)
          have hV8 : v < 8 := by omega
          obtain ⟨ho, h10, hn10, h2', h6, h11, hb', hc'⟩ := hp (k / 2) hk2
          have add : ∀ {A : Prop}, (mk' = mk → A) → (A → ¬ (an_RD V yops yfb HL (an_MT L)) (k / 2) v ∧ ∀ g s, ¬ (an_OV yops yfa (an_SC L EX)) (k / 2) v (yt_b k) → yn_N (fun u => (an_AS yops yfa) u v) k g → (pg_e n yops yfa yfb) (k / 2) s → ¬ mk (2 * s + g) = 0) → yr_P 64 (yn_T (pg_e n yops yfa yfb) (fun u => (an_RD V yops yfb HL (an_MT L)) u v) (fun u f => (an_OV yops yfa (an_SC L EX)) u v f) (fun u => (an_AS yops yfa) u v) i) mk (yn_C (pg_e n yops yfa yfb) (fun u => (an_RD V yops yfb HL (an_MT L)) u v) (fun u f => (an_OV yops yfa (an_SC L EX)) u v f) (fun u => (an_AS yops yfa) u v) (k + 1) mk) mo' mk' := by
            intro A q1 q2
            refine yr_skip h' (fun q c k2 hk2 hm => ?_)
            by_cases e2 : k2 = k
            · subst e2; exact q2 (q1 q)
            · exact c k2 (by omega) hm
          have key195 : ∀ (g : Nat) (x8 : Int32), g < 2 → yn_N (fun u => (an_AS yops yfa) u v) k g → (∀ g', yn_N (fun u => (an_AS yops yfa) u v) k g' → g' = g) → ((x8 = 0 ∧ ¬ (an_OV yops yfa (an_SC L EX)) (k / 2) v (yt_b k)) ∨ (¬ x8 = 0 ∧ (an_OV yops yfa (an_SC L EX)) (k / 2) v (yt_b k))) → ¬ (an_RD V yops yfb HL (an_MT L)) (k / 2) v → ¬ mk' k = 0 → wY_neededAt_195 post (wY_neededAt_42 post (nI v) d) (wY_neededAt_58 post (wY_neededAt_42 post (nI v) d) (nI v) (nI r) d') (nI v) mo' (nI r) (nI k) (nI (k / 2)) (nI g) x8 yroom (nI V) (nI G) yheap (nI n) ycursor ystate ygrew yinputs yops yfa yfb yfc yhas ymark yreach ysingle yexact yverdicts mk' yeffect yfacts ywords ycells ysiteOf youts := by
            intro g x8 hg hN hu hov hrd hm
            rcases hov with ⟨o1, o2⟩ | ⟨o1, o2⟩
            · refine br_t o1 (yt_step hp hR hn hk2 hg (fun fr' sn' hS => ?_))
              obtain ⟨u1, u2, u3, u4⟩ := hS
              rcases u4 with ⟨f0, f1⟩ | ⟨f0, f1⟩
              · have f2 := f1.symm
                subst f0 f2
                refine br_t rfl (nm_r (nI_1 k) (ih' _ _ (add (A := mk' = mk) (fun q => q) (fun q => ⟨hrd, fun g2 s _ hn2 e => ?_⟩))))
                rw [hu g2 hn2, ← q]
                exact u2 s e
              · subst f0
                refine br_f (by decide) (nm_r (nI_1 k) (ih' _ _ (yr_many h' u1 (fun j hj w => ?_) f1)))
                rcases u3 j w with a | ⟨s, e, a⟩
                · exact h'.1 j hj a
                · subst a
                  exact yn_Ts (h'.1 k (by omega) hm) o2 hN e
            · exact br_f o1 (nm_r (nI_1 k) (ih' _ _ (add (A := True) (fun _ => trivial) (fun _ => ⟨hrd, fun g2 s q => absurd o2 q⟩))))
          have key180 : ∀ (x8 : Int32), ((x8 = 0 ∧ ¬ (an_OV yops yfa (an_SC L EX)) (k / 2) v (yt_b k)) ∨ (¬ x8 = 0 ∧ (an_OV yops yfa (an_SC L EX)) (k / 2) v (yt_b k))) → ¬ (an_RD V yops yfb HL (an_MT L)) (k / 2) v → ¬ mk' k = 0 → wY_neededAt_180 post (wY_neededAt_42 post (nI v) d) (wY_neededAt_58 post (wY_neededAt_42 post (nI v) d) (nI v) (nI r) d') (nI v) mo' (nI r) (nI k) (nI (k / 2)) (nI (k % 2)) x8 yroom (nI V) (nI G) yheap (nI n) ycursor ystate ygrew yinputs yops yfa yfb yfc yhas ymark yreach ysingle yexact yverdicts mk' yeffect yfacts ywords ycells ysiteOf youts := by
            intro x8 hov hrd hm
            unfold wY_neededAt_180
            refine yb_assigns hp hn hk2 (fun q => br_f (by decide) (key195 1 x8 (by omega) (Or.inl ⟨q, rfl⟩) (fun g' hg' => ?_) hov hrd hm)) (fun q => br_t rfl (key195 (k % 2) x8 (by omega) (Or.inr ⟨q, rfl⟩) (fun g' hg' => ?_) hov hrd hm))
            · rcases hg' with w | w
              · exact w.2
              · exact absurd q w.1
            · rcases hg' with w | w
              · exact absurd w.1 q
              · exact w.2
          have key132 : ¬ (an_RD V yops yfb HL (an_MT L)) (k / 2) v → ¬ mk' k = 0 → wY_neededAt_132 post (wY_neededAt_42 post (nI v) d) (wY_neededAt_58 post (wY_neededAt_42 post (nI v) d) (nI v) (nI r) d') (nI v) mo' (nI r) (nI k) (nI (k / 2)) (nI (k % 2)) yroom (nI V) (nI G) yheap (nI n) ycursor ystate ygrew yinputs yops yfa yfb yfc yhas ymark yreach ysingle yexact yverdicts mk' yeffect yfacts ywords ycells ysiteOf youts := by
            intro hrd hm
            unfold wY_neededAt_132
            simp only [ekd]
            refine ⟨hkd, br_c (fun o9 => ⟨hkd, ?_⟩) (fun o9 => key180 0 (Or.inl ⟨rfl, fun q => o9 q.1⟩) hrd hm)⟩
            obtain ⟨a, ha, ea⟩ := hn10 (by rw [o9]; decide)
            have pa : pn (yfa (k / 2)) = a := by rw [ea]; exact pn_nI (by omega)
            have hfl : yt_b k = false ↔ k % 2 = 0 := by
              unfold yt_b
              rw [decide_eq_false_iff_not]; omega
            rw [ea]
            refine yb_same hH hL hex (by omega) hV8 (fun q => br_f (by decide) (key180 1 (Or.inr ⟨by decide, o9, Or.inl ?_⟩) hrd hm)) (fun q => br_t rfl ⟨hkd, br_c (fun w => pk_eq (k % 2) 0 (fun y => key180 1 (Or.inr ⟨by decide, o9, Or.inr ⟨?_, hfl.mpr y⟩⟩) hrd hm) (fun y => key180 0 (Or.inl ⟨rfl, fun u => ?_⟩) hrd hm)) (fun w => key180 0 (Or.inl ⟨rfl, fun u => ?_⟩) hrd hm)⟩)
            · rw [pa]; exact q
            · rw [ea]; exact w
            · rcases u.2 with u | u
              · rw [pa] at u; exact q u
              · exact y (hfl.mp u.2)
            · rcases u.2 with u | u
              · rw [pa] at u; exact q u
              · rw [ea] at u; exact w u.1
          refine br_f (by rw [en]; exact nI_ge hk (by omega)) ?_
          rw [em, ed, ek]
          refine ⟨hki, br_c (fun y => nm_r (nI_1 k) (ih' _ _ (yr_skip h' (fun q c k2 hk2 hm => ?_)))) (fun y => ⟨by decide, nm_e ⟨by decide, nm_e ⟨hkd, ?_⟩⟩⟩)⟩
          · by_cases e2 : k2 = k
            · subst e2; rw [q] at y; exact absurd y hm
            · exact c k2 (by omega) hm
          · simp only [ekd]
            refine br_c (fun o8 => ⟨hkd, br_c (fun q => key132 (fun u => ?_) y) (fun q => ⟨hkd, ?_⟩)⟩) (fun o8 => key132 (fun u => o8 u.1) y)
            · exact ((hvd _ hk2 o8).mpr u.2.1) q
            · obtain ⟨b, hb2, eb⟩ := hb' (Or.inr (Or.inr (Or.inr (Or.inl o8))))
              have pb : pn (yfb (k / 2)) = b := by rw [eb]; exact pn_nI (by omega)
              rw [eb]
              refine yb_meet hH hL (by omega) (by omega) (fun u => br_f (by decide) (K1 ⟨hr, ?_⟩ _)) (fun u => br_t rfl (key132 (fun t => u (by rw [← pb]; exact t.2.2)) y))
              exact h'.1 k (by omega) y (nd_r ⟨o8, (hvd _ hk2 o8).mp q, by rw [pb]; exact u⟩)
  · intro d k sn hk h ih
    refine br_f (nI_ge (b := 64) hk (by omega)) ⟨vp_in_nI hk (by omega), nm_r (e' := upd sn k 0) (by rw [nI_clamp (by omega)]; rfl) (nm_r (nI_1 k) (ih _ (fun t ht => ?_)))⟩
    by_cases e : t = k
    · subst e; exact pk_us
    · rw [pk_un e]; exact h t (by omega)
end
end
section
def yv_S (mk : Nat → Int32) (k s : Nat) : Prop := s < 40 ∧ ¬ mk (k * 40 + s) = 0
def yv_P (T : Nat → Prop) (mk0 : Nat → Int32) (Q : Prop) (gr : Int32) (hs : Nat → Int32) : Prop := yr_P 1920 T mk0 Q gr hs ∧ ∀ j, j < 1920 → hs j = 0 ∨ hs j = 1
theorem yv_skip {T : Nat → Prop} {mk0 mk : Nat → Int32} {Q Q' : Prop} {more : Int32} (h : yv_P T mk0 Q more mk) (q : mk = mk0 → Q → Q') : yv_P T mk0 Q' more mk := ⟨yr_skip h.1 q, h.2⟩
theorem yv_mark {s : Nat} {T : Nat → Prop} {mk0 mk : Nat → Int32} {Q Q' : Prop} {more : Int32} (h : yv_P T mk0 Q more mk) (hs : s < 1920) (hz : mk s = 0) (ht : T s) : yv_P T mk0 Q' 1 (upd mk s 1) := by
  refine ⟨yr_mark h.1 hs hz ht, fun j hj => ?_⟩
  by_cases e : j = s
  · subst e; rw [pk_us]; exact Or.inr rfl
  · rw [pk_un e]; exact h.2 j hj
section
variable {yroom : Int32} {yvars : Int32} {yglobals : Int32} {yheap : Int32} {ylength : Int32} {ycursor : Int32} {ystate : Int32} {ygrew : Int32} {yinputs : (Nat → Int32)} {yops : (Nat → Int32)} {yfa : (Nat → Int32)} {yfb : (Nat → Int32)} {yfc : (Nat → Int32)} {yhas : (Nat → Int32)} {ymark : (Nat → Int32)} {yreach : (Nat → Int32)} {ysingle : (Nat → Int32)} {yexact : (Nat → Int32)} {yverdicts : (Nat → Int32)} {yseen : (Nat → Int32)} {yeffect : (Nat → Int32)} {yfacts : (Nat → Int32)} {ywords : (Nat → Int64)} {ycells : (Nat → Int64)} {ysiteOf : (Nat → Int32)} {youts : (Nat → Int64)}
variable {R V G n : Nat} {post : SY → Prop} {mk0 : Nat → Int32} {Q Q' : Prop}

theorem yv_add {k s : Nat} (hk : k < 48) (hs : s < 40) (h1 : yhas (k * 40 + s) = 0 → post (yroom, nI V, nI G, yheap, nI n, ycursor, ystate, 1, yinputs, yops, yfa, yfb, yfc, upd yhas (k * 40 + s) 1, ymark, yreach, ysingle, yexact, yverdicts, yseen, yeffect, yfacts, ywords, ycells, ysiteOf, youts)) (h2 : ¬ yhas (k * 40 + s) = 0 → post (yroom, nI V, nI G, yheap, nI n, ycursor, ystate, ygrew, yinputs, yops, yfa, yfb, yfc, yhas, ymark, yreach, ysingle, yexact, yverdicts, yseen, yeffect, yfacts, ywords, ycells, ysiteOf, youts)) : wpY_add post (yroom, nI V, nI G, yheap, nI n, ycursor, ystate, ygrew, yinputs, yops, yfa, yfb, yfc, yhas, ymark, yreach, ysingle, yexact, yverdicts, yseen, yeffect, yfacts, ywords, ycells, ysiteOf, youts) (nI k) (nI s) := by
  obtain ⟨e1, e2, e3⟩ := yb_ix hk hs
  unfold wpY_add
  rw [e1, e3]
  exact ⟨e2, br_c (fun z => ⟨e2, nm_r (e' := upd yhas (k * 40 + s) 1) rfl (h1 z)⟩) (fun z => h2 z)⟩
theorem yv_addP {k s : Nat} (hk : k < 48) (hs : s < 40) (hL : (pt_L n G yops yfa yfb) k s) (h : yv_P (fun q => pt_L n G yops yfa yfb (q / 40) (q % 40)) mk0 Q ygrew yhas) (q : Q → yv_S mk0 k s → Q') (K : ∀ (gr : Int32) (hs' : Nat → Int32), yv_P (fun q => pt_L n G yops yfa yfb (q / 40) (q % 40)) mk0 Q' gr hs' → post (yroom, nI V, nI G, yheap, nI n, ycursor, ystate, gr, yinputs, yops, yfa, yfb, yfc, hs', ymark, yreach, ysingle, yexact, yverdicts, yseen, yeffect, yfacts, ywords, ycells, ysiteOf, youts)) : wpY_add post (yroom, nI V, nI G, yheap, nI n, ycursor, ystate, ygrew, yinputs, yops, yfa, yfb, yfc, yhas, ymark, yreach, ysingle, yexact, yverdicts, yseen, yeffect, yfacts, ywords, ycells, ysiteOf, youts) (nI k) (nI s) := by
  refine yv_add hk hs (fun z => K _ _ (yv_mark h (by omega) z ?_)) (fun z => K _ _ (yv_skip h (fun e w => q w ⟨hs, by rw [← e]; exact z⟩)))
  show (pt_L n G yops yfa yfb) ((k * 40 + s) / 40) ((k * 40 + s) % 40)
  rw [show (k * 40 + s) / 40 = k by omega, show (k * 40 + s) % 40 = s by omega]
  exact hL
theorem yv_inc {a b : Nat} (ha : a < 48) (hb : b < 48) (hL : ∀ s, (pt_L n G yops yfa yfb) a s → (pt_L n G yops yfa yfb) b s) (h : yv_P (fun q => pt_L n G yops yfa yfb (q / 40) (q % 40)) mk0 Q ygrew yhas) (q : Q → (∀ s, yv_S mk0 a s → yv_S mk0 b s) → Q') (K : ∀ (gr : Int32) (hs' : Nat → Int32), yv_P (fun q => pt_L n G yops yfa yfb (q / 40) (q % 40)) mk0 Q' gr hs' → post (yroom, nI V, nI G, yheap, nI n, ycursor, ystate, gr, yinputs, yops, yfa, yfb, yfc, hs', ymark, yreach, ysingle, yexact, yverdicts, yseen, yeffect, yfacts, ywords, ycells, ysiteOf, youts)) : wpY_include post (yroom, nI V, nI G, yheap, nI n, ycursor, ystate, ygrew, yinputs, yops, yfa, yfb, yfc, yhas, ymark, yreach, ysingle, yexact, yverdicts, yseen, yeffect, yfacts, ywords, ycells, ysiteOf, youts) (nI b) (nI a) := by
  refine lc_2 (fun d s (gr : Int32) (hs' : Nat → Int32) => wY_include_2 post (nI b) (nI a) d (nI s) yroom (nI V) (nI G) yheap (nI n) ycursor ystate gr yinputs yops yfa yfb yfc hs' ymark yreach ysingle yexact yverdicts yseen yeffect yfacts ywords ycells ysiteOf youts) (fun s gr hs' => yv_P (fun q => pt_L n G yops yfa yfb (q / 40) (q % 40)) mk0 (Q ∧ ∀ t, t < s → yv_S mk0 a t → yv_S mk0 b t) gr hs') 40 ygrew yhas (yv_skip h (fun _ w => ⟨w, fun t ht => absurd ht (Nat.not_lt_zero t)⟩)) ?_ ?_
  · intro d gr hs' h'
    exact br_t (nI_le (Nat.le_refl 40) (by omega)) (K _ _ (yv_skip h' (fun _ w => q w.1 (fun s z => w.2 s z.1 z))))
  · intro d s gr hs' hs h' ih
    obtain ⟨e1, e2, e3⟩ := yb_ix ha hs
    refine br_f (nI_ge (b := 40) hs (by omega)) ?_
    rw [e1, e3]
    refine ⟨e2, br_c (fun z => nm_r (nI_1 s) (ih _ _ (yv_skip h' (fun e w => ⟨w.1, fun t ht y => ?_⟩)))) (fun z => yv_addP hb hs (hL s ?_) h' (fun w y => ?_) (fun gr' hs'' h'' => nm_r (nI_1 s) (ih _ _ h'')))⟩
    · by_cases et : t = s
      · subst et; rw [e] at z; exact absurd z y.2
      · exact w.2 t (by omega) y
    · have t := h'.1.1 (a * 40 + s) (by omega) z
      have t : (pt_L n G yops yfa yfb) ((a * 40 + s) / 40) ((a * 40 + s) % 40) := t
      rwa [show (a * 40 + s) / 40 = a by omega, show (a * 40 + s) % 40 = s by omega] at t
    · refine ⟨w.1, fun t ht y2 => ?_⟩
      by_cases et : t = s
      · subst et; exact y
      · exact w.2 t (by omega) y2
theorem yv_T {k s : Nat} (hk : k < 48) (hs : s < 40) {gr : Int32} {hs' : Nat → Int32} (h : yv_P (fun q => pt_L n G yops yfa yfb (q / 40) (q % 40)) mk0 Q gr hs') (z : ¬ hs' (k * 40 + s) = 0) : (pt_L n G yops yfa yfb) k s := by
  have t := h.1.1 (k * 40 + s) (by omega) z
  have t : (pt_L n G yops yfa yfb) ((k * 40 + s) / 40) ((k * 40 + s) % 40) := t
  rwa [show (k * 40 + s) / 40 = k by omega, show (k * 40 + s) % 40 = s by omega] at t
theorem yv_140 {J29 J50 : Int32 → Int32 → Int32 → Int32 → Int32 → Int32 → Int32 → Int32 → Int32 → (Nat → Int32) → (Nat → Int32) → (Nat → Int32) → (Nat → Int32) → (Nat → Int32) → (Nat → Int32) → (Nat → Int32) → (Nat → Int32) → (Nat → Int32) → (Nat → Int32) → (Nat → Int32) → (Nat → Int32) → (Nat → Int32) → (Nat → Int32) → (Nat → Int64) → (Nat → Int64) → (Nat → Int32) → (Nat → Int64) → Prop} {r i : Nat} (hp : pg_ok R V G n yops yfa yfb yfc) (hV : V ≤ 8) (hn : n ≤ 32) (hi : i < n) (h : yv_P (fun q => pt_L n G yops yfa yfb (q / 40) (q % 40)) mk0 Q ygrew yhas)
    (q : Q → (∀ t, t < 40 → (yops i = 8 → yv_S mk0 (pn (yfb i)) t → ∀ x, yv_S mk0 (8 + t) x → yv_S mk0 (pn (yfa i)) x) ∧ (yops i = 9 → yv_S mk0 (pn (yfa i)) t → ∀ x, yv_S mk0 (pn (yfb i)) x → yv_S mk0 (8 + t) x)) → Q')
    (K : ∀ (gr : Int32) (hs' : Nat → Int32), yv_P (fun q => pt_L n G yops yfa yfb (q / 40) (q % 40)) mk0 Q' gr hs' → J50 (nI (i + 1)) yroom (nI V) (nI G) yheap (nI n) ycursor ystate gr yinputs yops yfa yfb yfc hs' ymark yreach ysingle yexact yverdicts yseen yeffect yfacts ywords ycells ysiteOf youts) : ∃ n140, wY_solve_140 post J29 J50 (nI r) (nI i) n140 0 yroom (nI V) (nI G) yheap (nI n) ycursor ystate ygrew yinputs yops yfa yfb yfc yhas ymark yreach ysingle yexact yverdicts yseen yeffect yfacts ywords ycells ysiteOf youts := by
  have ei : (nI i).toNatClampNeg = i := nI_clamp (by omega)
  have hin : vp_in (nI i) 32 := vp_in_nI (by omega) (by omega)
  obtain ⟨ho, h10, hn10, h2', h6, h11, hb', hc⟩ := hp i hi
  refine lc_2 (fun d s (gr : Int32) (hs' : Nat → Int32) => wY_solve_140 post J29 J50 (nI r) (nI i) d (nI s) yroom (nI V) (nI G) yheap (nI n) ycursor ystate gr yinputs yops yfa yfb yfc hs' ymark yreach ysingle yexact yverdicts yseen yeffect yfacts ywords ycells ysiteOf youts) (fun s gr hs' => yv_P (fun q => pt_L n G yops yfa yfb (q / 40) (q % 40)) mk0 (Q ∧ ∀ t, t < s → (yops i = 8 → yv_S mk0 (pn (yfb i)) t → ∀ x, yv_S mk0 (8 + t) x → yv_S mk0 (pn (yfa i)) x) ∧ (yops i = 9 → yv_S mk0 (pn (yfa i)) t → ∀ x, yv_S mk0 (pn (yfb i)) x → yv_S mk0 (8 + t) x)) gr hs') 40 ygrew yhas (yv_skip h (fun _ w => ⟨w, fun t ht => absurd ht (Nat.not_lt_zero t)⟩)) ?_ ?_
  · intro d gr hs' h'
    exact br_t (nI_le (Nat.le_refl 40) (by omega)) (nm_r (nI_1 i) (K _ _ (yv_skip h' (fun _ w => q w.1 w.2))))
  · intro d s gr hs' hs h' ih
    have e8 : (8 : Int32) + nI s = nI (8 + s) := nI_add 8 s
    have key : ∀ (gr2 : Int32) (hs2 : Nat → Int32), yv_P (fun q => pt_L n G yops yfa yfb (q / 40) (q % 40)) mk0 (Q ∧ (∀ t, t < s → (yops i = 8 → yv_S mk0 (pn (yfb i)) t → ∀ x, yv_S mk0 (8 + t) x → yv_S mk0 (pn (yfa i)) x) ∧ (yops i = 9 → yv_S mk0 (pn (yfa i)) t → ∀ x, yv_S mk0 (pn (yfb i)) x → yv_S mk0 (8 + t) x)) ∧ (yops i = 8 → yv_S mk0 (pn (yfb i)) s → ∀ x, yv_S mk0 (8 + s) x → yv_S mk0 (pn (yfa i)) x)) gr2 hs2 → wY_solve_190 post J29 J50 (wY_solve_140 post J29 J50 (nI r) (nI i) d) (nI r) (nI i) (nI s) yroom (nI V) (nI G) yheap (nI n) ycursor ystate gr2 yinputs yops yfa yfb yfc hs2 ymark yreach ysingle yexact yverdicts yseen yeffect yfacts ywords ycells ysiteOf youts := by
      intro gr2 hs2 h2
      have nxt : (Q ∧ (∀ t, t < s → (yops i = 8 → yv_S mk0 (pn (yfb i)) t → ∀ x, yv_S mk0 (8 + t) x → yv_S mk0 (pn (yfa i)) x) ∧ (yops i = 9 → yv_S mk0 (pn (yfa i)) t → ∀ x, yv_S mk0 (pn (yfb i)) x → yv_S mk0 (8 + t) x)) ∧ (yops i = 8 → yv_S mk0 (pn (yfb i)) s → ∀ x, yv_S mk0 (8 + s) x → yv_S mk0 (pn (yfa i)) x)) → (yops i = 9 → yv_S mk0 (pn (yfa i)) s → ∀ x, yv_S mk0 (pn (yfb i)) x → yv_S mk0 (8 + s) x) → (Q ∧ ∀ t, t < s + 1 → (yops i = 8 → yv_S mk0 (pn (yfb i)) t → ∀ x, yv_S mk0 (8 + t) x → yv_S mk0 (pn (yfa i)) x) ∧ (yops i = 9 → yv_S mk0 (pn (yfa i)) t → ∀ x, yv_S mk0 (pn (yfb i)) x → yv_S mk0 (8 + t) x)) := by
        rintro ⟨a, b, c⟩ f
        refine ⟨a, fun t ht => ?_⟩
        by_cases et : t = s
        · subst et; exact ⟨c, f⟩
        · exact b t (by omega)
      unfold wY_solve_190
      simp only [ei]
      refine ⟨hin, br_c (fun o9 => ⟨hin, ?_⟩) (fun o9 => nm_r (nI_1 s) (ih _ _ (yv_skip h2 (fun _ w => nxt w (fun z => absurd z o9)))))⟩
      obtain ⟨a, ha, ea⟩ := hn10 (by rw [o9]; decide)
      obtain ⟨b, hb2, eb⟩ := hb' (Or.inr (Or.inr (Or.inr (Or.inr o9))))
      have pa : pn (yfa i) = a := by rw [ea]; exact pn_nI (by omega)
      have pb : pn (yfb i) = b := by rw [eb]; exact pn_nI (by omega)
      obtain ⟨e1, e2, e3⟩ := yb_ix (k := a) (s := s) (by omega) hs
      rw [ea, eb, e1, e3, e8]
      refine ⟨e2, br_c (fun z => nm_r (nI_1 s) (ih _ _ (yv_skip h2 (fun e w => nxt w (fun _ y => ?_))))) (fun z => ⟨hin, yv_inc (by omega) (by omega) (fun x hx => ?_) h2 (fun w y => nxt w (fun _ _ x hx => ?_)) (fun gr3 hs3 h3 => nm_r (nI_1 s) (ih _ _ h3))⟩)⟩
      · rw [pa] at y
        rw [e] at z
        exact absurd z y.2
      · have t := (pt_LC n G yops yfa yfb i hi).2.2.2.2 o9 s x
        rw [pa, pb] at t
        exact t (yv_T (by omega) hs h2 z) hx
      · rw [pb] at hx
        exact y x hx
    refine br_f (nI_ge (b := 40) hs (by omega)) ⟨hin, ?_⟩
    simp only [ei]
    refine br_c (fun o8 => ⟨hin, ?_⟩) (fun o8 => key _ _ (yv_skip h' (fun _ w => ⟨w.1, w.2, fun z => absurd z o8⟩)))
    obtain ⟨a, ha, ea⟩ := hn10 (by rw [o8]; decide)
    obtain ⟨b, hb2, eb⟩ := hb' (Or.inr (Or.inr (Or.inr (Or.inl o8))))
    have pa : pn (yfa i) = a := by rw [ea]; exact pn_nI (by omega)
    have pb : pn (yfb i) = b := by rw [eb]; exact pn_nI (by omega)
    obtain ⟨e1, e2, e3⟩ := yb_ix (k := b) (s := s) (by omega) hs
    rw [ea, eb, e1, e3, e8]
    refine ⟨e2, br_c (fun z => key _ _ (yv_skip h' (fun e w => ⟨w.1, w.2, fun _ y => ?_⟩))) (fun z => ⟨hin, yv_inc (by omega) (by omega) (fun x hx => ?_) h' (fun w y => (⟨w.1, w.2, fun _ _ x hx => ?_⟩ : _ ∧ _ ∧ _)) (fun gr3 hs3 h3 => key _ _ h3)⟩)⟩
    · rw [pb] at y
      rw [e] at z
      exact absurd z y.2
    · have t := (pt_LC n G yops yfa yfb i hi).2.2.2.1 o8 s x
      rw [pa, pb] at t
      exact t (yv_T (by omega) hs h' z) hx
    · rw [pa]
      exact y x hx
theorem yv_50 {J29 : Int32 → Int32 → Int32 → Int32 → Int32 → Int32 → Int32 → Int32 → Int32 → (Nat → Int32) → (Nat → Int32) → (Nat → Int32) → (Nat → Int32) → (Nat → Int32) → (Nat → Int32) → (Nat → Int32) → (Nat → Int32) → (Nat → Int32) → (Nat → Int32) → (Nat → Int32) → (Nat → Int32) → (Nat → Int32) → (Nat → Int32) → (Nat → Int64) → (Nat → Int64) → (Nat → Int32) → (Nat → Int64) → Prop} {r : Nat} (hp : pg_ok R V G n yops yfa yfb yfc) (hV : V ≤ 8) (hG : G ≤ 8) (hn : n ≤ 32) (h : yv_P (fun q => pt_L n G yops yfa yfb (q / 40) (q % 40)) mk0 True ygrew yhas)
    (K : ∀ (gr : Int32) (hs' : Nat → Int32), yv_P (fun q => pt_L n G yops yfa yfb (q / 40) (q % 40)) mk0 (pt_C n G yops yfa yfb (yv_S mk0)) gr hs' → J29 (nI (r + 1)) yroom (nI V) (nI G) yheap (nI n) ycursor ystate gr yinputs yops yfa yfb yfc hs' ymark yreach ysingle yexact yverdicts yseen yeffect yfacts ywords ycells ysiteOf youts) : ∃ n50, wY_solve_50 post J29 (nI r) n50 0 yroom (nI V) (nI G) yheap (nI n) ycursor ystate ygrew yinputs yops yfa yfb yfc yhas ymark yreach ysingle yexact yverdicts yseen yeffect yfacts ywords ycells ysiteOf youts := by
  refine lc_2 (fun d i (gr : Int32) (hs' : Nat → Int32) => wY_solve_50 post J29 (nI r) d (nI i) yroom (nI V) (nI G) yheap (nI n) ycursor ystate gr yinputs yops yfa yfb yfc hs' ymark yreach ysingle yexact yverdicts yseen yeffect yfacts ywords ycells ysiteOf youts) (fun i gr hs' => yv_P (fun q => pt_L n G yops yfa yfb (q / 40) (q % 40)) mk0 (pt_C i G yops yfa yfb (yv_S mk0)) gr hs') n ygrew yhas (yv_skip h (fun _ _ i hi => absurd hi (Nat.not_lt_zero i))) ?_ ?_
  · intro d gr hs' h'
    exact br_t (nI_le (Nat.le_refl n) (by omega)) (nm_r (nI_1 r) (K _ _ h'))
  · intro d i gr hs' hi h' ih
    have ei : (nI i).toNatClampNeg = i := nI_clamp (by omega)
    have hin : vp_in (nI i) 32 := vp_in_nI (by omega) (by omega)
    obtain ⟨ho, h10, hn10, h2', h6, h11, hb', hc⟩ := hp i hi
    have k140 : ∀ (gr2 : Int32) (hs2 : Nat → Int32), yv_P (fun q => pt_L n G yops yfa yfb (q / 40) (q % 40)) mk0 (pt_C i G yops yfa yfb (yv_S mk0) ∧ (yops i = 6 → yv_S mk0 (pn (yfa i)) (pn (yfb i))) ∧ (yops i = 7 → yv_S mk0 (pn (yfa i)) (G + i)) ∧ (yops i = 3 → ∀ s, yv_S mk0 (pn (yfb i)) s → yv_S mk0 (pn (yfa i)) s)) gr2 hs2 → ∃ n140, wY_solve_140 post J29 (wY_solve_50 post J29 (nI r) d) (nI r) (nI i) n140 0 yroom (nI V) (nI G) yheap (nI n) ycursor ystate gr2 yinputs yops yfa yfb yfc hs2 ymark yreach ysingle yexact yverdicts yseen yeffect yfacts ywords ycells ysiteOf youts := by
      intro gr2 hs2 h2
      refine yv_140 hp hV hn hi h2 (fun w y j hj => ?_) (fun gr3 hs3 h3 => ih _ _ h3)
      by_cases ej : j = i
      · subst ej
        exact ⟨w.2.1, w.2.2.1, w.2.2.2, fun o s x a b => (y s a.1).1 o a x b, fun o s x a b => (y s a.1).2 o a x b⟩
      · exact w.1 j (by omega)
    have k112 : ∀ (gr2 : Int32) (hs2 : Nat → Int32), yv_P (fun q => pt_L n G yops yfa yfb (q / 40) (q % 40)) mk0 (pt_C i G yops yfa yfb (yv_S mk0) ∧ (yops i = 6 → yv_S mk0 (pn (yfa i)) (pn (yfb i))) ∧ (yops i = 7 → yv_S mk0 (pn (yfa i)) (G + i))) gr2 hs2 → wY_solve_112 post J29 (wY_solve_50 post J29 (nI r) d) (nI r) (nI i) yroom (nI V) (nI G) yheap (nI n) ycursor ystate gr2 yinputs yops yfa yfb yfc hs2 ymark yreach ysingle yexact yverdicts yseen yeffect yfacts ywords ycells ysiteOf youts := by
      intro gr2 hs2 h2
      unfold wY_solve_112
      simp only [ei]
      refine ⟨hin, br_c (fun o => ⟨hin, hin, ?_⟩) (fun o => k140 _ _ (yv_skip h2 (fun _ w => ⟨w.1, w.2.1, w.2.2, fun z => absurd z o⟩)))⟩
      obtain ⟨a, ha, ea⟩ := hn10 (by rw [o]; decide)
      obtain ⟨b, hb2, eb⟩ := hb' (Or.inl o)
      have pa : pn (yfa i) = a := by rw [ea]; exact pn_nI (by omega)
      have pb : pn (yfb i) = b := by rw [eb]; exact pn_nI (by omega)
      rw [ea, eb]
      refine yv_inc (by omega) (by omega) (fun x hx => ?_) h2 (fun w y => (⟨w.1, w.2.1, w.2.2, fun _ s hs => ?_⟩ : _ ∧ _ ∧ _ ∧ _)) (fun gr3 hs3 h3 => k140 _ _ h3)
      · have t := (pt_LC n G yops yfa yfb i hi).2.2.1 o x
        rw [pa, pb] at t
        exact t hx
      · rw [pa]; rw [pb] at hs; exact y s hs
    have k85 : ∀ (gr2 : Int32) (hs2 : Nat → Int32), yv_P (fun q => pt_L n G yops yfa yfb (q / 40) (q % 40)) mk0 (pt_C i G yops yfa yfb (yv_S mk0) ∧ (yops i = 6 → yv_S mk0 (pn (yfa i)) (pn (yfb i)))) gr2 hs2 → wY_solve_85 post J29 (wY_solve_50 post J29 (nI r) d) (nI r) (nI i) yroom (nI V) (nI G) yheap (nI n) ycursor ystate gr2 yinputs yops yfa yfb yfc hs2 ymark yreach ysingle yexact yverdicts yseen yeffect yfacts ywords ycells ysiteOf youts := by
      intro gr2 hs2 h2
      unfold wY_solve_85
      simp only [ei]
      refine ⟨hin, br_c (fun o => ⟨hin, ?_⟩) (fun o => k112 _ _ (yv_skip h2 (fun _ w => ⟨w.1, w.2, fun z => absurd z o⟩)))⟩
      obtain ⟨a, ha, ea⟩ := hn10 (by rw [o]; decide)
      have pa : pn (yfa i) = a := by rw [ea]; exact pn_nI (by omega)
      rw [ea, nI_add]
      refine yv_addP (by omega) (by omega) ?_ h2 (fun w y => (⟨w.1, w.2, fun _ => ?_⟩ : _ ∧ _ ∧ _)) (fun gr3 hs3 h3 => k112 _ _ h3)
      · have t := (pt_LC n G yops yfa yfb i hi).2.1 o
        rw [pa] at t
        exact t
      · rw [pa]; exact y
    refine br_f (nI_ge hi (by omega)) ⟨hin, ?_⟩
    simp only [ei]
    refine br_c (fun o => ⟨hin, hin, ?_⟩) (fun o => k85 _ _ (yv_skip h' (fun _ w => ⟨w, fun z => absurd z o⟩)))
    obtain ⟨a, ha, ea⟩ := hn10 (by rw [o]; decide)
    obtain ⟨b, hb2, eb⟩ := h6 o
    have pa : pn (yfa i) = a := by rw [ea]; exact pn_nI (by omega)
    have pb : pn (yfb i) = b := by rw [eb]; exact pn_nI (by omega)
    rw [ea, eb]
    refine yv_addP (by omega) (by omega) ?_ h' (fun w y => (⟨w, fun _ => ?_⟩ : _ ∧ _)) (fun gr3 hs3 h3 => k85 _ _ h3)
    · have t := (pt_LC n G yops yfa yfb i hi).1 o
      rw [pa, pb] at t
      exact t
    · rw [pa, pb]; exact y
theorem yv_solve (hp : pg_ok R V G n yops yfa yfb yfc) (hV : V ≤ 8) (hG : G ≤ 8) (hn : n ≤ 32) (K : ∀ (gr : Int32) (hs : Nat → Int32), yb_H (pt_L n G yops yfa yfb) hs → post (yroom, nI V, nI G, yheap, nI n, ycursor, ystate, gr, yinputs, yops, yfa, yfb, yfc, hs, ymark, yreach, ysingle, yexact, yverdicts, yseen, yeffect, yfacts, ywords, ycells, ysiteOf, youts)) : wpY_solve post (yroom, nI V, nI G, yheap, nI n, ycursor, ystate, ygrew, yinputs, yops, yfa, yfb, yfc, yhas, ymark, yreach, ysingle, yexact, yverdicts, yseen, yeffect, yfacts, ywords, ycells, ysiteOf, youts) := by
  have fin : ∀ (gr : Int32) (hs : Nat → Int32), (∀ j, j < 1920 → ¬ hs j = 0 → (fun q => pt_L n G yops yfa yfb (q / 40) (q % 40)) j) → (∀ j, j < 1920 → hs j = 0 ∨ hs j = 1) → pt_C n G yops yfa yfb (yv_S hs) → post (yroom, nI V, nI G, yheap, nI n, ycursor, ystate, gr, yinputs, yops, yfa, yfb, yfc, hs, ymark, yreach, ysingle, yexact, yverdicts, yseen, yeffect, yfacts, ywords, ycells, ysiteOf, youts) := by
    intro gr hs h1 h2 h3
    refine K gr hs (fun k s hk hs' => ?_)
    rcases h2 (k * 40 + s) (by omega) with z | z
    · refine Or.inl ⟨z, fun w => ?_⟩
      exact (w _ h3).2 z
    · refine Or.inr ⟨z, ?_⟩
      have t : (pt_L n G yops yfa yfb) ((k * 40 + s) / 40) ((k * 40 + s) % 40) := h1 (k * 40 + s) (by omega) (by rw [z]; decide)
      rwa [show (k * 40 + s) / 40 = k by omega, show (k * 40 + s) % 40 = s by omega] at t
  refine lc_1 (fun d j (hs : Nat → Int32) => wY_solve_2 post yroom (nI V) (nI G) yheap (nI n) ycursor ystate ygrew d (nI j) yinputs yops yfa yfb yfc hs ymark yreach ysingle yexact yverdicts yseen yeffect yfacts ywords ycells ysiteOf youts) (fun j hs => ∀ t, t < j → hs t = 0) 1920 yhas (fun t ht => absurd ht (Nat.not_lt_zero t)) ?_ ?_
  · intro d hs h0
    refine br_t (nI_le (Nat.le_refl 1920) (by omega)) ?_
    refine lc_2 (fun d r (gr : Int32) (hs : Nat → Int32) => wY_solve_29 post d (nI r) yroom (nI V) (nI G) yheap (nI n) ycursor ystate gr yinputs yops yfa yfb yfc hs ymark yreach ysingle yexact yverdicts yseen yeffect yfacts ywords ycells ysiteOf youts) (fun r gr hs => yr_H 1920 (fun q => pt_L n G yops yfa yfb (q / 40) (q % 40)) (fun mk => pt_C n G yops yfa yfb (yv_S mk)) r gr hs ∧ ∀ j, j < 1920 → hs j = 0 ∨ hs j = 1) 1921 1 hs ⟨⟨fun j hj z => absurd (h0 j hj) z, Or.inl ⟨rfl, Nat.zero_le _⟩⟩, fun j hj => Or.inl (h0 j hj)⟩ ?_ ?_
    · rintro d gr hs ⟨h, hb⟩
      exact br_t (nI_lt (a := 1920) (by omega) (by omega)) (fin gr hs h.1 hb (yr_stop h (by omega)))
    · rintro d r gr hs hr ⟨h, hb⟩ ih
      refine br_f (nI_nlt (b := r) (a := 1920) (by omega) (by omega)) (br_c (fun z => fin gr hs h.1 hb ?_) (fun z => ?_))
      · rcases h.2 with a | a
        · rw [a.1] at z; exact absurd z (by decide)
        · exact a.2
      · have hc : r ≤ yr_c hs 1920 := by
          rcases h.2 with a | a
          · exact a.2
          · exact absurd a.1 z
        exact yv_50 (mk0 := hs) hp hV hG hn ⟨yr_0 h.1 trivial, hb⟩ (fun gr' hs' h' => ih _ _ ⟨yr_next (C := fun mk => pt_C n G yops yfa yfb (yv_S mk)) hc h'.1, h'.2⟩)
  · intro d j hs hj h ih
    refine br_f (nI_ge (b := 1920) hj (by omega)) ⟨vp_in_nI hj (by omega), nm_r (e' := upd hs j 0) (by rw [nI_clamp (by omega)]; rfl) (nm_r (nI_1 j) (ih _ (fun t ht => ?_)))⟩
    by_cases e : t = j
    · subst e; exact pk_us
    · rw [pk_un e]; exact h t (by omega)
end
end
section
theorem ct_one {p : Nat → Bool} : ∀ N, ct_n p N = 1 → ∃ j, j < N ∧ p j = true ∧ ∀ k, k < N → p k = true → k = j
  | 0 => fun h => by simp [ct_n] at h
  | N + 1 => fun h => by
    simp only [ct_n] at h
    by_cases hp : p N = true
    · rw [if_pos hp] at h
      have z := ct_z (p := p) N (by omega)
      refine ⟨N, by omega, hp, fun k hk hpk => ?_⟩
      by_cases e : k = N
      · exact e
      · rw [z k (by omega)] at hpk; exact absurd hpk (by decide)
    · rw [if_neg hp] at h
      obtain ⟨j, h1, h2, h3⟩ := ct_one N h
      refine ⟨j, by omega, h2, fun k hk hpk => ?_⟩
      by_cases e : k = N
      · subst e; exact absurd hpk hp
      · exact h3 k (by omega) hpk
theorem ct_uni {p : Nat → Bool} {j : Nat} : ∀ N, j < N → p j = true → (∀ k, k < N → p k = true → k = j) → ct_n p N = 1
  | 0 => fun h => by omega
  | N + 1 => fun h h1 h2 => by
    simp only [ct_n]
    by_cases e : j = N
    · subst e
      rw [if_pos h1, ct_0 j (fun k hk => ts_nt (fun z => by have := h2 k (by omega) z; omega))]
    · rw [if_neg (fun z => e (h2 N (by omega) z).symm)]
      exact ct_uni N (by omega) h1 (fun k hk z => h2 k (by omega) z)
theorem vs_16 {V : Nat} {op fb : Nat → Int32} {HL : Nat → Nat → Nat → Prop} {i : Nat} {w : Int32} (hV : V ≤ 8) (h : vs_1 V op fb HL i w) (o : op i = 8) : ¬ 16 ≤ w ↔ ∀ x, x < V → ¬ HL i (pn (fb i)) x := by
  rcases h with ⟨_, x, hx, e, h1, _⟩ | ⟨h1, e⟩
  · rw [e]
    exact ⟨fun z => absurd (nI_le (a := 16) (by omega) (by omega)) z, fun z => absurd h1 (z x hx)⟩
  · rw [e]
    exact ⟨fun _ => h1 o, fun _ => by decide⟩
/-- the reference's results -/
def ay_P (n G V : Nat) (op fa fb : Nat → Int32) (has re sg ex vd : Nat → Int32) : Prop :=
  yb_H (pt_L n G op fa fb) has ∧ (∀ i, i < n → (¬ re i = 0 ↔ pp_R n G V op fa fb i)) ∧ (∀ s, s < 40 → (¬ sg s = 0 ↔ pp_SG n G V op fa fb s)) ∧ (∀ v, v < 8 → (¬ ex v = 0 ↔ pp_EX n G V op fa fb v)) ∧ (∀ i, i < n → vs_2 n G V op fa fb i (vd i))
section
variable {yroom : Int32} {yvars : Int32} {yglobals : Int32} {yheap : Int32} {ylength : Int32} {ycursor : Int32} {ystate : Int32} {ygrew : Int32} {yinputs : (Nat → Int32)} {yops : (Nat → Int32)} {yfa : (Nat → Int32)} {yfb : (Nat → Int32)} {yfc : (Nat → Int32)} {yhas : (Nat → Int32)} {ymark : (Nat → Int32)} {yreach : (Nat → Int32)} {ysingle : (Nat → Int32)} {yexact : (Nat → Int32)} {yverdicts : (Nat → Int32)} {yseen : (Nat → Int32)} {yeffect : (Nat → Int32)} {yfacts : (Nat → Int32)} {ywords : (Nat → Int64)} {ycells : (Nat → Int64)} {ysiteOf : (Nat → Int32)} {youts : (Nat → Int64)}
variable {R V G n : Nat} {post : SY → Prop}

theorem ya_332 (hp : pg_ok R V G n yops yfa yfb yfc) (hR : R ≤ 32) (hV : V ≤ 8) (hG : G ≤ 8) (hn : n ≤ 32) (hH : yb_H (pt_L n G yops yfa yfb) yhas) (hre : ∀ i, i < n → (¬ yreach i = 0 ↔ pp_R n G V yops yfa yfb i)) (hex : ∀ v, v < 8 → (¬ yexact v = 0 ↔ pp_EX n G V yops yfa yfb v)) (hvd : ∀ i, i < n → vs_1 V yops yfb (pp_HL n G V yops yfa yfb) i (yverdicts i))
    (K : ∀ vd sn : Nat → Int32, (∀ i, i < n → vs_2 n G V yops yfa yfb i (vd i)) → post (yroom, nI V, nI G, yheap, nI n, ycursor, ystate, ygrew, yinputs, yops, yfa, yfb, yfc, yhas, ymark, yreach, ysingle, yexact, vd, sn, yeffect, yfacts, ywords, ycells, ysiteOf, youts)) : ∃ n332, wY_analyseAll_332 post n332 0 yroom (nI V) (nI G) yheap (nI n) ycursor ystate ygrew yinputs yops yfa yfb yfc yhas ymark yreach ysingle yexact yverdicts yseen yeffect yfacts ywords ycells ysiteOf youts := by
  have hL : ∀ j s, (pt_L n G yops yfa yfb) j s → s < 40 := fun j s h => (pt_bd hp hV hG hn h).2
  refine lc_2 (fun d i (vd sn : Nat → Int32) => wY_analyseAll_332 post d (nI i) yroom (nI V) (nI G) yheap (nI n) ycursor ystate ygrew yinputs yops yfa yfb yfc yhas ymark yreach ysingle yexact vd sn yeffect yfacts ywords ycells ysiteOf youts) (fun i vd _ => (∀ t, t < i → vs_2 n G V yops yfa yfb t (vd t)) ∧ (∀ t, i ≤ t → vd t = yverdicts t)) n yverdicts yseen ⟨fun t ht => absurd ht (Nat.not_lt_zero t), fun t _ => rfl⟩ ?_ ?_
  · rintro d vd sn ⟨h1, _⟩
    exact br_t (nI_le (Nat.le_refl n) (by omega)) (K vd sn h1)
  · rintro d i vd sn hi ⟨h1, h2⟩ ih
    have e : (nI i).toNatClampNeg = i := nI_clamp (by omega)
    have hin : vp_in (nI i) 32 := vp_in_nI (by omega) (by omega)
    obtain ⟨ho, h10, hn10, h2', h6, h11, hb', hc⟩ := hp i hi
    have keep : ¬ (yops i = 9 ∧ pp_R n G V yops yfa yfb i ∧ ¬ pp_NA n G V yops yfa yfb i (pn (yfa i))) → (∀ t, t < i + 1 → vs_2 n G V yops yfa yfb t (vd t)) ∧ (∀ t, i + 1 ≤ t → vd t = yverdicts t) := by
      intro q
      refine ⟨fun t ht => ?_, fun t ht => h2 t (by omega)⟩
      by_cases et : t = i
      · subst et
        rw [h2 t (Nat.le_refl t)]
        exact Or.inr ⟨q, hvd t hi⟩
      · exact h1 t (by omega)
    have h16 : ∀ t, t < n → yops t = 8 → (¬ 16 ≤ vd t ↔ ∀ x, x < V → ¬ pp_HL n G V yops yfa yfb t (pn (yfb t)) x) := by
      intro t ht o8
      rcases Nat.lt_or_ge t i with z | z
      · rcases h1 t z with q | q
        · rw [q.1] at o8; exact absurd o8 (by decide)
        · exact vs_16 hV q.2 o8
      · rw [h2 t z]; exact vs_16 hV (hvd t ht) o8
    refine br_f (nI_ge hi (by omega)) ⟨hin, ?_⟩
    simp only [e]
    refine br_c (fun o9 => ⟨hin, br_c (fun z => nm_r (nI_1 i) (ih _ _ (keep (fun w => (hre i hi).mpr w.2.1 z)))) (fun z => ⟨hin, ?_⟩)⟩) (fun o9 => nm_r (nI_1 i) (ih _ _ (keep (fun w => o9 w.1))))
    obtain ⟨a, ha, ea⟩ := hn10 (by rw [o9]; decide)
    have pa : pn (yfa i) = a := by rw [ea]; exact pn_nI (by omega)
    rw [ea]
    refine yn_needed (L := (pt_L n G yops yfa yfb)) (EX := pp_EX n G V yops yfa yfb) (HL := pp_HL n G V yops yfa yfb) hp hR hV hn hH hL hex hi ha hre h16 (fun q sn' => br_f (by decide) (nm_r (nI_1 i) (ih _ _ (keep (fun w => w.2.2 ?_))))) (fun q sn' => br_t rfl ⟨hin, nm_e (nm_r (nI_1 i) (ih _ _ ⟨fun t ht => ?_, fun t ht => ?_⟩))⟩)
    · rw [pa]; exact q
    · by_cases et : t = i
      · subst et
        rw [pk_us]
        refine Or.inl ⟨o9, (hre t hi).mp z, ?_, rfl⟩
        rw [pa]; exact q
      · rw [pk_un et]; exact h1 t (by omega)
    · rw [pk_un (by omega)]; exact h2 t (by omega)
theorem ya_255 (hp : pg_ok R V G n yops yfa yfb yfc) (hR : R ≤ 32) (hV : V ≤ 8) (hG : G ≤ 8) (hn : n ≤ 32) (hH : yb_H (pt_L n G yops yfa yfb) yhas) (hre : ∀ i, i < n → (¬ yreach i = 0 ↔ pp_R n G V yops yfa yfb i)) (hex : ∀ v, v < 8 → (¬ yexact v = 0 ↔ pp_EX n G V yops yfa yfb v)) (h0 : ∀ t, t < 32 → yverdicts t = 0)
    (K : ∀ vd sn ef : Nat → Int32, (∀ i, i < n → vs_2 n G V yops yfa yfb i (vd i)) → post (yroom, nI V, nI G, yheap, nI n, ycursor, ystate, ygrew, yinputs, yops, yfa, yfb, yfc, yhas, ymark, yreach, ysingle, yexact, vd, sn, ef, yfacts, ywords, ycells, ysiteOf, youts)) : ∃ n255, wY_analyseAll_255 post n255 0 yroom (nI V) (nI G) yheap (nI n) ycursor ystate ygrew yinputs yops yfa yfb yfc yhas ymark yreach ysingle yexact yverdicts yseen yeffect yfacts ywords ycells ysiteOf youts := by
  have hL : ∀ j s, (pt_L n G yops yfa yfb) j s → s < 40 := fun j s h => (pt_bd hp hV hG hn h).2
  refine lc_3 (fun d i (vd sn ef : Nat → Int32) => wY_analyseAll_255 post d (nI i) yroom (nI V) (nI G) yheap (nI n) ycursor ystate ygrew yinputs yops yfa yfb yfc yhas ymark yreach ysingle yexact vd sn ef yfacts ywords ycells ysiteOf youts) (fun i vd _ _ => (∀ t, t < i → vs_1 V yops yfb (pp_HL n G V yops yfa yfb) t (vd t)) ∧ (∀ t, i ≤ t → t < 32 → vd t = 0)) n yverdicts yseen yeffect ⟨fun t ht => absurd ht (Nat.not_lt_zero t), fun t _ ht => h0 t ht⟩ ?_ ?_
  · rintro d vd sn ef ⟨h1, _⟩
    exact br_t (nI_le (Nat.le_refl n) (by omega)) (ya_332 hp hR hV hG hn hH hre hex h1 (fun vd' sn' h' => K _ _ _ h'))
  · rintro d i vd sn ef hi ⟨h1, h2⟩ ih
    have e : (nI i).toNatClampNeg = i := nI_clamp (by omega)
    have hin : vp_in (nI i) 32 := vp_in_nI (by omega) (by omega)
    obtain ⟨ho, h10, hn10, h2', h6, h11, hb', hc⟩ := hp i hi
    refine br_f (nI_ge hi (by omega)) ?_
    refine lc_3 (fun d1 x (vd sn ef : Nat → Int32) => wY_analyseAll_265 post (wY_analyseAll_255 post d) (nI i) d1 (nI x) yroom (nI V) (nI G) yheap (nI n) ycursor ystate ygrew yinputs yops yfa yfb yfc yhas ymark yreach ysingle yexact vd sn ef yfacts ywords ycells ysiteOf youts) (fun x vd _ _ => (∀ t, t < i → vs_1 V yops yfb (pp_HL n G V yops yfa yfb) t (vd t)) ∧ (∀ t, i + 1 ≤ t → t < 32 → vd t = 0) ∧ ((yops i = 8 ∧ ∃ y, y < x ∧ vd i = nI (16 + y) ∧ pp_HL n G V yops yfa yfb i (pn (yfb i)) y ∧ ∀ z, z < y → ¬ pp_HL n G V yops yfa yfb i (pn (yfb i)) z) ∨ (vd i = 0 ∧ ∀ y, y < x → ¬ pp_HL n G V yops yfa yfb i (pn (yfb i)) y))) V vd sn ef ⟨h1, fun t z1 z2 => h2 t (by omega) z2, Or.inr ⟨h2 i (Nat.le_refl i) (by omega), fun y hy => absurd hy (Nat.not_lt_zero y)⟩⟩ ?_ ?_
    · rintro d' vd' sn' ef' ⟨g1, g2, g3⟩
      refine br_t (nI_le (Nat.le_refl V) (by omega)) (nm_r (nI_1 i) (ih _ _ _ ⟨fun t ht => ?_, g2⟩))
      by_cases et : t = i
      · subst et
        rcases g3 with ⟨o8, y, z1, z2, z3⟩ | ⟨z1, z2⟩
        · exact Or.inl ⟨o8, y, z1, z2, z3⟩
        · exact Or.inr ⟨fun _ => z2, z1⟩
      · exact g1 t (by omega)
    · rintro d' x vd' sn' ef' hx ⟨g1, g2, g3⟩ ih'
      refine br_f (nI_ge hx (by omega)) ⟨hin, ?_⟩
      simp only [e]
      refine br_c (fun o8 => ⟨hin, br_c (fun z => ⟨hin, ?_⟩) (fun z => nm_r (nI_1 x) (ih' _ _ _ ⟨g1, g2, Or.inl ?_⟩))⟩) (fun o8 => nm_r (nI_1 i) (ih _ _ _ ⟨fun t ht => ?_, g2⟩))
      · obtain ⟨b, hb2, eb⟩ := hb' (Or.inr (Or.inr (Or.inr (Or.inl o8))))
        have pb : pn (yfb i) = b := by rw [eb]; exact pn_nI (by omega)
        have hno : ∀ y, y < x → ¬ pp_HL n G V yops yfa yfb i (pn (yfb i)) y := by
          rcases g3 with ⟨_, y, z1, z2, z3⟩ | ⟨z1, z2⟩
          · rw [z2] at z
            exact absurd z (nI_ne0 (by omega) (by omega))
          · exact z2
        rw [eb]
        refine yh_held (L := (pt_L n G yops yfa yfb)) (EX := pp_EX n G V yops yfa yfb) hp hR hV hn hH hL hex hi (by omega) (by omega) hre (fun q sn2 ef2 => br_f (by decide) ⟨hin, nm_r (e' := upd vd' i (nI (16 + x))) (by rw [← nI_add]; rfl) (nm_r (nI_1 x) (ih' _ _ _ ⟨fun t ht => ?_, fun t z1 z2 => ?_, Or.inl ⟨o8, x, by omega, pk_us, ?_, hno⟩⟩))⟩) (fun q sn2 ef2 => br_t rfl (nm_r (nI_1 x) (ih' _ _ _ ⟨g1, g2, Or.inr ⟨z, fun y hy => ?_⟩⟩)))
        · rw [pk_un (by omega)]; exact g1 t ht
        · rw [pk_un (by omega)]; exact g2 t z1 z2
        · rw [pb]; exact q
        · by_cases ey : y = x
          · subst ey; rw [pb]; exact q
          · exact hno y (by omega)
      · rcases g3 with ⟨_, y, z1, z2, z3⟩ | ⟨z1, z2⟩
        · exact ⟨o8, y, by omega, z2, z3⟩
        · exact absurd z1 z
      · by_cases et : t = i
        · subst et
          rcases g3 with ⟨z, _⟩ | ⟨z1, z2⟩
          · exact absurd z o8
          · exact Or.inr ⟨fun z => absurd z o8, z1⟩
        · exact g1 t (by omega)
theorem ya_154 (hp : pg_ok R V G n yops yfa yfb yfc) (hR : R ≤ 32) (hV : V ≤ 8) (hG : G ≤ 8) (hn : n ≤ 32) (hH : yb_H (pt_L n G yops yfa yfb) yhas) (hre : ∀ i, i < n → (¬ yreach i = 0 ↔ pp_R n G V yops yfa yfb i)) (hsg : ∀ s, s < 40 → (¬ ysingle s = 0 ↔ pp_SG n G V yops yfa yfb s)) (h0 : ∀ t, t < 32 → yverdicts t = 0)
    (K : ∀ ex vd sn ef : Nat → Int32, (∀ v, v < 8 → (¬ ex v = 0 ↔ pp_EX n G V yops yfa yfb v)) → (∀ i, i < n → vs_2 n G V yops yfa yfb i (vd i)) → post (yroom, nI V, nI G, yheap, nI n, ycursor, ystate, ygrew, yinputs, yops, yfa, yfb, yfc, yhas, ymark, yreach, ysingle, ex, vd, sn, ef, yfacts, ywords, ycells, ysiteOf, youts)) : ∃ n154, wY_analyseAll_154 post yroom (nI V) (nI G) yheap (nI n) ycursor ystate ygrew n154 0 yinputs yops yfa yfb yfc yhas ymark yreach ysingle yexact yverdicts yseen yeffect yfacts ywords ycells ysiteOf youts := by
  have hL : ∀ j s, (pt_L n G yops yfa yfb) j s → s < 40 := fun j s h => (pt_bd hp hV hG hn h).2
  refine lc_1 (fun d v (ex : Nat → Int32) => wY_analyseAll_154 post yroom (nI V) (nI G) yheap (nI n) ycursor ystate ygrew d (nI v) yinputs yops yfa yfb yfc yhas ymark yreach ysingle ex yverdicts yseen yeffect yfacts ywords ycells ysiteOf youts) (fun v ex => ∀ u, u < v → (¬ ex u = 0 ↔ pp_EX n G V yops yfa yfb u)) 8 yexact (fun u hu => absurd hu (Nat.not_lt_zero u)) ?_ ?_
  · intro d ex h
    exact br_t (nI_le (Nat.le_refl 8) (by omega)) (ya_255 hp hR hV hG hn hH hre h h0 (fun vd sn ef h' => K _ _ _ _ h h'))
  · intro d v ex hv h ih
    have ev : (nI v).toNatClampNeg = v := nI_clamp (by omega)
    have hvi : vp_in (nI v) 8 := vp_in_nI hv (by omega)
    have hv48 : v < 48 := by omega
    refine br_f (nI_ge (b := 8) hv (by omega)) ?_
    refine lc_2 (fun d1 s (x2 x3 : Int32) => wY_analyseAll_167 post (wY_analyseAll_154 post yroom (nI V) (nI G) yheap (nI n) ycursor ystate ygrew d) (nI v) yroom (nI V) (nI G) yheap (nI n) ycursor ystate ygrew yinputs yops yfa yfb yfc yhas ymark yreach ysingle ex yverdicts yseen yeffect yfacts ywords ycells ysiteOf youts d1 x2 x3 (nI s)) (fun s x2 x3 => x2 = nI (ct_n (fun t => decide (¬ yhas (v * 40 + t) = 0)) s) ∧ x3 = nI (ct_n (fun t => decide (¬ yhas (v * 40 + t) = 0) && decide (¬ ysingle t = 0)) s)) 40 0 0 ⟨rfl, rfl⟩ ?_ ?_
    · rintro d' x2 x3 ⟨e2, e3⟩
      subst e2 e3
      have b2 := ct_bd (fun t => decide (¬ yhas (v * 40 + t) = 0)) 40
      have b3 := ct_bd (fun t => decide (¬ yhas (v * 40 + t) = 0) && decide (¬ ysingle t = 0)) 40
      have hLt : ∀ t, t < 40 → (¬ yhas (v * 40 + t) = 0 ↔ (pt_L n G yops yfa yfb) v t) := by
        intro t ht
        rcases hH v t hv48 ht with q | q
        · exact ⟨fun w => absurd q.1 w, fun w => absurd w q.2⟩
        · exact ⟨fun _ => q.2, fun _ => by rw [q.1]; decide⟩
      have step : ∀ w : Int32, (¬ w = 0 ↔ pp_EX n G V yops yfa yfb v) → ∀ u, u < v + 1 → (¬ upd ex v w u = 0 ↔ pp_EX n G V yops yfa yfb u) := by
        intro w hw u hu
        by_cases eu : u = v
        · subst eu; rw [pk_us]; exact hw
        · rw [pk_un eu]; exact h u (by omega)
      have toEX : ct_n (fun t => decide (¬ yhas (v * 40 + t) = 0)) 40 = 1 → ct_n (fun t => decide (¬ yhas (v * 40 + t) = 0) && decide (¬ ysingle t = 0)) 40 = 1 → pp_EX n G V yops yfa yfb v := by
        intro c1 c2
        obtain ⟨j, j1, j2, j3⟩ := ct_one 40 c1
        obtain ⟨k, k1, k2, k3⟩ := ct_one 40 c2
        rw [Bool.and_eq_true] at k2
        have ek := j3 k k1 k2.1
        have k2a := of_decide_eq_true k2.1
        have k2b := of_decide_eq_true k2.2
        refine ⟨k, (hsg k k1).mp k2b, (hLt k k1).mp k2a, fun t ht => ?_⟩
        have t40 := hL v t ht
        rw [ek]
        exact j3 t t40 (decide_eq_true ((hLt t t40).mpr ht))
      have ofEX : pp_EX n G V yops yfa yfb v → ct_n (fun t => decide (¬ yhas (v * 40 + t) = 0)) 40 = 1 ∧ ct_n (fun t => decide (¬ yhas (v * 40 + t) = 0) && decide (¬ ysingle t = 0)) 40 = 1 := by
        rintro ⟨s, s1, s2, s3⟩
        have s40 := hL v s s2
        refine ⟨ct_uni 40 s40 (decide_eq_true ((hLt s s40).mpr s2)) (fun k hk q => s3 k ((hLt k hk).mp (of_decide_eq_true q))), ct_uni 40 s40 ?_ (fun k hk q => ?_)⟩
        · rw [Bool.and_eq_true]; exact ⟨decide_eq_true ((hLt s s40).mpr s2), decide_eq_true ((hsg s s40).mpr s1)⟩
        · rw [Bool.and_eq_true] at q
          exact s3 k ((hLt k hk).mp (of_decide_eq_true q.1))
      refine br_t (nI_le (Nat.le_refl 40) (by omega)) (pk_eq _ 1 (fun c1 => pk_eq _ 1 (fun c2 => ⟨hvi, nm_r (e' := upd ex v 1) (by rw [ev]; rfl) (nm_r (nI_1 v) (ih _ (step 1 ⟨fun _ => toEX c1 c2, fun _ => by decide⟩)))⟩) (fun c2 => ⟨hvi, nm_r (e' := upd ex v 0) (by rw [ev]; rfl) (nm_r (nI_1 v) (ih _ (step 0 ⟨fun w => absurd rfl w, fun w => absurd (ofEX w).2 c2⟩)))⟩)) (fun c1 => ⟨hvi, nm_r (e' := upd ex v 0) (by rw [ev]; rfl) (nm_r (nI_1 v) (ih _ (step 0 ⟨fun w => absurd rfl w, fun w => absurd (ofEX w).1 c1⟩)))⟩))
    · rintro d' s x2 x3 hs ⟨e2, e3⟩ ih'
      subst e2 e3
      obtain ⟨q1, q2, q3⟩ := yb_ix hv48 hs
      have es : (nI s).toNatClampNeg = s := nI_clamp (by omega)
      have key : ∀ x2' : Int32, x2' = nI (ct_n (fun t => decide (¬ yhas (v * 40 + t) = 0)) (s + 1)) → wY_analyseAll_192 post (wY_analyseAll_154 post yroom (nI V) (nI G) yheap (nI n) ycursor ystate ygrew d) (wY_analyseAll_167 post (wY_analyseAll_154 post yroom (nI V) (nI G) yheap (nI n) ycursor ystate ygrew d) (nI v) yroom (nI V) (nI G) yheap (nI n) ycursor ystate ygrew yinputs yops yfa yfb yfc yhas ymark yreach ysingle ex yverdicts yseen yeffect yfacts ywords ycells ysiteOf youts d') (nI v) x2' (nI (ct_n (fun t => decide (¬ yhas (v * 40 + t) = 0) && decide (¬ ysingle t = 0)) s)) (nI s) yroom (nI V) (nI G) yheap (nI n) ycursor ystate ygrew yinputs yops yfa yfb yfc yhas ymark yreach ysingle ex yverdicts yseen yeffect yfacts ywords ycells ysiteOf youts := by
        intro x2' hx2
        unfold wY_analyseAll_192
        rw [q1, q3, es]
        refine ⟨q2, br_c (fun z => nm_r (nI_1 s) (ih' _ _ ⟨hx2, ?_⟩)) (fun z => ⟨vp_in_nI hs (by omega), br_c (fun w => nm_r (nI_1 s) (ih' _ _ ⟨hx2, ?_⟩)) (fun w => nm_r (nI_1 _) (nm_r (nI_1 s) (ih' _ _ ⟨hx2, ?_⟩)))⟩)⟩
        · simp only [ct_n]
          rw [if_neg (by rw [Bool.and_eq_true, decide_eq_true_iff]; exact fun y => y.1 z), Nat.add_zero]
        · simp only [ct_n]
          rw [if_neg (by rw [Bool.and_eq_true, decide_eq_true_iff, decide_eq_true_iff]; exact fun y => y.2 w), Nat.add_zero]
        · simp only [ct_n]
          rw [if_pos (by rw [Bool.and_eq_true, decide_eq_true_iff, decide_eq_true_iff]; exact ⟨z, w⟩)]
      refine br_f (nI_ge (b := 40) hs (by omega)) ?_
      rw [q1, q3]
      refine ⟨q2, br_c (fun z => key _ ?_) (fun z => nm_r (nI_1 _) (key _ ?_))⟩
      · simp only [ct_n]
        rw [if_neg (by rw [decide_eq_true_iff]; exact fun y => y z), Nat.add_zero]
      · simp only [ct_n]
        rw [if_pos (decide_eq_true z)]
theorem ya_97 (hp : pg_ok R V G n yops yfa yfb yfc) (hR : R ≤ 32) (hV : V ≤ 8) (hG : G ≤ 8) (hn : n ≤ 32) (hH : yb_H (pt_L n G yops yfa yfb) yhas) (hre : ∀ i, i < n → (¬ yreach i = 0 ↔ pp_R n G V yops yfa yfb i)) (hs0 : ∀ s, s < 40 → (¬ ysingle s = 0 ↔ s < G)) (h0 : ∀ t, t < 32 → yverdicts t = 0)
    (K : ∀ mk sg ex vd sn ef : Nat → Int32, (∀ s, s < 40 → (¬ sg s = 0 ↔ pp_SG n G V yops yfa yfb s)) → (∀ v, v < 8 → (¬ ex v = 0 ↔ pp_EX n G V yops yfa yfb v)) → (∀ i, i < n → vs_2 n G V yops yfa yfb i (vd i)) → post (yroom, nI V, nI G, yheap, nI n, ycursor, ystate, ygrew, yinputs, yops, yfa, yfb, yfc, yhas, mk, yreach, sg, ex, vd, sn, ef, yfacts, ywords, ycells, ysiteOf, youts)) : ∃ n97, wY_analyseAll_97 post n97 0 yroom (nI V) (nI G) yheap (nI n) ycursor ystate ygrew yinputs yops yfa yfb yfc yhas ymark yreach ysingle yexact yverdicts yseen yeffect yfacts ywords ycells ysiteOf youts := by
  refine lc_2 (fun d i (mk sg : Nat → Int32) => wY_analyseAll_97 post d (nI i) yroom (nI V) (nI G) yheap (nI n) ycursor ystate ygrew yinputs yops yfa yfb yfc yhas mk yreach sg yexact yverdicts yseen yeffect yfacts ywords ycells ysiteOf youts) (fun i _ sg => ∀ s, s < 40 → (¬ sg s = 0 ↔ s < G ∨ ∃ j, j < i ∧ s = G + j ∧ yops j = 7 ∧ ¬ gr_T (pg_e n yops yfa yfb) j j)) n ymark ysingle ?_ ?_ ?_
  · intro s hs
    rw [hs0 s hs]
    exact ⟨Or.inl, fun z => z.elim (fun z => z) (fun ⟨j, hj, _⟩ => absurd hj (Nat.not_lt_zero j))⟩
  · intro d mk sg h
    exact br_t (nI_le (Nat.le_refl n) (by omega)) (ya_154 hp hR hV hG hn hH hre h h0 (fun ex vd sn ef h1 h2 => K _ _ _ _ _ _ h h1 h2))
  · intro d i mk sg hi h ih
    have e : (nI i).toNatClampNeg = i := nI_clamp (by omega)
    have hin : vp_in (nI i) 32 := vp_in_nI (by omega) (by omega)
    have egi : nI G + nI i = nI (G + i) := nI_add G i
    have eg : (nI (G + i)).toNatClampNeg = G + i := nI_clamp (by omega)
    have hgi : vp_in (nI (G + i)) 40 := vp_in_nI (by omega) (by omega)
    refine br_f (nI_ge hi (by omega)) (ys_spread hp hR hn (by omega) (fun mk' hmk => ⟨hin, ?_⟩))
    simp only [e, egi, eg]
    have step : ∀ w : Int32, yops i = 7 → (¬ w = 0 ↔ ¬ gr_T (pg_e n yops yfa yfb) i i) → ∀ s, s < 40 → (¬ upd sg (G + i) w s = 0 ↔ s < G ∨ ∃ j, j < i + 1 ∧ s = G + j ∧ yops j = 7 ∧ ¬ gr_T (pg_e n yops yfa yfb) j j) := by
      intro w o7 hw s hs
      by_cases es : s = G + i
      · subst es
        rw [pk_us, hw]
        constructor
        · intro z; exact Or.inr ⟨i, by omega, rfl, o7, z⟩
        · rintro (z | ⟨j, z1, z2, z3, z4⟩)
          · omega
          · have ej : j = i := by omega
            rw [← ej]; exact z4
      · rw [pk_un es, h s hs]
        constructor
        · rintro (z | ⟨j, z1, z2⟩)
          · exact Or.inl z
          · exact Or.inr ⟨j, by omega, z2⟩
        · rintro (z | ⟨j, z1, z2, z3⟩)
          · exact Or.inl z
          · refine Or.inr ⟨j, ?_, z2, z3⟩
            have : ¬ j = i := fun q => es (by rw [z2, q])
            omega
    refine br_c (fun o7 => ⟨hin, br_c (fun z => ⟨hgi, nm_r (e' := upd sg (G + i) 1) rfl (nm_r (nI_1 i) (ih _ _ (step 1 o7 ⟨fun _ w => (hmk i hi).mpr w z, fun _ => by decide⟩)))⟩) (fun z => ⟨hgi, nm_r (e' := upd sg (G + i) 0) rfl (nm_r (nI_1 i) (ih _ _ (step 0 o7 ⟨fun w => absurd rfl w, fun w => absurd ((hmk i hi).mp z) w⟩)))⟩)⟩) (fun o7 => nm_r (nI_1 i) (ih _ _ (fun s hs => ?_)))
    rw [h s hs]
    constructor
    · rintro (z | ⟨j, z1, z2⟩)
      · exact Or.inl z
      · exact Or.inr ⟨j, by omega, z2⟩
    · rintro (z | ⟨j, z1, z2, z3, z4⟩)
      · exact Or.inl z
      · refine Or.inr ⟨j, ?_, z2, z3, z4⟩
        have : ¬ j = i := fun q => o7 (by rw [← q]; exact z3)
        omega
theorem ya_all (hp : pg_ok R V G n yops yfa yfb yfc) (hR : R ≤ 32) (hV : V ≤ 8) (hG : G ≤ 8) (hn : n ≤ 32)
    (K : ∀ (gr : Int32) (hs mk re sg ex vd sn ef : Nat → Int32), ay_P n G V yops yfa yfb hs re sg ex vd → post (yroom, nI V, nI G, yheap, nI n, ycursor, ystate, gr, yinputs, yops, yfa, yfb, yfc, hs, mk, re, sg, ex, vd, sn, ef, yfacts, ywords, ycells, ysiteOf, youts)) : wpY_analyseAll post (yroom, nI V, nI G, yheap, nI n, ycursor, ystate, ygrew, yinputs, yops, yfa, yfb, yfc, yhas, ymark, yreach, ysingle, yexact, yverdicts, yseen, yeffect, yfacts, ywords, ycells, ysiteOf, youts) := by
  unfold wpY_analyseAll
  refine yv_solve hp hV hG hn (fun gr hs hH => ?_)
  refine ys_spread (f := 0) hp hR hn (by omega) (fun mk hmk => ?_)
  refine lc_2 (fun d i (re vd : Nat → Int32) => wY_analyseAll_11 post yroom (nI V) (nI G) yheap (nI n) ycursor ystate gr d (nI i) yinputs yops yfa yfb yfc hs mk re ysingle yexact vd yseen yeffect yfacts ywords ycells ysiteOf youts) (fun i re vd => ∀ t, t < i → (¬ re t = 0 ↔ pp_R n G V yops yfa yfb t) ∧ vd t = 0) 32 yreach yverdicts (fun t ht => absurd ht (Nat.not_lt_zero t)) ?_ ?_
  · intro d re vd h
    refine br_t (nI_le (Nat.le_refl 32) (by omega)) ?_
    refine lc_1 (fun d s (sg : Nat → Int32) => wY_analyseAll_64 post yroom (nI V) (nI G) yheap (nI n) ycursor ystate gr d (nI s) yinputs yops yfa yfb yfc hs mk re sg yexact vd yseen yeffect yfacts ywords ycells ysiteOf youts) (fun s sg => ∀ t, t < s → (¬ sg t = 0 ↔ t < G)) 40 ysingle (fun t ht => absurd ht (Nat.not_lt_zero t)) ?_ ?_
    · intro d sg hsg
      exact br_t (nI_le (Nat.le_refl 40) (by omega)) (ya_97 hp hR hV hG hn hH (fun i hi => (h i (by omega)).1) hsg (fun t ht => (h t ht).2) (fun mk' sg' ex vd' sn ef h1 h2 h3 => K _ _ _ _ _ _ _ _ _ ⟨hH, fun i hi => (h i (by omega)).1, h1, h2, h3⟩))
    · intro d s sg hs' hsg ih
      have es : (nI s).toNatClampNeg = s := nI_clamp (by omega)
      have hsi : vp_in (nI s) 40 := vp_in_nI hs' (by omega)
      refine br_f (nI_ge (b := 40) hs' (by omega)) (pk_le G s (fun z => ⟨hsi, nm_r (e' := upd sg s 0) (by rw [es]; rfl) (nm_r (nI_1 s) (ih _ (fun t ht => ?_)))⟩) (fun z => ⟨hsi, nm_r (e' := upd sg s 1) (by rw [es]; rfl) (nm_r (nI_1 s) (ih _ (fun t ht => ?_)))⟩))
      · by_cases et : t = s
        · subst et; rw [pk_us]; exact ⟨fun w => absurd rfl w, fun w => by omega⟩
        · rw [pk_un et]; exact hsg t (by omega)
      · by_cases et : t = s
        · subst et; rw [pk_us]; exact ⟨fun _ => z, fun _ => by decide⟩
        · rw [pk_un et]; exact hsg t (by omega)
  · intro d i re vd hi h ih
    have e : (nI i).toNatClampNeg = i := nI_clamp (by omega)
    have hin : vp_in (nI i) 32 := vp_in_nI hi (by omega)
    have key : ∀ w : Nat, (w = 0 ∨ w = 1) → (w = 1 ↔ pp_R n G V yops yfa yfb i) → wY_analyseAll_48 post (wY_analyseAll_11 post yroom (nI V) (nI G) yheap (nI n) ycursor ystate gr d) (nI i) (nI w) (nI i) yroom (nI V) (nI G) yheap (nI n) ycursor ystate gr yinputs yops yfa yfb yfc hs mk re ysingle yexact vd yseen yeffect yfacts ywords ycells ysiteOf youts := by
      intro w hw01 hw
      refine ⟨hin, nm_r (e' := upd re i (nI w)) ?_ ⟨hin, nm_r (e' := upd vd i 0) (by rw [e]) (nm_r (nI_1 i) (ih _ _ (fun t ht => ?_)))⟩⟩
      · rw [e]
        rcases hw01 with q | q <;> subst q <;> rfl
      · by_cases et : t = i
        · subst et
          rw [pk_us, pk_us, ← hw]
          refine ⟨⟨fun q => ?_, fun q => by rw [q]; decide⟩, rfl⟩
          rcases hw01 with w0 | w1
          · rw [w0] at q; exact absurd rfl q
          · exact w1
        · rw [pk_un et, pk_un et]; exact h t (by omega)
    have yes : pp_R n G V yops yfa yfb i → wY_analyseAll_43 post (wY_analyseAll_11 post yroom (nI V) (nI G) yheap (nI n) ycursor ystate gr d) (nI i) (nI i) yroom (nI V) (nI G) yheap (nI n) ycursor ystate gr yinputs yops yfa yfb yfc hs mk re ysingle yexact vd yseen yeffect yfacts ywords ycells ysiteOf youts := fun q => key 1 (Or.inr rfl) ⟨fun _ => q, fun _ => rfl⟩
    have no : ¬ pp_R n G V yops yfa yfb i → wY_analyseAll_47 post (wY_analyseAll_11 post yroom (nI V) (nI G) yheap (nI n) ycursor ystate gr d) (nI i) (nI i) yroom (nI V) (nI G) yheap (nI n) ycursor ystate gr yinputs yops yfa yfb yfc hs mk re ysingle yexact vd yseen yeffect yfacts ywords ycells ysiteOf youts := fun q => key 0 (Or.inl rfl) ⟨fun w => absurd w (by decide), fun w => absurd w q⟩
    refine br_f (nI_ge (b := 32) hi (by omega)) (pk_le n i (fun z => no (fun q => ?_)) (fun z => pk_eq i 0 (fun z0 => yes ⟨z, Or.inl z0⟩) (fun z0 => ⟨hin, ?_⟩)))
    · have := q.1; omega
    · simp only [e]
      exact br_c (fun q => no (fun w => w.2.elim z0 (fun y => (hmk i z).mpr y q))) (fun q => yes ⟨z, Or.inr ((hmk i z).mp q)⟩)
theorem ya_20 {pst : Int32 → SY → Prop} (hn : n ≤ 32) (K : pst (nI (ax_c yverdicts n)) (yroom, nI V, nI G, yheap, nI n, ycursor, ystate, ygrew, yinputs, yops, yfa, yfb, yfc, yhas, ymark, yreach, ysingle, yexact, yverdicts, yseen, yeffect, yfacts, ywords, ycells, ysiteOf, youts)) : ∃ n20, wY_analyse_20 pst yroom (nI V) (nI G) yheap (nI n) ycursor ystate ygrew yinputs yops yfa yfb yfc yhas ymark yreach ysingle yexact yverdicts yseen yeffect yfacts ywords ycells ysiteOf youts n20 0 0 := by
  refine lc_1 (fun d i (im : Int32) => wY_analyse_20 pst yroom (nI V) (nI G) yheap (nI n) ycursor ystate ygrew yinputs yops yfa yfb yfc yhas ymark yreach ysingle yexact yverdicts yseen yeffect yfacts ywords ycells ysiteOf youts d im (nI i)) (fun i im => im = nI (ax_c yverdicts i)) n 0 rfl ?_ ?_
  · intro d im h
    subst h
    exact br_t (nI_le (Nat.le_refl n) (by omega)) K
  · intro d i im hi h ih
    have e : (nI i).toNatClampNeg = i := nI_clamp (by omega)
    subst h
    refine br_f (nI_ge hi (by omega)) ⟨vp_in_nI (by omega) (by omega), ?_⟩
    simp only [e]
    refine br_c (fun z => nm_r (nI_1 i) (ih _ ?_)) (fun z => nm_r (nI_1 _) (nm_r (nI_1 i) (ih _ ?_)))
    · unfold ax_c
      simp only [ct_n]
      rw [if_neg (by rw [decide_eq_true_iff]; exact fun w => w z)]; rfl
    · unfold ax_c
      simp only [ct_n]
      rw [if_pos (decide_eq_true z)]
end
end
section
theorem ix_2 {w : Nat} (hw : w < 2) : vp_in (nI w) 2 ∧ (nI w).toNatClampNeg = w := ⟨vp_in_nI hw (by omega), nI_clamp (by omega)⟩
theorem ix_v {w a : Nat} (hw : w < 2) (ha : a < 8) : nI (w * 8) + nI a = nI (w * 8 + a) ∧ vp_in (nI (w * 8 + a)) 16 ∧ (nI (w * 8 + a)).toNatClampNeg = w * 8 + a := ⟨nI_add _ _, vp_in_nI (by omega) (by omega), nI_clamp (by omega)⟩
theorem ix_c {w a : Nat} (hw : w < 2) (ha : a < 40) : nI (w * 40) + nI a = nI (w * 40 + a) ∧ vp_in (nI (w * 40 + a)) 80 ∧ (nI (w * 40 + a)).toNatClampNeg = w * 40 + a := ⟨nI_add _ _, vp_in_nI (by omega) (by omega), nI_clamp (by omega)⟩
theorem ix_h {w a : Nat} (hw : w < 2) (ha : a < 32) : nI (w * 32) + nI a = nI (w * 32 + a) ∧ vp_in (nI (w * 32 + a)) 64 ∧ (nI (w * 32 + a)).toNatClampNeg = w * 32 + a := ⟨nI_add _ _, vp_in_nI (by omega) (by omega), nI_clamp (by omega)⟩
theorem ix_m (w : Nat) : nI w * 8 = nI (w * 8) ∧ nI w * 40 = nI (w * 40) ∧ nI w * 32 = nI (w * 32) ∧ nI w * 7 = nI (w * 7) := ⟨pk_mul w 8, pk_mul w 40, pk_mul w 32, pk_mul w 7⟩
/-- a word of the machine: an int, or the address of a cell below b -/
def rn_D (b : Nat) (x : Int64) : Prop := (∃ a : Int32, x = a.toInt64) ∨ ∃ c, c < b ∧ x = 4294967296 + (nI c).toInt64
def rn_n (x : Int64) : Int32 := if x < 4294967296 then x.toInt32 else 0
theorem rn_int (a : Int32) : a.toInt64 < 4294967296 ∧ ¬ 0 ≤ a.toInt64 - 4294967296 := by
  have h1 := a.le_toInt
  have h2 := a.toInt_lt
  have e : a.toInt64.toInt = a.toInt := Int32.toInt_toInt64 a
  have b : (4294967296 : Int64).toInt = 4294967296 := by decide
  constructor
  · rw [Int64.lt_iff_toInt_lt, e, b]; omega
  · rw [Int64.le_iff_toInt_le, Int64.toInt_sub, e, b, show (0 : Int64).toInt = 0 by decide, Int.bmod_eq_of_le (by omega) (by omega)]
    omega
theorem rn_adr : ∀ c, c < 40 → ¬ (4294967296 + (nI c).toInt64 : Int64) < 4294967296 ∧ (4294967296 + (nI c).toInt64 : Int64) < 4294967336 ∧ ((4294967296 + (nI c).toInt64 : Int64) - 4294967296).toInt32 = nI c ∧ (0 : Int64) ≤ (4294967296 + (nI c).toInt64 : Int64) - 4294967296 := by decide +kernel
theorem rn_Dm {b b' : Nat} {x : Int64} (hb : b ≤ b') (h : rn_D b x) : rn_D b' x := h.elim Or.inl (fun ⟨c, h1, h2⟩ => Or.inr ⟨c, by omega, h2⟩)
section
variable {xmaxLength : Int32} {xvariableCount : Int32} {xglobalCount : Int32} {xheapLimit : Int32} {xlength : Int32} {xcursor : Int32} {xstate : Int32} {xpending : Int64} {xreachable : Int64} {xsingleSites : Int64} {xexactVars : Int32} {ximproved : Int32} {xopAt : (Nat → Int32)} {xaAt : (Nat → Int32)} {xbAt : (Nat → Int32)} {xcAt : (Nat → Int32)} {xinputs : (Nat → Int32)} {xrep : (Nat → Int32)} {xpts : (Nat → Int64)} {xdone : (Nat → Int64)} {xflowsTo : (Nat → Int64)} {xtried : (Nat → Int64)} {xloads : (Nat → Int32)} {xstores : (Nat → Int32)} {xnext : (Nat → Int64)} {xprev : (Nat → Int64)} {xafter : (Nat → Int64)} {xvarSet : (Nat → Int64)} {xgen : (Nat → Int64)} {xkill : (Nat → Int64)} {xholdsIn : (Nat → Int64)} {xreads : (Nat → Int32)} {xcovers : (Nat → Int32)} {xneedIn : (Nat → Int32)} {xneedAfter : (Nat → Int32)} {xverdicts : (Nat → Int32)} {xrunStatus : (Nat → Int32)} {xrunSteps : (Nat → Int32)} {xrunOutputs : (Nat → Int32)} {xrunReads : (Nat → Int32)} {xrunWrites : (Nat → Int32)} {xrunMade : (Nat → Int32)} {xrunPlace : (Nat → Int32)} {xvars : (Nat → Int64)} {xcells : (Nat → Int64)} {xheapSite : (Nat → Int32)} {xoutputs : (Nat → Int64)}
variable {R V G H n w p : Nat}

theorem rx_num {pst : Int32 → Prop} {x : Int64} (K : pst (rn_n x)) : wpX_number pst (xmaxLength, nI V, nI G, nI H, nI n, xcursor, xstate, xpending, xreachable, xsingleSites, xexactVars, ximproved, xopAt, xaAt, xbAt, xcAt, xinputs, xrep, xpts, xdone, xflowsTo, xtried, xloads, xstores, xnext, xprev, xafter, xvarSet, xgen, xkill, xholdsIn, xreads, xcovers, xneedIn, xneedAfter, xverdicts, xrunStatus, xrunSteps, xrunOutputs, xrunReads, xrunWrites, xrunMade, xrunPlace, xvars, xcells, xheapSite, xoutputs) x := by
  unfold rn_n at K
  refine br_c (fun z => ?_) (fun z => ?_)
  · rw [if_pos z] at K; exact K
  · rw [if_neg z] at K; exact K
theorem rx_cell {pst : Int32 → Prop} {x : Int64} (h1 : ∀ a : Int32, x = a.toInt64 → pst (-1)) (h2 : ∀ c, c < 40 → x = 4294967296 + (nI c).toInt64 → pst (nI c)) {b : Nat} (hb : b ≤ 40) (hD : rn_D b x) : wpX_cellOf pst (xmaxLength, nI V, nI G, nI H, nI n, xcursor, xstate, xpending, xreachable, xsingleSites, xexactVars, ximproved, xopAt, xaAt, xbAt, xcAt, xinputs, xrep, xpts, xdone, xflowsTo, xtried, xloads, xstores, xnext, xprev, xafter, xvarSet, xgen, xkill, xholdsIn, xreads, xcovers, xneedIn, xneedAfter, xverdicts, xrunStatus, xrunSteps, xrunOutputs, xrunReads, xrunWrites, xrunMade, xrunPlace, xvars, xcells, xheapSite, xoutputs) x := by
  rcases hD with ⟨a, e⟩ | ⟨c, hc, e⟩
  · exact br_t (by rw [e]; exact (rn_int a).1) (h1 a e)
  · have q := rn_adr c (by omega)
    refine br_f (by rw [e]; exact q.1) (br_t (by rw [e]; exact q.2.1) ?_)
    have r : (x - 4294967296).toInt32 = nI c := by rw [e]; exact q.2.2.1
    rw [r]
    exact h2 c (by omega) e
theorem rx_p1 {a : Nat} (hw : w < 2) (hn : n ≤ 32) (hp : p < n) (hop : xopAt p = 1) (ha : xaAt p = nI a) (ha8 : a < 8) (Q : Int32 → SX → Prop) (K : Q 0 (xmaxLength, nI V, nI G, nI H, nI n, xcursor, xstate, xpending, xreachable, xsingleSites, xexactVars, ximproved, xopAt, xaAt, xbAt, xcAt, xinputs, xrep, xpts, xdone, xflowsTo, xtried, xloads, xstores, xnext, xprev, xafter, xvarSet, xgen, xkill, xholdsIn, xreads, xcovers, xneedIn, xneedAfter, xverdicts, xrunStatus, xrunSteps, xrunOutputs, xrunReads, xrunWrites, xrunMade, xrunPlace, vp_updL xvars (w * 8 + a) (xbAt p).toInt64, xcells, xheapSite, xoutputs)) : wpX_perform Q (xmaxLength, nI V, nI G, nI H, nI n, xcursor, xstate, xpending, xreachable, xsingleSites, xexactVars, ximproved, xopAt, xaAt, xbAt, xcAt, xinputs, xrep, xpts, xdone, xflowsTo, xtried, xloads, xstores, xnext, xprev, xafter, xvarSet, xgen, xkill, xholdsIn, xreads, xcovers, xneedIn, xneedAfter, xverdicts, xrunStatus, xrunSteps, xrunOutputs, xrunReads, xrunWrites, xrunMade, xrunPlace, xvars, xcells, xheapSite, xoutputs) (nI w) (nI p) := by
  have hpi : vp_in (nI p) 32 := vp_in_nI (by omega) (by omega)
  have ep : (nI p).toNatClampNeg = p := nI_clamp (by omega)
  refine nm_r (ix_m w).1 ⟨hpi, nm_r (e' := nI a) (by rw [ep, ha]) ⟨hpi, nm_r (e' := xbAt p) (by rw [ep]) ⟨hpi, nm_r (e' := xcAt p) (by rw [ep]) ⟨hpi, nm_r (e' := 1) (by rw [ep, hop]) (br_f (by decide) (br_f (by decide) (br_t rfl ?_)))⟩⟩⟩⟩
  obtain ⟨a1, a2, a3⟩ := ix_v hw ha8
  rw [a1, a3]
  exact ⟨a2, nm_e K⟩
theorem rx_p2 {a b : Nat} (hw : w < 2) (hn : n ≤ 32) (hp : p < n) (hop : xopAt p = 2) (ha : xaAt p = nI a) (ha8 : a < 8) (hb : xbAt p = nI b) (hb4 : b < 4) (Q : Int32 → SX → Prop) (K : Q 0 (xmaxLength, nI V, nI G, nI H, nI n, xcursor, xstate, xpending, xreachable, xsingleSites, xexactVars, ximproved, xopAt, xaAt, xbAt, xcAt, xinputs, xrep, xpts, xdone, xflowsTo, xtried, xloads, xstores, xnext, xprev, xafter, xvarSet, xgen, xkill, xholdsIn, xreads, xcovers, xneedIn, xneedAfter, xverdicts, xrunStatus, xrunSteps, xrunOutputs, xrunReads, xrunWrites, xrunMade, xrunPlace, vp_updL xvars (w * 8 + a) (xinputs b).toInt64, xcells, xheapSite, xoutputs)) : wpX_perform Q (xmaxLength, nI V, nI G, nI H, nI n, xcursor, xstate, xpending, xreachable, xsingleSites, xexactVars, ximproved, xopAt, xaAt, xbAt, xcAt, xinputs, xrep, xpts, xdone, xflowsTo, xtried, xloads, xstores, xnext, xprev, xafter, xvarSet, xgen, xkill, xholdsIn, xreads, xcovers, xneedIn, xneedAfter, xverdicts, xrunStatus, xrunSteps, xrunOutputs, xrunReads, xrunWrites, xrunMade, xrunPlace, xvars, xcells, xheapSite, xoutputs) (nI w) (nI p) := by
  have hpi : vp_in (nI p) 32 := vp_in_nI (by omega) (by omega)
  have ep : (nI p).toNatClampNeg = p := nI_clamp (by omega)
  refine nm_r (ix_m w).1 ⟨hpi, nm_r (e' := nI a) (by rw [ep, ha]) ⟨hpi, nm_r (e' := xbAt p) (by rw [ep]) ⟨hpi, nm_r (e' := xcAt p) (by rw [ep]) ⟨hpi, nm_r (e' := 2) (by rw [ep, hop]) (br_f (by decide) (br_f (by decide) (br_f (by decide) (br_t rfl ?_))))⟩⟩⟩⟩
  obtain ⟨a1, a2, a3⟩ := ix_v hw ha8
  rw [a1, a3, hb, nI_clamp (by omega)]
  exact ⟨vp_in_nI hb4 (by omega), a2, nm_e K⟩
theorem rx_p3 {a b : Nat} (hw : w < 2) (hn : n ≤ 32) (hp : p < n) (hop : xopAt p = 3) (ha : xaAt p = nI a) (ha8 : a < 8) (hb : xbAt p = nI b) (hb8 : b < 8) (Q : Int32 → SX → Prop) (K : Q 0 (xmaxLength, nI V, nI G, nI H, nI n, xcursor, xstate, xpending, xreachable, xsingleSites, xexactVars, ximproved, xopAt, xaAt, xbAt, xcAt, xinputs, xrep, xpts, xdone, xflowsTo, xtried, xloads, xstores, xnext, xprev, xafter, xvarSet, xgen, xkill, xholdsIn, xreads, xcovers, xneedIn, xneedAfter, xverdicts, xrunStatus, xrunSteps, xrunOutputs, xrunReads, xrunWrites, xrunMade, xrunPlace, vp_updL xvars (w * 8 + a) (xvars (w * 8 + b)), xcells, xheapSite, xoutputs)) : wpX_perform Q (xmaxLength, nI V, nI G, nI H, nI n, xcursor, xstate, xpending, xreachable, xsingleSites, xexactVars, ximproved, xopAt, xaAt, xbAt, xcAt, xinputs, xrep, xpts, xdone, xflowsTo, xtried, xloads, xstores, xnext, xprev, xafter, xvarSet, xgen, xkill, xholdsIn, xreads, xcovers, xneedIn, xneedAfter, xverdicts, xrunStatus, xrunSteps, xrunOutputs, xrunReads, xrunWrites, xrunMade, xrunPlace, xvars, xcells, xheapSite, xoutputs) (nI w) (nI p) := by
  have hpi : vp_in (nI p) 32 := vp_in_nI (by omega) (by omega)
  have ep : (nI p).toNatClampNeg = p := nI_clamp (by omega)
  refine nm_r (ix_m w).1 ⟨hpi, nm_r (e' := nI a) (by rw [ep, ha]) ⟨hpi, nm_r (e' := xbAt p) (by rw [ep]) ⟨hpi, nm_r (e' := xcAt p) (by rw [ep]) ⟨hpi, nm_r (e' := 3) (by rw [ep, hop]) (br_f (by decide) (br_f (by decide) (br_f (by decide) (br_f (by decide) (br_t rfl ?_)))))⟩⟩⟩⟩
  obtain ⟨a1, a2, a3⟩ := ix_v hw ha8
  obtain ⟨b1, b2, b3⟩ := ix_v hw hb8
  rw [hb, a1, a3, b1, b3]
  exact ⟨b2, a2, nm_e K⟩
theorem rx_p4 {a b c : Nat} (hw : w < 2) (hn : n ≤ 32) (hp : p < n) (hop : xopAt p = 4) (ha : xaAt p = nI a) (ha8 : a < 8) (hb : xbAt p = nI b) (hb8 : b < 8) (hc : xcAt p = nI c) (hc8 : c < 8) (Q : Int32 → SX → Prop) (K : Q 0 (xmaxLength, nI V, nI G, nI H, nI n, xcursor, xstate, xpending, xreachable, xsingleSites, xexactVars, ximproved, xopAt, xaAt, xbAt, xcAt, xinputs, xrep, xpts, xdone, xflowsTo, xtried, xloads, xstores, xnext, xprev, xafter, xvarSet, xgen, xkill, xholdsIn, xreads, xcovers, xneedIn, xneedAfter, xverdicts, xrunStatus, xrunSteps, xrunOutputs, xrunReads, xrunWrites, xrunMade, xrunPlace, vp_updL xvars (w * 8 + a) (rn_n (xvars (w * 8 + b)) + rn_n (xvars (w * 8 + c))).toInt64, xcells, xheapSite, xoutputs)) : wpX_perform Q (xmaxLength, nI V, nI G, nI H, nI n, xcursor, xstate, xpending, xreachable, xsingleSites, xexactVars, ximproved, xopAt, xaAt, xbAt, xcAt, xinputs, xrep, xpts, xdone, xflowsTo, xtried, xloads, xstores, xnext, xprev, xafter, xvarSet, xgen, xkill, xholdsIn, xreads, xcovers, xneedIn, xneedAfter, xverdicts, xrunStatus, xrunSteps, xrunOutputs, xrunReads, xrunWrites, xrunMade, xrunPlace, xvars, xcells, xheapSite, xoutputs) (nI w) (nI p) := by
  have hpi : vp_in (nI p) 32 := vp_in_nI (by omega) (by omega)
  have ep : (nI p).toNatClampNeg = p := nI_clamp (by omega)
  refine nm_r (ix_m w).1 ⟨hpi, nm_r (e' := nI a) (by rw [ep, ha]) ⟨hpi, nm_r (e' := xbAt p) (by rw [ep]) ⟨hpi, nm_r (e' := xcAt p) (by rw [ep]) ⟨hpi, nm_r (e' := 4) (by rw [ep, hop]) (br_f (by decide) (br_f (by decide) (br_f (by decide) (br_f (by decide) (br_f (by decide) (br_t rfl ?_))))))⟩⟩⟩⟩
  obtain ⟨a1, a2, a3⟩ := ix_v hw ha8
  obtain ⟨b1, b2, b3⟩ := ix_v hw hb8
  obtain ⟨c1, c2, c3⟩ := ix_v hw hc8
  rw [hb, hc, a1, a3, b1, b3, c1, c3]
  exact ⟨b2, rx_num ⟨c2, rx_num ⟨a2, nm_e K⟩⟩⟩
theorem rx_p5 {a b c : Nat} (hw : w < 2) (hn : n ≤ 32) (hp : p < n) (hop : xopAt p = 5) (ha : xaAt p = nI a) (ha8 : a < 8) (hb : xbAt p = nI b) (hb8 : b < 8) (hc : xcAt p = nI c) (hc8 : c < 8) (Q : Int32 → SX → Prop) (K : Q 0 (xmaxLength, nI V, nI G, nI H, nI n, xcursor, xstate, xpending, xreachable, xsingleSites, xexactVars, ximproved, xopAt, xaAt, xbAt, xcAt, xinputs, xrep, xpts, xdone, xflowsTo, xtried, xloads, xstores, xnext, xprev, xafter, xvarSet, xgen, xkill, xholdsIn, xreads, xcovers, xneedIn, xneedAfter, xverdicts, xrunStatus, xrunSteps, xrunOutputs, xrunReads, xrunWrites, xrunMade, xrunPlace, vp_updL xvars (w * 8 + a) (if xvars (w * 8 + b) = xvars (w * 8 + c) then 1 else 0), xcells, xheapSite, xoutputs)) : wpX_perform Q (xmaxLength, nI V, nI G, nI H, nI n, xcursor, xstate, xpending, xreachable, xsingleSites, xexactVars, ximproved, xopAt, xaAt, xbAt, xcAt, xinputs, xrep, xpts, xdone, xflowsTo, xtried, xloads, xstores, xnext, xprev, xafter, xvarSet, xgen, xkill, xholdsIn, xreads, xcovers, xneedIn, xneedAfter, xverdicts, xrunStatus, xrunSteps, xrunOutputs, xrunReads, xrunWrites, xrunMade, xrunPlace, xvars, xcells, xheapSite, xoutputs) (nI w) (nI p) := by
  have hpi : vp_in (nI p) 32 := vp_in_nI (by omega) (by omega)
  have ep : (nI p).toNatClampNeg = p := nI_clamp (by omega)
  refine nm_r (ix_m w).1 ⟨hpi, nm_r (e' := nI a) (by rw [ep, ha]) ⟨hpi, nm_r (e' := xbAt p) (by rw [ep]) ⟨hpi, nm_r (e' := xcAt p) (by rw [ep]) ⟨hpi, nm_r (e' := 5) (by rw [ep, hop]) (br_f (by decide) (br_f (by decide) (br_f (by decide) (br_f (by decide) (br_f (by decide) (br_f (by decide) (br_t rfl ?_)))))))⟩⟩⟩⟩
  obtain ⟨a1, a2, a3⟩ := ix_v hw ha8
  obtain ⟨b1, b2, b3⟩ := ix_v hw hb8
  obtain ⟨c1, c2, c3⟩ := ix_v hw hc8
  rw [hb, hc, a1, a3, b1, b3, c1, c3]
  refine ⟨b2, c2, br_c (fun z => ⟨a2, nm_e ?_⟩) (fun z => ⟨a2, nm_e ?_⟩)⟩
  · rw [if_pos z] at K; exact K
  · rw [if_neg z] at K; exact K
theorem rx_p6 {a b : Nat} (hw : w < 2) (hn : n ≤ 32) (hp : p < n) (hop : xopAt p = 6) (ha : xaAt p = nI a) (ha8 : a < 8) (hb : xbAt p = nI b) (hb8 : b < 8) (Q : Int32 → SX → Prop) (K : Q 0 (xmaxLength, nI V, nI G, nI H, nI n, xcursor, xstate, xpending, xreachable, xsingleSites, xexactVars, ximproved, xopAt, xaAt, xbAt, xcAt, xinputs, xrep, xpts, xdone, xflowsTo, xtried, xloads, xstores, xnext, xprev, xafter, xvarSet, xgen, xkill, xholdsIn, xreads, xcovers, xneedIn, xneedAfter, xverdicts, xrunStatus, xrunSteps, xrunOutputs, xrunReads, xrunWrites, xrunMade, xrunPlace, vp_updL xvars (w * 8 + a) (4294967296 + (nI b).toInt64), xcells, xheapSite, xoutputs)) : wpX_perform Q (xmaxLength, nI V, nI G, nI H, nI n, xcursor, xstate, xpending, xreachable, xsingleSites, xexactVars, ximproved, xopAt, xaAt, xbAt, xcAt, xinputs, xrep, xpts, xdone, xflowsTo, xtried, xloads, xstores, xnext, xprev, xafter, xvarSet, xgen, xkill, xholdsIn, xreads, xcovers, xneedIn, xneedAfter, xverdicts, xrunStatus, xrunSteps, xrunOutputs, xrunReads, xrunWrites, xrunMade, xrunPlace, xvars, xcells, xheapSite, xoutputs) (nI w) (nI p) := by
  have hpi : vp_in (nI p) 32 := vp_in_nI (by omega) (by omega)
  have ep : (nI p).toNatClampNeg = p := nI_clamp (by omega)
  refine nm_r (ix_m w).1 ⟨hpi, nm_r (e' := nI a) (by rw [ep, ha]) ⟨hpi, nm_r (e' := xbAt p) (by rw [ep]) ⟨hpi, nm_r (e' := xcAt p) (by rw [ep]) ⟨hpi, nm_r (e' := 6) (by rw [ep, hop]) (br_f (by decide) (br_f (by decide) (br_f (by decide) (br_f (by decide) (br_f (by decide) (br_f (by decide) (br_f (by decide) (br_t rfl ?_))))))))⟩⟩⟩⟩
  obtain ⟨a1, a2, a3⟩ := ix_v hw ha8
  rw [hb, a1, a3]
  exact ⟨a2, nm_e K⟩
theorem rx_p7 {a m : Nat} (hw : w < 2) (hn : n ≤ 32) (hp : p < n) (hop : xopAt p = 7) (ha : xaAt p = nI a) (ha8 : a < 8) (hm : xrunMade w = nI m) (hmH : m < H) (hH : H ≤ 32) (hG : G ≤ 8) (Q : Int32 → SX → Prop) (K : Q 0 (xmaxLength, nI V, nI G, nI H, nI n, xcursor, xstate, xpending, xreachable, xsingleSites, xexactVars, ximproved, xopAt, xaAt, xbAt, xcAt, xinputs, xrep, xpts, xdone, xflowsTo, xtried, xloads, xstores, xnext, xprev, xafter, xvarSet, xgen, xkill, xholdsIn, xreads, xcovers, xneedIn, xneedAfter, xverdicts, xrunStatus, xrunSteps, xrunOutputs, xrunReads, xrunWrites, upd xrunMade w (nI (m + 1)), xrunPlace, vp_updL xvars (w * 8 + a) (4294967296 + (nI (G + m)).toInt64), vp_updL xcells (w * 40 + (G + m)) 0, upd xheapSite (w * 32 + m) (nI (G + p)), xoutputs)) : wpX_perform Q (xmaxLength, nI V, nI G, nI H, nI n, xcursor, xstate, xpending, xreachable, xsingleSites, xexactVars, ximproved, xopAt, xaAt, xbAt, xcAt, xinputs, xrep, xpts, xdone, xflowsTo, xtried, xloads, xstores, xnext, xprev, xafter, xvarSet, xgen, xkill, xholdsIn, xreads, xcovers, xneedIn, xneedAfter, xverdicts, xrunStatus, xrunSteps, xrunOutputs, xrunReads, xrunWrites, xrunMade, xrunPlace, xvars, xcells, xheapSite, xoutputs) (nI w) (nI p) := by
  have hpi : vp_in (nI p) 32 := vp_in_nI (by omega) (by omega)
  have ep : (nI p).toNatClampNeg = p := nI_clamp (by omega)
  refine nm_r (ix_m w).1 ⟨hpi, nm_r (e' := nI a) (by rw [ep, ha]) ⟨hpi, nm_r (e' := xbAt p) (by rw [ep]) ⟨hpi, nm_r (e' := xcAt p) (by rw [ep]) ⟨hpi, nm_r (e' := 7) (by rw [ep, hop]) (br_f (by decide) (br_f (by decide) (br_f (by decide) (br_f (by decide) (br_f (by decide) (br_f (by decide) (br_f (by decide) (br_f (by decide) (br_t rfl ?_)))))))))⟩⟩⟩⟩
  obtain ⟨a1, a2, a3⟩ := ix_v hw ha8
  obtain ⟨c1, c2, c3⟩ := ix_c (w := w) (a := G + m) hw (by omega)
  obtain ⟨h1, h2, h3⟩ := ix_h (w := w) (a := m) hw (by omega)
  obtain ⟨w1, w2⟩ := ix_2 hw
  obtain ⟨m1, m2, m3, m4⟩ := ix_m w
  refine ⟨w1, nm_r (e' := nI m) (by rw [w2, hm]) (br_t (nI_lt hmH (by omega)) (nm_r (nI_add G m) ?_))⟩
  rw [m1, m2, m3, c1, c3, h1, h3, ep, ha, a1, a3, nI_add, w2, nI_1]
  exact ⟨c2, nm_e ⟨h2, nm_e ⟨w1, nm_e ⟨hpi, a2, nm_e K⟩⟩⟩⟩
theorem rx_p7f {a m : Nat} (hw : w < 2) (hn : n ≤ 32) (hp : p < n) (hop : xopAt p = 7) (ha : xaAt p = nI a) (ha8 : a < 8) (hm : xrunMade w = nI m) (hmH : H ≤ m) (hm2 : m ≤ 32) (Q : Int32 → SX → Prop) (K : Q 3 (xmaxLength, nI V, nI G, nI H, nI n, xcursor, xstate, xpending, xreachable, xsingleSites, xexactVars, ximproved, xopAt, xaAt, xbAt, xcAt, xinputs, xrep, xpts, xdone, xflowsTo, xtried, xloads, xstores, xnext, xprev, xafter, xvarSet, xgen, xkill, xholdsIn, xreads, xcovers, xneedIn, xneedAfter, xverdicts, xrunStatus, xrunSteps, xrunOutputs, xrunReads, xrunWrites, xrunMade, xrunPlace, xvars, xcells, xheapSite, xoutputs)) : wpX_perform Q (xmaxLength, nI V, nI G, nI H, nI n, xcursor, xstate, xpending, xreachable, xsingleSites, xexactVars, ximproved, xopAt, xaAt, xbAt, xcAt, xinputs, xrep, xpts, xdone, xflowsTo, xtried, xloads, xstores, xnext, xprev, xafter, xvarSet, xgen, xkill, xholdsIn, xreads, xcovers, xneedIn, xneedAfter, xverdicts, xrunStatus, xrunSteps, xrunOutputs, xrunReads, xrunWrites, xrunMade, xrunPlace, xvars, xcells, xheapSite, xoutputs) (nI w) (nI p) := by
  have hpi : vp_in (nI p) 32 := vp_in_nI (by omega) (by omega)
  have ep : (nI p).toNatClampNeg = p := nI_clamp (by omega)
  refine nm_r (ix_m w).1 ⟨hpi, nm_r (e' := nI a) (by rw [ep, ha]) ⟨hpi, nm_r (e' := xbAt p) (by rw [ep]) ⟨hpi, nm_r (e' := xcAt p) (by rw [ep]) ⟨hpi, nm_r (e' := 7) (by rw [ep, hop]) (br_f (by decide) (br_f (by decide) (br_f (by decide) (br_f (by decide) (br_f (by decide) (br_f (by decide) (br_f (by decide) (br_f (by decide) (br_t rfl ?_)))))))))⟩⟩⟩⟩
  obtain ⟨w1, w2⟩ := ix_2 hw
  exact ⟨w1, nm_r (e' := nI m) (by rw [w2, hm]) (br_f (nI_nlt hmH (by omega)) K)⟩
theorem rx_p8f {a b : Nat} {x : Int32} (hw : w < 2) (hn : n ≤ 32) (hp : p < n) (hop : xopAt p = 8) (ha : xaAt p = nI a) (ha8 : a < 8) (hb : xbAt p = nI b) (hb8 : b < 8) (hx : xvars (w * 8 + b) = x.toInt64) (Q : Int32 → SX → Prop) (K : Q 2 (xmaxLength, nI V, nI G, nI H, nI n, xcursor, xstate, xpending, xreachable, xsingleSites, xexactVars, ximproved, xopAt, xaAt, xbAt, xcAt, xinputs, xrep, xpts, xdone, xflowsTo, xtried, xloads, xstores, xnext, xprev, xafter, xvarSet, xgen, xkill, xholdsIn, xreads, xcovers, xneedIn, xneedAfter, xverdicts, xrunStatus, xrunSteps, xrunOutputs, xrunReads, xrunWrites, xrunMade, xrunPlace, xvars, xcells, xheapSite, xoutputs)) : wpX_perform Q (xmaxLength, nI V, nI G, nI H, nI n, xcursor, xstate, xpending, xreachable, xsingleSites, xexactVars, ximproved, xopAt, xaAt, xbAt, xcAt, xinputs, xrep, xpts, xdone, xflowsTo, xtried, xloads, xstores, xnext, xprev, xafter, xvarSet, xgen, xkill, xholdsIn, xreads, xcovers, xneedIn, xneedAfter, xverdicts, xrunStatus, xrunSteps, xrunOutputs, xrunReads, xrunWrites, xrunMade, xrunPlace, xvars, xcells, xheapSite, xoutputs) (nI w) (nI p) := by
  have hpi : vp_in (nI p) 32 := vp_in_nI (by omega) (by omega)
  have ep : (nI p).toNatClampNeg = p := nI_clamp (by omega)
  refine nm_r (ix_m w).1 ⟨hpi, nm_r (e' := nI a) (by rw [ep, ha]) ⟨hpi, nm_r (e' := xbAt p) (by rw [ep]) ⟨hpi, nm_r (e' := xcAt p) (by rw [ep]) ⟨hpi, nm_r (e' := 8) (by rw [ep, hop]) (br_f (by decide) (br_f (by decide) (br_f (by decide) (br_f (by decide) (br_f (by decide) (br_f (by decide) (br_f (by decide) (br_f (by decide) (br_f (by decide) (br_t rfl ?_))))))))))⟩⟩⟩⟩
  obtain ⟨a1, a2, a3⟩ := ix_v hw ha8
  obtain ⟨b1, b2, b3⟩ := ix_v hw hb8
  obtain ⟨m1, m2, m3, m4⟩ := ix_m w
  refine nm_r m1 ⟨hpi, ?_⟩
  rw [ep, hb, b1, b3]
  refine ⟨b2, ?_⟩
  refine rx_cell (b := 40) (fun _ _ => br_f (by decide) K) (fun c hc e => ?_) (by omega) (Or.inl ⟨x, hx⟩)
  have q := (rn_adr c hc).1
  rw [← e, hx] at q
  exact absurd (rn_int x).1 q
theorem rx_p8m {a b k : Nat} (hw : w < 2) (hn : n ≤ 32) (hp : p < n) (hop : xopAt p = 8) (ha : xaAt p = nI a) (ha8 : a < 8) (hb : xbAt p = nI b) (hb8 : b < 8) (hk : k < 40) (hx : xvars (w * 8 + b) = 4294967296 + (nI k).toInt64) (hv : w = 1 → xverdicts p < 16) (Q : Int32 → SX → Prop) (K : Q 0 (xmaxLength, nI V, nI G, nI H, nI n, xcursor, xstate, xpending, xreachable, xsingleSites, xexactVars, ximproved, xopAt, xaAt, xbAt, xcAt, xinputs, xrep, xpts, xdone, xflowsTo, xtried, xloads, xstores, xnext, xprev, xafter, xvarSet, xgen, xkill, xholdsIn, xreads, xcovers, xneedIn, xneedAfter, xverdicts, xrunStatus, xrunSteps, xrunOutputs, upd xrunReads w (xrunReads w + 1), xrunWrites, xrunMade, xrunPlace, vp_updL xvars (w * 8 + a) (xcells (w * 40 + k)), xcells, xheapSite, xoutputs)) : wpX_perform Q (xmaxLength, nI V, nI G, nI H, nI n, xcursor, xstate, xpending, xreachable, xsingleSites, xexactVars, ximproved, xopAt, xaAt, xbAt, xcAt, xinputs, xrep, xpts, xdone, xflowsTo, xtried, xloads, xstores, xnext, xprev, xafter, xvarSet, xgen, xkill, xholdsIn, xreads, xcovers, xneedIn, xneedAfter, xverdicts, xrunStatus, xrunSteps, xrunOutputs, xrunReads, xrunWrites, xrunMade, xrunPlace, xvars, xcells, xheapSite, xoutputs) (nI w) (nI p) := by
  have hpi : vp_in (nI p) 32 := vp_in_nI (by omega) (by omega)
  have ep : (nI p).toNatClampNeg = p := nI_clamp (by omega)
  refine nm_r (ix_m w).1 ⟨hpi, nm_r (e' := nI a) (by rw [ep, ha]) ⟨hpi, nm_r (e' := xbAt p) (by rw [ep]) ⟨hpi, nm_r (e' := xcAt p) (by rw [ep]) ⟨hpi, nm_r (e' := 8) (by rw [ep, hop]) (br_f (by decide) (br_f (by decide) (br_f (by decide) (br_f (by decide) (br_f (by decide) (br_f (by decide) (br_f (by decide) (br_f (by decide) (br_f (by decide) (br_t rfl ?_))))))))))⟩⟩⟩⟩
  obtain ⟨a1, a2, a3⟩ := ix_v hw ha8
  obtain ⟨b1, b2, b3⟩ := ix_v hw hb8
  obtain ⟨m1, m2, m3, m4⟩ := ix_m w
  refine nm_r m1 ⟨hpi, ?_⟩
  rw [ep, hb, b1, b3]
  refine ⟨b2, ?_⟩
  refine rx_cell (b := 40) (fun x e => absurd (rn_int x).1 (by rw [← e, hx]; exact (rn_adr k hk).1)) (fun c hc e => ?_) (by omega) (Or.inr ⟨k, hk, hx⟩)
  have ec : c = k := by
    have q1 := (rn_adr c hc).2.2.1
    have q2 := (rn_adr k hk).2.2.1
    rw [← e, hx, q2, nI_eq (by omega) (by omega)] at q1
    exact q1.symm
  subst ec
  refine br_t (nI_pos' (by omega)) ?_
  have mem : wX_load_83 Q (nI w) (nI p) (nI (w * 8)) (nI c) xmaxLength (nI V) (nI G) (nI H) (nI n) xcursor xstate xpending xreachable xsingleSites xexactVars ximproved xopAt xaAt xbAt xcAt xinputs xrep xpts xdone xflowsTo xtried xloads xstores xnext xprev xafter xvarSet xgen xkill xholdsIn xreads xcovers xneedIn xneedAfter xverdicts xrunStatus xrunSteps xrunOutputs xrunReads xrunWrites xrunMade xrunPlace xvars xcells xheapSite xoutputs := by
    obtain ⟨c1, c2, c3⟩ := ix_c (w := w) (a := c) hw hk
    obtain ⟨w1, w2⟩ := ix_2 hw
    unfold wX_load_83
    rw [m2, c1, c3, ep, ha, a1, a3, w2]
    exact ⟨hpi, c2, a2, nm_e ⟨w1, w1, nm_e K⟩⟩
  exact pk_eq w 1 (fun z => ⟨hpi, br_t (hv z) mem⟩) (fun z => mem)
theorem rx_p8v {a b k x : Nat} (hw : w < 2) (hn : n ≤ 32) (hp : p < n) (hop : xopAt p = 8) (ha : xaAt p = nI a) (ha8 : a < 8) (hb : xbAt p = nI b) (hb8 : b < 8) (hk : k < 40) (hx : xvars (w * 8 + b) = 4294967296 + (nI k).toInt64) (hw1 : w = 1) (hv : xverdicts p = nI (16 + x)) (hx8 : x < 8) (Q : Int32 → SX → Prop) (K : Q 0 (xmaxLength, nI V, nI G, nI H, nI n, xcursor, xstate, xpending, xreachable, xsingleSites, xexactVars, ximproved, xopAt, xaAt, xbAt, xcAt, xinputs, xrep, xpts, xdone, xflowsTo, xtried, xloads, xstores, xnext, xprev, xafter, xvarSet, xgen, xkill, xholdsIn, xreads, xcovers, xneedIn, xneedAfter, xverdicts, xrunStatus, xrunSteps, xrunOutputs, xrunReads, xrunWrites, xrunMade, xrunPlace, vp_updL xvars (w * 8 + a) (xvars (w * 8 + x)), xcells, xheapSite, xoutputs)) : wpX_perform Q (xmaxLength, nI V, nI G, nI H, nI n, xcursor, xstate, xpending, xreachable, xsingleSites, xexactVars, ximproved, xopAt, xaAt, xbAt, xcAt, xinputs, xrep, xpts, xdone, xflowsTo, xtried, xloads, xstores, xnext, xprev, xafter, xvarSet, xgen, xkill, xholdsIn, xreads, xcovers, xneedIn, xneedAfter, xverdicts, xrunStatus, xrunSteps, xrunOutputs, xrunReads, xrunWrites, xrunMade, xrunPlace, xvars, xcells, xheapSite, xoutputs) (nI w) (nI p) := by
  have hpi : vp_in (nI p) 32 := vp_in_nI (by omega) (by omega)
  have ep : (nI p).toNatClampNeg = p := nI_clamp (by omega)
  refine nm_r (ix_m w).1 ⟨hpi, nm_r (e' := nI a) (by rw [ep, ha]) ⟨hpi, nm_r (e' := xbAt p) (by rw [ep]) ⟨hpi, nm_r (e' := xcAt p) (by rw [ep]) ⟨hpi, nm_r (e' := 8) (by rw [ep, hop]) (br_f (by decide) (br_f (by decide) (br_f (by decide) (br_f (by decide) (br_f (by decide) (br_f (by decide) (br_f (by decide) (br_f (by decide) (br_f (by decide) (br_t rfl ?_))))))))))⟩⟩⟩⟩
  obtain ⟨a1, a2, a3⟩ := ix_v hw ha8
  obtain ⟨b1, b2, b3⟩ := ix_v hw hb8
  obtain ⟨m1, m2, m3, m4⟩ := ix_m w
  refine nm_r m1 ⟨hpi, ?_⟩
  rw [ep, hb, b1, b3]
  refine ⟨b2, ?_⟩
  refine rx_cell (b := 40) (fun x e => absurd (rn_int x).1 (by rw [← e, hx]; exact (rn_adr k hk).1)) (fun c hc e => ?_) (by omega) (Or.inr ⟨k, hk, hx⟩)
  have ec : c = k := by
    have q1 := (rn_adr c hc).2.2.1
    have q2 := (rn_adr k hk).2.2.1
    rw [← e, hx, q2, nI_eq (by omega) (by omega)] at q1
    exact q1.symm
  subst ec
  refine br_t (nI_pos' (by omega)) ?_
  refine br_t (by rw [hw1]; rfl) ?_
  obtain ⟨x1, x2, x3⟩ := ix_v hw hx8
  have es : nI (16 + x) - 16 = nI x := by
    have q : nI (16 + x) - nI 16 = nI (16 + x - 16) := pk_sub (by omega)
    rw [show 16 + x - 16 = x by omega] at q
    exact q
  rw [hv]
  refine ⟨hpi, br_f (nI_nlt (b := 16) (by omega) (by omega)) ⟨hpi, nm_r es ⟨hpi, ?_⟩⟩⟩
  rw [ha, x1, x3, a1, a3]
  exact ⟨x2, a2, nm_e K⟩
theorem rx_p9f {a b : Nat} {x : Int32} (hw : w < 2) (hn : n ≤ 32) (hp : p < n) (hop : xopAt p = 9) (ha : xaAt p = nI a) (ha8 : a < 8) (hb : xbAt p = nI b) (hb8 : b < 8) (hx : xvars (w * 8 + a) = x.toInt64) (Q : Int32 → SX → Prop) (K : Q 2 (xmaxLength, nI V, nI G, nI H, nI n, xcursor, xstate, xpending, xreachable, xsingleSites, xexactVars, ximproved, xopAt, xaAt, xbAt, xcAt, xinputs, xrep, xpts, xdone, xflowsTo, xtried, xloads, xstores, xnext, xprev, xafter, xvarSet, xgen, xkill, xholdsIn, xreads, xcovers, xneedIn, xneedAfter, xverdicts, xrunStatus, xrunSteps, xrunOutputs, xrunReads, xrunWrites, xrunMade, xrunPlace, xvars, xcells, xheapSite, xoutputs)) : wpX_perform Q (xmaxLength, nI V, nI G, nI H, nI n, xcursor, xstate, xpending, xreachable, xsingleSites, xexactVars, ximproved, xopAt, xaAt, xbAt, xcAt, xinputs, xrep, xpts, xdone, xflowsTo, xtried, xloads, xstores, xnext, xprev, xafter, xvarSet, xgen, xkill, xholdsIn, xreads, xcovers, xneedIn, xneedAfter, xverdicts, xrunStatus, xrunSteps, xrunOutputs, xrunReads, xrunWrites, xrunMade, xrunPlace, xvars, xcells, xheapSite, xoutputs) (nI w) (nI p) := by
  have hpi : vp_in (nI p) 32 := vp_in_nI (by omega) (by omega)
  have ep : (nI p).toNatClampNeg = p := nI_clamp (by omega)
  refine nm_r (ix_m w).1 ⟨hpi, nm_r (e' := nI a) (by rw [ep, ha]) ⟨hpi, nm_r (e' := xbAt p) (by rw [ep]) ⟨hpi, nm_r (e' := xcAt p) (by rw [ep]) ⟨hpi, nm_r (e' := 9) (by rw [ep, hop]) (br_f (by decide) (br_f (by decide) (br_f (by decide) (br_f (by decide) (br_f (by decide) (br_f (by decide) (br_f (by decide) (br_f (by decide) (br_f (by decide) (br_f (by decide) (br_t rfl ?_)))))))))))⟩⟩⟩⟩
  obtain ⟨a1, a2, a3⟩ := ix_v hw ha8
  obtain ⟨b1, b2, b3⟩ := ix_v hw hb8
  obtain ⟨m1, m2, m3, m4⟩ := ix_m w
  refine nm_r m1 ⟨hpi, ?_⟩
  rw [ep, ha, a1, a3]
  refine ⟨a2, ?_⟩
  refine rx_cell (b := 40) (fun _ _ => br_f (by decide) K) (fun c hc e => ?_) (by omega) (Or.inl ⟨x, hx⟩)
  have q := (rn_adr c hc).1
  rw [← e, hx] at q
  exact absurd (rn_int x).1 q
theorem rx_p9m {a b k : Nat} (hw : w < 2) (hn : n ≤ 32) (hp : p < n) (hop : xopAt p = 9) (ha : xaAt p = nI a) (ha8 : a < 8) (hb : xbAt p = nI b) (hb8 : b < 8) (hk : k < 40) (hx : xvars (w * 8 + a) = 4294967296 + (nI k).toInt64) (hv : w = 0 ∨ ¬ xverdicts p = 1) (Q : Int32 → SX → Prop) (K : Q 0 (xmaxLength, nI V, nI G, nI H, nI n, xcursor, xstate, xpending, xreachable, xsingleSites, xexactVars, ximproved, xopAt, xaAt, xbAt, xcAt, xinputs, xrep, xpts, xdone, xflowsTo, xtried, xloads, xstores, xnext, xprev, xafter, xvarSet, xgen, xkill, xholdsIn, xreads, xcovers, xneedIn, xneedAfter, xverdicts, xrunStatus, xrunSteps, xrunOutputs, xrunReads, upd xrunWrites w (xrunWrites w + 1), xrunMade, xrunPlace, xvars, vp_updL xcells (w * 40 + k) (xvars (w * 8 + b)), xheapSite, xoutputs)) : wpX_perform Q (xmaxLength, nI V, nI G, nI H, nI n, xcursor, xstate, xpending, xreachable, xsingleSites, xexactVars, ximproved, xopAt, xaAt, xbAt, xcAt, xinputs, xrep, xpts, xdone, xflowsTo, xtried, xloads, xstores, xnext, xprev, xafter, xvarSet, xgen, xkill, xholdsIn, xreads, xcovers, xneedIn, xneedAfter, xverdicts, xrunStatus, xrunSteps, xrunOutputs, xrunReads, xrunWrites, xrunMade, xrunPlace, xvars, xcells, xheapSite, xoutputs) (nI w) (nI p) := by
  have hpi : vp_in (nI p) 32 := vp_in_nI (by omega) (by omega)
  have ep : (nI p).toNatClampNeg = p := nI_clamp (by omega)
  refine nm_r (ix_m w).1 ⟨hpi, nm_r (e' := nI a) (by rw [ep, ha]) ⟨hpi, nm_r (e' := xbAt p) (by rw [ep]) ⟨hpi, nm_r (e' := xcAt p) (by rw [ep]) ⟨hpi, nm_r (e' := 9) (by rw [ep, hop]) (br_f (by decide) (br_f (by decide) (br_f (by decide) (br_f (by decide) (br_f (by decide) (br_f (by decide) (br_f (by decide) (br_f (by decide) (br_f (by decide) (br_f (by decide) (br_t rfl ?_)))))))))))⟩⟩⟩⟩
  obtain ⟨a1, a2, a3⟩ := ix_v hw ha8
  obtain ⟨b1, b2, b3⟩ := ix_v hw hb8
  obtain ⟨m1, m2, m3, m4⟩ := ix_m w
  refine nm_r m1 ⟨hpi, ?_⟩
  rw [ep, ha, a1, a3]
  refine ⟨a2, ?_⟩
  refine rx_cell (b := 40) (fun x e => absurd (rn_int x).1 (by rw [← e, hx]; exact (rn_adr k hk).1)) (fun c hc e => ?_) (by omega) (Or.inr ⟨k, hk, hx⟩)
  have ec : c = k := by
    have q1 := (rn_adr c hc).2.2.1
    have q2 := (rn_adr k hk).2.2.1
    rw [← e, hx, q2, nI_eq (by omega) (by omega)] at q1
    exact q1.symm
  subst ec
  refine br_t (nI_pos' (by omega)) ?_
  have mem : wX_store_45 Q (nI w) (nI p) (nI (w * 8)) (nI c) xmaxLength (nI V) (nI G) (nI H) (nI n) xcursor xstate xpending xreachable xsingleSites xexactVars ximproved xopAt xaAt xbAt xcAt xinputs xrep xpts xdone xflowsTo xtried xloads xstores xnext xprev xafter xvarSet xgen xkill xholdsIn xreads xcovers xneedIn xneedAfter xverdicts xrunStatus xrunSteps xrunOutputs xrunReads xrunWrites xrunMade xrunPlace xvars xcells xheapSite xoutputs := by
    obtain ⟨c1, c2, c3⟩ := ix_c (w := w) (a := c) hw hk
    obtain ⟨w1, w2⟩ := ix_2 hw
    unfold wX_store_45
    rw [m2, c1, c3, ep, hb, b1, b3, w2]
    exact ⟨hpi, b2, c2, nm_e ⟨w1, w1, nm_e K⟩⟩
  exact pk_eq w 0 (fun z => mem) (fun z => ⟨hpi, br_f (hv.elim (fun q => absurd q z) (fun q => q)) mem⟩)
theorem rx_p9r {a b k : Nat} (hw : w < 2) (hn : n ≤ 32) (hp : p < n) (hop : xopAt p = 9) (ha : xaAt p = nI a) (ha8 : a < 8) (hb : xbAt p = nI b) (hb8 : b < 8) (hk : k < 40) (hx : xvars (w * 8 + a) = 4294967296 + (nI k).toInt64) (hw1 : w = 1) (hv : xverdicts p = 1) (Q : Int32 → SX → Prop) (K : Q 0 (xmaxLength, nI V, nI G, nI H, nI n, xcursor, xstate, xpending, xreachable, xsingleSites, xexactVars, ximproved, xopAt, xaAt, xbAt, xcAt, xinputs, xrep, xpts, xdone, xflowsTo, xtried, xloads, xstores, xnext, xprev, xafter, xvarSet, xgen, xkill, xholdsIn, xreads, xcovers, xneedIn, xneedAfter, xverdicts, xrunStatus, xrunSteps, xrunOutputs, xrunReads, xrunWrites, xrunMade, xrunPlace, xvars, xcells, xheapSite, xoutputs)) : wpX_perform Q (xmaxLength, nI V, nI G, nI H, nI n, xcursor, xstate, xpending, xreachable, xsingleSites, xexactVars, ximproved, xopAt, xaAt, xbAt, xcAt, xinputs, xrep, xpts, xdone, xflowsTo, xtried, xloads, xstores, xnext, xprev, xafter, xvarSet, xgen, xkill, xholdsIn, xreads, xcovers, xneedIn, xneedAfter, xverdicts, xrunStatus, xrunSteps, xrunOutputs, xrunReads, xrunWrites, xrunMade, xrunPlace, xvars, xcells, xheapSite, xoutputs) (nI w) (nI p) := by
  have hpi : vp_in (nI p) 32 := vp_in_nI (by omega) (by omega)
  have ep : (nI p).toNatClampNeg = p := nI_clamp (by omega)
  refine nm_r (ix_m w).1 ⟨hpi, nm_r (e' := nI a) (by rw [ep, ha]) ⟨hpi, nm_r (e' := xbAt p) (by rw [ep]) ⟨hpi, nm_r (e' := xcAt p) (by rw [ep]) ⟨hpi, nm_r (e' := 9) (by rw [ep, hop]) (br_f (by decide) (br_f (by decide) (br_f (by decide) (br_f (by decide) (br_f (by decide) (br_f (by decide) (br_f (by decide) (br_f (by decide) (br_f (by decide) (br_f (by decide) (br_t rfl ?_)))))))))))⟩⟩⟩⟩
  obtain ⟨a1, a2, a3⟩ := ix_v hw ha8
  obtain ⟨b1, b2, b3⟩ := ix_v hw hb8
  obtain ⟨m1, m2, m3, m4⟩ := ix_m w
  refine nm_r m1 ⟨hpi, ?_⟩
  rw [ep, ha, a1, a3]
  refine ⟨a2, ?_⟩
  refine rx_cell (b := 40) (fun x e => absurd (rn_int x).1 (by rw [← e, hx]; exact (rn_adr k hk).1)) (fun c hc e => ?_) (by omega) (Or.inr ⟨k, hk, hx⟩)
  have ec : c = k := by
    have q1 := (rn_adr c hc).2.2.1
    have q2 := (rn_adr k hk).2.2.1
    rw [← e, hx, q2, nI_eq (by omega) (by omega)] at q1
    exact q1.symm
  subst ec
  refine br_t (nI_pos' (by omega)) ?_
  exact pk_eq w 0 (fun z => by omega) (fun z => ⟨hpi, br_t hv K⟩)
theorem rx_p10  (hw : w < 2) (hn : n ≤ 32) (hp : p < n) (hop : xopAt p = 10)  (Q : Int32 → SX → Prop) (K : Q 0 (xmaxLength, nI V, nI G, nI H, nI n, xcursor, xstate, xpending, xreachable, xsingleSites, xexactVars, ximproved, xopAt, xaAt, xbAt, xcAt, xinputs, xrep, xpts, xdone, xflowsTo, xtried, xloads, xstores, xnext, xprev, xafter, xvarSet, xgen, xkill, xholdsIn, xreads, xcovers, xneedIn, xneedAfter, xverdicts, xrunStatus, xrunSteps, xrunOutputs, xrunReads, xrunWrites, xrunMade, xrunPlace, xvars, xcells, xheapSite, xoutputs)) : wpX_perform Q (xmaxLength, nI V, nI G, nI H, nI n, xcursor, xstate, xpending, xreachable, xsingleSites, xexactVars, ximproved, xopAt, xaAt, xbAt, xcAt, xinputs, xrep, xpts, xdone, xflowsTo, xtried, xloads, xstores, xnext, xprev, xafter, xvarSet, xgen, xkill, xholdsIn, xreads, xcovers, xneedIn, xneedAfter, xverdicts, xrunStatus, xrunSteps, xrunOutputs, xrunReads, xrunWrites, xrunMade, xrunPlace, xvars, xcells, xheapSite, xoutputs) (nI w) (nI p) := by
  have hpi : vp_in (nI p) 32 := vp_in_nI (by omega) (by omega)
  have ep : (nI p).toNatClampNeg = p := nI_clamp (by omega)
  refine nm_r (ix_m w).1 ⟨hpi, nm_r (e' := xaAt p) (by rw [ep]) ⟨hpi, nm_r (e' := xbAt p) (by rw [ep]) ⟨hpi, nm_r (e' := xcAt p) (by rw [ep]) ⟨hpi, nm_r (e' := 10) (by rw [ep, hop]) (br_f (by decide) (br_f (by decide) (br_f (by decide) (br_f (by decide) (br_f (by decide) (br_f (by decide) (br_f (by decide) (br_f (by decide) (br_f (by decide) (br_f (by decide) (br_f (by decide) (br_t rfl ?_))))))))))))⟩⟩⟩⟩
  exact K
theorem rx_p11 {a : Nat} (hw : w < 2) (hn : n ≤ 32) (hp : p < n) (hop : xopAt p = 11) (ha : xaAt p = nI a) (ha8 : a < 8) (Q : Int32 → SX → Prop) (K : Q 0 (xmaxLength, nI V, nI G, nI H, nI n, xcursor, xstate, xpending, xreachable, xsingleSites, xexactVars, ximproved, xopAt, xaAt, xbAt, xcAt, xinputs, xrep, xpts, xdone, xflowsTo, xtried, xloads, xstores, xnext, xprev, xafter, xvarSet, xgen, xkill, xholdsIn, xreads, xcovers, xneedIn, xneedAfter, xverdicts, xrunStatus, xrunSteps, xrunOutputs, xrunReads, xrunWrites, xrunMade, xrunPlace, xvars, xcells, xheapSite, xoutputs)) : wpX_perform Q (xmaxLength, nI V, nI G, nI H, nI n, xcursor, xstate, xpending, xreachable, xsingleSites, xexactVars, ximproved, xopAt, xaAt, xbAt, xcAt, xinputs, xrep, xpts, xdone, xflowsTo, xtried, xloads, xstores, xnext, xprev, xafter, xvarSet, xgen, xkill, xholdsIn, xreads, xcovers, xneedIn, xneedAfter, xverdicts, xrunStatus, xrunSteps, xrunOutputs, xrunReads, xrunWrites, xrunMade, xrunPlace, xvars, xcells, xheapSite, xoutputs) (nI w) (nI p) := by
  have hpi : vp_in (nI p) 32 := vp_in_nI (by omega) (by omega)
  have ep : (nI p).toNatClampNeg = p := nI_clamp (by omega)
  refine nm_r (ix_m w).1 ⟨hpi, nm_r (e' := nI a) (by rw [ep, ha]) ⟨hpi, nm_r (e' := xbAt p) (by rw [ep]) ⟨hpi, nm_r (e' := xcAt p) (by rw [ep]) ⟨hpi, nm_r (e' := 11) (by rw [ep, hop]) (br_f (by decide) (br_f (by decide) (br_f (by decide) (br_f (by decide) (br_f (by decide) (br_f (by decide) (br_f (by decide) (br_f (by decide) (br_f (by decide) (br_f (by decide) (br_f (by decide) (br_f (by decide) (br_t rfl ?_)))))))))))))⟩⟩⟩⟩
  exact K
theorem rx_p12 {a c : Nat} (hw : w < 2) (hn : n ≤ 32) (hp : p < n) (hop : xopAt p = 12) (ha : xaAt p = nI a) (ha8 : a < 8) (hc : xrunOutputs w = nI c) (hc32 : c < 32) (Q : Int32 → SX → Prop) (K : Q 0 (xmaxLength, nI V, nI G, nI H, nI n, xcursor, xstate, xpending, xreachable, xsingleSites, xexactVars, ximproved, xopAt, xaAt, xbAt, xcAt, xinputs, xrep, xpts, xdone, xflowsTo, xtried, xloads, xstores, xnext, xprev, xafter, xvarSet, xgen, xkill, xholdsIn, xreads, xcovers, xneedIn, xneedAfter, xverdicts, xrunStatus, xrunSteps, upd xrunOutputs w (nI (c + 1)), xrunReads, xrunWrites, xrunMade, xrunPlace, xvars, xcells, xheapSite, vp_updL xoutputs (w * 32 + c) (xvars (w * 8 + a)))) : wpX_perform Q (xmaxLength, nI V, nI G, nI H, nI n, xcursor, xstate, xpending, xreachable, xsingleSites, xexactVars, ximproved, xopAt, xaAt, xbAt, xcAt, xinputs, xrep, xpts, xdone, xflowsTo, xtried, xloads, xstores, xnext, xprev, xafter, xvarSet, xgen, xkill, xholdsIn, xreads, xcovers, xneedIn, xneedAfter, xverdicts, xrunStatus, xrunSteps, xrunOutputs, xrunReads, xrunWrites, xrunMade, xrunPlace, xvars, xcells, xheapSite, xoutputs) (nI w) (nI p) := by
  have hpi : vp_in (nI p) 32 := vp_in_nI (by omega) (by omega)
  have ep : (nI p).toNatClampNeg = p := nI_clamp (by omega)
  refine nm_r (ix_m w).1 ⟨hpi, nm_r (e' := nI a) (by rw [ep, ha]) ⟨hpi, nm_r (e' := xbAt p) (by rw [ep]) ⟨hpi, nm_r (e' := xcAt p) (by rw [ep]) ⟨hpi, nm_r (e' := 12) (by rw [ep, hop]) (br_f (by decide) (br_f (by decide) (br_f (by decide) (br_f (by decide) (br_f (by decide) (br_f (by decide) (br_f (by decide) (br_f (by decide) (br_f (by decide) (br_f (by decide) (br_f (by decide) (br_f (by decide) (br_f (by decide) (br_t rfl ?_))))))))))))))⟩⟩⟩⟩
  obtain ⟨a1, a2, a3⟩ := ix_v hw ha8
  obtain ⟨h1, h2, h3⟩ := ix_h (w := w) (a := c) hw hc32
  obtain ⟨w1, w2⟩ := ix_2 hw
  obtain ⟨m1, m2, m3, m4⟩ := ix_m w
  refine ⟨w1, nm_r (e' := nI c) (by rw [w2, hc]) (br_t (nI_lt (b := 32) hc32 (by omega)) ?_)⟩
  rw [m1, m3, h1, h3, ep, ha, a1, a3, w2, nI_1]
  exact ⟨hpi, a2, h2, nm_e ⟨w1, nm_e K⟩⟩
theorem rx_p12f {a c : Nat} (hw : w < 2) (hn : n ≤ 32) (hp : p < n) (hop : xopAt p = 12) (ha : xaAt p = nI a) (ha8 : a < 8) (hc : xrunOutputs w = nI c) (hc32 : 32 ≤ c) (hc2 : c ≤ 32) (Q : Int32 → SX → Prop) (K : Q 4 (xmaxLength, nI V, nI G, nI H, nI n, xcursor, xstate, xpending, xreachable, xsingleSites, xexactVars, ximproved, xopAt, xaAt, xbAt, xcAt, xinputs, xrep, xpts, xdone, xflowsTo, xtried, xloads, xstores, xnext, xprev, xafter, xvarSet, xgen, xkill, xholdsIn, xreads, xcovers, xneedIn, xneedAfter, xverdicts, xrunStatus, xrunSteps, xrunOutputs, xrunReads, xrunWrites, xrunMade, xrunPlace, xvars, xcells, xheapSite, xoutputs)) : wpX_perform Q (xmaxLength, nI V, nI G, nI H, nI n, xcursor, xstate, xpending, xreachable, xsingleSites, xexactVars, ximproved, xopAt, xaAt, xbAt, xcAt, xinputs, xrep, xpts, xdone, xflowsTo, xtried, xloads, xstores, xnext, xprev, xafter, xvarSet, xgen, xkill, xholdsIn, xreads, xcovers, xneedIn, xneedAfter, xverdicts, xrunStatus, xrunSteps, xrunOutputs, xrunReads, xrunWrites, xrunMade, xrunPlace, xvars, xcells, xheapSite, xoutputs) (nI w) (nI p) := by
  have hpi : vp_in (nI p) 32 := vp_in_nI (by omega) (by omega)
  have ep : (nI p).toNatClampNeg = p := nI_clamp (by omega)
  refine nm_r (ix_m w).1 ⟨hpi, nm_r (e' := nI a) (by rw [ep, ha]) ⟨hpi, nm_r (e' := xbAt p) (by rw [ep]) ⟨hpi, nm_r (e' := xcAt p) (by rw [ep]) ⟨hpi, nm_r (e' := 12) (by rw [ep, hop]) (br_f (by decide) (br_f (by decide) (br_f (by decide) (br_f (by decide) (br_f (by decide) (br_f (by decide) (br_f (by decide) (br_f (by decide) (br_f (by decide) (br_f (by decide) (br_f (by decide) (br_f (by decide) (br_f (by decide) (br_t rfl ?_))))))))))))))⟩⟩⟩⟩
  obtain ⟨w1, w2⟩ := ix_2 hw
  exact ⟨w1, nm_r (e' := nI c) (by rw [w2, hc]) (br_f (nI_nlt (b := 32) hc32 (by omega)) K)⟩
theorem rx_next {pst : Int32 → Prop} (hn : n ≤ 32) (hp : p < n) (h10 : ¬ xopAt p = 10) (h11 : ¬ xopAt p = 11) (K : pst (nI (p + 1))) : wpX_nextPlace pst (xmaxLength, nI V, nI G, nI H, nI n, xcursor, xstate, xpending, xreachable, xsingleSites, xexactVars, ximproved, xopAt, xaAt, xbAt, xcAt, xinputs, xrep, xpts, xdone, xflowsTo, xtried, xloads, xstores, xnext, xprev, xafter, xvarSet, xgen, xkill, xholdsIn, xreads, xcovers, xneedIn, xneedAfter, xverdicts, xrunStatus, xrunSteps, xrunOutputs, xrunReads, xrunWrites, xrunMade, xrunPlace, xvars, xcells, xheapSite, xoutputs) (nI w) (nI p) := by
  have hpi : vp_in (nI p) 32 := vp_in_nI (by omega) (by omega)
  have ep : (nI p).toNatClampNeg = p := nI_clamp (by omega)
  unfold wpX_nextPlace
  simp only [ep]
  refine ⟨hpi, br_f h10 ⟨hpi, br_f h11 ?_⟩⟩
  rw [nI_1]; exact K
theorem rx_next10 {a : Nat} {pst : Int32 → Prop} (hn : n ≤ 32) (hp : p < n) (h10 : xopAt p = 10) (ha : xaAt p = nI a) (K : pst (nI a)) : wpX_nextPlace pst (xmaxLength, nI V, nI G, nI H, nI n, xcursor, xstate, xpending, xreachable, xsingleSites, xexactVars, ximproved, xopAt, xaAt, xbAt, xcAt, xinputs, xrep, xpts, xdone, xflowsTo, xtried, xloads, xstores, xnext, xprev, xafter, xvarSet, xgen, xkill, xholdsIn, xreads, xcovers, xneedIn, xneedAfter, xverdicts, xrunStatus, xrunSteps, xrunOutputs, xrunReads, xrunWrites, xrunMade, xrunPlace, xvars, xcells, xheapSite, xoutputs) (nI w) (nI p) := by
  have hpi : vp_in (nI p) 32 := vp_in_nI (by omega) (by omega)
  have ep : (nI p).toNatClampNeg = p := nI_clamp (by omega)
  unfold wpX_nextPlace
  simp only [ep]
  refine ⟨hpi, br_t h10 ⟨hpi, ?_⟩⟩
  rw [ha]; exact K
theorem rx_next11 {a b : Nat} {pst : Int32 → Prop} (hw : w < 2) (hn : n ≤ 32) (hp : p < n) (h11 : xopAt p = 11) (ha : xaAt p = nI a) (ha8 : a < 8) (hb : xbAt p = nI b) (K : pst (nI (if xvars (w * 8 + a) = 0 then b else p + 1))) : wpX_nextPlace pst (xmaxLength, nI V, nI G, nI H, nI n, xcursor, xstate, xpending, xreachable, xsingleSites, xexactVars, ximproved, xopAt, xaAt, xbAt, xcAt, xinputs, xrep, xpts, xdone, xflowsTo, xtried, xloads, xstores, xnext, xprev, xafter, xvarSet, xgen, xkill, xholdsIn, xreads, xcovers, xneedIn, xneedAfter, xverdicts, xrunStatus, xrunSteps, xrunOutputs, xrunReads, xrunWrites, xrunMade, xrunPlace, xvars, xcells, xheapSite, xoutputs) (nI w) (nI p) := by
  have hpi : vp_in (nI p) 32 := vp_in_nI (by omega) (by omega)
  have ep : (nI p).toNatClampNeg = p := nI_clamp (by omega)
  obtain ⟨a1, a2, a3⟩ := ix_v hw ha8
  unfold wpX_nextPlace
  simp only [ep]
  refine ⟨hpi, br_f (by rw [h11]; decide) ⟨hpi, br_t h11 ⟨hpi, ?_⟩⟩⟩
  rw [ha, hb, (ix_m w).1, a1, a3, nI_1]
  refine ⟨a2, br_c (fun z => ⟨hpi, ?_⟩) (fun z => ?_)⟩
  · rw [if_pos z] at K; exact K
  · rw [if_neg z] at K; exact K
theorem rx_halt {post : Int32 → SX → Prop} {B : Nat} (hw : w < 2) (hn : n ≤ 32) (hpl : xrunPlace w = nI p) (hp : n ≤ p) (hp2 : p ≤ 64) (K : post 1 (xmaxLength, nI V, nI G, nI H, nI n, xcursor, xstate, xpending, xreachable, xsingleSites, xexactVars, ximproved, xopAt, xaAt, xbAt, xcAt, xinputs, xrep, xpts, xdone, xflowsTo, xtried, xloads, xstores, xnext, xprev, xafter, xvarSet, xgen, xkill, xholdsIn, xreads, xcovers, xneedIn, xneedAfter, xverdicts, xrunStatus, xrunSteps, xrunOutputs, xrunReads, xrunWrites, xrunMade, upd xrunPlace w (nI n), xvars, xcells, xheapSite, xoutputs)) : wpX_step post (xmaxLength, nI V, nI G, nI H, nI n, xcursor, xstate, xpending, xreachable, xsingleSites, xexactVars, ximproved, xopAt, xaAt, xbAt, xcAt, xinputs, xrep, xpts, xdone, xflowsTo, xtried, xloads, xstores, xnext, xprev, xafter, xvarSet, xgen, xkill, xholdsIn, xreads, xcovers, xneedIn, xneedAfter, xverdicts, xrunStatus, xrunSteps, xrunOutputs, xrunReads, xrunWrites, xrunMade, xrunPlace, xvars, xcells, xheapSite, xoutputs) (nI w) (nI B) := by
  obtain ⟨w1, w2⟩ := ix_2 hw
  exact ⟨w1, nm_r (e' := nI p) (by rw [w2, hpl]) (br_f (nI_nlt hp (by omega)) ⟨w1, nm_r (e' := upd xrunPlace w (nI n)) (by rw [w2]) K⟩)⟩
theorem rx_nost {post : Int32 → SX → Prop} {B t : Nat} (hw : w < 2) (hn : n ≤ 32) (hpl : xrunPlace w = nI p) (hp : p < n) (hst : xrunSteps w = nI t) (ht : B ≤ t) (ht2 : t ≤ 1000) (K : post 5 (xmaxLength, nI V, nI G, nI H, nI n, xcursor, xstate, xpending, xreachable, xsingleSites, xexactVars, ximproved, xopAt, xaAt, xbAt, xcAt, xinputs, xrep, xpts, xdone, xflowsTo, xtried, xloads, xstores, xnext, xprev, xafter, xvarSet, xgen, xkill, xholdsIn, xreads, xcovers, xneedIn, xneedAfter, xverdicts, xrunStatus, xrunSteps, xrunOutputs, xrunReads, xrunWrites, xrunMade, xrunPlace, xvars, xcells, xheapSite, xoutputs)) : wpX_step post (xmaxLength, nI V, nI G, nI H, nI n, xcursor, xstate, xpending, xreachable, xsingleSites, xexactVars, ximproved, xopAt, xaAt, xbAt, xcAt, xinputs, xrep, xpts, xdone, xflowsTo, xtried, xloads, xstores, xnext, xprev, xafter, xvarSet, xgen, xkill, xholdsIn, xreads, xcovers, xneedIn, xneedAfter, xverdicts, xrunStatus, xrunSteps, xrunOutputs, xrunReads, xrunWrites, xrunMade, xrunPlace, xvars, xcells, xheapSite, xoutputs) (nI w) (nI B) := by
  obtain ⟨w1, w2⟩ := ix_2 hw
  exact ⟨w1, nm_r (e' := nI p) (by rw [w2, hpl]) (br_t (nI_lt hp (by omega)) ⟨w1, br_f (by rw [w2, hst]; exact nI_nlt ht (by omega)) K⟩)⟩
theorem rx_ok {post : Int32 → SX → Prop} {B t q : Nat} {ro rr rw' rm hs : Nat → Int32} {vs cs os : Nat → Int64} (hw : w < 2) (hn : n ≤ 32) (hpl : xrunPlace w = nI p) (hp : p < n) (hst : xrunSteps w = nI t) (ht : t < B) (hB : B ≤ 1000)
    (hperf : ∀ Q : Int32 → SX → Prop, Q 0 (xmaxLength, nI V, nI G, nI H, nI n, xcursor, xstate, xpending, xreachable, xsingleSites, xexactVars, ximproved, xopAt, xaAt, xbAt, xcAt, xinputs, xrep, xpts, xdone, xflowsTo, xtried, xloads, xstores, xnext, xprev, xafter, xvarSet, xgen, xkill, xholdsIn, xreads, xcovers, xneedIn, xneedAfter, xverdicts, xrunStatus, upd xrunSteps w (nI (t + 1)), ro, rr, rw', rm, xrunPlace, vs, cs, hs, os) → wpX_perform Q (xmaxLength, nI V, nI G, nI H, nI n, xcursor, xstate, xpending, xreachable, xsingleSites, xexactVars, ximproved, xopAt, xaAt, xbAt, xcAt, xinputs, xrep, xpts, xdone, xflowsTo, xtried, xloads, xstores, xnext, xprev, xafter, xvarSet, xgen, xkill, xholdsIn, xreads, xcovers, xneedIn, xneedAfter, xverdicts, xrunStatus, upd xrunSteps w (nI (t + 1)), xrunOutputs, xrunReads, xrunWrites, xrunMade, xrunPlace, xvars, xcells, xheapSite, xoutputs) (nI w) (nI p))
    (hnext : ∀ Q : Int32 → Prop, Q (nI q) → wpX_nextPlace Q (xmaxLength, nI V, nI G, nI H, nI n, xcursor, xstate, xpending, xreachable, xsingleSites, xexactVars, ximproved, xopAt, xaAt, xbAt, xcAt, xinputs, xrep, xpts, xdone, xflowsTo, xtried, xloads, xstores, xnext, xprev, xafter, xvarSet, xgen, xkill, xholdsIn, xreads, xcovers, xneedIn, xneedAfter, xverdicts, xrunStatus, upd xrunSteps w (nI (t + 1)), ro, rr, rw', rm, xrunPlace, vs, cs, hs, os) (nI w) (nI p))
    (K : post 0 (xmaxLength, nI V, nI G, nI H, nI n, xcursor, xstate, xpending, xreachable, xsingleSites, xexactVars, ximproved, xopAt, xaAt, xbAt, xcAt, xinputs, xrep, xpts, xdone, xflowsTo, xtried, xloads, xstores, xnext, xprev, xafter, xvarSet, xgen, xkill, xholdsIn, xreads, xcovers, xneedIn, xneedAfter, xverdicts, xrunStatus, upd xrunSteps w (nI (t + 1)), ro, rr, rw', rm, upd xrunPlace w (nI q), vs, cs, hs, os)) : wpX_step post (xmaxLength, nI V, nI G, nI H, nI n, xcursor, xstate, xpending, xreachable, xsingleSites, xexactVars, ximproved, xopAt, xaAt, xbAt, xcAt, xinputs, xrep, xpts, xdone, xflowsTo, xtried, xloads, xstores, xnext, xprev, xafter, xvarSet, xgen, xkill, xholdsIn, xreads, xcovers, xneedIn, xneedAfter, xverdicts, xrunStatus, xrunSteps, xrunOutputs, xrunReads, xrunWrites, xrunMade, xrunPlace, xvars, xcells, xheapSite, xoutputs) (nI w) (nI B) := by
  obtain ⟨w1, w2⟩ := ix_2 hw
  refine ⟨w1, nm_r (e' := nI p) (by rw [w2, hpl]) (br_t (nI_lt hp (by omega)) ⟨w1, br_t (by rw [w2, hst]; exact nI_lt ht (by omega)) ⟨w1, w1, nm_r (e' := upd xrunSteps w (nI (t + 1))) (by rw [w2, hst, nI_1]) (hperf _ (br_t rfl (hnext _ ⟨w1, nm_r (e' := upd xrunPlace w (nI q)) (by rw [w2]) K⟩)))⟩⟩)⟩
theorem rx_bad {post : Int32 → SX → Prop} {B t : Nat} {r : Int32} (hw : w < 2) (hn : n ≤ 32) (hpl : xrunPlace w = nI p) (hp : p < n) (hst : xrunSteps w = nI t) (ht : t < B) (hB : B ≤ 1000) (hr : ¬ r = 0)
    (hperf : ∀ Q : Int32 → SX → Prop, Q r (xmaxLength, nI V, nI G, nI H, nI n, xcursor, xstate, xpending, xreachable, xsingleSites, xexactVars, ximproved, xopAt, xaAt, xbAt, xcAt, xinputs, xrep, xpts, xdone, xflowsTo, xtried, xloads, xstores, xnext, xprev, xafter, xvarSet, xgen, xkill, xholdsIn, xreads, xcovers, xneedIn, xneedAfter, xverdicts, xrunStatus, upd xrunSteps w (nI (t + 1)), xrunOutputs, xrunReads, xrunWrites, xrunMade, xrunPlace, xvars, xcells, xheapSite, xoutputs) → wpX_perform Q (xmaxLength, nI V, nI G, nI H, nI n, xcursor, xstate, xpending, xreachable, xsingleSites, xexactVars, ximproved, xopAt, xaAt, xbAt, xcAt, xinputs, xrep, xpts, xdone, xflowsTo, xtried, xloads, xstores, xnext, xprev, xafter, xvarSet, xgen, xkill, xholdsIn, xreads, xcovers, xneedIn, xneedAfter, xverdicts, xrunStatus, upd xrunSteps w (nI (t + 1)), xrunOutputs, xrunReads, xrunWrites, xrunMade, xrunPlace, xvars, xcells, xheapSite, xoutputs) (nI w) (nI p))
    (K : post r (xmaxLength, nI V, nI G, nI H, nI n, xcursor, xstate, xpending, xreachable, xsingleSites, xexactVars, ximproved, xopAt, xaAt, xbAt, xcAt, xinputs, xrep, xpts, xdone, xflowsTo, xtried, xloads, xstores, xnext, xprev, xafter, xvarSet, xgen, xkill, xholdsIn, xreads, xcovers, xneedIn, xneedAfter, xverdicts, xrunStatus, upd xrunSteps w (nI (t + 1)), xrunOutputs, xrunReads, xrunWrites, xrunMade, xrunPlace, xvars, xcells, xheapSite, xoutputs)) : wpX_step post (xmaxLength, nI V, nI G, nI H, nI n, xcursor, xstate, xpending, xreachable, xsingleSites, xexactVars, ximproved, xopAt, xaAt, xbAt, xcAt, xinputs, xrep, xpts, xdone, xflowsTo, xtried, xloads, xstores, xnext, xprev, xafter, xvarSet, xgen, xkill, xholdsIn, xreads, xcovers, xneedIn, xneedAfter, xverdicts, xrunStatus, xrunSteps, xrunOutputs, xrunReads, xrunWrites, xrunMade, xrunPlace, xvars, xcells, xheapSite, xoutputs) (nI w) (nI B) := by
  obtain ⟨w1, w2⟩ := ix_2 hw
  exact ⟨w1, nm_r (e' := nI p) (by rw [w2, hpl]) (br_t (nI_lt hp (by omega)) ⟨w1, br_t (by rw [w2, hst]; exact nI_lt ht (by omega)) ⟨w1, w1, nm_r (e' := upd xrunSteps w (nI (t + 1))) (by rw [w2, hst, nI_1]) (hperf _ (br_f hr K))⟩⟩)⟩
end
end
section
section
variable {yroom : Int32} {yvars : Int32} {yglobals : Int32} {yheap : Int32} {ylength : Int32} {ycursor : Int32} {ystate : Int32} {ygrew : Int32} {yinputs : (Nat → Int32)} {yops : (Nat → Int32)} {yfa : (Nat → Int32)} {yfb : (Nat → Int32)} {yfc : (Nat → Int32)} {yhas : (Nat → Int32)} {ymark : (Nat → Int32)} {yreach : (Nat → Int32)} {ysingle : (Nat → Int32)} {yexact : (Nat → Int32)} {yverdicts : (Nat → Int32)} {yseen : (Nat → Int32)} {yeffect : (Nat → Int32)} {yfacts : (Nat → Int32)} {ywords : (Nat → Int64)} {ycells : (Nat → Int64)} {ysiteOf : (Nat → Int32)} {youts : (Nat → Int64)}
variable {R V G H n w p t B d : Nat} {pst : SY → Prop} {J : Int32 → Int32 → Int32 → (Nat → Int32) → (Nat → Int32) → (Nat → Int32) → (Nat → Int32) → (Nat → Int32) → (Nat → Int32) → (Nat → Int32) → (Nat → Int32) → (Nat → Int32) → (Nat → Int32) → (Nat → Int32) → (Nat → Int32) → (Nat → Int32) → (Nat → Int32) → (Nat → Int64) → (Nat → Int64) → (Nat → Int32) → (Nat → Int64) → Prop} {x1 x2 x3 x4 x5 x6 x7 x8 x9 x10 x11 x12 x13 : Int32} {x14 : Int64}

theorem ry_795 (K : J x13 0 (x8 + 1) yinputs yops yfa yfb yfc yhas ymark yreach ysingle yexact yverdicts yseen yeffect yfacts ywords ycells ysiteOf youts) : wY_runVersion_795 pst J x1 x2 x3 x4 x5 x6 0 x8 x13 yroom (nI V) (nI G) (nI H) (nI n) ycursor ystate ygrew yinputs yops yfa yfb yfc yhas ymark yreach ysingle yexact yverdicts yseen yeffect yfacts ywords ycells ysiteOf youts := br_t rfl (nm_e K)
theorem ry_795s {s : Int32} (hs : ¬ s = 0) (K : J x6 s (x8 + 1) yinputs yops yfa yfb yfc yhas ymark yreach ysingle yexact yverdicts yseen yeffect yfacts ywords ycells ysiteOf youts) : wY_runVersion_795 pst J x1 x2 x3 x4 x5 x6 s x8 x13 yroom (nI V) (nI G) (nI H) (nI n) ycursor ystate ygrew yinputs yops yfa yfb yfc yhas ymark yreach ysingle yexact yverdicts yseen yeffect yfacts ywords ycells ysiteOf youts := br_f hs (nm_e K)
theorem ry_727 (h12 : ¬ x9 = 12) (K : wY_runVersion_795 pst J x1 x2 x3 x4 x5 x6 x7 x8 x13 yroom (nI V) (nI G) (nI H) (nI n) ycursor ystate ygrew yinputs yops yfa yfb yfc yhas ymark yreach ysingle yexact yverdicts yseen yeffect yfacts ywords ycells ysiteOf youts) : wY_runVersion_727 pst J x1 x2 x3 x4 x5 x6 x7 x8 x9 x10 x13 yroom (nI V) (nI G) (nI H) (nI n) ycursor ystate ygrew yinputs yops yfa yfb yfc yhas ymark yreach ysingle yexact yverdicts yseen yeffect yfacts ywords ycells ysiteOf youts := br_f h12 K
theorem ry_702 (h11 : ¬ x9 = 11) (h12 : ¬ x9 = 12) (K : wY_runVersion_795 pst J x1 x2 x3 x4 x5 x6 x7 x8 x13 yroom (nI V) (nI G) (nI H) (nI n) ycursor ystate ygrew yinputs yops yfa yfb yfc yhas ymark yreach ysingle yexact yverdicts yseen yeffect yfacts ywords ycells ysiteOf youts) : wY_runVersion_702 pst J x1 x2 x3 x4 x5 x6 x7 x8 x9 x10 x11 x13 yroom (nI V) (nI G) (nI H) (nI n) ycursor ystate ygrew yinputs yops yfa yfb yfc yhas ymark yreach ysingle yexact yverdicts yseen yeffect yfacts ywords ycells ysiteOf youts := br_f h11 (ry_727 h12 K)
theorem ry_691 (h10 : ¬ x9 = 10) (h11 : ¬ x9 = 11) (h12 : ¬ x9 = 12) (K : wY_runVersion_795 pst J x1 x2 x3 x4 x5 x6 x7 x8 x13 yroom (nI V) (nI G) (nI H) (nI n) ycursor ystate ygrew yinputs yops yfa yfb yfc yhas ymark yreach ysingle yexact yverdicts yseen yeffect yfacts ywords ycells ysiteOf youts) : wY_runVersion_691 pst J x1 x2 x3 x4 x5 x6 x7 x8 x9 x10 x11 x13 yroom (nI V) (nI G) (nI H) (nI n) ycursor ystate ygrew yinputs yops yfa yfb yfc yhas ymark yreach ysingle yexact yverdicts yseen yeffect yfacts ywords ycells ysiteOf youts := br_f h10 (ry_702 h11 h12 K)
theorem ry_608 (h9 : ¬ x9 = 9) (h10 : ¬ x9 = 10) (h11 : ¬ x9 = 11) (h12 : ¬ x9 = 12) (K : wY_runVersion_795 pst J x1 x2 x3 x4 x5 x6 x7 x8 x13 yroom (nI V) (nI G) (nI H) (nI n) ycursor ystate ygrew yinputs yops yfa yfb yfc yhas ymark yreach ysingle yexact yverdicts yseen yeffect yfacts ywords ycells ysiteOf youts) : wY_runVersion_608 pst J x1 x2 x3 x4 x5 x6 x7 x8 x9 x10 x11 x13 yroom (nI V) (nI G) (nI H) (nI n) ycursor ystate ygrew yinputs yops yfa yfb yfc yhas ymark yreach ysingle yexact yverdicts yseen yeffect yfacts ywords ycells ysiteOf youts := br_f h9 (ry_691 h10 h11 h12 K)
theorem ry_494 (h8 : ¬ x9 = 8) (h9 : ¬ x9 = 9) (h10 : ¬ x9 = 10) (h11 : ¬ x9 = 11) (h12 : ¬ x9 = 12) (K : wY_runVersion_795 pst J x1 x2 x3 x4 x5 x6 x7 x8 x13 yroom (nI V) (nI G) (nI H) (nI n) ycursor ystate ygrew yinputs yops yfa yfb yfc yhas ymark yreach ysingle yexact yverdicts yseen yeffect yfacts ywords ycells ysiteOf youts) : wY_runVersion_494 pst J x1 x2 x3 x4 x5 x6 x7 x8 x9 x10 x11 x13 yroom (nI V) (nI G) (nI H) (nI n) ycursor ystate ygrew yinputs yops yfa yfb yfc yhas ymark yreach ysingle yexact yverdicts yseen yeffect yfacts ywords ycells ysiteOf youts := br_f h8 (ry_608 h9 h10 h11 h12 K)
theorem ry_403 (h7 : ¬ x9 = 7) (h8 : ¬ x9 = 8) (h9 : ¬ x9 = 9) (h10 : ¬ x9 = 10) (h11 : ¬ x9 = 11) (h12 : ¬ x9 = 12) (K : wY_runVersion_795 pst J x1 x2 x3 x4 x5 x6 x7 x8 x13 yroom (nI V) (nI G) (nI H) (nI n) ycursor ystate ygrew yinputs yops yfa yfb yfc yhas ymark yreach ysingle yexact yverdicts yseen yeffect yfacts ywords ycells ysiteOf youts) : wY_runVersion_403 pst J x1 x2 x3 x4 x5 x6 x7 x8 x9 x10 x11 x13 yroom (nI V) (nI G) (nI H) (nI n) ycursor ystate ygrew yinputs yops yfa yfb yfc yhas ymark yreach ysingle yexact yverdicts yseen yeffect yfacts ywords ycells ysiteOf youts := br_f h7 (ry_494 h8 h9 h10 h11 h12 K)
theorem ry_380 (h6 : ¬ x9 = 6) (h7 : ¬ x9 = 7) (h8 : ¬ x9 = 8) (h9 : ¬ x9 = 9) (h10 : ¬ x9 = 10) (h11 : ¬ x9 = 11) (h12 : ¬ x9 = 12) (K : wY_runVersion_795 pst J x1 x2 x3 x4 x5 x6 x7 x8 x13 yroom (nI V) (nI G) (nI H) (nI n) ycursor ystate ygrew yinputs yops yfa yfb yfc yhas ymark yreach ysingle yexact yverdicts yseen yeffect yfacts ywords ycells ysiteOf youts) : wY_runVersion_380 pst J x1 x2 x3 x4 x5 x6 x7 x8 x9 x10 x11 x13 yroom (nI V) (nI G) (nI H) (nI n) ycursor ystate ygrew yinputs yops yfa yfb yfc yhas ymark yreach ysingle yexact yverdicts yseen yeffect yfacts ywords ycells ysiteOf youts := br_f h6 (ry_403 h7 h8 h9 h10 h11 h12 K)
theorem ry_338 (h5 : ¬ x9 = 5) (h6 : ¬ x9 = 6) (h7 : ¬ x9 = 7) (h8 : ¬ x9 = 8) (h9 : ¬ x9 = 9) (h10 : ¬ x9 = 10) (h11 : ¬ x9 = 11) (h12 : ¬ x9 = 12) (K : wY_runVersion_795 pst J x1 x2 x3 x4 x5 x6 x7 x8 x13 yroom (nI V) (nI G) (nI H) (nI n) ycursor ystate ygrew yinputs yops yfa yfb yfc yhas ymark yreach ysingle yexact yverdicts yseen yeffect yfacts ywords ycells ysiteOf youts) : wY_runVersion_338 pst J x1 x2 x3 x4 x5 x6 x7 x8 x9 x10 x11 x12 x13 yroom (nI V) (nI G) (nI H) (nI n) ycursor ystate ygrew yinputs yops yfa yfb yfc yhas ymark yreach ysingle yexact yverdicts yseen yeffect yfacts ywords ycells ysiteOf youts := br_f h5 (ry_380 h6 h7 h8 h9 h10 h11 h12 K)
theorem ry_291 (h4 : ¬ x9 = 4) (h5 : ¬ x9 = 5) (h6 : ¬ x9 = 6) (h7 : ¬ x9 = 7) (h8 : ¬ x9 = 8) (h9 : ¬ x9 = 9) (h10 : ¬ x9 = 10) (h11 : ¬ x9 = 11) (h12 : ¬ x9 = 12) (K : wY_runVersion_795 pst J x1 x2 x3 x4 x5 x6 x7 x8 x13 yroom (nI V) (nI G) (nI H) (nI n) ycursor ystate ygrew yinputs yops yfa yfb yfc yhas ymark yreach ysingle yexact yverdicts yseen yeffect yfacts ywords ycells ysiteOf youts) : wY_runVersion_291 pst J x1 x2 x3 x4 x5 x6 x7 x8 x9 x10 x11 x12 x13 yroom (nI V) (nI G) (nI H) (nI n) ycursor ystate ygrew yinputs yops yfa yfb yfc yhas ymark yreach ysingle yexact yverdicts yseen yeffect yfacts ywords ycells ysiteOf youts := br_f h4 (ry_338 h5 h6 h7 h8 h9 h10 h11 h12 K)
theorem ry_267 (h3 : ¬ x9 = 3) (h4 : ¬ x9 = 4) (h5 : ¬ x9 = 5) (h6 : ¬ x9 = 6) (h7 : ¬ x9 = 7) (h8 : ¬ x9 = 8) (h9 : ¬ x9 = 9) (h10 : ¬ x9 = 10) (h11 : ¬ x9 = 11) (h12 : ¬ x9 = 12) (K : wY_runVersion_795 pst J x1 x2 x3 x4 x5 x6 x7 x8 x13 yroom (nI V) (nI G) (nI H) (nI n) ycursor ystate ygrew yinputs yops yfa yfb yfc yhas ymark yreach ysingle yexact yverdicts yseen yeffect yfacts ywords ycells ysiteOf youts) : wY_runVersion_267 pst J x1 x2 x3 x4 x5 x6 x7 x8 x9 x10 x11 x12 x13 yroom (nI V) (nI G) (nI H) (nI n) ycursor ystate ygrew yinputs yops yfa yfb yfc yhas ymark yreach ysingle yexact yverdicts yseen yeffect yfacts ywords ycells ysiteOf youts := br_f h3 (ry_291 h4 h5 h6 h7 h8 h9 h10 h11 h12 K)
theorem ry_244 (h2 : ¬ x9 = 2) (h3 : ¬ x9 = 3) (h4 : ¬ x9 = 4) (h5 : ¬ x9 = 5) (h6 : ¬ x9 = 6) (h7 : ¬ x9 = 7) (h8 : ¬ x9 = 8) (h9 : ¬ x9 = 9) (h10 : ¬ x9 = 10) (h11 : ¬ x9 = 11) (h12 : ¬ x9 = 12) (K : wY_runVersion_795 pst J x1 x2 x3 x4 x5 x6 x7 x8 x13 yroom (nI V) (nI G) (nI H) (nI n) ycursor ystate ygrew yinputs yops yfa yfb yfc yhas ymark yreach ysingle yexact yverdicts yseen yeffect yfacts ywords ycells ysiteOf youts) : wY_runVersion_244 pst J x1 x2 x3 x4 x5 x6 x7 x8 x9 x10 x11 x12 x13 yroom (nI V) (nI G) (nI H) (nI n) ycursor ystate ygrew yinputs yops yfa yfb yfc yhas ymark yreach ysingle yexact yverdicts yseen yeffect yfacts ywords ycells ysiteOf youts := br_f h2 (ry_267 h3 h4 h5 h6 h7 h8 h9 h10 h11 h12 K)
theorem ix_f {w j : Nat} (hw : w < 2) (hj : j < 7) : nI (w * 7) + nI j = nI (w * 7 + j) ∧ vp_in (nI (w * 7 + j)) 14 ∧ (nI (w * 7 + j)).toNatClampNeg = w * 7 + j := ⟨nI_add _ _, vp_in_nI (by omega) (by omega), nI_clamp (by omega)⟩
theorem ry_go (hw : w < 2) (hn : n ≤ 32) (hp : p < n) (ht : t < B) (hB : B ≤ 1000) (hf : yfacts (w * 7 + 1) = nI t) (h1 : ¬ yops p = 1) (K : wY_runVersion_244 pst (wY_runVersion_118 pst (nI w) (nI B) (nI (w * 8)) (nI (w * 40)) (nI (w * 7)) yroom (nI V) (nI G) (nI H) (nI n) ycursor ystate ygrew d) (nI w) (nI B) (nI (w * 8)) (nI (w * 40)) (nI (w * 7)) (nI p) 0 (nI t) (yops p) (yfa p) (yfb p) (yfc p) (nI (p + 1)) yroom (nI V) (nI G) (nI H) (nI n) ycursor ystate ygrew yinputs yops yfa yfb yfc yhas ymark yreach ysingle yexact yverdicts yseen yeffect (upd yfacts (w * 7 + 1) (nI (t + 1))) ywords ycells ysiteOf youts) : wY_runVersion_118 pst (nI w) (nI B) (nI (w * 8)) (nI (w * 40)) (nI (w * 7)) yroom (nI V) (nI G) (nI H) (nI n) ycursor ystate ygrew (d + 1) (nI p) 0 (nI t) yinputs yops yfa yfb yfc yhas ymark yreach ysingle yexact yverdicts yseen yeffect yfacts ywords ycells ysiteOf youts := by
  obtain ⟨f1, f2, f3⟩ := ix_f (j := 1) hw (by omega)
  have f1 : nI (w * 7) + 1 = nI (w * 7 + 1) := f1
  have hpi : vp_in (nI p) 32 := vp_in_nI (by omega) (by omega)
  have ep : (nI p).toNatClampNeg = p := nI_clamp (by omega)
  refine br_f (nI_nlt (b := t) (a := 1000) (by omega) (by omega)) (br_t rfl (br_t (nI_lt hp (by omega)) ?_))
  rw [f1, f3, hf, nI_1]
  refine ⟨f2, br_f (by rw [nI_eq (by omega) (by omega)]; omega) ⟨f2, f2, nm_e ⟨hpi, nm_r (e' := yops p) (by rw [ep]) ⟨hpi, nm_r (e' := yfa p) (by rw [ep]) ⟨hpi, nm_r (e' := yfb p) (by rw [ep]) ⟨hpi, nm_r (e' := yfc p) (by rw [ep]) (nm_r (nI_1 p) ?_)⟩⟩⟩⟩⟩⟩
  exact br_f h1 K
theorem ry_p1 {a : Nat} (hw : w < 2) (hn : n ≤ 32) (hp : p < n) (ht : t < B) (hB : B ≤ 1000) (hf : yfacts (w * 7 + 1) = nI t) (hop : yops p = 1) (ha : yfa p = nI a) (ha8 : a < 8) (K : wY_runVersion_118 pst (nI w) (nI B) (nI (w * 8)) (nI (w * 40)) (nI (w * 7)) yroom (nI V) (nI G) (nI H) (nI n) ycursor ystate ygrew d (nI (p + 1)) 0 (nI (t + 1)) yinputs yops yfa yfb yfc yhas ymark yreach ysingle yexact yverdicts yseen yeffect (upd yfacts (w * 7 + 1) (nI (t + 1))) (vp_updL ywords (w * 8 + a) (yfb p).toInt64) ycells ysiteOf youts) : wY_runVersion_118 pst (nI w) (nI B) (nI (w * 8)) (nI (w * 40)) (nI (w * 7)) yroom (nI V) (nI G) (nI H) (nI n) ycursor ystate ygrew (d + 1) (nI p) 0 (nI t) yinputs yops yfa yfb yfc yhas ymark yreach ysingle yexact yverdicts yseen yeffect yfacts ywords ycells ysiteOf youts := by
  obtain ⟨a1, a2, a3⟩ := ix_v hw ha8
  obtain ⟨f1, f2, f3⟩ := ix_f (j := 1) hw (by omega)
  have f1 : nI (w * 7) + 1 = nI (w * 7 + 1) := f1
  have hpi : vp_in (nI p) 32 := vp_in_nI (by omega) (by omega)
  have ep : (nI p).toNatClampNeg = p := nI_clamp (by omega)
  refine br_f (nI_nlt (b := t) (a := 1000) (by omega) (by omega)) (br_t rfl (br_t (nI_lt hp (by omega)) ?_))
  rw [f1, f3, hf, nI_1]
  refine ⟨f2, br_f (by rw [nI_eq (by omega) (by omega)]; omega) ⟨f2, f2, nm_e ⟨hpi, nm_r (e' := yops p) (by rw [ep]) ⟨hpi, nm_r (e' := yfa p) (by rw [ep]) ⟨hpi, nm_r (e' := yfb p) (by rw [ep]) ⟨hpi, nm_r (e' := yfc p) (by rw [ep]) (nm_r (nI_1 p) ?_)⟩⟩⟩⟩⟩⟩
  rw [hop, ha, a1, a3]
  refine br_t rfl ⟨a2, nm_e (ry_244 (by decide) (by decide) (by decide) (by decide) (by decide) (by decide) (by decide) (by decide) (by decide) (by decide) (by decide) (ry_795 ?_))⟩
  rw [nI_1]; exact K
theorem ry_p2 {a b : Nat} (hw : w < 2) (hn : n ≤ 32) (hp : p < n) (ht : t < B) (hB : B ≤ 1000) (hf : yfacts (w * 7 + 1) = nI t) (hop : yops p = 2) (ha : yfa p = nI a) (ha8 : a < 8) (hb : yfb p = nI b) (hb4 : b < 4) (K : wY_runVersion_118 pst (nI w) (nI B) (nI (w * 8)) (nI (w * 40)) (nI (w * 7)) yroom (nI V) (nI G) (nI H) (nI n) ycursor ystate ygrew d (nI (p + 1)) 0 (nI (t + 1)) yinputs yops yfa yfb yfc yhas ymark yreach ysingle yexact yverdicts yseen yeffect (upd yfacts (w * 7 + 1) (nI (t + 1))) (vp_updL ywords (w * 8 + a) (yinputs b).toInt64) ycells ysiteOf youts) : wY_runVersion_118 pst (nI w) (nI B) (nI (w * 8)) (nI (w * 40)) (nI (w * 7)) yroom (nI V) (nI G) (nI H) (nI n) ycursor ystate ygrew (d + 1) (nI p) 0 (nI t) yinputs yops yfa yfb yfc yhas ymark yreach ysingle yexact yverdicts yseen yeffect yfacts ywords ycells ysiteOf youts := by
  refine ry_go hw hn hp ht hB hf (by rw [hop]; decide) ?_
  rw [hop]
  obtain ⟨a1, a2, a3⟩ := ix_v hw ha8
  rw [ha, hb]
  refine (br_t rfl ?_)
  rw [a1, a3, nI_clamp (by omega)]
  refine ⟨vp_in_nI hb4 (by omega), a2, nm_e (ry_267 (by decide) (by decide) (by decide) (by decide) (by decide) (by decide) (by decide) (by decide) (by decide) (by decide) (ry_795 ?_))⟩
  rw [nI_1]; exact K
theorem ry_p3 {a b : Nat} (hw : w < 2) (hn : n ≤ 32) (hp : p < n) (ht : t < B) (hB : B ≤ 1000) (hf : yfacts (w * 7 + 1) = nI t) (hop : yops p = 3) (ha : yfa p = nI a) (ha8 : a < 8) (hb : yfb p = nI b) (hb8 : b < 8) (K : wY_runVersion_118 pst (nI w) (nI B) (nI (w * 8)) (nI (w * 40)) (nI (w * 7)) yroom (nI V) (nI G) (nI H) (nI n) ycursor ystate ygrew d (nI (p + 1)) 0 (nI (t + 1)) yinputs yops yfa yfb yfc yhas ymark yreach ysingle yexact yverdicts yseen yeffect (upd yfacts (w * 7 + 1) (nI (t + 1))) (vp_updL ywords (w * 8 + a) (ywords (w * 8 + b))) ycells ysiteOf youts) : wY_runVersion_118 pst (nI w) (nI B) (nI (w * 8)) (nI (w * 40)) (nI (w * 7)) yroom (nI V) (nI G) (nI H) (nI n) ycursor ystate ygrew (d + 1) (nI p) 0 (nI t) yinputs yops yfa yfb yfc yhas ymark yreach ysingle yexact yverdicts yseen yeffect yfacts ywords ycells ysiteOf youts := by
  refine ry_go hw hn hp ht hB hf (by rw [hop]; decide) ?_
  rw [hop]
  obtain ⟨a1, a2, a3⟩ := ix_v hw ha8
  obtain ⟨b1, b2, b3⟩ := ix_v hw hb8
  rw [ha, hb]
  refine (br_f (by decide) (br_t rfl ?_))
  rw [a1, a3, b1, b3]
  refine ⟨b2, a2, nm_e (ry_291 (by decide) (by decide) (by decide) (by decide) (by decide) (by decide) (by decide) (by decide) (by decide) (ry_795 ?_))⟩
  rw [nI_1]; exact K
theorem ry_num {q : Int32 → Prop} {x : Int64} (K : q (rn_n x)) : wpY_number q (yroom, nI V, nI G, nI H, nI n, ycursor, ystate, ygrew, yinputs, yops, yfa, yfb, yfc, yhas, ymark, yreach, ysingle, yexact, yverdicts, yseen, yeffect, yfacts, ywords, ycells, ysiteOf, youts) x := by
  unfold rn_n at K
  refine br_c (fun z => ?_) (fun z => ?_)
  · rw [if_pos z] at K; exact K
  · rw [if_neg z] at K; exact K
theorem ry_p4 {a b c : Nat} (hw : w < 2) (hn : n ≤ 32) (hp : p < n) (ht : t < B) (hB : B ≤ 1000) (hf : yfacts (w * 7 + 1) = nI t) (hop : yops p = 4) (ha : yfa p = nI a) (ha8 : a < 8) (hb : yfb p = nI b) (hb8 : b < 8) (hc : yfc p = nI c) (hc8 : c < 8) (K : wY_runVersion_118 pst (nI w) (nI B) (nI (w * 8)) (nI (w * 40)) (nI (w * 7)) yroom (nI V) (nI G) (nI H) (nI n) ycursor ystate ygrew d (nI (p + 1)) 0 (nI (t + 1)) yinputs yops yfa yfb yfc yhas ymark yreach ysingle yexact yverdicts yseen yeffect (upd yfacts (w * 7 + 1) (nI (t + 1))) (vp_updL ywords (w * 8 + a) (rn_n (ywords (w * 8 + b)) + rn_n (ywords (w * 8 + c))).toInt64) ycells ysiteOf youts) : wY_runVersion_118 pst (nI w) (nI B) (nI (w * 8)) (nI (w * 40)) (nI (w * 7)) yroom (nI V) (nI G) (nI H) (nI n) ycursor ystate ygrew (d + 1) (nI p) 0 (nI t) yinputs yops yfa yfb yfc yhas ymark yreach ysingle yexact yverdicts yseen yeffect yfacts ywords ycells ysiteOf youts := by
  refine ry_go hw hn hp ht hB hf (by rw [hop]; decide) ?_
  rw [hop]
  obtain ⟨a1, a2, a3⟩ := ix_v hw ha8
  obtain ⟨b1, b2, b3⟩ := ix_v hw hb8
  obtain ⟨c1, c2, c3⟩ := ix_v hw hc8
  rw [ha, hb, hc]
  refine (br_f (by decide) (br_f (by decide) (br_t rfl ?_)))
  rw [a1, a3, b1, b3, c1, c3]
  refine ⟨b2, ry_num ⟨c2, ry_num (nm_e ⟨a2, nm_e (ry_338 (by decide) (by decide) (by decide) (by decide) (by decide) (by decide) (by decide) (by decide) (ry_795 ?_))⟩)⟩⟩
  rw [nI_1]; exact K
theorem ry_p5 {a b c : Nat} (hw : w < 2) (hn : n ≤ 32) (hp : p < n) (ht : t < B) (hB : B ≤ 1000) (hf : yfacts (w * 7 + 1) = nI t) (hop : yops p = 5) (ha : yfa p = nI a) (ha8 : a < 8) (hb : yfb p = nI b) (hb8 : b < 8) (hc : yfc p = nI c) (hc8 : c < 8) (K : wY_runVersion_118 pst (nI w) (nI B) (nI (w * 8)) (nI (w * 40)) (nI (w * 7)) yroom (nI V) (nI G) (nI H) (nI n) ycursor ystate ygrew d (nI (p + 1)) 0 (nI (t + 1)) yinputs yops yfa yfb yfc yhas ymark yreach ysingle yexact yverdicts yseen yeffect (upd yfacts (w * 7 + 1) (nI (t + 1))) (vp_updL ywords (w * 8 + a) (if ywords (w * 8 + b) = ywords (w * 8 + c) then 1 else 0)) ycells ysiteOf youts) : wY_runVersion_118 pst (nI w) (nI B) (nI (w * 8)) (nI (w * 40)) (nI (w * 7)) yroom (nI V) (nI G) (nI H) (nI n) ycursor ystate ygrew (d + 1) (nI p) 0 (nI t) yinputs yops yfa yfb yfc yhas ymark yreach ysingle yexact yverdicts yseen yeffect yfacts ywords ycells ysiteOf youts := by
  refine ry_go hw hn hp ht hB hf (by rw [hop]; decide) ?_
  rw [hop]
  obtain ⟨a1, a2, a3⟩ := ix_v hw ha8
  obtain ⟨b1, b2, b3⟩ := ix_v hw hb8
  obtain ⟨c1, c2, c3⟩ := ix_v hw hc8
  rw [ha, hb, hc]
  refine (br_f (by decide) (br_f (by decide) (br_f (by decide) (br_t rfl ?_))))
  rw [a1, b1, b3, c1, c3]
  refine ⟨b2, c2, br_c (fun z => ⟨a2, nm_r (e' := vp_updL ywords (w * 8 + a) 1) (by rw [a3]) (ry_380 (by decide) (by decide) (by decide) (by decide) (by decide) (by decide) (by decide) (ry_795 ?_))⟩) (fun z => ⟨a2, nm_r (e' := vp_updL ywords (w * 8 + a) 0) (by rw [a3]) (ry_380 (by decide) (by decide) (by decide) (by decide) (by decide) (by decide) (by decide) (ry_795 ?_))⟩)⟩
  · rw [if_pos z] at K; rw [nI_1]; exact K
  · rw [if_neg z] at K; rw [nI_1]; exact K
theorem ry_p6 {a b : Nat} (hw : w < 2) (hn : n ≤ 32) (hp : p < n) (ht : t < B) (hB : B ≤ 1000) (hf : yfacts (w * 7 + 1) = nI t) (hop : yops p = 6) (ha : yfa p = nI a) (ha8 : a < 8) (hb : yfb p = nI b) (hb8 : b < 8) (K : wY_runVersion_118 pst (nI w) (nI B) (nI (w * 8)) (nI (w * 40)) (nI (w * 7)) yroom (nI V) (nI G) (nI H) (nI n) ycursor ystate ygrew d (nI (p + 1)) 0 (nI (t + 1)) yinputs yops yfa yfb yfc yhas ymark yreach ysingle yexact yverdicts yseen yeffect (upd yfacts (w * 7 + 1) (nI (t + 1))) (vp_updL ywords (w * 8 + a) (4294967296 + (nI b).toInt64)) ycells ysiteOf youts) : wY_runVersion_118 pst (nI w) (nI B) (nI (w * 8)) (nI (w * 40)) (nI (w * 7)) yroom (nI V) (nI G) (nI H) (nI n) ycursor ystate ygrew (d + 1) (nI p) 0 (nI t) yinputs yops yfa yfb yfc yhas ymark yreach ysingle yexact yverdicts yseen yeffect yfacts ywords ycells ysiteOf youts := by
  refine ry_go hw hn hp ht hB hf (by rw [hop]; decide) ?_
  rw [hop]
  obtain ⟨a1, a2, a3⟩ := ix_v hw ha8
  rw [ha, hb]
  refine (br_f (by decide) (br_f (by decide) (br_f (by decide) (br_f (by decide) (br_t rfl ?_)))))
  rw [a1, a3]
  refine ⟨a2, nm_e (ry_403 (by decide) (by decide) (by decide) (by decide) (by decide) (by decide) (ry_795 ?_))⟩
  rw [nI_1]; exact K
theorem ry_p7 {a m : Nat} (hw : w < 2) (hn : n ≤ 32) (hp : p < n) (ht : t < B) (hB : B ≤ 1000) (hf : yfacts (w * 7 + 1) = nI t) (hop : yops p = 7) (ha : yfa p = nI a) (ha8 : a < 8) (hm : yfacts (w * 7 + 5) = nI m) (hmH : m < H) (hH : H ≤ 32) (hG : G ≤ 8) (K : wY_runVersion_118 pst (nI w) (nI B) (nI (w * 8)) (nI (w * 40)) (nI (w * 7)) yroom (nI V) (nI G) (nI H) (nI n) ycursor ystate ygrew d (nI (p + 1)) 0 (nI (t + 1)) yinputs yops yfa yfb yfc yhas ymark yreach ysingle yexact yverdicts yseen yeffect (upd (upd yfacts (w * 7 + 1) (nI (t + 1))) (w * 7 + 5) (nI (m + 1))) (vp_updL ywords (w * 8 + a) (4294967296 + (nI (G + m)).toInt64)) ycells (upd ysiteOf (w * 40 + (G + m)) (nI (G + p))) youts) : wY_runVersion_118 pst (nI w) (nI B) (nI (w * 8)) (nI (w * 40)) (nI (w * 7)) yroom (nI V) (nI G) (nI H) (nI n) ycursor ystate ygrew (d + 1) (nI p) 0 (nI t) yinputs yops yfa yfb yfc yhas ymark yreach ysingle yexact yverdicts yseen yeffect yfacts ywords ycells ysiteOf youts := by
  refine ry_go hw hn hp ht hB hf (by rw [hop]; decide) ?_
  rw [hop]
  obtain ⟨a1, a2, a3⟩ := ix_v hw ha8
  obtain ⟨g1, g2, g3⟩ := ix_f (j := 5) hw (by omega)
  have g1 : nI (w * 7) + 5 = nI (w * 7 + 5) := g1
  have hm' : upd yfacts (w * 7 + 1) (nI (t + 1)) (w * 7 + 5) = nI m := by rw [pk_un (by omega)]; exact hm
  obtain ⟨c1, c2, c3⟩ := ix_c (w := w) (a := G + m) hw (by omega)
  rw [ha]
  refine (br_f (by decide) (br_f (by decide) (br_f (by decide) (br_f (by decide) (br_f (by decide) (br_t rfl ?_))))))
  rw [g1, g3, hm', nI_add]
  refine ⟨g2, nm_e ⟨g2, br_t (nI_lt hmH (by omega)) ?_⟩⟩
  rw [c1, c3, a1, a3, nI_1]
  refine ⟨c2, nm_r (e' := upd ysiteOf (w * 40 + (G + m)) (nI (G + p))) (by rw [nI_add]) ⟨a2, nm_e ⟨g2, g2, nm_e (ry_494 (by decide) (by decide) (by decide) (by decide) (by decide) (ry_795 ?_))⟩⟩⟩
  rw [nI_1]; exact K
theorem ry_p7f {a m : Nat} (hw : w < 2) (hn : n ≤ 32) (hp : p < n) (ht : t < B) (hB : B ≤ 1000) (hf : yfacts (w * 7 + 1) = nI t) (hop : yops p = 7) (ha : yfa p = nI a) (ha8 : a < 8) (hm : yfacts (w * 7 + 5) = nI m) (hmH : H ≤ m) (hm2 : m ≤ 32) (K : wY_runVersion_118 pst (nI w) (nI B) (nI (w * 8)) (nI (w * 40)) (nI (w * 7)) yroom (nI V) (nI G) (nI H) (nI n) ycursor ystate ygrew d (nI p) 3 (nI (t + 1)) yinputs yops yfa yfb yfc yhas ymark yreach ysingle yexact yverdicts yseen yeffect (upd yfacts (w * 7 + 1) (nI (t + 1))) ywords ycells ysiteOf youts) : wY_runVersion_118 pst (nI w) (nI B) (nI (w * 8)) (nI (w * 40)) (nI (w * 7)) yroom (nI V) (nI G) (nI H) (nI n) ycursor ystate ygrew (d + 1) (nI p) 0 (nI t) yinputs yops yfa yfb yfc yhas ymark yreach ysingle yexact yverdicts yseen yeffect yfacts ywords ycells ysiteOf youts := by
  refine ry_go hw hn hp ht hB hf (by rw [hop]; decide) ?_
  rw [hop]
  obtain ⟨g1, g2, g3⟩ := ix_f (j := 5) hw (by omega)
  have g1 : nI (w * 7) + 5 = nI (w * 7 + 5) := g1
  have hm' : upd yfacts (w * 7 + 1) (nI (t + 1)) (w * 7 + 5) = nI m := by rw [pk_un (by omega)]; exact hm
  rw [ha]
  refine (br_f (by decide) (br_f (by decide) (br_f (by decide) (br_f (by decide) (br_f (by decide) (br_t rfl ?_))))))
  rw [g1, g3, hm']
  refine ⟨g2, nm_e ⟨g2, br_f (nI_nlt hmH (by omega)) (ry_494 (by decide) (by decide) (by decide) (by decide) (by decide) (ry_795s (by decide) ?_))⟩⟩
  rw [nI_1]; exact K
theorem ry_p8f {a b : Nat} {x : Int32} (hw : w < 2) (hn : n ≤ 32) (hp : p < n) (ht : t < B) (hB : B ≤ 1000) (hf : yfacts (w * 7 + 1) = nI t) (hop : yops p = 8) (ha : yfa p = nI a) (ha8 : a < 8) (hb : yfb p = nI b) (hb8 : b < 8) (hx : ywords (w * 8 + b) = x.toInt64) (K : wY_runVersion_118 pst (nI w) (nI B) (nI (w * 8)) (nI (w * 40)) (nI (w * 7)) yroom (nI V) (nI G) (nI H) (nI n) ycursor ystate ygrew d (nI p) 2 (nI (t + 1)) yinputs yops yfa yfb yfc yhas ymark yreach ysingle yexact yverdicts yseen yeffect (upd yfacts (w * 7 + 1) (nI (t + 1))) ywords ycells ysiteOf youts) : wY_runVersion_118 pst (nI w) (nI B) (nI (w * 8)) (nI (w * 40)) (nI (w * 7)) yroom (nI V) (nI G) (nI H) (nI n) ycursor ystate ygrew (d + 1) (nI p) 0 (nI t) yinputs yops yfa yfb yfc yhas ymark yreach ysingle yexact yverdicts yseen yeffect yfacts ywords ycells ysiteOf youts := by
  refine ry_go hw hn hp ht hB hf (by rw [hop]; decide) ?_
  rw [hop]
  obtain ⟨b1, b2, b3⟩ := ix_v hw hb8
  rw [ha, hb]
  refine (br_f (by decide) (br_f (by decide) (br_f (by decide) (br_f (by decide) (br_f (by decide) (br_f (by decide) (br_t rfl ?_)))))))
  rw [b1, b3, hx]
  refine ⟨b2, nm_e (br_f (rn_int x).2 (ry_608 (by decide) (by decide) (by decide) (by decide) (ry_795s (by decide) ?_)))⟩
  rw [nI_1]; exact K
theorem ry_p8m {a b k : Nat} (hw : w < 2) (hn : n ≤ 32) (hp : p < n) (ht : t < B) (hB : B ≤ 1000) (hf : yfacts (w * 7 + 1) = nI t) (hop : yops p = 8) (ha : yfa p = nI a) (ha8 : a < 8) (hb : yfb p = nI b) (hb8 : b < 8) (hk : k < 40) (hx : ywords (w * 8 + b) = 4294967296 + (nI k).toInt64) (hv : w = 1 → yverdicts p < 16) (K : wY_runVersion_118 pst (nI w) (nI B) (nI (w * 8)) (nI (w * 40)) (nI (w * 7)) yroom (nI V) (nI G) (nI H) (nI n) ycursor ystate ygrew d (nI (p + 1)) 0 (nI (t + 1)) yinputs yops yfa yfb yfc yhas ymark yreach ysingle yexact yverdicts yseen yeffect (upd (upd yfacts (w * 7 + 1) (nI (t + 1))) (w * 7 + 3) (yfacts (w * 7 + 3) + 1)) (vp_updL ywords (w * 8 + a) (ycells (w * 40 + k))) ycells ysiteOf youts) : wY_runVersion_118 pst (nI w) (nI B) (nI (w * 8)) (nI (w * 40)) (nI (w * 7)) yroom (nI V) (nI G) (nI H) (nI n) ycursor ystate ygrew (d + 1) (nI p) 0 (nI t) yinputs yops yfa yfb yfc yhas ymark yreach ysingle yexact yverdicts yseen yeffect yfacts ywords ycells ysiteOf youts := by
  refine ry_go hw hn hp ht hB hf (by rw [hop]; decide) ?_
  rw [hop]
  obtain ⟨a1, a2, a3⟩ := ix_v hw ha8
  obtain ⟨b1, b2, b3⟩ := ix_v hw hb8
  obtain ⟨g1, g2, g3⟩ := ix_f (j := 3) hw (by omega)
  have g1 : nI (w * 7) + 3 = nI (w * 7 + 3) := g1
  have hg' : upd yfacts (w * 7 + 1) (nI (t + 1)) (w * 7 + 3) = yfacts (w * 7 + 3) := pk_un (by omega)
  obtain ⟨c1, c2, c3⟩ := ix_c (w := w) (a := k) hw hk
  have hpi : vp_in (nI p) 32 := vp_in_nI (by omega) (by omega)
  have ep : (nI p).toNatClampNeg = p := nI_clamp (by omega)
  have q := rn_adr k hk
  rw [ha, hb]
  refine (br_f (by decide) (br_f (by decide) (br_f (by decide) (br_f (by decide) (br_f (by decide) (br_f (by decide) (br_t rfl ?_)))))))
  rw [b1, b3, hx]
  have mem : wY_runVersion_575 pst (wY_runVersion_118 pst (nI w) (nI B) (nI (w * 8)) (nI (w * 40)) (nI (w * 7)) yroom (nI V) (nI G) (nI H) (nI n) ycursor ystate ygrew d) (nI w) (nI B) (nI (w * 8)) (nI (w * 40)) (nI (w * 7)) (nI p) 0 (nI t) 8 (nI a) (nI b) (nI (p + 1)) (4294967296 + (nI k).toInt64 - 4294967296) yroom (nI V) (nI G) (nI H) (nI n) ycursor ystate ygrew yinputs yops yfa yfb yfc yhas ymark yreach ysingle yexact yverdicts yseen yeffect (upd yfacts (w * 7 + 1) (nI (t + 1))) ywords ycells ysiteOf youts := by
    unfold wY_runVersion_575
    rw [q.2.2.1, c1, c3, a1, a3, g1, g3, hg']
    refine ⟨c2, a2, nm_e ⟨g2, g2, nm_e (ry_608 (by decide) (by decide) (by decide) (by decide) (ry_795 ?_))⟩⟩
    rw [nI_1]; exact K
  refine ⟨b2, nm_e (br_t q.2.2.2 (pk_eq w 1 (fun z => ⟨hpi, br_t (by rw [ep]; exact hv z) mem⟩) (fun z => mem)))⟩
theorem ry_p8v {a b k x : Nat} (hw : w < 2) (hn : n ≤ 32) (hp : p < n) (ht : t < B) (hB : B ≤ 1000) (hf : yfacts (w * 7 + 1) = nI t) (hop : yops p = 8) (ha : yfa p = nI a) (ha8 : a < 8) (hb : yfb p = nI b) (hb8 : b < 8) (hk : k < 40) (hx : ywords (w * 8 + b) = 4294967296 + (nI k).toInt64) (hw1 : w = 1) (hv : yverdicts p = nI (16 + x)) (hx8 : x < 8) (K : wY_runVersion_118 pst (nI w) (nI B) (nI (w * 8)) (nI (w * 40)) (nI (w * 7)) yroom (nI V) (nI G) (nI H) (nI n) ycursor ystate ygrew d (nI (p + 1)) 0 (nI (t + 1)) yinputs yops yfa yfb yfc yhas ymark yreach ysingle yexact yverdicts yseen yeffect (upd yfacts (w * 7 + 1) (nI (t + 1))) (vp_updL ywords (w * 8 + a) (ywords (w * 8 + x))) ycells ysiteOf youts) : wY_runVersion_118 pst (nI w) (nI B) (nI (w * 8)) (nI (w * 40)) (nI (w * 7)) yroom (nI V) (nI G) (nI H) (nI n) ycursor ystate ygrew (d + 1) (nI p) 0 (nI t) yinputs yops yfa yfb yfc yhas ymark yreach ysingle yexact yverdicts yseen yeffect yfacts ywords ycells ysiteOf youts := by
  refine ry_go hw hn hp ht hB hf (by rw [hop]; decide) ?_
  rw [hop]
  obtain ⟨a1, a2, a3⟩ := ix_v hw ha8
  obtain ⟨b1, b2, b3⟩ := ix_v hw hb8
  obtain ⟨y1, y2, y3⟩ := ix_v hw hx8
  have hpi : vp_in (nI p) 32 := vp_in_nI (by omega) (by omega)
  have ep : (nI p).toNatClampNeg = p := nI_clamp (by omega)
  have q := rn_adr k hk
  have es : nI (w * 8) + nI (16 + x) - 16 = nI (w * 8 + x) := by
    have q : nI (w * 8 + (16 + x)) - nI 16 = nI (w * 8 + (16 + x) - 16) := pk_sub (by omega)
    rw [show w * 8 + (16 + x) - 16 = w * 8 + x by omega] at q
    rw [nI_add]
    exact q
  rw [ha, hb]
  refine (br_f (by decide) (br_f (by decide) (br_f (by decide) (br_f (by decide) (br_f (by decide) (br_f (by decide) (br_t rfl ?_)))))))
  rw [b1, b3, hx]
  refine ⟨b2, nm_e (br_t q.2.2.2 (br_t (by rw [hw1]; rfl) ⟨hpi, ?_⟩))⟩
  rw [ep, hv]
  refine br_f (nI_nlt (b := 16) (by omega) (by omega)) ⟨hpi, ?_⟩
  rw [es, y3, a1, a3]
  refine ⟨y2, a2, nm_e (ry_608 (by decide) (by decide) (by decide) (by decide) (ry_795 ?_))⟩
  rw [nI_1]; exact K
theorem ry_p9f {a b : Nat} {x : Int32} (hw : w < 2) (hn : n ≤ 32) (hp : p < n) (ht : t < B) (hB : B ≤ 1000) (hf : yfacts (w * 7 + 1) = nI t) (hop : yops p = 9) (ha : yfa p = nI a) (ha8 : a < 8) (hb : yfb p = nI b) (hb8 : b < 8) (hx : ywords (w * 8 + a) = x.toInt64) (K : wY_runVersion_118 pst (nI w) (nI B) (nI (w * 8)) (nI (w * 40)) (nI (w * 7)) yroom (nI V) (nI G) (nI H) (nI n) ycursor ystate ygrew d (nI p) 2 (nI (t + 1)) yinputs yops yfa yfb yfc yhas ymark yreach ysingle yexact yverdicts yseen yeffect (upd yfacts (w * 7 + 1) (nI (t + 1))) ywords ycells ysiteOf youts) : wY_runVersion_118 pst (nI w) (nI B) (nI (w * 8)) (nI (w * 40)) (nI (w * 7)) yroom (nI V) (nI G) (nI H) (nI n) ycursor ystate ygrew (d + 1) (nI p) 0 (nI t) yinputs yops yfa yfb yfc yhas ymark yreach ysingle yexact yverdicts yseen yeffect yfacts ywords ycells ysiteOf youts := by
  refine ry_go hw hn hp ht hB hf (by rw [hop]; decide) ?_
  rw [hop]
  obtain ⟨a1, a2, a3⟩ := ix_v hw ha8
  rw [ha, hb]
  refine (br_f (by decide) (br_f (by decide) (br_f (by decide) (br_f (by decide) (br_f (by decide) (br_f (by decide) (br_f (by decide) (br_t rfl ?_))))))))
  rw [a1, a3, hx]
  refine ⟨a2, nm_e (br_f (rn_int x).2 (ry_691 (by decide) (by decide) (by decide) (ry_795s (by decide) ?_)))⟩
  rw [nI_1]; exact K
theorem ry_p9m {a b k : Nat} (hw : w < 2) (hn : n ≤ 32) (hp : p < n) (ht : t < B) (hB : B ≤ 1000) (hf : yfacts (w * 7 + 1) = nI t) (hop : yops p = 9) (ha : yfa p = nI a) (ha8 : a < 8) (hb : yfb p = nI b) (hb8 : b < 8) (hk : k < 40) (hx : ywords (w * 8 + a) = 4294967296 + (nI k).toInt64) (hv : w = 0 ∨ ¬ yverdicts p = 1) (K : wY_runVersion_118 pst (nI w) (nI B) (nI (w * 8)) (nI (w * 40)) (nI (w * 7)) yroom (nI V) (nI G) (nI H) (nI n) ycursor ystate ygrew d (nI (p + 1)) 0 (nI (t + 1)) yinputs yops yfa yfb yfc yhas ymark yreach ysingle yexact yverdicts yseen yeffect (upd (upd yfacts (w * 7 + 1) (nI (t + 1))) (w * 7 + 4) (yfacts (w * 7 + 4) + 1)) ywords (vp_updL ycells (w * 40 + k) (ywords (w * 8 + b))) ysiteOf youts) : wY_runVersion_118 pst (nI w) (nI B) (nI (w * 8)) (nI (w * 40)) (nI (w * 7)) yroom (nI V) (nI G) (nI H) (nI n) ycursor ystate ygrew (d + 1) (nI p) 0 (nI t) yinputs yops yfa yfb yfc yhas ymark yreach ysingle yexact yverdicts yseen yeffect yfacts ywords ycells ysiteOf youts := by
  refine ry_go hw hn hp ht hB hf (by rw [hop]; decide) ?_
  rw [hop]
  obtain ⟨a1, a2, a3⟩ := ix_v hw ha8
  obtain ⟨b1, b2, b3⟩ := ix_v hw hb8
  obtain ⟨g1, g2, g3⟩ := ix_f (j := 4) hw (by omega)
  have g1 : nI (w * 7) + 4 = nI (w * 7 + 4) := g1
  have hg' : upd yfacts (w * 7 + 1) (nI (t + 1)) (w * 7 + 4) = yfacts (w * 7 + 4) := pk_un (by omega)
  obtain ⟨c1, c2, c3⟩ := ix_c (w := w) (a := k) hw hk
  have hpi : vp_in (nI p) 32 := vp_in_nI (by omega) (by omega)
  have ep : (nI p).toNatClampNeg = p := nI_clamp (by omega)
  have q := rn_adr k hk
  rw [ha, hb]
  refine (br_f (by decide) (br_f (by decide) (br_f (by decide) (br_f (by decide) (br_f (by decide) (br_f (by decide) (br_f (by decide) (br_t rfl ?_))))))))
  rw [a1, a3, hx]
  have mem : wY_runVersion_658 pst (wY_runVersion_118 pst (nI w) (nI B) (nI (w * 8)) (nI (w * 40)) (nI (w * 7)) yroom (nI V) (nI G) (nI H) (nI n) ycursor ystate ygrew d) (nI w) (nI B) (nI (w * 8)) (nI (w * 40)) (nI (w * 7)) (nI p) 0 (nI t) 9 (nI a) (nI b) (nI (p + 1)) (4294967296 + (nI k).toInt64 - 4294967296) yroom (nI V) (nI G) (nI H) (nI n) ycursor ystate ygrew yinputs yops yfa yfb yfc yhas ymark yreach ysingle yexact yverdicts yseen yeffect (upd yfacts (w * 7 + 1) (nI (t + 1))) ywords ycells ysiteOf youts := by
    unfold wY_runVersion_658
    rw [q.2.2.1, c1, c3, b1, b3, g1, g3, hg']
    refine ⟨b2, c2, nm_e ⟨g2, g2, nm_e (ry_691 (by decide) (by decide) (by decide) (ry_795 ?_))⟩⟩
    rw [nI_1]; exact K
  refine ⟨a2, nm_e (br_t q.2.2.2 (pk_eq w 0 (fun z => mem) (fun z => ⟨hpi, br_f (by rw [ep]; exact hv.elim (fun q => absurd q z) (fun q => q)) mem⟩)))⟩
theorem ry_p9r {a b k : Nat} (hw : w < 2) (hn : n ≤ 32) (hp : p < n) (ht : t < B) (hB : B ≤ 1000) (hf : yfacts (w * 7 + 1) = nI t) (hop : yops p = 9) (ha : yfa p = nI a) (ha8 : a < 8) (hb : yfb p = nI b) (hb8 : b < 8) (hk : k < 40) (hx : ywords (w * 8 + a) = 4294967296 + (nI k).toInt64) (hw1 : w = 1) (hv : yverdicts p = 1) (K : wY_runVersion_118 pst (nI w) (nI B) (nI (w * 8)) (nI (w * 40)) (nI (w * 7)) yroom (nI V) (nI G) (nI H) (nI n) ycursor ystate ygrew d (nI (p + 1)) 0 (nI (t + 1)) yinputs yops yfa yfb yfc yhas ymark yreach ysingle yexact yverdicts yseen yeffect (upd yfacts (w * 7 + 1) (nI (t + 1))) ywords ycells ysiteOf youts) : wY_runVersion_118 pst (nI w) (nI B) (nI (w * 8)) (nI (w * 40)) (nI (w * 7)) yroom (nI V) (nI G) (nI H) (nI n) ycursor ystate ygrew (d + 1) (nI p) 0 (nI t) yinputs yops yfa yfb yfc yhas ymark yreach ysingle yexact yverdicts yseen yeffect yfacts ywords ycells ysiteOf youts := by
  refine ry_go hw hn hp ht hB hf (by rw [hop]; decide) ?_
  rw [hop]
  obtain ⟨a1, a2, a3⟩ := ix_v hw ha8
  have hpi : vp_in (nI p) 32 := vp_in_nI (by omega) (by omega)
  have ep : (nI p).toNatClampNeg = p := nI_clamp (by omega)
  have q := rn_adr k hk
  rw [ha, hb]
  refine (br_f (by decide) (br_f (by decide) (br_f (by decide) (br_f (by decide) (br_f (by decide) (br_f (by decide) (br_f (by decide) (br_t rfl ?_))))))))
  rw [a1, a3, hx]
  refine ⟨a2, nm_e (br_t q.2.2.2 (pk_eq w 0 (fun z => by omega) (fun z => ⟨hpi, br_t (by rw [ep]; exact hv) (ry_691 (by decide) (by decide) (by decide) (ry_795 ?_))⟩)))⟩
  rw [nI_1]; exact K
theorem ry_p10 {a : Nat} (hw : w < 2) (hn : n ≤ 32) (hp : p < n) (ht : t < B) (hB : B ≤ 1000) (hf : yfacts (w * 7 + 1) = nI t) (hop : yops p = 10) (ha : yfa p = nI a) (K : wY_runVersion_118 pst (nI w) (nI B) (nI (w * 8)) (nI (w * 40)) (nI (w * 7)) yroom (nI V) (nI G) (nI H) (nI n) ycursor ystate ygrew d (nI a) 0 (nI (t + 1)) yinputs yops yfa yfb yfc yhas ymark yreach ysingle yexact yverdicts yseen yeffect (upd yfacts (w * 7 + 1) (nI (t + 1))) ywords ycells ysiteOf youts) : wY_runVersion_118 pst (nI w) (nI B) (nI (w * 8)) (nI (w * 40)) (nI (w * 7)) yroom (nI V) (nI G) (nI H) (nI n) ycursor ystate ygrew (d + 1) (nI p) 0 (nI t) yinputs yops yfa yfb yfc yhas ymark yreach ysingle yexact yverdicts yseen yeffect yfacts ywords ycells ysiteOf youts := by
  refine ry_go hw hn hp ht hB hf (by rw [hop]; decide) ?_
  rw [hop]
  rw [ha]
  refine (br_f (by decide) (br_f (by decide) (br_f (by decide) (br_f (by decide) (br_f (by decide) (br_f (by decide) (br_f (by decide) (br_f (by decide) (br_t rfl ?_)))))))))
  refine ry_702 (by decide) (by decide) (ry_795 ?_)
  rw [nI_1]; exact K
theorem ry_p11 {a b : Nat} (hw : w < 2) (hn : n ≤ 32) (hp : p < n) (ht : t < B) (hB : B ≤ 1000) (hf : yfacts (w * 7 + 1) = nI t) (hop : yops p = 11) (ha : yfa p = nI a) (ha8 : a < 8) (hb : yfb p = nI b) (K : wY_runVersion_118 pst (nI w) (nI B) (nI (w * 8)) (nI (w * 40)) (nI (w * 7)) yroom (nI V) (nI G) (nI H) (nI n) ycursor ystate ygrew d (nI (if ywords (w * 8 + a) = 0 then b else p + 1)) 0 (nI (t + 1)) yinputs yops yfa yfb yfc yhas ymark yreach ysingle yexact yverdicts yseen yeffect (upd yfacts (w * 7 + 1) (nI (t + 1))) ywords ycells ysiteOf youts) : wY_runVersion_118 pst (nI w) (nI B) (nI (w * 8)) (nI (w * 40)) (nI (w * 7)) yroom (nI V) (nI G) (nI H) (nI n) ycursor ystate ygrew (d + 1) (nI p) 0 (nI t) yinputs yops yfa yfb yfc yhas ymark yreach ysingle yexact yverdicts yseen yeffect yfacts ywords ycells ysiteOf youts := by
  refine ry_go hw hn hp ht hB hf (by rw [hop]; decide) ?_
  rw [hop]
  obtain ⟨a1, a2, a3⟩ := ix_v hw ha8
  rw [ha, hb]
  refine (br_f (by decide) (br_f (by decide) (br_f (by decide) (br_f (by decide) (br_f (by decide) (br_f (by decide) (br_f (by decide) (br_f (by decide) (br_f (by decide) (br_t rfl ?_))))))))))
  rw [a1, a3]
  refine ⟨a2, br_c (fun z => ry_727 (by decide) (ry_795 ?_)) (fun z => ry_727 (by decide) (ry_795 ?_))⟩
  · rw [if_pos z] at K; rw [nI_1]; exact K
  · rw [if_neg z] at K; rw [nI_1]; exact K
theorem ry_p12 {a c : Nat} (hw : w < 2) (hn : n ≤ 32) (hp : p < n) (ht : t < B) (hB : B ≤ 1000) (hf : yfacts (w * 7 + 1) = nI t) (hop : yops p = 12) (ha : yfa p = nI a) (ha8 : a < 8) (hc : yfacts (w * 7 + 2) = nI c) (hc32 : c < 32) (K : wY_runVersion_118 pst (nI w) (nI B) (nI (w * 8)) (nI (w * 40)) (nI (w * 7)) yroom (nI V) (nI G) (nI H) (nI n) ycursor ystate ygrew d (nI (p + 1)) 0 (nI (t + 1)) yinputs yops yfa yfb yfc yhas ymark yreach ysingle yexact yverdicts yseen yeffect (upd (upd yfacts (w * 7 + 1) (nI (t + 1))) (w * 7 + 2) (nI (c + 1))) ywords ycells ysiteOf (vp_updL youts (w * 32 + c) (ywords (w * 8 + a)))) : wY_runVersion_118 pst (nI w) (nI B) (nI (w * 8)) (nI (w * 40)) (nI (w * 7)) yroom (nI V) (nI G) (nI H) (nI n) ycursor ystate ygrew (d + 1) (nI p) 0 (nI t) yinputs yops yfa yfb yfc yhas ymark yreach ysingle yexact yverdicts yseen yeffect yfacts ywords ycells ysiteOf youts := by
  refine ry_go hw hn hp ht hB hf (by rw [hop]; decide) ?_
  rw [hop]
  obtain ⟨a1, a2, a3⟩ := ix_v hw ha8
  obtain ⟨g1, g2, g3⟩ := ix_f (j := 2) hw (by omega)
  have g1 : nI (w * 7) + 2 = nI (w * 7 + 2) := g1
  have hg' : upd yfacts (w * 7 + 1) (nI (t + 1)) (w * 7 + 2) = nI c := by rw [pk_un (by omega)]; exact hc
  obtain ⟨c1, c2, c3⟩ := ix_h (w := w) (a := c) hw hc32
  rw [ha]
  refine (br_f (by decide) (br_f (by decide) (br_f (by decide) (br_f (by decide) (br_f (by decide) (br_f (by decide) (br_f (by decide) (br_f (by decide) (br_f (by decide) (br_f (by decide) (br_t rfl ?_)))))))))))
  rw [g1, g3, hg', (ix_m w).2.2.1, c1, c3, a1, a3, nI_1]
  refine ⟨g2, br_t (nI_lt (b := 32) hc32 (by omega)) ⟨g2, a2, c2, nm_e ⟨g2, g2, nm_e (ry_795 ?_)⟩⟩⟩
  rw [nI_1]; exact K
theorem ry_p12f {a c : Nat} (hw : w < 2) (hn : n ≤ 32) (hp : p < n) (ht : t < B) (hB : B ≤ 1000) (hf : yfacts (w * 7 + 1) = nI t) (hop : yops p = 12) (ha : yfa p = nI a) (ha8 : a < 8) (hc : yfacts (w * 7 + 2) = nI c) (hc32 : 32 ≤ c) (hc2 : c ≤ 32) (K : wY_runVersion_118 pst (nI w) (nI B) (nI (w * 8)) (nI (w * 40)) (nI (w * 7)) yroom (nI V) (nI G) (nI H) (nI n) ycursor ystate ygrew d (nI p) 4 (nI (t + 1)) yinputs yops yfa yfb yfc yhas ymark yreach ysingle yexact yverdicts yseen yeffect (upd yfacts (w * 7 + 1) (nI (t + 1))) ywords ycells ysiteOf youts) : wY_runVersion_118 pst (nI w) (nI B) (nI (w * 8)) (nI (w * 40)) (nI (w * 7)) yroom (nI V) (nI G) (nI H) (nI n) ycursor ystate ygrew (d + 1) (nI p) 0 (nI t) yinputs yops yfa yfb yfc yhas ymark yreach ysingle yexact yverdicts yseen yeffect yfacts ywords ycells ysiteOf youts := by
  refine ry_go hw hn hp ht hB hf (by rw [hop]; decide) ?_
  rw [hop]
  obtain ⟨g1, g2, g3⟩ := ix_f (j := 2) hw (by omega)
  have g1 : nI (w * 7) + 2 = nI (w * 7 + 2) := g1
  have hg' : upd yfacts (w * 7 + 1) (nI (t + 1)) (w * 7 + 2) = nI c := by rw [pk_un (by omega)]; exact hc
  rw [ha]
  refine (br_f (by decide) (br_f (by decide) (br_f (by decide) (br_f (by decide) (br_f (by decide) (br_f (by decide) (br_f (by decide) (br_f (by decide) (br_f (by decide) (br_f (by decide) (br_t rfl ?_)))))))))))
  rw [g1, g3, hg']
  refine ⟨g2, br_f (nI_nlt (b := 32) hc32 (by omega)) (ry_795s (by decide) ?_)⟩
  rw [nI_1]; exact K
theorem ry_halt (hw : w < 2) (hn : n ≤ 32) (hp : n ≤ p) (hp2 : p ≤ 64) (ht : t ≤ 1000) (K : wY_runVersion_118 pst (nI w) (nI B) (nI (w * 8)) (nI (w * 40)) (nI (w * 7)) yroom (nI V) (nI G) (nI H) (nI n) ycursor ystate ygrew d (nI n) 1 (nI (t + 1)) yinputs yops yfa yfb yfc yhas ymark yreach ysingle yexact yverdicts yseen yeffect yfacts ywords ycells ysiteOf youts) : wY_runVersion_118 pst (nI w) (nI B) (nI (w * 8)) (nI (w * 40)) (nI (w * 7)) yroom (nI V) (nI G) (nI H) (nI n) ycursor ystate ygrew (d + 1) (nI p) 0 (nI t) yinputs yops yfa yfb yfc yhas ymark yreach ysingle yexact yverdicts yseen yeffect yfacts ywords ycells ysiteOf youts := by
  refine br_f (nI_nlt (b := t) (a := 1000) (by omega) (by omega)) (br_t rfl (br_f (nI_nlt hp (by omega)) (nm_e ?_)))
  rw [nI_1]; exact K
theorem ry_nost (hw : w < 2) (hn : n ≤ 32) (hp : p < n) (ht : t ≤ 1000) (hf : yfacts (w * 7 + 1) = nI B) (K : wY_runVersion_118 pst (nI w) (nI B) (nI (w * 8)) (nI (w * 40)) (nI (w * 7)) yroom (nI V) (nI G) (nI H) (nI n) ycursor ystate ygrew d (nI p) 5 (nI (t + 1)) yinputs yops yfa yfb yfc yhas ymark yreach ysingle yexact yverdicts yseen yeffect yfacts ywords ycells ysiteOf youts) : wY_runVersion_118 pst (nI w) (nI B) (nI (w * 8)) (nI (w * 40)) (nI (w * 7)) yroom (nI V) (nI G) (nI H) (nI n) ycursor ystate ygrew (d + 1) (nI p) 0 (nI t) yinputs yops yfa yfb yfc yhas ymark yreach ysingle yexact yverdicts yseen yeffect yfacts ywords ycells ysiteOf youts := by
  obtain ⟨f1, f2, f3⟩ := ix_f (j := 1) hw (by omega)
  have f1 : nI (w * 7) + 1 = nI (w * 7 + 1) := f1
  refine br_f (nI_nlt (b := t) (a := 1000) (by omega) (by omega)) (br_t rfl (br_t (nI_lt hp (by omega)) ?_))
  rw [f1, f3, hf]
  refine ⟨f2, br_t rfl (nm_e ?_)⟩
  rw [nI_1]; exact K
theorem ry_end {s : Int32} (hw : w < 2) (ht : t ≤ 1001) (hs : ¬ s = 0) (K : pst (yroom, nI V, nI G, nI H, nI n, ycursor, ystate, ygrew, yinputs, yops, yfa, yfb, yfc, yhas, ymark, yreach, ysingle, yexact, yverdicts, yseen, yeffect, upd (upd yfacts (w * 7) s) (w * 7 + 6) x6, ywords, ycells, ysiteOf, youts)) : wY_runVersion_118 pst (nI w) (nI B) (nI (w * 8)) (nI (w * 40)) (nI (w * 7)) yroom (nI V) (nI G) (nI H) (nI n) ycursor ystate ygrew (d + 1) x6 s (nI t) yinputs yops yfa yfb yfc yhas ymark yreach ysingle yexact yverdicts yseen yeffect yfacts ywords ycells ysiteOf youts := by
  obtain ⟨f1, f2, f3⟩ := ix_f (j := 6) hw (by omega)
  have f1 : nI (w * 7) + 6 = nI (w * 7 + 6) := f1
  have fin : wY_runVersion_810 pst (nI (w * 7)) x6 s yroom (nI V) (nI G) (nI H) (nI n) ycursor ystate ygrew yinputs yops yfa yfb yfc yhas ymark yreach ysingle yexact yverdicts yseen yeffect yfacts ywords ycells ysiteOf youts := by
    unfold wY_runVersion_810
    rw [f1, f3, nI_clamp (by omega)]
    exact ⟨vp_in_nI (by omega) (by omega), nm_e ⟨f2, nm_e K⟩⟩
  exact br_c (fun _ => fin) (fun _ => br_f hs fin)
end
end
section
/-! the run of one version: what both sides keep -/
def rn_I (G H w t m c : Nat) (rst ro rr wr rm hs fs so : Nat → Int32) (vs cs : Nat → Int64) : Prop :=
  rst w = nI t ∧ fs (w * 7 + 1) = nI t ∧ ro w = nI c ∧ fs (w * 7 + 2) = nI c ∧ c ≤ 32 ∧ fs (w * 7 + 3) = rr w ∧ fs (w * 7 + 4) = wr w ∧ rm w = nI m ∧ fs (w * 7 + 5) = nI m ∧ m ≤ H ∧
  (∀ v, v < 8 → rn_D (G + m) (vs (w * 8 + v))) ∧ (∀ k, k < 40 → rn_D (G + m) (cs (w * 40 + k))) ∧ (∀ k, G + m ≤ k → k < 40 → cs (w * 40 + k) = 0) ∧ (∀ j, j < m → so (w * 40 + (G + j)) = hs (w * 32 + j)) ∧ (∀ j, j < G → so (w * 40 + j) = nI j)
def rn_F (G H w : Nat) (rs rst ro rr wr rm rp hs fs so : Nat → Int32) : Prop :=
  fs (w * 7) = rs w ∧ fs (w * 7 + 1) = rst w ∧ (∃ c, c ≤ 32 ∧ ro w = nI c ∧ fs (w * 7 + 2) = nI c) ∧ fs (w * 7 + 3) = rr w ∧ fs (w * 7 + 4) = wr w ∧
  (∃ m, m ≤ H ∧ rm w = nI m ∧ fs (w * 7 + 5) = nI m ∧ ∀ j, j < m → so (w * 40 + (G + j)) = hs (w * 32 + j)) ∧ fs (w * 7 + 6) = rp w ∧ (∀ j, j < G → so (w * 40 + j) = nI j)
def rn_K (w : Nat) (rst ro rr wr rm rp hs fs so rst' ro' rr' wr' rm' rp' hs' fs' so' : Nat → Int32) : Prop :=
  (∀ j, ¬ j = w → rst' j = rst j ∧ ro' j = ro j ∧ rr' j = rr j ∧ wr' j = wr j ∧ rm' j = rm j ∧ rp' j = rp j) ∧ (∀ j, ¬ (w * 7 ≤ j ∧ j < w * 7 + 7) → fs' j = fs j) ∧ (∀ j, ¬ (w * 40 ≤ j ∧ j < w * 40 + 40) → so' j = so j) ∧ (∀ j, ¬ (w * 32 ≤ j ∧ j < w * 32 + 32) → hs' j = hs j)
section
variable {G H w t m c : Nat} {rs rst ro rr wr rm rp hs fs so rst' ro' rr' wr' rm' rp' hs' fs' so' rst'' ro'' rr'' wr'' rm'' rp'' hs'' fs'' so'' : Nat → Int32} {vs cs : Nat → Int64}
theorem rn_Kt (h : rn_K w rst ro rr wr rm rp hs fs so rst' ro' rr' wr' rm' rp' hs' fs' so') (g : rn_K w rst' ro' rr' wr' rm' rp' hs' fs' so' rst'' ro'' rr'' wr'' rm'' rp'' hs'' fs'' so'') : rn_K w rst ro rr wr rm rp hs fs so rst'' ro'' rr'' wr'' rm'' rp'' hs'' fs'' so'' := by
  obtain ⟨h1, h2, h3, h4⟩ := h
  obtain ⟨g1, g2, g3, g4⟩ := g
  refine ⟨fun j hj => ?_, fun j hj => (g2 j hj).trans (h2 j hj), fun j hj => (g3 j hj).trans (h3 j hj), fun j hj => (g4 j hj).trans (h4 j hj)⟩
  obtain ⟨a1, a2, a3, a4, a5, a6⟩ := h1 j hj
  obtain ⟨b1, b2, b3, b4, b5, b6⟩ := g1 j hj
  exact ⟨b1.trans a1, b2.trans a2, b3.trans a3, b4.trans a4, b5.trans a5, b6.trans a6⟩
theorem rn_Fk {u : Nat} {rs' : Nat → Int32} (hw : w < 2) (hu : u < 2) (hne : ¬ u = w) (hG : G ≤ 8) (hH : H ≤ 32) (hrs : rs' u = rs u) (h : rn_K w rst ro rr wr rm rp hs fs so rst' ro' rr' wr' rm' rp' hs' fs' so') (f : rn_F G H u rs rst ro rr wr rm rp hs fs so) : rn_F G H u rs' rst' ro' rr' wr' rm' rp' hs' fs' so' := by
  obtain ⟨h1, h2, h3, h4⟩ := h
  obtain ⟨f1, f2, ⟨c, c1, c2, c3⟩, f4, f5, ⟨m, m1, m2, m3, m4⟩, f7, f8⟩ := f
  obtain ⟨a1, a2, a3, a4, a5, a6⟩ := h1 u hne
  have fe : ∀ j, j < 7 → fs' (u * 7 + j) = fs (u * 7 + j) := fun j hj => h2 _ (by omega)
  refine ⟨?_, ?_, ⟨c, c1, by rw [a2]; exact c2, by rw [fe 2 (by omega)]; exact c3⟩, ?_, ?_, ⟨m, m1, by rw [a5]; exact m2, by rw [fe 5 (by omega)]; exact m3, fun j hj => ?_⟩, ?_, fun j hj => ?_⟩
  · have := fe 0 (by omega)
    rw [Nat.add_zero] at this
    rw [this, hrs]; exact f1
  · rw [fe 1 (by omega), a1]; exact f2
  · rw [fe 3 (by omega), a3]; exact f4
  · rw [fe 4 (by omega), a4]; exact f5
  · rw [h3 _ (by omega), h4 _ (by omega)]; exact m4 j hj
  · rw [fe 6 (by omega), a6]; exact f7
  · rw [h3 _ (by omega)]; exact f8 j hj
theorem rn_If {s : Int32} {q : Nat} (h : rn_I G H w t m c rst ro rr wr rm hs fs so vs cs) (hp : rp w = nI q) : rn_F G H w (upd rs w s) rst ro rr wr rm rp hs (upd (upd fs (w * 7) s) (w * 7 + 6) (nI q)) so := by
  obtain ⟨i1, i2, i3, i4, i5, i6, i7, i8, i9, i10, i11, i12, i13, i14, i15⟩ := h
  have fe : ∀ j, 0 < j → j < 6 → upd (upd fs (w * 7) s) (w * 7 + 6) (nI q) (w * 7 + j) = fs (w * 7 + j) := fun j h0 hj => by rw [pk_un (by omega), pk_un (by omega)]
  refine ⟨?_, ?_, ⟨c, i5, i3, by rw [fe 2 (by omega) (by omega)]; exact i4⟩, ?_, ?_, ⟨m, i10, i8, by rw [fe 5 (by omega) (by omega)]; exact i9, i14⟩, ?_, i15⟩
  · rw [pk_un (by omega), pk_us, pk_us]
  · rw [fe 1 (by omega) (by omega), i2, i1]
  · rw [fe 3 (by omega) (by omega)]; exact i6
  · rw [fe 4 (by omega) (by omega)]; exact i7
  · rw [pk_us, hp]
theorem rn_Ks {s x : Int32} : rn_K w rst ro rr wr rm rp hs fs so rst ro rr wr rm rp hs (upd (upd fs (w * 7) s) (w * 7 + 6) x) so :=
  ⟨fun j hj => ⟨rfl, rfl, rfl, rfl, rfl, rfl⟩, fun j hj => by rw [pk_un (by omega), pk_un (by omega)], fun j _ => rfl, fun j _ => rfl⟩
theorem rn_s1 (h : rn_I G H w t m c rst ro rr wr rm hs fs so vs cs) : rn_I G H w (t + 1) m c (upd rst w (nI (t + 1))) ro rr wr rm hs (upd fs (w * 7 + 1) (nI (t + 1))) so vs cs := by
  obtain ⟨i1, i2, i3, i4, i5, i6, i7, i8, i9, i10, i11, i12, i13, i14, i15⟩ := h
  have fe : ∀ j, 1 < j → j < 7 → upd fs (w * 7 + 1) (nI (t + 1)) (w * 7 + j) = fs (w * 7 + j) := fun j h0 hj => by rw [pk_un (by omega)]
  exact ⟨pk_us, pk_us, i3, by rw [fe 2 (by omega) (by omega)]; exact i4, i5, by rw [fe 3 (by omega) (by omega)]; exact i6, by rw [fe 4 (by omega) (by omega)]; exact i7, i8, by rw [fe 5 (by omega) (by omega)]; exact i9, i10, i11, i12, i13, i14, i15⟩
theorem rn_Kp {x y z : Int32} : rn_K w rst ro rr wr rm rp hs fs so (upd rst w x) ro rr wr rm (upd rp w y) hs (upd fs (w * 7 + 1) z) so :=
  ⟨fun j hj => ⟨pk_un hj, rfl, rfl, rfl, rfl, pk_un hj⟩, fun j hj => pk_un (by omega), fun j _ => rfl, fun j _ => rfl⟩
theorem rn_Kb {x z : Int32} : rn_K w rst ro rr wr rm rp hs fs so (upd rst w x) ro rr wr rm rp hs (upd fs (w * 7 + 1) z) so :=
  ⟨fun j hj => ⟨pk_un hj, rfl, rfl, rfl, rfl, rfl⟩, fun j hj => pk_un (by omega), fun j _ => rfl, fun j _ => rfl⟩
theorem rn_Kh {y : Int32} : rn_K w rst ro rr wr rm rp hs fs so rst ro rr wr rm (upd rp w y) hs fs so :=
  ⟨fun j hj => ⟨rfl, rfl, rfl, rfl, rfl, pk_un hj⟩, fun j hj => rfl, fun j _ => rfl, fun j _ => rfl⟩
theorem rn_v {a : Nat} {x : Int64} (hw : w < 2) (hx : rn_D (G + m) x) (h : rn_I G H w t m c rst ro rr wr rm hs fs so vs cs) : rn_I G H w t m c rst ro rr wr rm hs fs so (vp_updL vs (w * 8 + a) x) cs := by
  obtain ⟨i1, i2, i3, i4, i5, i6, i7, i8, i9, i10, i11, i12, i13, i14, i15⟩ := h
  refine ⟨i1, i2, i3, i4, i5, i6, i7, i8, i9, i10, fun v hv => ?_, i12, i13, i14, i15⟩
  by_cases e : w * 8 + v = w * 8 + a
  · rw [e, pk_uLs]; exact hx
  · rw [pk_uLn e]; exact i11 v hv
theorem rn_new {a p : Nat} (hw : w < 2) (hG : G ≤ 8) (hH : H ≤ 32) (hm : m < H) (h : rn_I G H w t m c rst ro rr wr rm hs fs so vs cs) : rn_I G H w t (m + 1) c rst ro rr wr (upd rm w (nI (m + 1))) (upd hs (w * 32 + m) (nI (G + p))) (upd fs (w * 7 + 5) (nI (m + 1))) (upd so (w * 40 + (G + m)) (nI (G + p))) (vp_updL vs (w * 8 + a) (4294967296 + (nI (G + m)).toInt64)) cs := by
  obtain ⟨i1, i2, i3, i4, i5, i6, i7, i8, i9, i10, i11, i12, i13, i14, i15⟩ := h
  have fe : ∀ j, j < 5 → upd fs (w * 7 + 5) (nI (m + 1)) (w * 7 + j) = fs (w * 7 + j) := fun j hj => by rw [pk_un (by omega)]
  refine ⟨i1, by rw [fe 1 (by omega)]; exact i2, i3, by rw [fe 2 (by omega)]; exact i4, i5, by rw [fe 3 (by omega)]; exact i6, by rw [fe 4 (by omega)]; exact i7, pk_us, pk_us, by omega, fun v hv => ?_, fun k hk => rn_Dm (by omega) (i12 k hk), fun k h1 h2 => i13 k (by omega) h2, fun j hj => ?_, fun j hj => ?_⟩
  · by_cases e : w * 8 + v = w * 8 + a
    · rw [e, pk_uLs]; exact Or.inr ⟨G + m, by omega, rfl⟩
    · rw [pk_uLn e]; exact rn_Dm (by omega) (i11 v hv)
  · by_cases e : j = m
    · subst e; rw [pk_us, pk_us]
    · rw [pk_un (by omega), pk_un (by omega)]; exact i14 j (by omega)
  · rw [pk_un (by omega)]; exact i15 j hj
theorem rn_Kn {x y z u s p : Int32} (hw : w < 2) (hG : G ≤ 8) (hH : H ≤ 32) (hm : m < H) : rn_K w rst ro rr wr rm rp hs fs so (upd rst w x) ro rr wr (upd rm w u) (upd rp w y) (upd hs (w * 32 + m) s) (upd (upd fs (w * 7 + 1) z) (w * 7 + 5) u) (upd so (w * 40 + (G + m)) p) :=
  ⟨fun j hj => ⟨pk_un hj, rfl, rfl, rfl, pk_un hj, pk_un hj⟩, fun j hj => by rw [pk_un (by omega), pk_un (by omega)], fun j hj => pk_un (by omega), fun j hj => pk_un (by omega)⟩
theorem rn_ld (h : rn_I G H w t m c rst ro rr wr rm hs fs so vs cs) : rn_I G H w t m c rst ro (upd rr w (rr w + 1)) wr rm hs (upd fs (w * 7 + 3) (fs (w * 7 + 3) + 1)) so vs cs := by
  obtain ⟨i1, i2, i3, i4, i5, i6, i7, i8, i9, i10, i11, i12, i13, i14, i15⟩ := h
  have fe : ∀ j, ¬ j = 3 → upd fs (w * 7 + 3) (fs (w * 7 + 3) + 1) (w * 7 + j) = fs (w * 7 + j) := fun j hj => by rw [pk_un (by omega)]
  exact ⟨i1, by rw [fe 1 (by omega)]; exact i2, i3, by rw [fe 2 (by omega)]; exact i4, i5, by rw [pk_us, pk_us, i6], by rw [fe 4 (by omega)]; exact i7, i8, by rw [fe 5 (by omega)]; exact i9, i10, i11, i12, i13, i14, i15⟩
theorem rn_Kl {x y z u s : Int32} : rn_K w rst ro rr wr rm rp hs fs so (upd rst w x) ro (upd rr w u) wr rm (upd rp w y) hs (upd (upd fs (w * 7 + 1) z) (w * 7 + 3) s) so :=
  ⟨fun j hj => ⟨pk_un hj, rfl, pk_un hj, rfl, rfl, pk_un hj⟩, fun j hj => by rw [pk_un (by omega), pk_un (by omega)], fun j hj => rfl, fun j hj => rfl⟩
theorem rn_st {k : Nat} {x : Int64} (hk : k < G + m) (hx : rn_D (G + m) x) (h : rn_I G H w t m c rst ro rr wr rm hs fs so vs cs) : rn_I G H w t m c rst ro rr (upd wr w (wr w + 1)) rm hs (upd fs (w * 7 + 4) (fs (w * 7 + 4) + 1)) so vs (vp_updL cs (w * 40 + k) x) := by
  obtain ⟨i1, i2, i3, i4, i5, i6, i7, i8, i9, i10, i11, i12, i13, i14, i15⟩ := h
  have fe : ∀ j, ¬ j = 4 → upd fs (w * 7 + 4) (fs (w * 7 + 4) + 1) (w * 7 + j) = fs (w * 7 + j) := fun j hj => by rw [pk_un (by omega)]
  refine ⟨i1, by rw [fe 1 (by omega)]; exact i2, i3, by rw [fe 2 (by omega)]; exact i4, i5, by rw [fe 3 (by omega)]; exact i6, by rw [pk_us, pk_us, i7], i8, by rw [fe 5 (by omega)]; exact i9, i10, i11, fun j hj => ?_, fun j h1 h2 => ?_, i14, i15⟩
  · by_cases e : w * 40 + j = w * 40 + k
    · rw [e, pk_uLs]; exact hx
    · rw [pk_uLn e]; exact i12 j hj
  · rw [pk_uLn (by omega)]; exact i13 j h1 h2
theorem rn_Kw {x y z u s : Int32} : rn_K w rst ro rr wr rm rp hs fs so (upd rst w x) ro rr (upd wr w u) rm (upd rp w y) hs (upd (upd fs (w * 7 + 1) z) (w * 7 + 4) s) so :=
  ⟨fun j hj => ⟨pk_un hj, rfl, rfl, pk_un hj, rfl, pk_un hj⟩, fun j hj => by rw [pk_un (by omega), pk_un (by omega)], fun j hj => rfl, fun j hj => rfl⟩
theorem rn_pr (hc : c < 32) (h : rn_I G H w t m c rst ro rr wr rm hs fs so vs cs) : rn_I G H w t m (c + 1) rst (upd ro w (nI (c + 1))) rr wr rm hs (upd fs (w * 7 + 2) (nI (c + 1))) so vs cs := by
  obtain ⟨i1, i2, i3, i4, i5, i6, i7, i8, i9, i10, i11, i12, i13, i14, i15⟩ := h
  have fe : ∀ j, ¬ j = 2 → upd fs (w * 7 + 2) (nI (c + 1)) (w * 7 + j) = fs (w * 7 + j) := fun j hj => by rw [pk_un (by omega)]
  exact ⟨i1, by rw [fe 1 (by omega)]; exact i2, pk_us, pk_us, by omega, by rw [fe 3 (by omega)]; exact i6, by rw [fe 4 (by omega)]; exact i7, i8, by rw [fe 5 (by omega)]; exact i9, i10, i11, i12, i13, i14, i15⟩
theorem rn_Kc {x y z u : Int32} : rn_K w rst ro rr wr rm rp hs fs so (upd rst w x) (upd ro w u) rr wr rm (upd rp w y) hs (upd (upd fs (w * 7 + 1) z) (w * 7 + 2) u) so :=
  ⟨fun j hj => ⟨pk_un hj, pk_un hj, rfl, rfl, rfl, pk_un hj⟩, fun j hj => by rw [pk_un (by omega), pk_un (by omega)], fun j hj => rfl, fun j hj => rfl⟩
theorem rn_same {a : Nat → Int64} {k : Nat} (h : a k = 0) : vp_updL a k 0 = a := by
  funext j
  by_cases e : j = k
  · subst e; rw [pk_uLs, h]
  · rw [pk_uLn e]
end
end
section
/-! the outcome of a run from the head of turn t: one for both sides -/
section
variable {xmaxLength : Int32} {xvariableCount : Int32} {xglobalCount : Int32} {xheapLimit : Int32} {xlength : Int32} {xcursor : Int32} {xstate : Int32} {xpending : Int64} {xreachable : Int64} {xsingleSites : Int64} {xexactVars : Int32} {ximproved : Int32} {xopAt : (Nat → Int32)} {xaAt : (Nat → Int32)} {xbAt : (Nat → Int32)} {xcAt : (Nat → Int32)} {xinputs : (Nat → Int32)} {xrep : (Nat → Int32)} {xpts : (Nat → Int64)} {xdone : (Nat → Int64)} {xflowsTo : (Nat → Int64)} {xtried : (Nat → Int64)} {xloads : (Nat → Int32)} {xstores : (Nat → Int32)} {xnext : (Nat → Int64)} {xprev : (Nat → Int64)} {xafter : (Nat → Int64)} {xvarSet : (Nat → Int64)} {xgen : (Nat → Int64)} {xkill : (Nat → Int64)} {xholdsIn : (Nat → Int64)} {xreads : (Nat → Int32)} {xcovers : (Nat → Int32)} {xneedIn : (Nat → Int32)} {xneedAfter : (Nat → Int32)} {xverdicts : (Nat → Int32)} {xrunStatus : (Nat → Int32)} {xrunSteps : (Nat → Int32)} {xrunOutputs : (Nat → Int32)} {xrunReads : (Nat → Int32)} {xrunWrites : (Nat → Int32)} {xrunMade : (Nat → Int32)} {xrunPlace : (Nat → Int32)} {xvars : (Nat → Int64)} {xcells : (Nat → Int64)} {xheapSite : (Nat → Int32)} {xoutputs : (Nat → Int64)}
variable {yroom : Int32} {yvars : Int32} {yglobals : Int32} {yheap : Int32} {ylength : Int32} {ycursor : Int32} {ystate : Int32} {ygrew : Int32} {yinputs : (Nat → Int32)} {yops : (Nat → Int32)} {yfa : (Nat → Int32)} {yfb : (Nat → Int32)} {yfc : (Nat → Int32)} {yhas : (Nat → Int32)} {ymark : (Nat → Int32)} {yreach : (Nat → Int32)} {ysingle : (Nat → Int32)} {yexact : (Nat → Int32)} {yverdicts : (Nat → Int32)} {yseen : (Nat → Int32)} {yeffect : (Nat → Int32)} {yfacts : (Nat → Int32)} {ywords : (Nat → Int64)} {ycells : (Nat → Int64)} {ysiteOf : (Nat → Int32)} {youts : (Nat → Int64)}
variable {R V G H n w B d t p m c : Nat} {rst ro rr wr rm rp hs fs so : Nat → Int32} {vs cs os : Nat → Int64}


theorem rn_exs {post : SX → Prop} {s : Int32} {k : Nat} (hw : w < 2) (hs : ¬ s = 0) (K : post (xmaxLength, nI V, nI G, nI H, nI n, xcursor, xstate, xpending, xreachable, xsingleSites, xexactVars, ximproved, xopAt, xaAt, xbAt, xcAt, xinputs, xrep, xpts, xdone, xflowsTo, xtried, xloads, xstores, xnext, xprev, xafter, xvarSet, xgen, xkill, xholdsIn, xreads, xcovers, xneedIn, xneedAfter, xverdicts, upd xrunStatus w s, xrunSteps, xrunOutputs, xrunReads, xrunWrites, xrunMade, xrunPlace, xvars, xcells, xheapSite, xoutputs)) : wX_execute_10 post (nI w) (nI B) (d + 1) s (nI k) xmaxLength (nI V) (nI G) (nI H) (nI n) xcursor xstate xpending xreachable xsingleSites xexactVars ximproved xopAt xaAt xbAt xcAt xinputs xrep xpts xdone xflowsTo xtried xloads xstores xnext xprev xafter xvarSet xgen xkill xholdsIn xreads xcovers xneedIn xneedAfter xverdicts xrunStatus xrunSteps xrunOutputs xrunReads xrunWrites xrunMade xrunPlace xvars xcells xheapSite xoutputs := by
  obtain ⟨w1, w2⟩ := ix_2 hw
  exact br_c (fun _ => ⟨w1, nm_r (e' := upd xrunStatus w s) (by rw [w2]) K⟩) (fun _ => br_f hs ⟨w1, nm_r (e' := upd xrunStatus w s) (by rw [w2]) K⟩)
theorem rn_exg {post : SX → Prop} (ht : t ≤ B) (hB : B ≤ 1000) (K : wpX_step (fun r u => match u with | (xmaxLength, v0, g0, h0, l0, xcursor, xstate, xpending, xreachable, xsingleSites, xexactVars, ximproved, xopAt, xaAt, xbAt, xcAt, xinputs, xrep, xpts, xdone, xflowsTo, xtried, xloads, xstores, xnext, xprev, xafter, xvarSet, xgen, xkill, xholdsIn, xreads, xcovers, xneedIn, xneedAfter, xverdicts, xrunStatus, xrunSteps, xrunOutputs, xrunReads, xrunWrites, xrunMade, xrunPlace, xvars, xcells, xheapSite, xoutputs) => ∀ y, y = nI t + 1 → wX_execute_10 post (nI w) (nI B) d r y xmaxLength v0 g0 h0 l0 xcursor xstate xpending xreachable xsingleSites xexactVars ximproved xopAt xaAt xbAt xcAt xinputs xrep xpts xdone xflowsTo xtried xloads xstores xnext xprev xafter xvarSet xgen xkill xholdsIn xreads xcovers xneedIn xneedAfter xverdicts xrunStatus xrunSteps xrunOutputs xrunReads xrunWrites xrunMade xrunPlace xvars xcells xheapSite xoutputs) (xmaxLength, nI V, nI G, nI H, nI n, xcursor, xstate, xpending, xreachable, xsingleSites, xexactVars, ximproved, xopAt, xaAt, xbAt, xcAt, xinputs, xrep, xpts, xdone, xflowsTo, xtried, xloads, xstores, xnext, xprev, xafter, xvarSet, xgen, xkill, xholdsIn, xreads, xcovers, xneedIn, xneedAfter, xverdicts, xrunStatus, xrunSteps, xrunOutputs, xrunReads, xrunWrites, xrunMade, xrunPlace, xvars, xcells, xheapSite, xoutputs) (nI w) (nI B)) : wX_execute_10 post (nI w) (nI B) (d + 1) 0 (nI t) xmaxLength (nI V) (nI G) (nI H) (nI n) xcursor xstate xpending xreachable xsingleSites xexactVars ximproved xopAt xaAt xbAt xcAt xinputs xrep xpts xdone xflowsTo xtried xloads xstores xnext xprev xafter xvarSet xgen xkill xholdsIn xreads xcovers xneedIn xneedAfter xverdicts xrunStatus xrunSteps xrunOutputs xrunReads xrunWrites xrunMade xrunPlace xvars xcells xheapSite xoutputs :=
  br_f (nI_nlt (b := t) (a := B) ht (by omega)) (br_t rfl K)
theorem rn_stop {t1 q : Nat} {s : Int32} {rst1 rp1 fs1 : Nat → Int32} (hw : w < 2) (ht : t ≤ B) (hB : B ≤ 1000) (hs0 : ¬ s = 0) (hI : rn_I G H w t1 m c rst1 ro rr wr rm hs fs1 so vs cs) (hpl : rp1 w = nI q) (hK : rn_K w rst ro rr wr rm rp hs fs so rst1 ro rr wr rm rp1 hs fs1 so)
    (hX : ∀ post : Int32 → SX → Prop, post s (xmaxLength, nI V, nI G, nI H, nI n, xcursor, xstate, xpending, xreachable, xsingleSites, xexactVars, ximproved, xopAt, xaAt, xbAt, xcAt, xinputs, xrep, xpts, xdone, xflowsTo, xtried, xloads, xstores, xnext, xprev, xafter, xvarSet, xgen, xkill, xholdsIn, xreads, xcovers, xneedIn, xneedAfter, xverdicts, xrunStatus, rst1, ro, rr, wr, rm, rp1, vs, cs, hs, os) → wpX_step post (xmaxLength, nI V, nI G, nI H, nI n, xcursor, xstate, xpending, xreachable, xsingleSites, xexactVars, ximproved, xopAt, xaAt, xbAt, xcAt, xinputs, xrep, xpts, xdone, xflowsTo, xtried, xloads, xstores, xnext, xprev, xafter, xvarSet, xgen, xkill, xholdsIn, xreads, xcovers, xneedIn, xneedAfter, xverdicts, xrunStatus, rst, ro, rr, wr, rm, rp, vs, cs, hs, os) (nI w) (nI B))
    (hY : ∀ pst : SY → Prop, wY_runVersion_118 pst (nI w) (nI B) (nI (w * 8)) (nI (w * 40)) (nI (w * 7)) yroom (nI V) (nI G) (nI H) (nI n) ycursor ystate ygrew (d + 1) (nI q) s (nI (t + 1)) xinputs xopAt xaAt xbAt xcAt yhas ymark yreach ysingle yexact yverdicts yseen yeffect fs1 vs cs so os → wY_runVersion_118 pst (nI w) (nI B) (nI (w * 8)) (nI (w * 40)) (nI (w * 7)) yroom (nI V) (nI G) (nI H) (nI n) ycursor ystate ygrew (d + 2) (nI p) 0 (nI t) xinputs xopAt xaAt xbAt xcAt yhas ymark yreach ysingle yexact yverdicts yseen yeffect fs vs cs so os) : (∀ C : Prop, (∀ (s : Int32) (rst' ro' rr' wr' rm' rp' hs' fs' so' : Nat → Int32) (vs' cs' os' : Nat → Int64), rn_F G H w (upd xrunStatus w s) rst' ro' rr' wr' rm' rp' hs' fs' so' → rn_K w rst ro rr wr rm rp hs fs so rst' ro' rr' wr' rm' rp' hs' fs' so' → (∀ post : SX → Prop, post (xmaxLength, nI V, nI G, nI H, nI n, xcursor, xstate, xpending, xreachable, xsingleSites, xexactVars, ximproved, xopAt, xaAt, xbAt, xcAt, xinputs, xrep, xpts, xdone, xflowsTo, xtried, xloads, xstores, xnext, xprev, xafter, xvarSet, xgen, xkill, xholdsIn, xreads, xcovers, xneedIn, xneedAfter, xverdicts, upd xrunStatus w s, rst', ro', rr', wr', rm', rp', vs', cs', hs', os') → wX_execute_10 post (nI w) (nI B) (d + 2) 0 (nI t) xmaxLength (nI V) (nI G) (nI H) (nI n) xcursor xstate xpending xreachable xsingleSites xexactVars ximproved xopAt xaAt xbAt xcAt xinputs xrep xpts xdone xflowsTo xtried xloads xstores xnext xprev xafter xvarSet xgen xkill xholdsIn xreads xcovers xneedIn xneedAfter xverdicts xrunStatus rst ro rr wr rm rp vs cs hs os) → (∀ pst : SY → Prop, pst (yroom, nI V, nI G, nI H, nI n, ycursor, ystate, ygrew, xinputs, xopAt, xaAt, xbAt, xcAt, yhas, ymark, yreach, ysingle, yexact, yverdicts, yseen, yeffect, fs', vs', cs', so', os') → wY_runVersion_118 pst (nI w) (nI B) (nI (w * 8)) (nI (w * 40)) (nI (w * 7)) yroom (nI V) (nI G) (nI H) (nI n) ycursor ystate ygrew (d + 2) (nI p) 0 (nI t) xinputs xopAt xaAt xbAt xcAt yhas ymark yreach ysingle yexact yverdicts yseen yeffect fs vs cs so os) → C) → C) := by
  intro C K
  refine K s rst1 ro rr wr rm rp1 hs _ so vs cs os (rn_If (s := s) (q := q) hI hpl) (rn_Kt hK rn_Ks) (fun post hpost => ?_) (fun pst hpst => ?_)
  · refine rn_exg ht hB (hX _ (nm_r (nI_1 t) ?_))
    exact rn_exs hw hs0 hpost
  · exact hY pst (ry_end hw (by omega) hs0 hpst)
theorem rn_cont {q : Nat} {rst1 ro1 rr1 wr1 rm1 rp1 hs1 fs1 so1 : Nat → Int32} {vs1 cs1 os1 : Nat → Int64} (ht : t < B) (hB : B ≤ 1000)
    (ih : ∀ C : Prop, (∀ (s : Int32) (rst' ro' rr' wr' rm' rp' hs' fs' so' : Nat → Int32) (vs' cs' os' : Nat → Int64), rn_F G H w (upd xrunStatus w s) rst' ro' rr' wr' rm' rp' hs' fs' so' → rn_K w rst1 ro1 rr1 wr1 rm1 rp1 hs1 fs1 so1 rst' ro' rr' wr' rm' rp' hs' fs' so' → (∀ post : SX → Prop, post (xmaxLength, nI V, nI G, nI H, nI n, xcursor, xstate, xpending, xreachable, xsingleSites, xexactVars, ximproved, xopAt, xaAt, xbAt, xcAt, xinputs, xrep, xpts, xdone, xflowsTo, xtried, xloads, xstores, xnext, xprev, xafter, xvarSet, xgen, xkill, xholdsIn, xreads, xcovers, xneedIn, xneedAfter, xverdicts, upd xrunStatus w s, rst', ro', rr', wr', rm', rp', vs', cs', hs', os') → wX_execute_10 post (nI w) (nI B) (d + 1) 0 (nI (t + 1)) xmaxLength (nI V) (nI G) (nI H) (nI n) xcursor xstate xpending xreachable xsingleSites xexactVars ximproved xopAt xaAt xbAt xcAt xinputs xrep xpts xdone xflowsTo xtried xloads xstores xnext xprev xafter xvarSet xgen xkill xholdsIn xreads xcovers xneedIn xneedAfter xverdicts xrunStatus rst1 ro1 rr1 wr1 rm1 rp1 vs1 cs1 hs1 os1) → (∀ pst : SY → Prop, pst (yroom, nI V, nI G, nI H, nI n, ycursor, ystate, ygrew, xinputs, xopAt, xaAt, xbAt, xcAt, yhas, ymark, yreach, ysingle, yexact, yverdicts, yseen, yeffect, fs', vs', cs', so', os') → wY_runVersion_118 pst (nI w) (nI B) (nI (w * 8)) (nI (w * 40)) (nI (w * 7)) yroom (nI V) (nI G) (nI H) (nI n) ycursor ystate ygrew (d + 1) (nI q) 0 (nI (t + 1)) xinputs xopAt xaAt xbAt xcAt yhas ymark yreach ysingle yexact yverdicts yseen yeffect fs1 vs1 cs1 so1 os1) → C) → C)
    (hK : rn_K w rst ro rr wr rm rp hs fs so rst1 ro1 rr1 wr1 rm1 rp1 hs1 fs1 so1)
    (hX : ∀ post : Int32 → SX → Prop, post 0 (xmaxLength, nI V, nI G, nI H, nI n, xcursor, xstate, xpending, xreachable, xsingleSites, xexactVars, ximproved, xopAt, xaAt, xbAt, xcAt, xinputs, xrep, xpts, xdone, xflowsTo, xtried, xloads, xstores, xnext, xprev, xafter, xvarSet, xgen, xkill, xholdsIn, xreads, xcovers, xneedIn, xneedAfter, xverdicts, xrunStatus, rst1, ro1, rr1, wr1, rm1, rp1, vs1, cs1, hs1, os1) → wpX_step post (xmaxLength, nI V, nI G, nI H, nI n, xcursor, xstate, xpending, xreachable, xsingleSites, xexactVars, ximproved, xopAt, xaAt, xbAt, xcAt, xinputs, xrep, xpts, xdone, xflowsTo, xtried, xloads, xstores, xnext, xprev, xafter, xvarSet, xgen, xkill, xholdsIn, xreads, xcovers, xneedIn, xneedAfter, xverdicts, xrunStatus, rst, ro, rr, wr, rm, rp, vs, cs, hs, os) (nI w) (nI B))
    (hY : ∀ pst : SY → Prop, wY_runVersion_118 pst (nI w) (nI B) (nI (w * 8)) (nI (w * 40)) (nI (w * 7)) yroom (nI V) (nI G) (nI H) (nI n) ycursor ystate ygrew (d + 1) (nI q) 0 (nI (t + 1)) xinputs xopAt xaAt xbAt xcAt yhas ymark yreach ysingle yexact yverdicts yseen yeffect fs1 vs1 cs1 so1 os1 → wY_runVersion_118 pst (nI w) (nI B) (nI (w * 8)) (nI (w * 40)) (nI (w * 7)) yroom (nI V) (nI G) (nI H) (nI n) ycursor ystate ygrew (d + 2) (nI p) 0 (nI t) xinputs xopAt xaAt xbAt xcAt yhas ymark yreach ysingle yexact yverdicts yseen yeffect fs vs cs so os) : (∀ C : Prop, (∀ (s : Int32) (rst' ro' rr' wr' rm' rp' hs' fs' so' : Nat → Int32) (vs' cs' os' : Nat → Int64), rn_F G H w (upd xrunStatus w s) rst' ro' rr' wr' rm' rp' hs' fs' so' → rn_K w rst ro rr wr rm rp hs fs so rst' ro' rr' wr' rm' rp' hs' fs' so' → (∀ post : SX → Prop, post (xmaxLength, nI V, nI G, nI H, nI n, xcursor, xstate, xpending, xreachable, xsingleSites, xexactVars, ximproved, xopAt, xaAt, xbAt, xcAt, xinputs, xrep, xpts, xdone, xflowsTo, xtried, xloads, xstores, xnext, xprev, xafter, xvarSet, xgen, xkill, xholdsIn, xreads, xcovers, xneedIn, xneedAfter, xverdicts, upd xrunStatus w s, rst', ro', rr', wr', rm', rp', vs', cs', hs', os') → wX_execute_10 post (nI w) (nI B) (d + 2) 0 (nI t) xmaxLength (nI V) (nI G) (nI H) (nI n) xcursor xstate xpending xreachable xsingleSites xexactVars ximproved xopAt xaAt xbAt xcAt xinputs xrep xpts xdone xflowsTo xtried xloads xstores xnext xprev xafter xvarSet xgen xkill xholdsIn xreads xcovers xneedIn xneedAfter xverdicts xrunStatus rst ro rr wr rm rp vs cs hs os) → (∀ pst : SY → Prop, pst (yroom, nI V, nI G, nI H, nI n, ycursor, ystate, ygrew, xinputs, xopAt, xaAt, xbAt, xcAt, yhas, ymark, yreach, ysingle, yexact, yverdicts, yseen, yeffect, fs', vs', cs', so', os') → wY_runVersion_118 pst (nI w) (nI B) (nI (w * 8)) (nI (w * 40)) (nI (w * 7)) yroom (nI V) (nI G) (nI H) (nI n) ycursor ystate ygrew (d + 2) (nI p) 0 (nI t) xinputs xopAt xaAt xbAt xcAt yhas ymark yreach ysingle yexact yverdicts yseen yeffect fs vs cs so os) → C) → C) := by
  intro C K
  refine ih C (fun s rst' ro' rr' wr' rm' rp' hs' fs' so' vs' cs' os' hF hK' hX' hY' => K s rst' ro' rr' wr' rm' rp' hs' fs' so' vs' cs' os' hF (rn_Kt hK hK') (fun post hpost => ?_) (fun pst hpst => ?_))
  · exact rn_exg (by omega) hB (hX _ (nm_r (nI_1 t) (hX' post hpost)))
  · exact hY pst (hY' pst hpst)
end
end
section

section
variable {xmaxLength : Int32} {xvariableCount : Int32} {xglobalCount : Int32} {xheapLimit : Int32} {xlength : Int32} {xcursor : Int32} {xstate : Int32} {xpending : Int64} {xreachable : Int64} {xsingleSites : Int64} {xexactVars : Int32} {ximproved : Int32} {xopAt : (Nat → Int32)} {xaAt : (Nat → Int32)} {xbAt : (Nat → Int32)} {xcAt : (Nat → Int32)} {xinputs : (Nat → Int32)} {xrep : (Nat → Int32)} {xpts : (Nat → Int64)} {xdone : (Nat → Int64)} {xflowsTo : (Nat → Int64)} {xtried : (Nat → Int64)} {xloads : (Nat → Int32)} {xstores : (Nat → Int32)} {xnext : (Nat → Int64)} {xprev : (Nat → Int64)} {xafter : (Nat → Int64)} {xvarSet : (Nat → Int64)} {xgen : (Nat → Int64)} {xkill : (Nat → Int64)} {xholdsIn : (Nat → Int64)} {xreads : (Nat → Int32)} {xcovers : (Nat → Int32)} {xneedIn : (Nat → Int32)} {xneedAfter : (Nat → Int32)} {xverdicts : (Nat → Int32)} {xrunStatus : (Nat → Int32)} {xrunSteps : (Nat → Int32)} {xrunOutputs : (Nat → Int32)} {xrunReads : (Nat → Int32)} {xrunWrites : (Nat → Int32)} {xrunMade : (Nat → Int32)} {xrunPlace : (Nat → Int32)} {xvars : (Nat → Int64)} {xcells : (Nat → Int64)} {xheapSite : (Nat → Int32)} {xoutputs : (Nat → Int64)}
variable {yroom : Int32} {yvars : Int32} {yglobals : Int32} {yheap : Int32} {ylength : Int32} {ycursor : Int32} {ystate : Int32} {ygrew : Int32} {yinputs : (Nat → Int32)} {yops : (Nat → Int32)} {yfa : (Nat → Int32)} {yfb : (Nat → Int32)} {yfc : (Nat → Int32)} {yhas : (Nat → Int32)} {ymark : (Nat → Int32)} {yreach : (Nat → Int32)} {ysingle : (Nat → Int32)} {yexact : (Nat → Int32)} {yverdicts : (Nat → Int32)} {yseen : (Nat → Int32)} {yeffect : (Nat → Int32)} {yfacts : (Nat → Int32)} {ywords : (Nat → Int64)} {ycells : (Nat → Int64)} {ysiteOf : (Nat → Int32)} {youts : (Nat → Int64)}
variable {R V G H n w B : Nat}


theorem rn_Kid {rst ro rr wr rm rp hs fs so : Nat → Int32} : rn_K w rst ro rr wr rm rp hs fs so rst ro rr wr rm rp hs fs so :=
  ⟨fun j hj => ⟨rfl, rfl, rfl, rfl, rfl, rfl⟩, fun j hj => rfl, fun j _ => rfl, fun j _ => rfl⟩
theorem rn_lock (hw : w < 2) (hn : n ≤ 32) (hR : R ≤ 32) (hV : V ≤ 8) (hG : G ≤ 8) (hH : H ≤ 32) (hB : B ≤ 1000) (hp : pg_ok R V G n xopAt xaAt xbAt xcAt) (hv : ∀ i, i < n → yverdicts i = xverdicts i ∧ (xverdicts i = 0 ∨ xverdicts i = 1 ∨ ∃ x, x < V ∧ xverdicts i = nI (16 + x))) : ∀ (d t p m c : Nat) (rst ro rr wr rm rp hs fs so : Nat → Int32) (vs cs os : Nat → Int64), t + d = B → p ≤ 32 → rp w = nI p → rn_I G H w t m c rst ro rr wr rm hs fs so vs cs → (∀ C : Prop, (∀ (s : Int32) (rst' ro' rr' wr' rm' rp' hs' fs' so' : Nat → Int32) (vs' cs' os' : Nat → Int64), rn_F G H w (upd xrunStatus w s) rst' ro' rr' wr' rm' rp' hs' fs' so' → rn_K w rst ro rr wr rm rp hs fs so rst' ro' rr' wr' rm' rp' hs' fs' so' → (∀ post : SX → Prop, post (xmaxLength, nI V, nI G, nI H, nI n, xcursor, xstate, xpending, xreachable, xsingleSites, xexactVars, ximproved, xopAt, xaAt, xbAt, xcAt, xinputs, xrep, xpts, xdone, xflowsTo, xtried, xloads, xstores, xnext, xprev, xafter, xvarSet, xgen, xkill, xholdsIn, xreads, xcovers, xneedIn, xneedAfter, xverdicts, upd xrunStatus w s, rst', ro', rr', wr', rm', rp', vs', cs', hs', os') → wX_execute_10 post (nI w) (nI B) (d + 2) 0 (nI t) xmaxLength (nI V) (nI G) (nI H) (nI n) xcursor xstate xpending xreachable xsingleSites xexactVars ximproved xopAt xaAt xbAt xcAt xinputs xrep xpts xdone xflowsTo xtried xloads xstores xnext xprev xafter xvarSet xgen xkill xholdsIn xreads xcovers xneedIn xneedAfter xverdicts xrunStatus rst ro rr wr rm rp vs cs hs os) → (∀ pst : SY → Prop, pst (yroom, nI V, nI G, nI H, nI n, ycursor, ystate, ygrew, xinputs, xopAt, xaAt, xbAt, xcAt, yhas, ymark, yreach, ysingle, yexact, yverdicts, yseen, yeffect, fs', vs', cs', so', os') → wY_runVersion_118 pst (nI w) (nI B) (nI (w * 8)) (nI (w * 40)) (nI (w * 7)) yroom (nI V) (nI G) (nI H) (nI n) ycursor ystate ygrew (d + 2) (nI p) 0 (nI t) xinputs xopAt xaAt xbAt xcAt yhas ymark yreach ysingle yexact yverdicts yseen yeffect fs vs cs so os) → C) → C) := by
  intro d
  induction d with
  | zero =>
    intro t p m c rst ro rr wr rm rp hs fs so vs cs os htd hp32 hpl hI
    have hst := hI.1
    have hf := hI.2.1
    rcases Nat.lt_or_ge p n with hpn | hpn
    · exact rn_stop hw (by omega) hB (s := 5) (by decide) hI hpl rn_Kid (fun post hP => rx_nost hw hn hpl hpn hst (by omega) (by omega) hP) (fun pst hP => ry_nost hw hn hpn (by omega) (by rw [hf, show t = B by omega]) hP)
    · exact rn_stop hw (by omega) hB (s := 1) (q := n) (by decide) hI pk_us rn_Kh (fun post hP => rx_halt hw hn hpl hpn (by omega) hP) (fun pst hP => ry_halt hw hn hpn (by omega) (by omega) hP)
  | succ d ih =>
    intro t p m c rst ro rr wr rm rp hs fs so vs cs os htd hp32 hpl hI
    have hst := hI.1
    have hf := hI.2.1
    have htB : t < B := by omega
    rcases Nat.lt_or_ge p n with hpn | hpn
    · have h1 := rn_s1 hI
      obtain ⟨i1, i2, i3, i4, i5, i6, i7, i8, i9, i10, i11, i12, i13, i14, i15⟩ := hI
      obtain ⟨⟨o, o1, o2, ho⟩, h10, hn10, h2', h6', h11', hb', hc'⟩ := hp p hpn
      obtain ⟨v1, v2⟩ := hv p hpn
      have bad : ∀ (s : Int32), ¬ s = 0 → (∀ Q : Int32 → SX → Prop, Q s (xmaxLength, nI V, nI G, nI H, nI n, xcursor, xstate, xpending, xreachable, xsingleSites, xexactVars, ximproved, xopAt, xaAt, xbAt, xcAt, xinputs, xrep, xpts, xdone, xflowsTo, xtried, xloads, xstores, xnext, xprev, xafter, xvarSet, xgen, xkill, xholdsIn, xreads, xcovers, xneedIn, xneedAfter, xverdicts, xrunStatus, upd rst w (nI (t + 1)), ro, rr, wr, rm, rp, vs, cs, hs, os) → wpX_perform Q (xmaxLength, nI V, nI G, nI H, nI n, xcursor, xstate, xpending, xreachable, xsingleSites, xexactVars, ximproved, xopAt, xaAt, xbAt, xcAt, xinputs, xrep, xpts, xdone, xflowsTo, xtried, xloads, xstores, xnext, xprev, xafter, xvarSet, xgen, xkill, xholdsIn, xreads, xcovers, xneedIn, xneedAfter, xverdicts, xrunStatus, upd rst w (nI (t + 1)), ro, rr, wr, rm, rp, vs, cs, hs, os) (nI w) (nI p)) → (∀ pst : SY → Prop, wY_runVersion_118 pst (nI w) (nI B) (nI (w * 8)) (nI (w * 40)) (nI (w * 7)) yroom (nI V) (nI G) (nI H) (nI n) ycursor ystate ygrew (d + 1 + 1) (nI p) s (nI (t + 1)) xinputs xopAt xaAt xbAt xcAt yhas ymark yreach ysingle yexact yverdicts yseen yeffect (upd fs (w * 7 + 1) (nI (t + 1))) vs cs so os → wY_runVersion_118 pst (nI w) (nI B) (nI (w * 8)) (nI (w * 40)) (nI (w * 7)) yroom (nI V) (nI G) (nI H) (nI n) ycursor ystate ygrew (d + 1 + 2) (nI p) 0 (nI t) xinputs xopAt xaAt xbAt xcAt yhas ymark yreach ysingle yexact yverdicts yseen yeffect fs vs cs so os) → ∀ C : Prop, (∀ (s : Int32) (rst' ro' rr' wr' rm' rp' hs' fs' so' : Nat → Int32) (vs' cs' os' : Nat → Int64), rn_F G H w (upd xrunStatus w s) rst' ro' rr' wr' rm' rp' hs' fs' so' → rn_K w rst ro rr wr rm rp hs fs so rst' ro' rr' wr' rm' rp' hs' fs' so' → (∀ post : SX → Prop, post (xmaxLength, nI V, nI G, nI H, nI n, xcursor, xstate, xpending, xreachable, xsingleSites, xexactVars, ximproved, xopAt, xaAt, xbAt, xcAt, xinputs, xrep, xpts, xdone, xflowsTo, xtried, xloads, xstores, xnext, xprev, xafter, xvarSet, xgen, xkill, xholdsIn, xreads, xcovers, xneedIn, xneedAfter, xverdicts, upd xrunStatus w s, rst', ro', rr', wr', rm', rp', vs', cs', hs', os') → wX_execute_10 post (nI w) (nI B) (d + 1 + 2) 0 (nI t) xmaxLength (nI V) (nI G) (nI H) (nI n) xcursor xstate xpending xreachable xsingleSites xexactVars ximproved xopAt xaAt xbAt xcAt xinputs xrep xpts xdone xflowsTo xtried xloads xstores xnext xprev xafter xvarSet xgen xkill xholdsIn xreads xcovers xneedIn xneedAfter xverdicts xrunStatus rst ro rr wr rm rp vs cs hs os) → (∀ pst : SY → Prop, pst (yroom, nI V, nI G, nI H, nI n, ycursor, ystate, ygrew, xinputs, xopAt, xaAt, xbAt, xcAt, yhas, ymark, yreach, ysingle, yexact, yverdicts, yseen, yeffect, fs', vs', cs', so', os') → wY_runVersion_118 pst (nI w) (nI B) (nI (w * 8)) (nI (w * 40)) (nI (w * 7)) yroom (nI V) (nI G) (nI H) (nI n) ycursor ystate ygrew (d + 1 + 2) (nI p) 0 (nI t) xinputs xopAt xaAt xbAt xcAt yhas ymark yreach ysingle yexact yverdicts yseen yeffect fs vs cs so os) → C) → C := by
        intro s hs0 hX hY
        exact rn_stop hw (by omega) hB (s := s) hs0 h1 hpl rn_Kb (fun post hP => rx_bad hw hn hpl hpn hst htB hB hs0 hX hP) hY
      have hnv : ∀ (k : Nat), o = k → xopAt p = nI k := fun k e => by rw [ho, e]
      have cases12 : o = 1 ∨ o = 2 ∨ o = 3 ∨ o = 4 ∨ o = 5 ∨ o = 6 ∨ o = 7 ∨ o = 8 ∨ o = 9 ∨ o = 10 ∨ o = 11 ∨ o = 12 := by omega
      rcases cases12 with e | e | e | e | e | e | e | e | e | e | e | e
      · have hop : xopAt p = 1 := hnv 1 e
        obtain ⟨a, ha, ea⟩ := hn10 (by rw [hop]; decide)
        have ha8 : a < 8 := by omega
        refine rn_cont (d := d + 1) (q := p + 1) htB hB (ih (t + 1) (p + 1) m c _ _ _ _ _ _ _ _ _ _ _ _ (by omega) (by omega) pk_us (rn_v (a := a) hw ?_ h1)) rn_Kp (fun post hP => rx_ok hw hn hpl hpn hst htB hB (fun Q hQ => rx_p1 hw hn hpn hop ea ha8 Q hQ) (fun Q hQ => rx_next hn hpn (by rw [hop]; decide) (by rw [hop]; decide) hQ) hP) (fun pst hP => ry_p1 hw hn hpn htB hB hf hop ea ha8 hP)
        exact Or.inl ⟨_, rfl⟩
      · have hop : xopAt p = 2 := hnv 2 e
        obtain ⟨a, ha, ea⟩ := hn10 (by rw [hop]; decide)
        have ha8 : a < 8 := by omega
        obtain ⟨b, hb, eb⟩ := h2' hop
        refine rn_cont (d := d + 1) (q := p + 1) htB hB (ih (t + 1) (p + 1) m c _ _ _ _ _ _ _ _ _ _ _ _ (by omega) (by omega) pk_us (rn_v (a := a) hw ?_ h1)) rn_Kp (fun post hP => rx_ok hw hn hpl hpn hst htB hB (fun Q hQ => rx_p2 hw hn hpn hop ea ha8 eb hb Q hQ) (fun Q hQ => rx_next hn hpn (by rw [hop]; decide) (by rw [hop]; decide) hQ) hP) (fun pst hP => ry_p2 hw hn hpn htB hB hf hop ea ha8 eb hb hP)
        exact Or.inl ⟨_, rfl⟩
      · have hop : xopAt p = 3 := hnv 3 e
        obtain ⟨a, ha, ea⟩ := hn10 (by rw [hop]; decide)
        have ha8 : a < 8 := by omega
        obtain ⟨b, hb, eb⟩ := hb' (Or.inl hop)
        have hb8 : b < 8 := by omega
        refine rn_cont (d := d + 1) (q := p + 1) htB hB (ih (t + 1) (p + 1) m c _ _ _ _ _ _ _ _ _ _ _ _ (by omega) (by omega) pk_us (rn_v (a := a) hw ?_ h1)) rn_Kp (fun post hP => rx_ok hw hn hpl hpn hst htB hB (fun Q hQ => rx_p3 hw hn hpn hop ea ha8 eb hb8 Q hQ) (fun Q hQ => rx_next hn hpn (by rw [hop]; decide) (by rw [hop]; decide) hQ) hP) (fun pst hP => ry_p3 hw hn hpn htB hB hf hop ea ha8 eb hb8 hP)
        exact i11 b hb8
      · have hop : xopAt p = 4 := hnv 4 e
        obtain ⟨a, ha, ea⟩ := hn10 (by rw [hop]; decide)
        have ha8 : a < 8 := by omega
        obtain ⟨b, hb, eb⟩ := hb' (Or.inr (Or.inl hop))
        have hb8 : b < 8 := by omega
        obtain ⟨c2, hc, ec⟩ := hc' (Or.inl hop)
        have hc8 : c2 < 8 := by omega
        refine rn_cont (d := d + 1) (q := p + 1) htB hB (ih (t + 1) (p + 1) m c _ _ _ _ _ _ _ _ _ _ _ _ (by omega) (by omega) pk_us (rn_v (a := a) hw ?_ h1)) rn_Kp (fun post hP => rx_ok hw hn hpl hpn hst htB hB (fun Q hQ => rx_p4 hw hn hpn hop ea ha8 eb hb8 ec hc8 Q hQ) (fun Q hQ => rx_next hn hpn (by rw [hop]; decide) (by rw [hop]; decide) hQ) hP) (fun pst hP => ry_p4 hw hn hpn htB hB hf hop ea ha8 eb hb8 ec hc8 hP)
        exact Or.inl ⟨_, rfl⟩
      · have hop : xopAt p = 5 := hnv 5 e
        obtain ⟨a, ha, ea⟩ := hn10 (by rw [hop]; decide)
        have ha8 : a < 8 := by omega
        obtain ⟨b, hb, eb⟩ := hb' (Or.inr (Or.inr (Or.inl hop)))
        have hb8 : b < 8 := by omega
        obtain ⟨c2, hc, ec⟩ := hc' (Or.inr hop)
        have hc8 : c2 < 8 := by omega
        refine rn_cont (d := d + 1) (q := p + 1) htB hB (ih (t + 1) (p + 1) m c _ _ _ _ _ _ _ _ _ _ _ _ (by omega) (by omega) pk_us (rn_v (a := a) hw ?_ h1)) rn_Kp (fun post hP => rx_ok hw hn hpl hpn hst htB hB (fun Q hQ => rx_p5 hw hn hpn hop ea ha8 eb hb8 ec hc8 Q hQ) (fun Q hQ => rx_next hn hpn (by rw [hop]; decide) (by rw [hop]; decide) hQ) hP) (fun pst hP => ry_p5 hw hn hpn htB hB hf hop ea ha8 eb hb8 ec hc8 hP)
        by_cases z : vs (w * 8 + b) = vs (w * 8 + c2)
        · rw [if_pos z]; exact Or.inl ⟨1, rfl⟩
        · rw [if_neg z]; exact Or.inl ⟨0, rfl⟩
      · have hop : xopAt p = 6 := hnv 6 e
        obtain ⟨a, ha, ea⟩ := hn10 (by rw [hop]; decide)
        have ha8 : a < 8 := by omega
        obtain ⟨b, hb, eb⟩ := h6' hop
        have hb8 : b < 8 := by omega
        refine rn_cont (d := d + 1) (q := p + 1) htB hB (ih (t + 1) (p + 1) m c _ _ _ _ _ _ _ _ _ _ _ _ (by omega) (by omega) pk_us (rn_v (a := a) hw ?_ h1)) rn_Kp (fun post hP => rx_ok hw hn hpl hpn hst htB hB (fun Q hQ => rx_p6 hw hn hpn hop ea ha8 eb hb8 Q hQ) (fun Q hQ => rx_next hn hpn (by rw [hop]; decide) (by rw [hop]; decide) hQ) hP) (fun pst hP => ry_p6 hw hn hpn htB hB hf hop ea ha8 eb hb8 hP)
        exact Or.inr ⟨b, by omega, rfl⟩
      · have hop : xopAt p = 7 := hnv 7 e
        obtain ⟨a, ha, ea⟩ := hn10 (by rw [hop]; decide)
        have ha8 : a < 8 := by omega
        rcases Nat.lt_or_ge m H with hm | hm
        · have hsame : vp_updL cs (w * 40 + (G + m)) 0 = cs := rn_same (i13 (G + m) (Nat.le_refl _) (by omega))
          refine rn_cont (d := d + 1) (q := p + 1) htB hB (ih (t + 1) (p + 1) (m + 1) c _ _ _ _ _ _ _ _ _ _ _ _ (by omega) (by omega) pk_us (rn_new (a := a) (p := p) hw hG hH hm h1)) (rn_Kn hw hG hH hm) (fun post hP => rx_ok hw hn hpl hpn hst htB hB (fun Q hQ => rx_p7 hw hn hpn hop ea ha8 i8 hm hH hG Q (by rw [hsame]; exact hQ)) (fun Q hQ => rx_next hn hpn (by rw [hop]; decide) (by rw [hop]; decide) hQ) hP) (fun pst hP => ry_p7 hw hn hpn htB hB hf hop ea ha8 i9 hm hH hG hP)
        · exact bad 3 (by decide) (fun Q hQ => rx_p7f hw hn hpn hop ea ha8 i8 hm (by omega) Q hQ) (fun pst hP => ry_p7f hw hn hpn htB hB hf hop ea ha8 i9 hm (by omega) hP)
      · have hop : xopAt p = 8 := hnv 8 e
        obtain ⟨a, ha, ea⟩ := hn10 (by rw [hop]; decide)
        have ha8 : a < 8 := by omega
        obtain ⟨b, hb, eb⟩ := hb' (Or.inr (Or.inr (Or.inr (Or.inl hop))))
        have hb8 : b < 8 := by omega
        rcases i11 b hb8 with ⟨x, hx⟩ | ⟨k, hk, hx⟩
        · exact bad 2 (by decide) (fun Q hQ => rx_p8f hw hn hpn hop ea ha8 eb hb8 hx Q hQ) (fun pst hP => ry_p8f hw hn hpn htB hB hf hop ea ha8 eb hb8 hx hP)
        · have hk40 : k < 40 := by omega
          have mem : (w = 1 → xverdicts p < 16) → (∀ C : Prop, (∀ (s : Int32) (rst' ro' rr' wr' rm' rp' hs' fs' so' : Nat → Int32) (vs' cs' os' : Nat → Int64), rn_F G H w (upd xrunStatus w s) rst' ro' rr' wr' rm' rp' hs' fs' so' → rn_K w rst ro rr wr rm rp hs fs so rst' ro' rr' wr' rm' rp' hs' fs' so' → (∀ post : SX → Prop, post (xmaxLength, nI V, nI G, nI H, nI n, xcursor, xstate, xpending, xreachable, xsingleSites, xexactVars, ximproved, xopAt, xaAt, xbAt, xcAt, xinputs, xrep, xpts, xdone, xflowsTo, xtried, xloads, xstores, xnext, xprev, xafter, xvarSet, xgen, xkill, xholdsIn, xreads, xcovers, xneedIn, xneedAfter, xverdicts, upd xrunStatus w s, rst', ro', rr', wr', rm', rp', vs', cs', hs', os') → wX_execute_10 post (nI w) (nI B) (d + 1 + 2) 0 (nI t) xmaxLength (nI V) (nI G) (nI H) (nI n) xcursor xstate xpending xreachable xsingleSites xexactVars ximproved xopAt xaAt xbAt xcAt xinputs xrep xpts xdone xflowsTo xtried xloads xstores xnext xprev xafter xvarSet xgen xkill xholdsIn xreads xcovers xneedIn xneedAfter xverdicts xrunStatus rst ro rr wr rm rp vs cs hs os) → (∀ pst : SY → Prop, pst (yroom, nI V, nI G, nI H, nI n, ycursor, ystate, ygrew, xinputs, xopAt, xaAt, xbAt, xcAt, yhas, ymark, yreach, ysingle, yexact, yverdicts, yseen, yeffect, fs', vs', cs', so', os') → wY_runVersion_118 pst (nI w) (nI B) (nI (w * 8)) (nI (w * 40)) (nI (w * 7)) yroom (nI V) (nI G) (nI H) (nI n) ycursor ystate ygrew (d + 1 + 2) (nI p) 0 (nI t) xinputs xopAt xaAt xbAt xcAt yhas ymark yreach ysingle yexact yverdicts yseen yeffect fs vs cs so os) → C) → C) := fun hvm => rn_cont (d := d + 1) (q := p + 1) htB hB (ih (t + 1) (p + 1) m c _ _ _ _ _ _ _ _ _ _ _ _ (by omega) (by omega) pk_us (rn_v (a := a) hw (i12 k hk40) (rn_ld h1))) rn_Kl (fun post hP => rx_ok hw hn hpl hpn hst htB hB (fun Q hQ => rx_p8m hw hn hpn hop ea ha8 eb hb8 hk40 hx hvm Q hQ) (fun Q hQ => rx_next hn hpn (by rw [hop]; decide) (by rw [hop]; decide) hQ) hP) (fun pst hP => ry_p8m hw hn hpn htB hB hf hop ea ha8 eb hb8 hk40 hx (by rw [v1]; exact hvm) (by rw [pk_un (by omega)] at hP; exact hP))
          rcases v2 with q | q | ⟨x, hx8, q⟩
          · exact mem (fun _ => by rw [q]; decide)
          · exact mem (fun _ => by rw [q]; decide)
          · by_cases w1 : w = 1
            · exact rn_cont (d := d + 1) (q := p + 1) htB hB (ih (t + 1) (p + 1) m c _ _ _ _ _ _ _ _ _ _ _ _ (by omega) (by omega) pk_us (rn_v (a := a) hw (i11 x (by omega)) h1)) rn_Kp (fun post hP => rx_ok hw hn hpl hpn hst htB hB (fun Q hQ => rx_p8v hw hn hpn hop ea ha8 eb hb8 hk40 hx w1 q (by omega) Q hQ) (fun Q hQ => rx_next hn hpn (by rw [hop]; decide) (by rw [hop]; decide) hQ) hP) (fun pst hP => ry_p8v hw hn hpn htB hB hf hop ea ha8 eb hb8 hk40 hx w1 (by rw [v1]; exact q) (by omega) hP)
            · exact mem (fun z => absurd z w1)
      · have hop : xopAt p = 9 := hnv 9 e
        obtain ⟨a, ha, ea⟩ := hn10 (by rw [hop]; decide)
        have ha8 : a < 8 := by omega
        obtain ⟨b, hb, eb⟩ := hb' (Or.inr (Or.inr (Or.inr (Or.inr hop))))
        have hb8 : b < 8 := by omega
        rcases i11 a ha8 with ⟨x, hx⟩ | ⟨k, hk, hx⟩
        · exact bad 2 (by decide) (fun Q hQ => rx_p9f hw hn hpn hop ea ha8 eb hb8 hx Q hQ) (fun pst hP => ry_p9f hw hn hpn htB hB hf hop ea ha8 eb hb8 hx hP)
        · have hk40 : k < 40 := by omega
          by_cases hrm : w = 0 ∨ ¬ xverdicts p = 1
          · exact rn_cont (d := d + 1) (q := p + 1) htB hB (ih (t + 1) (p + 1) m c _ _ _ _ _ _ _ _ _ _ _ _ (by omega) (by omega) pk_us (rn_st hk (i11 b hb8) h1)) rn_Kw (fun post hP => rx_ok hw hn hpl hpn hst htB hB (fun Q hQ => rx_p9m hw hn hpn hop ea ha8 eb hb8 hk40 hx hrm Q hQ) (fun Q hQ => rx_next hn hpn (by rw [hop]; decide) (by rw [hop]; decide) hQ) hP) (fun pst hP => ry_p9m hw hn hpn htB hB hf hop ea ha8 eb hb8 hk40 hx (by rw [v1]; exact hrm) (by rw [pk_un (by omega)] at hP; exact hP))
          · have w1 : w = 1 := by omega
            have q : xverdicts p = 1 := Classical.byContradiction (fun z => hrm (Or.inr z))
            exact rn_cont (d := d + 1) (q := p + 1) htB hB (ih (t + 1) (p + 1) m c _ _ _ _ _ _ _ _ _ _ _ _ (by omega) (by omega) pk_us h1) rn_Kp (fun post hP => rx_ok hw hn hpl hpn hst htB hB (fun Q hQ => rx_p9r hw hn hpn hop ea ha8 eb hb8 hk40 hx w1 q Q hQ) (fun Q hQ => rx_next hn hpn (by rw [hop]; decide) (by rw [hop]; decide) hQ) hP) (fun pst hP => ry_p9r hw hn hpn htB hB hf hop ea ha8 eb hb8 hk40 hx w1 (by rw [v1]; exact q) hP)
      · have hop : xopAt p = 10 := hnv 10 e
        obtain ⟨a, ha, ea⟩ := h10 hop
        exact rn_cont (d := d + 1) (q := a) htB hB (ih (t + 1) a m c _ _ _ _ _ _ _ _ _ _ _ _ (by omega) (by omega) pk_us h1) rn_Kp (fun post hP => rx_ok hw hn hpl hpn hst htB hB (fun Q hQ => rx_p10 hw hn hpn hop Q hQ) (fun Q hQ => rx_next10 hn hpn hop ea hQ) hP) (fun pst hP => ry_p10 hw hn hpn htB hB hf hop ea hP)
      · have hop : xopAt p = 11 := hnv 11 e
        obtain ⟨a, ha, ea⟩ := hn10 (by rw [hop]; decide)
        have ha8 : a < 8 := by omega
        obtain ⟨b, hb, eb⟩ := h11' hop
        have hq : (if vs (w * 8 + a) = 0 then b else p + 1) ≤ 32 := by split <;> omega
        exact rn_cont (d := d + 1) (q := if vs (w * 8 + a) = 0 then b else p + 1) htB hB (ih (t + 1) (if vs (w * 8 + a) = 0 then b else p + 1) m c _ _ _ _ _ _ _ _ _ _ _ _ (by omega) hq pk_us h1) rn_Kp (fun post hP => rx_ok hw hn hpl hpn hst htB hB (fun Q hQ => rx_p11 hw hn hpn hop ea ha8 Q hQ) (fun Q hQ => rx_next11 hw hn hpn hop ea ha8 eb hQ) hP) (fun pst hP => ry_p11 hw hn hpn htB hB hf hop ea ha8 eb hP)
      · have hop : xopAt p = 12 := hnv 12 e
        obtain ⟨a, ha, ea⟩ := hn10 (by rw [hop]; decide)
        have ha8 : a < 8 := by omega
        rcases Nat.lt_or_ge c 32 with hc32 | hc32
        · exact rn_cont (d := d + 1) (q := p + 1) htB hB (ih (t + 1) (p + 1) m (c + 1) _ _ _ _ _ _ _ _ _ _ _ _ (by omega) (by omega) pk_us (rn_pr hc32 h1)) rn_Kc (fun post hP => rx_ok hw hn hpl hpn hst htB hB (fun Q hQ => rx_p12 hw hn hpn hop ea ha8 i3 hc32 Q hQ) (fun Q hQ => rx_next hn hpn (by rw [hop]; decide) (by rw [hop]; decide) hQ) hP) (fun pst hP => ry_p12 hw hn hpn htB hB hf hop ea ha8 i4 hc32 hP)
        · exact bad 4 (by decide) (fun Q hQ => rx_p12f hw hn hpn hop ea ha8 i3 hc32 i5 Q hQ) (fun pst hP => ry_p12f hw hn hpn htB hB hf hop ea ha8 i4 hc32 i5 hP)
    · exact rn_stop (d := d + 1) hw (by omega) hB (s := 1) (q := n) (by decide) hI pk_us rn_Kh (fun post hP => rx_halt hw hn hpl hpn (by omega) hP) (fun pst hP => ry_halt hw hn hpn (by omega) (by omega) hP)
end
end
section
def cl_L (a : Nat → Int64) (lo k : Nat) : Nat → Int64 := fun j => if lo ≤ j ∧ j < lo + k then 0 else a j
def cl_I (a : Nat → Int32) (lo k : Nat) : Nat → Int32 := fun j => if lo ≤ j ∧ j < lo + k then 0 else a j
def cl_S (a : Nat → Int32) (lo k : Nat) : Nat → Int32 := fun j => if lo ≤ j ∧ j < lo + k then nI (j - lo) else a j
theorem cl_L0 (a : Nat → Int64) (lo : Nat) : cl_L a lo 0 = a := by
  funext j; unfold cl_L; rw [if_neg (by omega)]
theorem cl_I0 (a : Nat → Int32) (lo : Nat) : cl_I a lo 0 = a := by
  funext j; unfold cl_I; rw [if_neg (by omega)]
theorem cl_S0 (a : Nat → Int32) (lo : Nat) : cl_S a lo 0 = a := by
  funext j; unfold cl_S; rw [if_neg (by omega)]
theorem cl_Ls (a : Nat → Int64) (lo k : Nat) : vp_updL (cl_L a lo k) (lo + k) 0 = cl_L a lo (k + 1) := by
  funext j
  by_cases e : j = lo + k
  · subst e; rw [pk_uLs]; unfold cl_L; rw [if_pos (by omega)]
  · rw [pk_uLn e]; unfold cl_L
    by_cases z : lo ≤ j ∧ j < lo + k
    · rw [if_pos z, if_pos (by omega)]
    · rw [if_neg z, if_neg (by omega)]
theorem cl_Is (a : Nat → Int32) (lo k : Nat) : upd (cl_I a lo k) (lo + k) 0 = cl_I a lo (k + 1) := by
  funext j
  by_cases e : j = lo + k
  · subst e; rw [pk_us]; unfold cl_I; rw [if_pos (by omega)]
  · rw [pk_un e]; unfold cl_I
    by_cases z : lo ≤ j ∧ j < lo + k
    · rw [if_pos z, if_pos (by omega)]
    · rw [if_neg z, if_neg (by omega)]
theorem cl_Ss (a : Nat → Int32) (lo k : Nat) : upd (cl_S a lo k) (lo + k) (nI k) = cl_S a lo (k + 1) := by
  funext j
  by_cases e : j = lo + k
  · subst e; rw [pk_us]; unfold cl_S; rw [if_pos (by omega), show lo + k - lo = k by omega]
  · rw [pk_un e]; unfold cl_S
    by_cases z : lo ≤ j ∧ j < lo + k
    · rw [if_pos z, if_pos (by omega)]
    · rw [if_neg z, if_neg (by omega)]
section
variable {xmaxLength : Int32} {xvariableCount : Int32} {xglobalCount : Int32} {xheapLimit : Int32} {xlength : Int32} {xcursor : Int32} {xstate : Int32} {xpending : Int64} {xreachable : Int64} {xsingleSites : Int64} {xexactVars : Int32} {ximproved : Int32} {xopAt : (Nat → Int32)} {xaAt : (Nat → Int32)} {xbAt : (Nat → Int32)} {xcAt : (Nat → Int32)} {xinputs : (Nat → Int32)} {xrep : (Nat → Int32)} {xpts : (Nat → Int64)} {xdone : (Nat → Int64)} {xflowsTo : (Nat → Int64)} {xtried : (Nat → Int64)} {xloads : (Nat → Int32)} {xstores : (Nat → Int32)} {xnext : (Nat → Int64)} {xprev : (Nat → Int64)} {xafter : (Nat → Int64)} {xvarSet : (Nat → Int64)} {xgen : (Nat → Int64)} {xkill : (Nat → Int64)} {xholdsIn : (Nat → Int64)} {xreads : (Nat → Int32)} {xcovers : (Nat → Int32)} {xneedIn : (Nat → Int32)} {xneedAfter : (Nat → Int32)} {xverdicts : (Nat → Int32)} {xrunStatus : (Nat → Int32)} {xrunSteps : (Nat → Int32)} {xrunOutputs : (Nat → Int32)} {xrunReads : (Nat → Int32)} {xrunWrites : (Nat → Int32)} {xrunMade : (Nat → Int32)} {xrunPlace : (Nat → Int32)} {xvars : (Nat → Int64)} {xcells : (Nat → Int64)} {xheapSite : (Nat → Int32)} {xoutputs : (Nat → Int64)}
variable {yroom : Int32} {yvars : Int32} {yglobals : Int32} {yheap : Int32} {ylength : Int32} {ycursor : Int32} {ystate : Int32} {ygrew : Int32} {yinputs : (Nat → Int32)} {yops : (Nat → Int32)} {yfa : (Nat → Int32)} {yfb : (Nat → Int32)} {yfc : (Nat → Int32)} {yhas : (Nat → Int32)} {ymark : (Nat → Int32)} {yreach : (Nat → Int32)} {ysingle : (Nat → Int32)} {yexact : (Nat → Int32)} {yverdicts : (Nat → Int32)} {yseen : (Nat → Int32)} {yeffect : (Nat → Int32)} {yfacts : (Nat → Int32)} {ywords : (Nat → Int64)} {ycells : (Nat → Int64)} {ysiteOf : (Nat → Int32)} {youts : (Nat → Int64)}
variable {R V G H n w B : Nat}


theorem rc_clear {post : SX → Prop} (hw : w < 2) (K : post (xmaxLength, nI V, nI G, nI H, nI n, xcursor, xstate, xpending, xreachable, xsingleSites, xexactVars, ximproved, xopAt, xaAt, xbAt, xcAt, xinputs, xrep, xpts, xdone, xflowsTo, xtried, xloads, xstores, xnext, xprev, xafter, xvarSet, xgen, xkill, xholdsIn, xreads, xcovers, xneedIn, xneedAfter, xverdicts, upd xrunStatus w 0, upd xrunSteps w 0, upd xrunOutputs w 0, upd xrunReads w 0, upd xrunWrites w 0, upd xrunMade w 0, upd xrunPlace w 0, cl_L xvars (w * 8) 8, cl_L xcells (w * 40) 40, xheapSite, xoutputs)) : wpX_clearRun post (xmaxLength, nI V, nI G, nI H, nI n, xcursor, xstate, xpending, xreachable, xsingleSites, xexactVars, ximproved, xopAt, xaAt, xbAt, xcAt, xinputs, xrep, xpts, xdone, xflowsTo, xtried, xloads, xstores, xnext, xprev, xafter, xvarSet, xgen, xkill, xholdsIn, xreads, xcovers, xneedIn, xneedAfter, xverdicts, xrunStatus, xrunSteps, xrunOutputs, xrunReads, xrunWrites, xrunMade, xrunPlace, xvars, xcells, xheapSite, xoutputs) (nI w) := by
  obtain ⟨w1, w2⟩ := ix_2 hw
  obtain ⟨m1, m2, m3, m4⟩ := ix_m w
  refine ⟨w1, nm_r (e' := upd xrunStatus w 0) (by rw [w2]) ⟨w1, nm_r (e' := upd xrunSteps w 0) (by rw [w2]) ⟨w1, nm_r (e' := upd xrunOutputs w 0) (by rw [w2]) ⟨w1, nm_r (e' := upd xrunReads w 0) (by rw [w2]) ⟨w1, nm_r (e' := upd xrunWrites w 0) (by rw [w2]) ⟨w1, nm_r (e' := upd xrunMade w 0) (by rw [w2]) ⟨w1, nm_r (e' := upd xrunPlace w 0) (by rw [w2]) ?_⟩⟩⟩⟩⟩⟩⟩
  refine lc_1 (fun d i (vs : Nat → Int64) => wX_clearRun_51 post (nI w) xmaxLength (nI V) (nI G) (nI H) (nI n) xcursor xstate xpending xreachable xsingleSites xexactVars ximproved d (nI i) xopAt xaAt xbAt xcAt xinputs xrep xpts xdone xflowsTo xtried xloads xstores xnext xprev xafter xvarSet xgen xkill xholdsIn xreads xcovers xneedIn xneedAfter xverdicts (upd xrunStatus w 0) (upd xrunSteps w 0) (upd xrunOutputs w 0) (upd xrunReads w 0) (upd xrunWrites w 0) (upd xrunMade w 0) (upd xrunPlace w 0) vs xcells xheapSite xoutputs) (fun i vs => vs = cl_L xvars (w * 8) i) 8 xvars (cl_L0 _ _).symm ?_ ?_
  · intro d vs h
    subst h
    refine br_t (nI_le (Nat.le_refl 8) (by omega)) ?_
    refine lc_1 (fun d i (cs : Nat → Int64) => wX_clearRun_77 post (nI w) xmaxLength (nI V) (nI G) (nI H) (nI n) xcursor xstate xpending xreachable xsingleSites xexactVars ximproved d (nI i) xopAt xaAt xbAt xcAt xinputs xrep xpts xdone xflowsTo xtried xloads xstores xnext xprev xafter xvarSet xgen xkill xholdsIn xreads xcovers xneedIn xneedAfter xverdicts (upd xrunStatus w 0) (upd xrunSteps w 0) (upd xrunOutputs w 0) (upd xrunReads w 0) (upd xrunWrites w 0) (upd xrunMade w 0) (upd xrunPlace w 0) (cl_L xvars (w * 8) 8) cs xheapSite xoutputs) (fun i cs => cs = cl_L xcells (w * 40) i) 40 xcells (cl_L0 _ _).symm ?_ ?_
    · intro d cs h
      subst h
      exact br_t (nI_le (Nat.le_refl 40) (by omega)) K
    · intro d i cs hi h ih
      subst h
      obtain ⟨c1, c2, c3⟩ := ix_c (w := w) (a := i) hw hi
      refine br_f (nI_ge (b := 40) hi (by omega)) ?_
      rw [m2, c1, c3]
      exact ⟨c2, nm_r (cl_Ls _ _ _) (nm_r (nI_1 i) (ih _ rfl))⟩
  · intro d i vs hi h ih
    subst h
    obtain ⟨c1, c2, c3⟩ := ix_v (w := w) (a := i) hw hi
    refine br_f (nI_ge (b := 8) hi (by omega)) ?_
    rw [m1, c1, c3]
    exact ⟨c2, nm_r (cl_Ls _ _ _) (nm_r (nI_1 i) (ih _ rfl))⟩
theorem rc_yclear {pst : SY → Prop} (hw : w < 2) (K : ∃ n118, wY_runVersion_118 pst (nI w) (nI B) (nI (w * 8)) (nI (w * 40)) (nI (w * 7)) yroom (nI V) (nI G) (nI H) (nI n) ycursor ystate ygrew n118 0 0 0 xinputs xopAt xaAt xbAt xcAt yhas ymark yreach ysingle yexact yverdicts yseen yeffect (cl_I yfacts (w * 7) 7) (cl_L ywords (w * 8) 8) (cl_L ycells (w * 40) 40) (cl_S ysiteOf (w * 40) 40) youts) : wpY_runVersion pst (yroom, nI V, nI G, nI H, nI n, ycursor, ystate, ygrew, xinputs, xopAt, xaAt, xbAt, xcAt, yhas, ymark, yreach, ysingle, yexact, yverdicts, yseen, yeffect, yfacts, ywords, ycells, ysiteOf, youts) (nI w) (nI B) := by
  obtain ⟨m1, m2, m3, m4⟩ := ix_m w
  refine nm_r m1 (nm_r m2 (nm_r m4 ?_))
  refine lc_1 (fun d i (vs : Nat → Int64) => wY_runVersion_20 pst (nI w) (nI B) (nI (w * 8)) (nI (w * 40)) (nI (w * 7)) yroom (nI V) (nI G) (nI H) (nI n) ycursor ystate ygrew d (nI i) xinputs xopAt xaAt xbAt xcAt yhas ymark yreach ysingle yexact yverdicts yseen yeffect yfacts vs ycells ysiteOf youts) (fun i vs => vs = cl_L ywords (w * 8) i) 8 ywords (cl_L0 _ _).symm ?_ ?_
  · intro d vs h
    subst h
    refine br_t (nI_le (Nat.le_refl 8) (by omega)) ?_
    refine lc_2 (fun d i (cs : Nat → Int64) (so : Nat → Int32) => wY_runVersion_46 pst (nI w) (nI B) (nI (w * 8)) (nI (w * 40)) (nI (w * 7)) yroom (nI V) (nI G) (nI H) (nI n) ycursor ystate ygrew d (nI i) xinputs xopAt xaAt xbAt xcAt yhas ymark yreach ysingle yexact yverdicts yseen yeffect yfacts (cl_L ywords (w * 8) 8) cs so youts) (fun i cs so => cs = cl_L ycells (w * 40) i ∧ so = cl_S ysiteOf (w * 40) i) 40 ycells ysiteOf ⟨(cl_L0 _ _).symm, (cl_S0 _ _).symm⟩ ?_ ?_
    · rintro d cs so ⟨h1, h2⟩
      subst h1 h2
      refine br_t (nI_le (Nat.le_refl 40) (by omega)) ?_
      refine lc_1 (fun d i (fs : Nat → Int32) => wY_runVersion_85 pst (nI w) (nI B) (nI (w * 8)) (nI (w * 40)) (nI (w * 7)) yroom (nI V) (nI G) (nI H) (nI n) ycursor ystate ygrew d (nI i) xinputs xopAt xaAt xbAt xcAt yhas ymark yreach ysingle yexact yverdicts yseen yeffect fs (cl_L ywords (w * 8) 8) (cl_L ycells (w * 40) 40) (cl_S ysiteOf (w * 40) 40) youts) (fun i fs => fs = cl_I yfacts (w * 7) i) 7 yfacts (cl_I0 _ _).symm ?_ ?_
      · intro d fs h
        subst h
        exact br_t (nI_le (Nat.le_refl 7) (by omega)) K
      · intro d i fs hi h ih
        subst h
        obtain ⟨c1, c2, c3⟩ := ix_f (w := w) (j := i) hw hi
        refine br_f (nI_ge (b := 7) hi (by omega)) ?_
        rw [c1, c3]
        exact ⟨c2, nm_r (cl_Is _ _ _) (nm_r (nI_1 i) (ih _ rfl))⟩
    · rintro d i cs so hi ⟨h1, h2⟩ ih
      subst h1 h2
      obtain ⟨c1, c2, c3⟩ := ix_c (w := w) (a := i) hw hi
      refine br_f (nI_ge (b := 40) hi (by omega)) ?_
      rw [c1, c3]
      exact ⟨c2, nm_r (cl_Ls _ _ _) ⟨c2, nm_r (cl_Ss _ _ _) (nm_r (nI_1 i) (ih _ _ ⟨rfl, rfl⟩))⟩⟩
  · intro d i vs hi h ih
    subst h
    obtain ⟨c1, c2, c3⟩ := ix_v (w := w) (a := i) hw hi
    refine br_f (nI_ge (b := 8) hi (by omega)) ?_
    rw [c1, c3]
    exact ⟨c2, nm_r (cl_Ls _ _ _) (nm_r (nI_1 i) (ih _ rfl))⟩
theorem rc_zero {rst ro rr wr rm hs fs so : Nat → Int32} {vs cs : Nat → Int64} (hw : w < 2) (hG : G ≤ 8) : rn_I G H w 0 0 0 (upd rst w 0) (upd ro w 0) (upd rr w 0) (upd wr w 0) (upd rm w 0) hs (cl_I fs (w * 7) 7) (cl_S so (w * 40) 40) (cl_L vs (w * 8) 8) (cl_L cs (w * 40) 40) := by
  have fe : ∀ j, j < 7 → cl_I fs (w * 7) 7 (w * 7 + j) = 0 := fun j hj => if_pos (by omega)
  have ce : ∀ j, j < 40 → cl_L cs (w * 40) 40 (w * 40 + j) = 0 := fun j hj => if_pos (by omega)
  have ve : ∀ j, j < 8 → cl_L vs (w * 8) 8 (w * 8 + j) = 0 := fun j hj => if_pos (by omega)
  refine ⟨pk_us, fe 1 (by omega), pk_us, fe 2 (by omega), by omega, ?_, ?_, pk_us, fe 5 (by omega), by omega, fun v hv => ?_, fun k hk => ?_, fun k _ hk => ce k hk, fun j hj => absurd hj (Nat.not_lt_zero j), fun j hj => ?_⟩
  · rw [fe 3 (by omega), pk_us]
  · rw [fe 4 (by omega), pk_us]
  · rw [ve v hv]; exact Or.inl ⟨0, rfl⟩
  · rw [ce k hk]; exact Or.inl ⟨0, rfl⟩
  · unfold cl_S
    rw [if_pos (by omega), show w * 40 + j - w * 40 = j by omega]
theorem rc_K {rst ro rr wr rm rp hs fs so : Nat → Int32} : rn_K w rst ro rr wr rm rp hs fs so (upd rst w 0) (upd ro w 0) (upd rr w 0) (upd wr w 0) (upd rm w 0) (upd rp w 0) hs (cl_I fs (w * 7) 7) (cl_S so (w * 40) 40) :=
  ⟨fun j hj => ⟨pk_un hj, pk_un hj, pk_un hj, pk_un hj, pk_un hj, pk_un hj⟩, fun j hj => if_neg hj, fun j hj => if_neg hj, fun j _ => rfl⟩
theorem rc_exec (hw : w < 2) (hn : n ≤ 32) (hR : R ≤ 32) (hV : V ≤ 8) (hG : G ≤ 8) (hH : H ≤ 32) (hB : B ≤ 1000) (hp : pg_ok R V G n xopAt xaAt xbAt xcAt) (hv : ∀ i, i < n → yverdicts i = xverdicts i ∧ (xverdicts i = 0 ∨ xverdicts i = 1 ∨ ∃ x, x < V ∧ xverdicts i = nI (16 + x))) (C : Prop)
    (K : ∀ (rs' rst' ro' rr' wr' rm' rp' hs' fs' so' : Nat → Int32) (vs' cs' os' : Nat → Int64), rn_F G H w rs' rst' ro' rr' wr' rm' rp' hs' fs' so' → (∀ j, ¬ j = w → rs' j = xrunStatus j) → rn_K w xrunSteps xrunOutputs xrunReads xrunWrites xrunMade xrunPlace xheapSite yfacts ysiteOf rst' ro' rr' wr' rm' rp' hs' fs' so' →
      (∀ post : SX → Prop, post (xmaxLength, nI V, nI G, nI H, nI n, xcursor, xstate, xpending, xreachable, xsingleSites, xexactVars, ximproved, xopAt, xaAt, xbAt, xcAt, xinputs, xrep, xpts, xdone, xflowsTo, xtried, xloads, xstores, xnext, xprev, xafter, xvarSet, xgen, xkill, xholdsIn, xreads, xcovers, xneedIn, xneedAfter, xverdicts, rs', rst', ro', rr', wr', rm', rp', vs', cs', hs', os') → wpX_execute post (xmaxLength, nI V, nI G, nI H, nI n, xcursor, xstate, xpending, xreachable, xsingleSites, xexactVars, ximproved, xopAt, xaAt, xbAt, xcAt, xinputs, xrep, xpts, xdone, xflowsTo, xtried, xloads, xstores, xnext, xprev, xafter, xvarSet, xgen, xkill, xholdsIn, xreads, xcovers, xneedIn, xneedAfter, xverdicts, xrunStatus, xrunSteps, xrunOutputs, xrunReads, xrunWrites, xrunMade, xrunPlace, xvars, xcells, xheapSite, xoutputs) (nI w) (nI B)) → (∀ pst : SY → Prop, pst (yroom, nI V, nI G, nI H, nI n, ycursor, ystate, ygrew, xinputs, xopAt, xaAt, xbAt, xcAt, yhas, ymark, yreach, ysingle, yexact, yverdicts, yseen, yeffect, fs', vs', cs', so', os') → wpY_runVersion pst (yroom, nI V, nI G, nI H, nI n, ycursor, ystate, ygrew, xinputs, xopAt, xaAt, xbAt, xcAt, yhas, ymark, yreach, ysingle, yexact, yverdicts, yseen, yeffect, yfacts, xvars, xcells, ysiteOf, xoutputs) (nI w) (nI B)) → C) : C := by
  refine rn_lock (xmaxLength := xmaxLength) (xcursor := xcursor) (xstate := xstate) (xpending := xpending) (xreachable := xreachable) (xsingleSites := xsingleSites) (xexactVars := xexactVars) (ximproved := ximproved) (xinputs := xinputs) (xrep := xrep) (xpts := xpts) (xdone := xdone) (xflowsTo := xflowsTo) (xtried := xtried) (xloads := xloads) (xstores := xstores) (xnext := xnext) (xprev := xprev) (xafter := xafter) (xvarSet := xvarSet) (xgen := xgen) (xkill := xkill) (xholdsIn := xholdsIn) (xreads := xreads) (xcovers := xcovers) (xneedIn := xneedIn) (xneedAfter := xneedAfter) (yroom := yroom) (ycursor := ycursor) (ystate := ystate) (ygrew := ygrew) (yhas := yhas) (ymark := ymark) (yreach := yreach) (ysingle := ysingle) (yexact := yexact) (yseen := yseen) (yeffect := yeffect) (xrunStatus := upd xrunStatus w 0) hw hn hR hV hG hH hB hp hv B 0 0 0 0 _ _ _ _ _ (upd xrunPlace w 0) _ _ _ _ _ xoutputs (by omega) (by omega) pk_us (rc_zero (rst := xrunSteps) (ro := xrunOutputs) (rr := xrunReads) (wr := xrunWrites) (rm := xrunMade) (hs := xheapSite) (fs := yfacts) (so := ysiteOf) (vs := xvars) (cs := xcells) hw hG) C ?_
  intro s rst' ro' rr' wr' rm' rp' hs' fs' so' vs' cs' os' hF hK hX hY
  refine K _ rst' ro' rr' wr' rm' rp' hs' fs' so' vs' cs' os' hF (fun j hj => by rw [pk_un hj, pk_un hj]) (rn_Kt rc_K hK) (fun post hpost => ?_) (fun pst hpst => ?_)
  · unfold wpX_execute
    exact rc_clear hw ⟨_, hX post hpost⟩
  · exact rc_yclear hw ⟨_, hY pst hpst⟩
end
end
section


def rl_S (R V G H n q : Nat) (st : Int32) : Prop := 4 ≤ R ∧ R ≤ 32 ∧ 2 ≤ V ∧ V ≤ 8 ∧ 1 ≤ G ∧ G ≤ 8 ∧ 1 ≤ H ∧ H ≤ 32 ∧ n ≤ R ∧ q ≤ n ∧ (st = 0 ∨ st = 1 ∨ st = 2)
/-- the relation at the head of a turn: the two hold one program, one set of inputs, and, once analysed and run, the same results -/
def i_Rel (_ : Nat) (u : SX) (v : SY) : Prop := ∀ P : SX → SY → Prop, (∀ (R V G H n q : Nat) (xstate : Int32) (xpending : Int64) (xreachable : Int64) (xsingleSites : Int64) (xexactVars : Int32) (ximproved : Int32) (xopAt : (Nat → Int32)) (xaAt : (Nat → Int32)) (xbAt : (Nat → Int32)) (xcAt : (Nat → Int32)) (xinputs : (Nat → Int32)) (xrep : (Nat → Int32)) (xpts : (Nat → Int64)) (xdone : (Nat → Int64)) (xflowsTo : (Nat → Int64)) (xtried : (Nat → Int64)) (xloads : (Nat → Int32)) (xstores : (Nat → Int32)) (xnext : (Nat → Int64)) (xprev : (Nat → Int64)) (xafter : (Nat → Int64)) (xvarSet : (Nat → Int64)) (xgen : (Nat → Int64)) (xkill : (Nat → Int64)) (xholdsIn : (Nat → Int64)) (xreads : (Nat → Int32)) (xcovers : (Nat → Int32)) (xneedIn : (Nat → Int32)) (xneedAfter : (Nat → Int32)) (xverdicts : (Nat → Int32)) (xrunStatus : (Nat → Int32)) (xrunSteps : (Nat → Int32)) (xrunOutputs : (Nat → Int32)) (xrunReads : (Nat → Int32)) (xrunWrites : (Nat → Int32)) (xrunMade : (Nat → Int32)) (xrunPlace : (Nat → Int32)) (xvars : (Nat → Int64)) (xcells : (Nat → Int64)) (xheapSite : (Nat → Int32)) (xoutputs : (Nat → Int64)) (ygrew : Int32) (yhas : (Nat → Int32)) (ymark : (Nat → Int32)) (yreach : (Nat → Int32)) (ysingle : (Nat → Int32)) (yexact : (Nat → Int32)) (yverdicts : (Nat → Int32)) (yseen : (Nat → Int32)) (yeffect : (Nat → Int32)) (yfacts : (Nat → Int32)) (ysiteOf : (Nat → Int32)), rl_S R V G H n q xstate → pg_ok R V G n xopAt xaAt xbAt xcAt → (¬ xstate = 0 → ax_P n G V xopAt xaAt xbAt xreachable xsingleSites ximproved xrep xpts xvarSet xholdsIn xneedAfter xverdicts ∧ ay_P n G V xopAt xaAt xbAt yhas yreach ysingle yexact yverdicts) → (xstate = 2 → rn_F G H 0 xrunStatus xrunSteps xrunOutputs xrunReads xrunWrites xrunMade xrunPlace xheapSite yfacts ysiteOf ∧ rn_F G H 1 xrunStatus xrunSteps xrunOutputs xrunReads xrunWrites xrunMade xrunPlace xheapSite yfacts ysiteOf) → P (nI R, nI V, nI G, nI H, nI n, nI q, xstate, xpending, xreachable, xsingleSites, xexactVars, ximproved, xopAt, xaAt, xbAt, xcAt, xinputs, xrep, xpts, xdone, xflowsTo, xtried, xloads, xstores, xnext, xprev, xafter, xvarSet, xgen, xkill, xholdsIn, xreads, xcovers, xneedIn, xneedAfter, xverdicts, xrunStatus, xrunSteps, xrunOutputs, xrunReads, xrunWrites, xrunMade, xrunPlace, xvars, xcells, xheapSite, xoutputs) (nI R, nI V, nI G, nI H, nI n, nI q, xstate, ygrew, xinputs, xopAt, xaAt, xbAt, xcAt, yhas, ymark, yreach, ysingle, yexact, yverdicts, yseen, yeffect, yfacts, xvars, xcells, ysiteOf, xoutputs)) → P u v
theorem rl_in {k R V G H n q : Nat} (xstate : Int32) (xpending : Int64) (xreachable : Int64) (xsingleSites : Int64) (xexactVars : Int32) (ximproved : Int32) (xopAt : (Nat → Int32)) (xaAt : (Nat → Int32)) (xbAt : (Nat → Int32)) (xcAt : (Nat → Int32)) (xinputs : (Nat → Int32)) (xrep : (Nat → Int32)) (xpts : (Nat → Int64)) (xdone : (Nat → Int64)) (xflowsTo : (Nat → Int64)) (xtried : (Nat → Int64)) (xloads : (Nat → Int32)) (xstores : (Nat → Int32)) (xnext : (Nat → Int64)) (xprev : (Nat → Int64)) (xafter : (Nat → Int64)) (xvarSet : (Nat → Int64)) (xgen : (Nat → Int64)) (xkill : (Nat → Int64)) (xholdsIn : (Nat → Int64)) (xreads : (Nat → Int32)) (xcovers : (Nat → Int32)) (xneedIn : (Nat → Int32)) (xneedAfter : (Nat → Int32)) (xverdicts : (Nat → Int32)) (xrunStatus : (Nat → Int32)) (xrunSteps : (Nat → Int32)) (xrunOutputs : (Nat → Int32)) (xrunReads : (Nat → Int32)) (xrunWrites : (Nat → Int32)) (xrunMade : (Nat → Int32)) (xrunPlace : (Nat → Int32)) (xvars : (Nat → Int64)) (xcells : (Nat → Int64)) (xheapSite : (Nat → Int32)) (xoutputs : (Nat → Int64)) (ygrew : Int32) (yhas : (Nat → Int32)) (ymark : (Nat → Int32)) (yreach : (Nat → Int32)) (ysingle : (Nat → Int32)) (yexact : (Nat → Int32)) (yverdicts : (Nat → Int32)) (yseen : (Nat → Int32)) (yeffect : (Nat → Int32)) (yfacts : (Nat → Int32)) (ysiteOf : (Nat → Int32)) (h1 : rl_S R V G H n q xstate) (h2 : pg_ok R V G n xopAt xaAt xbAt xcAt) (h3 : (¬ xstate = 0 → ax_P n G V xopAt xaAt xbAt xreachable xsingleSites ximproved xrep xpts xvarSet xholdsIn xneedAfter xverdicts ∧ ay_P n G V xopAt xaAt xbAt yhas yreach ysingle yexact yverdicts)) (h4 : (xstate = 2 → rn_F G H 0 xrunStatus xrunSteps xrunOutputs xrunReads xrunWrites xrunMade xrunPlace xheapSite yfacts ysiteOf ∧ rn_F G H 1 xrunStatus xrunSteps xrunOutputs xrunReads xrunWrites xrunMade xrunPlace xheapSite yfacts ysiteOf)) : i_Rel k (nI R, nI V, nI G, nI H, nI n, nI q, xstate, xpending, xreachable, xsingleSites, xexactVars, ximproved, xopAt, xaAt, xbAt, xcAt, xinputs, xrep, xpts, xdone, xflowsTo, xtried, xloads, xstores, xnext, xprev, xafter, xvarSet, xgen, xkill, xholdsIn, xreads, xcovers, xneedIn, xneedAfter, xverdicts, xrunStatus, xrunSteps, xrunOutputs, xrunReads, xrunWrites, xrunMade, xrunPlace, xvars, xcells, xheapSite, xoutputs) (nI R, nI V, nI G, nI H, nI n, nI q, xstate, ygrew, xinputs, xopAt, xaAt, xbAt, xcAt, yhas, ymark, yreach, ysingle, yexact, yverdicts, yseen, yeffect, yfacts, xvars, xcells, ysiteOf, xoutputs) :=
  fun _ h => h R V G H n q xstate xpending xreachable xsingleSites xexactVars ximproved xopAt xaAt xbAt xcAt xinputs xrep xpts xdone xflowsTo xtried xloads xstores xnext xprev xafter xvarSet xgen xkill xholdsIn xreads xcovers xneedIn xneedAfter xverdicts xrunStatus xrunSteps xrunOutputs xrunReads xrunWrites xrunMade xrunPlace xvars xcells xheapSite xoutputs ygrew yhas ymark yreach ysingle yexact yverdicts yseen yeffect yfacts ysiteOf h1 h2 h3 h4
theorem i_up {k : Nat} {u : SX} {v : SY} (h : i_Rel k u v) : i_Rel (k + 5) u v := h
theorem pg_le {R V G n m : Nat} {op fa fb fc : Nat → Int32} (h : pg_ok R V G n op fa fb fc) (hm : m ≤ n) : pg_ok R V G m op fa fb fc := fun i hi => h i (by omega)
theorem vs_1u {V : Nat} {op fb : Nat → Int32} {HL : Nat → Nat → Nat → Prop} {i : Nat} {w x : Int32} (h : vs_1 V op fb HL i w) (g : vs_1 V op fb HL i x) : w = x := by
  rcases h with ⟨o, a, a1, a2, a3, a4⟩ | ⟨a1, a2⟩ <;> rcases g with ⟨o', b, b1, b2, b3, b4⟩ | ⟨b1, b2⟩
  · have e : a = b := by
      rcases Nat.lt_trichotomy a b with z | z | z
      · exact absurd a3 (b4 a z)
      · exact z
      · exact absurd b3 (a4 b z)
    rw [a2, b2, e]
  · exact absurd a3 (b1 o a a1)
  · exact absurd b3 (a1 o' b b1)
  · rw [a2, b2]
theorem vs_2u {n G V : Nat} {op fa fb : Nat → Int32} {i : Nat} {w x : Int32} (h : vs_2 n G V op fa fb i w) (g : vs_2 n G V op fa fb i x) : w = x := by
  rcases h with ⟨a, b, c, d⟩ | ⟨a, b⟩ <;> rcases g with ⟨a', b', c', d'⟩ | ⟨a', b'⟩
  · rw [d, d']
  · exact absurd ⟨a, b, c⟩ a'
  · exact absurd ⟨a', b', c'⟩ a
  · exact vs_1u b b'
theorem vs_2r {n G V : Nat} {op fa fb : Nat → Int32} {i : Nat} {w : Int32} (h : vs_2 n G V op fa fb i w) : w = 0 ∨ w = 1 ∨ ∃ x, x < V ∧ w = nI (16 + x) := by
  rcases h with ⟨a, b, c, d⟩ | ⟨a, ⟨_, x, x1, x2, _⟩ | ⟨_, b⟩⟩
  · exact Or.inr (Or.inl d)
  · exact Or.inr (Or.inr ⟨x, x1, x2⟩)
  · exact Or.inl b
theorem ax_cc {a b : Nat → Int32} (n : Nat) (h : ∀ i, i < n → a i = b i) : ax_c a n = ax_c b n :=
  Nat.le_antisymm (ct_le n (fun j hj z => decide_eq_true (by have := of_decide_eq_true z; rwa [h j hj] at this))) (ct_le n (fun j hj z => decide_eq_true (by have := of_decide_eq_true z; rwa [← h j hj] at this)))
/-- a clamp as a number -/
def cq_n (lo hi : Nat) (x : Int32) : Nat := if nI lo ≤ x then (if x ≤ nI hi then x.toNatClampNeg else hi) else lo
theorem cq_b {lo hi : Nat} (h : lo ≤ hi) (hh : hi < 2 ^ 31) (x : Int32) : lo ≤ cq_n lo hi x ∧ cq_n lo hi x ≤ hi := by
  unfold cq_n
  by_cases a : nI lo ≤ x
  · rw [if_pos a]
    by_cases b : x ≤ nI hi
    · rw [if_pos b]
      have a0 : ¬ x < 0 := by
        rw [Int32.le_iff_toInt_le, nI_toInt (by omega)] at a
        rw [Int32.lt_iff_toInt_lt, show (0 : Int32).toInt = 0 by decide]
        omega
      obtain ⟨j, hj, e⟩ := nI_of a0
      rw [e, nI_clamp hj]
      rw [e, nI_leI (by omega) hj] at a
      rw [e, nI_leI hj (by omega)] at b
      exact ⟨a, b⟩
    · rw [if_neg b]; omega
  · rw [if_neg a]; omega
theorem cq_v {lo hi : Nat} {x : Int32} (h : lo < 2 ^ 31) (a : nI lo ≤ x) (b : x ≤ nI hi) : nI (cq_n lo hi x) = x := by
  unfold cq_n
  rw [if_pos a, if_pos b]
  have a0 : ¬ x < 0 := by
    rw [Int32.le_iff_toInt_le, nI_toInt h] at a
    rw [Int32.lt_iff_toInt_lt, show (0 : Int32).toInt = 0 by decide]
    omega
  obtain ⟨j, hj, e⟩ := nI_of a0
  rw [e, nI_clamp hj]
theorem cq_x {post : Int32 → Prop} {u : SX} {x : Int32} (lo hi : Nat) (hlo : lo < 2 ^ 31) (K : post (nI (cq_n lo hi x))) : wpX_clamp post u x (nI lo) (nI hi) := by
  have key : (nI lo ≤ x → ((x ≤ nI hi → post x) ∧ (¬ x ≤ nI hi → post (nI hi)))) ∧ (¬ nI lo ≤ x → post (nI lo)) := by
    refine ⟨fun a => ⟨fun b => ?_, fun b => ?_⟩, fun a => ?_⟩
    · rw [cq_v hlo a b] at K; exact K
    · unfold cq_n at K; rw [if_pos a, if_neg b] at K; exact K
    · unfold cq_n at K; rw [if_neg a] at K; exact K
  exact key
theorem cq_y {post : Int32 → Prop} {u : SY} {x : Int32} (lo hi : Nat) (hlo : lo < 2 ^ 31) (K : post (nI (cq_n lo hi x))) : wpY_clamp post u x (nI lo) (nI hi) := by
  have key : (nI lo ≤ x → ((x ≤ nI hi → post x) ∧ (¬ x ≤ nI hi → post (nI hi)))) ∧ (¬ nI lo ≤ x → post (nI lo)) := by
    refine ⟨fun a => ⟨fun b => ?_, fun b => ?_⟩, fun a => ?_⟩
    · rw [cq_v hlo a b] at K; exact K
    · unfold cq_n at K; rw [if_pos a, if_neg b] at K; exact K
    · unfold cq_n at K; rw [if_neg a] at K; exact K
  exact key
theorem i_vc0 (k0 : Int32) (k1 : Int32) (k2 : Int32) (k3 : Int32) : wpX_init (fun u => wpY_init (fun v => i_Rel 4 u v) k0 k1 k2 k3) k0 k1 k2 k3 := by
  unfold wpX_init
  refine cq_x 4 32 (by decide) (cq_x 2 8 (by decide) (cq_x 1 8 (by decide) (cq_x 1 32 (by decide) ?_)))
  unfold wpY_init
  refine cq_y 4 32 (by decide) (cq_y 2 8 (by decide) (cq_y 1 8 (by decide) (cq_y 1 32 (by decide) ?_)))
  have b0 := cq_b (lo := 4) (hi := 32) (by decide) (by decide) k0
  have b1 := cq_b (lo := 2) (hi := 8) (by decide) (by decide) k1
  have b2 := cq_b (lo := 1) (hi := 8) (by decide) (by decide) k2
  have b3 := cq_b (lo := 1) (hi := 32) (by decide) (by decide) k3
  intro P h
  refine h (cq_n 4 32 k0) (cq_n 2 8 k1) (cq_n 1 8 k2) (cq_n 1 32 k3) 0 0 0 0 0 0 0 0 (fun _ => 0) (fun _ => 0) (fun _ => 0) (fun _ => 0) (fun _ => 0) (fun _ => 0) (fun _ => 0) (fun _ => 0) (fun _ => 0) (fun _ => 0) (fun _ => 0) (fun _ => 0) (fun _ => 0) (fun _ => 0) (fun _ => 0) (fun _ => 0) (fun _ => 0) (fun _ => 0) (fun _ => 0) (fun _ => 0) (fun _ => 0) (fun _ => 0) (fun _ => 0) (fun _ => 0) (fun _ => 0) (fun _ => 0) (fun _ => 0) (fun _ => 0) (fun _ => 0) (fun _ => 0) (fun _ => 0) (fun _ => 0) (fun _ => 0) (fun _ => 0) (fun _ => 0) 0 (fun _ => 0) (fun _ => 0) (fun _ => 0) (fun _ => 0) (fun _ => 0) (fun _ => 0) (fun _ => 0) (fun _ => 0) (fun _ => 0) (fun _ => 0) ⟨b0.1, b0.2, b1.1, b1.2, b2.1, b2.2, b3.1, b3.2, by omega, by omega, Or.inl rfl⟩ (fun i hi => absurd hi (Nat.not_lt_zero i)) (fun z => absurd rfl z) (fun z => absurd z (by decide))
end
section


theorem i_vc_seek {k : Nat} {u : SX} {v : SY} (I : i_Rel k u v) (hk : k + 5 ≤ 2564) (v1 : Int32) : wpX_seek (fun r u' => wpY_seek (fun r' v' => r' = r ∧ i_Rel (k + 5) u' v') v v1) u v1 := by
  refine I (fun u v => wpX_seek (fun r u' => wpY_seek (fun r' v' => r' = r ∧ i_Rel (k + 5) u' v') v v1) u v1) ?_
  intro R V G H n q xstate xpending xreachable xsingleSites xexactVars ximproved xopAt xaAt xbAt xcAt xinputs xrep xpts xdone xflowsTo xtried xloads xstores xnext xprev xafter xvarSet xgen xkill xholdsIn xreads xcovers xneedIn xneedAfter xverdicts xrunStatus xrunSteps xrunOutputs xrunReads xrunWrites xrunMade xrunPlace xvars xcells xheapSite xoutputs ygrew yhas ymark yreach ysingle yexact yverdicts yseen yeffect yfacts ysiteOf h1 h2 h3 h4
  have hR : ∀ k : Nat, i_Rel k (nI R, nI V, nI G, nI H, nI n, nI q, xstate, xpending, xreachable, xsingleSites, xexactVars, ximproved, xopAt, xaAt, xbAt, xcAt, xinputs, xrep, xpts, xdone, xflowsTo, xtried, xloads, xstores, xnext, xprev, xafter, xvarSet, xgen, xkill, xholdsIn, xreads, xcovers, xneedIn, xneedAfter, xverdicts, xrunStatus, xrunSteps, xrunOutputs, xrunReads, xrunWrites, xrunMade, xrunPlace, xvars, xcells, xheapSite, xoutputs) (nI R, nI V, nI G, nI H, nI n, nI q, xstate, ygrew, xinputs, xopAt, xaAt, xbAt, xcAt, yhas, ymark, yreach, ysingle, yexact, yverdicts, yseen, yeffect, yfacts, xvars, xcells, ysiteOf, xoutputs) := fun k => rl_in xstate xpending xreachable xsingleSites xexactVars ximproved xopAt xaAt xbAt xcAt xinputs xrep xpts xdone xflowsTo xtried xloads xstores xnext xprev xafter xvarSet xgen xkill xholdsIn xreads xcovers xneedIn xneedAfter xverdicts xrunStatus xrunSteps xrunOutputs xrunReads xrunWrites xrunMade xrunPlace xvars xcells xheapSite xoutputs ygrew yhas ymark yreach ysingle yexact yverdicts yseen yeffect yfacts ysiteOf h1 h2 h3 h4
  obtain ⟨s1, s2, s3, s4, s5, s6, s7, s8, s9, s10, s11⟩ := h1
  refine br_c (fun a => br_t a ⟨rfl, hR _⟩) (fun a => br_c (fun b => br_f a (br_t b ⟨rfl, ?_⟩)) (fun b => br_f a (br_f b ⟨rfl, hR _⟩)))
  obtain ⟨j, hj, e⟩ := nI_of a
  subst e
  rw [nI_leI hj (by omega)] at b
  exact rl_in (q := j) xstate xpending xreachable xsingleSites xexactVars ximproved xopAt xaAt xbAt xcAt xinputs xrep xpts xdone xflowsTo xtried xloads xstores xnext xprev xafter xvarSet xgen xkill xholdsIn xreads xcovers xneedIn xneedAfter xverdicts xrunStatus xrunSteps xrunOutputs xrunReads xrunWrites xrunMade xrunPlace xvars xcells xheapSite xoutputs ygrew yhas ymark yreach ysingle yexact yverdicts yseen yeffect yfacts ysiteOf ⟨s1, s2, s3, s4, s5, s6, s7, s8, s9, b, s11⟩ h2 h3 h4
theorem i_vc_truncate {k : Nat} {u : SX} {v : SY} (I : i_Rel k u v) (hk : k + 5 ≤ 2564) : wpX_truncate (fun r u' => wpY_truncate (fun r' v' => r' = r ∧ i_Rel (k + 5) u' v') v) u := by
  refine I (fun u v => wpX_truncate (fun r u' => wpY_truncate (fun r' v' => r' = r ∧ i_Rel (k + 5) u' v') v) u) ?_
  intro R V G H n q xstate xpending xreachable xsingleSites xexactVars ximproved xopAt xaAt xbAt xcAt xinputs xrep xpts xdone xflowsTo xtried xloads xstores xnext xprev xafter xvarSet xgen xkill xholdsIn xreads xcovers xneedIn xneedAfter xverdicts xrunStatus xrunSteps xrunOutputs xrunReads xrunWrites xrunMade xrunPlace xvars xcells xheapSite xoutputs ygrew yhas ymark yreach ysingle yexact yverdicts yseen yeffect yfacts ysiteOf h1 h2 h3 h4
  have hR : ∀ k : Nat, i_Rel k (nI R, nI V, nI G, nI H, nI n, nI q, xstate, xpending, xreachable, xsingleSites, xexactVars, ximproved, xopAt, xaAt, xbAt, xcAt, xinputs, xrep, xpts, xdone, xflowsTo, xtried, xloads, xstores, xnext, xprev, xafter, xvarSet, xgen, xkill, xholdsIn, xreads, xcovers, xneedIn, xneedAfter, xverdicts, xrunStatus, xrunSteps, xrunOutputs, xrunReads, xrunWrites, xrunMade, xrunPlace, xvars, xcells, xheapSite, xoutputs) (nI R, nI V, nI G, nI H, nI n, nI q, xstate, ygrew, xinputs, xopAt, xaAt, xbAt, xcAt, yhas, ymark, yreach, ysingle, yexact, yverdicts, yseen, yeffect, yfacts, xvars, xcells, ysiteOf, xoutputs) := fun k => rl_in xstate xpending xreachable xsingleSites xexactVars ximproved xopAt xaAt xbAt xcAt xinputs xrep xpts xdone xflowsTo xtried xloads xstores xnext xprev xafter xvarSet xgen xkill xholdsIn xreads xcovers xneedIn xneedAfter xverdicts xrunStatus xrunSteps xrunOutputs xrunReads xrunWrites xrunMade xrunPlace xvars xcells xheapSite xoutputs ygrew yhas ymark yreach ysingle yexact yverdicts yseen yeffect yfacts ysiteOf h1 h2 h3 h4
  obtain ⟨s1, s2, s3, s4, s5, s6, s7, s8, s9, s10, s11⟩ := h1
  refine pk_lt q n (fun z => nm_r (pk_sub s10) (nm_r (pk_sub s10) (br_f (nI_ne0 (by omega) (by omega)) ⟨rfl, ?_⟩))) (fun z => nm_r (pk_sub s10) (br_t (by rw [show n - q = 0 by omega]; rfl) ⟨rfl, hR _⟩))
  exact rl_in (n := q) 0 xpending xreachable xsingleSites xexactVars ximproved xopAt xaAt xbAt xcAt xinputs xrep xpts xdone xflowsTo xtried xloads xstores xnext xprev xafter xvarSet xgen xkill xholdsIn xreads xcovers xneedIn xneedAfter xverdicts xrunStatus xrunSteps xrunOutputs xrunReads xrunWrites xrunMade xrunPlace xvars xcells xheapSite xoutputs ygrew yhas ymark yreach ysingle yexact yverdicts yseen yeffect yfacts ysiteOf ⟨s1, s2, s3, s4, s5, s6, s7, s8, by omega, Nat.le_refl q, Or.inl rfl⟩ (pg_le h2 s10) (fun z => absurd rfl z) (fun z => absurd z (by decide))
theorem i_vc_setInput {k : Nat} {u : SX} {v : SY} (I : i_Rel k u v) (hk : k + 5 ≤ 2564) (v1 : Int32) (v2 : Int32) : wpX_setInput (fun r u' => wpY_setInput (fun r' v' => r' = r ∧ i_Rel (k + 5) u' v') v v1 v2) u v1 v2 := by
  refine I (fun u v => wpX_setInput (fun r u' => wpY_setInput (fun r' v' => r' = r ∧ i_Rel (k + 5) u' v') v v1 v2) u v1 v2) ?_
  intro R V G H n q xstate xpending xreachable xsingleSites xexactVars ximproved xopAt xaAt xbAt xcAt xinputs xrep xpts xdone xflowsTo xtried xloads xstores xnext xprev xafter xvarSet xgen xkill xholdsIn xreads xcovers xneedIn xneedAfter xverdicts xrunStatus xrunSteps xrunOutputs xrunReads xrunWrites xrunMade xrunPlace xvars xcells xheapSite xoutputs ygrew yhas ymark yreach ysingle yexact yverdicts yseen yeffect yfacts ysiteOf h1 h2 h3 h4
  have hR : ∀ k : Nat, i_Rel k (nI R, nI V, nI G, nI H, nI n, nI q, xstate, xpending, xreachable, xsingleSites, xexactVars, ximproved, xopAt, xaAt, xbAt, xcAt, xinputs, xrep, xpts, xdone, xflowsTo, xtried, xloads, xstores, xnext, xprev, xafter, xvarSet, xgen, xkill, xholdsIn, xreads, xcovers, xneedIn, xneedAfter, xverdicts, xrunStatus, xrunSteps, xrunOutputs, xrunReads, xrunWrites, xrunMade, xrunPlace, xvars, xcells, xheapSite, xoutputs) (nI R, nI V, nI G, nI H, nI n, nI q, xstate, ygrew, xinputs, xopAt, xaAt, xbAt, xcAt, yhas, ymark, yreach, ysingle, yexact, yverdicts, yseen, yeffect, yfacts, xvars, xcells, ysiteOf, xoutputs) := fun k => rl_in xstate xpending xreachable xsingleSites xexactVars ximproved xopAt xaAt xbAt xcAt xinputs xrep xpts xdone xflowsTo xtried xloads xstores xnext xprev xafter xvarSet xgen xkill xholdsIn xreads xcovers xneedIn xneedAfter xverdicts xrunStatus xrunSteps xrunOutputs xrunReads xrunWrites xrunMade xrunPlace xvars xcells xheapSite xoutputs ygrew yhas ymark yreach ysingle yexact yverdicts yseen yeffect yfacts ysiteOf h1 h2 h3 h4
  by_cases a : v1 < 0
  · refine br_t a ?_
    unfold wpY_setInput
    exact br_t a (br_t rfl ⟨rfl, hR _⟩)
  · obtain ⟨j, hj, e⟩ := nI_of a
    subst e
    refine br_f a (pk_le j 3 (fun z => ⟨vp_in_nI (by omega) (by omega), nm_r (e' := upd xinputs j v2) (by rw [nI_clamp hj]) ?_⟩) (fun z => ?_))
    · unfold wpY_setInput
      refine br_f a (br_f (nI_ge (b := 4) (by omega) (by omega)) (br_f (by decide) ⟨vp_in_nI (by omega) (by omega), nm_r (e' := upd xinputs j v2) (by rw [nI_clamp hj]) ⟨rfl, ?_⟩⟩))
      exact rl_in xstate xpending xreachable xsingleSites xexactVars ximproved xopAt xaAt xbAt xcAt (upd xinputs j v2) xrep xpts xdone xflowsTo xtried xloads xstores xnext xprev xafter xvarSet xgen xkill xholdsIn xreads xcovers xneedIn xneedAfter xverdicts xrunStatus xrunSteps xrunOutputs xrunReads xrunWrites xrunMade xrunPlace xvars xcells xheapSite xoutputs ygrew yhas ymark yreach ysingle yexact yverdicts yseen yeffect yfacts ysiteOf h1 h2 h3 h4
    · unfold wpY_setInput
      exact br_f a (br_t (nI_le (a := 4) (by omega) hj) (br_t rfl ⟨rfl, hR _⟩))
/-! put -/
def ed_A (R V : Nat) (o a : Int32) : Prop := (o = 10 → ∃ j, j < R + 1 ∧ a = nI j) ∧ (¬ o = 10 → ∃ j, j < V ∧ a = nI j)
def ed_B (R V G : Nat) (o b : Int32) : Prop := (o = 2 → ∃ j, j < 4 ∧ b = nI j) ∧ (o = 6 → ∃ j, j < G ∧ b = nI j) ∧ (o = 11 → ∃ j, j < R + 1 ∧ b = nI j) ∧ ((o = 3 ∨ o = 4 ∨ o = 5 ∨ o = 8 ∨ o = 9) → ∃ j, j < V ∧ b = nI j)
def ed_C (V : Nat) (o c : Int32) : Prop := (o = 4 ∨ o = 5) → ∃ j, j < V ∧ c = nI j
def ed_b (o b : Int32) : Int32 := if o = 7 ∨ o = 10 ∨ o = 12 then 0 else b
def ed_c (o c : Int32) : Int32 := if o = 4 ∨ o = 5 then c else 0
section
variable {xmaxLength : Int32} {xvariableCount : Int32} {xglobalCount : Int32} {xheapLimit : Int32} {xlength : Int32} {xcursor : Int32} {xstate : Int32} {xpending : Int64} {xreachable : Int64} {xsingleSites : Int64} {xexactVars : Int32} {ximproved : Int32} {xopAt : (Nat → Int32)} {xaAt : (Nat → Int32)} {xbAt : (Nat → Int32)} {xcAt : (Nat → Int32)} {xinputs : (Nat → Int32)} {xrep : (Nat → Int32)} {xpts : (Nat → Int64)} {xdone : (Nat → Int64)} {xflowsTo : (Nat → Int64)} {xtried : (Nat → Int64)} {xloads : (Nat → Int32)} {xstores : (Nat → Int32)} {xnext : (Nat → Int64)} {xprev : (Nat → Int64)} {xafter : (Nat → Int64)} {xvarSet : (Nat → Int64)} {xgen : (Nat → Int64)} {xkill : (Nat → Int64)} {xholdsIn : (Nat → Int64)} {xreads : (Nat → Int32)} {xcovers : (Nat → Int32)} {xneedIn : (Nat → Int32)} {xneedAfter : (Nat → Int32)} {xverdicts : (Nat → Int32)} {xrunStatus : (Nat → Int32)} {xrunSteps : (Nat → Int32)} {xrunOutputs : (Nat → Int32)} {xrunReads : (Nat → Int32)} {xrunWrites : (Nat → Int32)} {xrunMade : (Nat → Int32)} {xrunPlace : (Nat → Int32)} {xvars : (Nat → Int64)} {xcells : (Nat → Int64)} {xheapSite : (Nat → Int32)} {xoutputs : (Nat → Int64)}
variable {R V G H n q : Nat} {pst : Int32 → Prop}
theorem ed_var {a : Int32} (hV : V ≤ 8) (h1 : (∃ j, j < V ∧ a = nI j) → pst 1) (h0 : (¬ ∃ j, j < V ∧ a = nI j) → pst 0) : wpX_isVariable pst (nI R, nI V, nI G, nI H, nI n, nI q, xstate, xpending, xreachable, xsingleSites, xexactVars, ximproved, xopAt, xaAt, xbAt, xcAt, xinputs, xrep, xpts, xdone, xflowsTo, xtried, xloads, xstores, xnext, xprev, xafter, xvarSet, xgen, xkill, xholdsIn, xreads, xcovers, xneedIn, xneedAfter, xverdicts, xrunStatus, xrunSteps, xrunOutputs, xrunReads, xrunWrites, xrunMade, xrunPlace, xvars, xcells, xheapSite, xoutputs) a :=
  ix_br (by omega) h0 h0 (fun j hj e => h1 ⟨j, hj, e⟩)
theorem ed_tgt {a : Int32} (hR : R ≤ 32) (h1 : (∃ j, j < R + 1 ∧ a = nI j) → pst 1) (h0 : (¬ ∃ j, j < R + 1 ∧ a = nI j) → pst 0) : wpX_isTarget pst (nI R, nI V, nI G, nI H, nI n, nI q, xstate, xpending, xreachable, xsingleSites, xexactVars, ximproved, xopAt, xaAt, xbAt, xcAt, xinputs, xrep, xpts, xdone, xflowsTo, xtried, xloads, xstores, xnext, xprev, xafter, xvarSet, xgen, xkill, xholdsIn, xreads, xcovers, xneedIn, xneedAfter, xverdicts, xrunStatus, xrunSteps, xrunOutputs, xrunReads, xrunWrites, xrunMade, xrunPlace, xvars, xcells, xheapSite, xoutputs) a := by
  by_cases z : a < 0
  · exact br_t z (h0 (fun ⟨j, hj, e⟩ => by rw [e] at z; exact nI_pos (by omega) z))
  · obtain ⟨j, hj, e⟩ := nI_of z
    subst e
    exact br_f z (pk_lt R j (fun y => h0 (fun ⟨i, hi, e⟩ => by rw [nI_eq hj (by omega)] at e; omega)) (fun y => h1 ⟨j, by omega, rfl⟩))
theorem ed_fA {o a : Int32} (hR : R ≤ 32) (hV : V ≤ 8) (h1 : ed_A R V o a → pst 1) (h0 : ¬ ed_A R V o a → pst 0) : wpX_fitsA pst (nI R, nI V, nI G, nI H, nI n, nI q, xstate, xpending, xreachable, xsingleSites, xexactVars, ximproved, xopAt, xaAt, xbAt, xcAt, xinputs, xrep, xpts, xdone, xflowsTo, xtried, xloads, xstores, xnext, xprev, xafter, xvarSet, xgen, xkill, xholdsIn, xreads, xcovers, xneedIn, xneedAfter, xverdicts, xrunStatus, xrunSteps, xrunOutputs, xrunReads, xrunWrites, xrunMade, xrunPlace, xvars, xcells, xheapSite, xoutputs) o a :=
  br_c (fun z => ed_tgt hR (fun y => ⟨narrow_b1, h1 ⟨fun _ => y, fun w => absurd z w⟩⟩) (fun y => ⟨narrow_b0, h0 (fun w => y (w.1 z))⟩)) (fun z => ed_var hV (fun y => ⟨narrow_b1, h1 ⟨fun w => absurd w z, fun _ => y⟩⟩) (fun y => ⟨narrow_b0, h0 (fun w => y (w.2 z))⟩))
theorem ed_uB {o : Int32} (h0 : (o = 7 ∨ o = 10 ∨ o = 12) → pst 0) (h1 : ¬ (o = 7 ∨ o = 10 ∨ o = 12) → pst 1) : wpX_usesB pst (nI R, nI V, nI G, nI H, nI n, nI q, xstate, xpending, xreachable, xsingleSites, xexactVars, ximproved, xopAt, xaAt, xbAt, xcAt, xinputs, xrep, xpts, xdone, xflowsTo, xtried, xloads, xstores, xnext, xprev, xafter, xvarSet, xgen, xkill, xholdsIn, xreads, xcovers, xneedIn, xneedAfter, xverdicts, xrunStatus, xrunSteps, xrunOutputs, xrunReads, xrunWrites, xrunMade, xrunPlace, xvars, xcells, xheapSite, xoutputs) o :=
  br_c (fun a => h0 (Or.inl a)) (fun a => br_c (fun b => h0 (Or.inr (Or.inl b))) (fun b => br_c (fun c => h0 (Or.inr (Or.inr c))) (fun c => h1 (fun z => z.elim a (fun z => z.elim b c)))))
theorem ed_uC {o : Int32} (h1 : (o = 4 ∨ o = 5) → pst 1) (h0 : ¬ (o = 4 ∨ o = 5) → pst 0) : wpX_usesC pst (nI R, nI V, nI G, nI H, nI n, nI q, xstate, xpending, xreachable, xsingleSites, xexactVars, ximproved, xopAt, xaAt, xbAt, xcAt, xinputs, xrep, xpts, xdone, xflowsTo, xtried, xloads, xstores, xnext, xprev, xafter, xvarSet, xgen, xkill, xholdsIn, xreads, xcovers, xneedIn, xneedAfter, xverdicts, xrunStatus, xrunSteps, xrunOutputs, xrunReads, xrunWrites, xrunMade, xrunPlace, xvars, xcells, xheapSite, xoutputs) o :=
  br_c (fun a => h1 (Or.inl a)) (fun a => br_c (fun b => h1 (Or.inr b)) (fun b => h0 (fun z => z.elim a b)))
theorem ed_fB {o : Nat} {b : Int32} (hR : R ≤ 32) (hV : V ≤ 8) (hG : G ≤ 8) (o1 : 1 ≤ o) (o2 : o ≤ 12) (h1 : ed_B R V G (nI o) b → pst 1) (h0 : ¬ ed_B R V G (nI o) b → pst 0) : wpX_fitsB pst (nI R, nI V, nI G, nI H, nI n, nI q, xstate, xpending, xreachable, xsingleSites, xexactVars, ximproved, xopAt, xaAt, xbAt, xcAt, xinputs, xrep, xpts, xdone, xflowsTo, xtried, xloads, xstores, xnext, xprev, xafter, xvarSet, xgen, xkill, xholdsIn, xreads, xcovers, xneedIn, xneedAfter, xverdicts, xrunStatus, xrunSteps, xrunOutputs, xrunReads, xrunWrites, xrunMade, xrunPlace, xvars, xcells, xheapSite, xoutputs) (nI o) b := by
  have ne : ∀ x y : Nat, x < 13 → y < 13 → ¬ x = y → ¬ nI x = nI y := fun x y hx hy h z => h ((nI_eq (by omega) (by omega)).mp z)
  have none : (o = 1 ∨ o = 7 ∨ o = 10 ∨ o = 12) → ed_B R V G (nI o) b := by
    intro h
    refine ⟨fun z => ?_, fun z => ?_, fun z => ?_, fun z => ?_⟩
    · exact absurd z (ne o 2 (by omega) (by omega) (by omega))
    · exact absurd z (ne o 6 (by omega) (by omega) (by omega))
    · exact absurd z (ne o 11 (by omega) (by omega) (by omega))
    · rcases z with z | z | z | z | z
      · exact absurd z (ne o 3 (by omega) (by omega) (by omega))
      · exact absurd z (ne o 4 (by omega) (by omega) (by omega))
      · exact absurd z (ne o 5 (by omega) (by omega) (by omega))
      · exact absurd z (ne o 8 (by omega) (by omega) (by omega))
      · exact absurd z (ne o 9 (by omega) (by omega) (by omega))
  have no : ∀ x y : Nat, o = x → x < 13 → y < 13 → ¬ x = y → ¬ nI o = nI y := fun x y e hx hy h => by rw [e]; exact ne x y hx hy h
  refine pk_eq o 1 (fun z => h1 (none (Or.inl z))) (fun z1 => ?_)
  refine ed_uB (fun z => br_t rfl (h1 (none ?_))) (fun z => br_f (by decide) ?_)
  · rcases z with z | z | z
    · exact Or.inr (Or.inl ((nI_eq (b := 7) (by omega) (by omega)).mp z))
    · exact Or.inr (Or.inr (Or.inl ((nI_eq (b := 10) (by omega) (by omega)).mp z)))
    · exact Or.inr (Or.inr (Or.inr ((nI_eq (b := 12) (by omega) (by omega)).mp z)))
  · have z7 : ¬ o = 7 := fun e => z (Or.inl (by rw [e]; rfl))
    have z10 : ¬ o = 10 := fun e => z (Or.inr (Or.inl (by rw [e]; rfl)))
    have z12 : ¬ o = 12 := fun e => z (Or.inr (Or.inr (by rw [e]; rfl)))
    refine pk_eq o 2 (fun e => ?_) (fun z2 => pk_eq o 6 (fun e => ?_) (fun z6 => pk_eq o 11 (fun e => ?_) (fun z11 => ?_)))
    · have iff : ed_B R V G (nI o) b ↔ ∃ j, j < 4 ∧ b = nI j := by
        refine ⟨fun w => w.1 (by rw [e]; rfl), fun w => ⟨fun _ => w, fun y => absurd y (no 2 6 e (by omega) (by omega) (by omega)), fun y => absurd y (no 2 11 e (by omega) (by omega) (by omega)), fun y => ?_⟩⟩
        rcases y with y | y | y | y | y
        · exact absurd y (no 2 3 e (by omega) (by omega) (by omega))
        · exact absurd y (no 2 4 e (by omega) (by omega) (by omega))
        · exact absurd y (no 2 5 e (by omega) (by omega) (by omega))
        · exact absurd y (no 2 8 e (by omega) (by omega) (by omega))
        · exact absurd y (no 2 9 e (by omega) (by omega) (by omega))
      rw [iff] at h1 h0
      by_cases y : b < 0
      · exact br_t y (h0 (fun ⟨j, hj, e⟩ => by rw [e] at y; exact nI_pos (by omega) y))
      · obtain ⟨j, hj, e⟩ := nI_of y
        subst e
        exact br_f y (pk_lt 3 j (fun x => h0 (fun ⟨i, hi, e⟩ => by rw [nI_eq hj (by omega)] at e; omega)) (fun x => h1 ⟨j, by omega, rfl⟩))
    · have iff : ed_B R V G (nI o) b ↔ ∃ j, j < G ∧ b = nI j := by
        refine ⟨fun w => w.2.1 (by rw [e]; rfl), fun w => ⟨fun y => absurd y (no 6 2 e (by omega) (by omega) (by omega)), fun _ => w, fun y => absurd y (no 6 11 e (by omega) (by omega) (by omega)), fun y => ?_⟩⟩
        rcases y with y | y | y | y | y
        · exact absurd y (no 6 3 e (by omega) (by omega) (by omega))
        · exact absurd y (no 6 4 e (by omega) (by omega) (by omega))
        · exact absurd y (no 6 5 e (by omega) (by omega) (by omega))
        · exact absurd y (no 6 8 e (by omega) (by omega) (by omega))
        · exact absurd y (no 6 9 e (by omega) (by omega) (by omega))
      rw [iff] at h1 h0
      exact ix_br (by omega) h0 h0 (fun j hj e => h1 ⟨j, hj, e⟩)
    · have iff : ed_B R V G (nI o) b ↔ ∃ j, j < R + 1 ∧ b = nI j := by
        refine ⟨fun w => w.2.2.1 (by rw [e]; rfl), fun w => ⟨fun y => absurd y (no 11 2 e (by omega) (by omega) (by omega)), fun y => absurd y (no 11 6 e (by omega) (by omega) (by omega)), fun _ => w, fun y => ?_⟩⟩
        rcases y with y | y | y | y | y
        · exact absurd y (no 11 3 e (by omega) (by omega) (by omega))
        · exact absurd y (no 11 4 e (by omega) (by omega) (by omega))
        · exact absurd y (no 11 5 e (by omega) (by omega) (by omega))
        · exact absurd y (no 11 8 e (by omega) (by omega) (by omega))
        · exact absurd y (no 11 9 e (by omega) (by omega) (by omega))
      rw [iff] at h1 h0
      exact ed_tgt hR (fun y => ⟨narrow_b1, h1 y⟩) (fun y => ⟨narrow_b0, h0 y⟩)
    · have hv : nI o = 3 ∨ nI o = 4 ∨ nI o = 5 ∨ nI o = 8 ∨ nI o = 9 := by
        have : o = 3 ∨ o = 4 ∨ o = 5 ∨ o = 8 ∨ o = 9 := by omega
        rcases this with e | e | e | e | e
        · exact Or.inl (by rw [e]; rfl)
        · exact Or.inr (Or.inl (by rw [e]; rfl))
        · exact Or.inr (Or.inr (Or.inl (by rw [e]; rfl)))
        · exact Or.inr (Or.inr (Or.inr (Or.inl (by rw [e]; rfl))))
        · exact Or.inr (Or.inr (Or.inr (Or.inr (by rw [e]; rfl))))
      have iff : ed_B R V G (nI o) b ↔ ∃ j, j < V ∧ b = nI j := ⟨fun w => w.2.2.2 hv, fun w => ⟨fun y => absurd y (ne o 2 (by omega) (by omega) z2), fun y => absurd y (ne o 6 (by omega) (by omega) z6), fun y => absurd y (ne o 11 (by omega) (by omega) z11), fun _ => w⟩⟩
      rw [iff] at h1 h0
      exact ed_var hV (fun y => ⟨narrow_b1, h1 y⟩) (fun y => ⟨narrow_b0, h0 y⟩)
theorem ed_fC {o c : Int32} (hV : V ≤ 8) (h1 : ed_C V o c → pst 1) (h0 : ¬ ed_C V o c → pst 0) : wpX_fitsC pst (nI R, nI V, nI G, nI H, nI n, nI q, xstate, xpending, xreachable, xsingleSites, xexactVars, ximproved, xopAt, xaAt, xbAt, xcAt, xinputs, xrep, xpts, xdone, xflowsTo, xtried, xloads, xstores, xnext, xprev, xafter, xvarSet, xgen, xkill, xholdsIn, xreads, xcovers, xneedIn, xneedAfter, xverdicts, xrunStatus, xrunSteps, xrunOutputs, xrunReads, xrunWrites, xrunMade, xrunPlace, xvars, xcells, xheapSite, xoutputs) o c := by
  unfold wpX_fitsC
  exact ed_uC (fun z => br_f (by decide) (ed_var hV (fun y => br_f (by decide) (h1 (fun _ => y))) (fun y => br_t rfl (h0 (fun w => y (w z)))))) (fun z => br_t rfl (h1 (fun w => absurd w z)))
theorem ed_x {post : Int32 → SX → Prop} {o : Nat} {a b c : Int32} (hR : R ≤ 32) (hV : V ≤ 8) (hG : G ≤ 8) (hnR : n ≤ R) (hqn : q ≤ n) (o1 : 1 ≤ o) (o2 : o ≤ 12)
    (hbad : ¬ (ed_A R V (nI o) a ∧ ed_B R V G (nI o) b ∧ ed_C V (nI o) c) → post (-1) (nI R, nI V, nI G, nI H, nI n, nI q, xstate, xpending, xreachable, xsingleSites, xexactVars, ximproved, xopAt, xaAt, xbAt, xcAt, xinputs, xrep, xpts, xdone, xflowsTo, xtried, xloads, xstores, xnext, xprev, xafter, xvarSet, xgen, xkill, xholdsIn, xreads, xcovers, xneedIn, xneedAfter, xverdicts, xrunStatus, xrunSteps, xrunOutputs, xrunReads, xrunWrites, xrunMade, xrunPlace, xvars, xcells, xheapSite, xoutputs)) (hfull : ed_A R V (nI o) a ∧ ed_B R V G (nI o) b ∧ ed_C V (nI o) c → ¬ q < R → post (-2) (nI R, nI V, nI G, nI H, nI n, nI q, xstate, xpending, xreachable, xsingleSites, xexactVars, ximproved, xopAt, xaAt, xbAt, xcAt, xinputs, xrep, xpts, xdone, xflowsTo, xtried, xloads, xstores, xnext, xprev, xafter, xvarSet, xgen, xkill, xholdsIn, xreads, xcovers, xneedIn, xneedAfter, xverdicts, xrunStatus, xrunSteps, xrunOutputs, xrunReads, xrunWrites, xrunMade, xrunPlace, xvars, xcells, xheapSite, xoutputs))
    (hok : ed_A R V (nI o) a ∧ ed_B R V G (nI o) b ∧ ed_C V (nI o) c → q < R → post (nI q) (nI R, nI V, nI G, nI H, nI (if q = n then n + 1 else n), nI (q + 1), 0, xpending, xreachable, xsingleSites, xexactVars, ximproved, upd xopAt q (nI o), upd xaAt q a, upd xbAt q (ed_b (nI o) b), upd xcAt q (ed_c (nI o) c), xinputs, xrep, xpts, xdone, xflowsTo, xtried, xloads, xstores, xnext, xprev, xafter, xvarSet, xgen, xkill, xholdsIn, xreads, xcovers, xneedIn, xneedAfter, xverdicts, xrunStatus, xrunSteps, xrunOutputs, xrunReads, xrunWrites, xrunMade, xrunPlace, xvars, xcells, xheapSite, xoutputs)) : wpX_put post (nI R, nI V, nI G, nI H, nI n, nI q, xstate, xpending, xreachable, xsingleSites, xexactVars, ximproved, xopAt, xaAt, xbAt, xcAt, xinputs, xrep, xpts, xdone, xflowsTo, xtried, xloads, xstores, xnext, xprev, xafter, xvarSet, xgen, xkill, xholdsIn, xreads, xcovers, xneedIn, xneedAfter, xverdicts, xrunStatus, xrunSteps, xrunOutputs, xrunReads, xrunWrites, xrunMade, xrunPlace, xvars, xcells, xheapSite, xoutputs) (nI o) a b c := by
  refine br_f (nI_nlt (b := 1) o1 (by omega)) (br_t (nI_le (b := 12) o2 (by omega)) ?_)
  refine ed_fA hR hV (fun hA => br_f (by decide) (ed_fB hR hV hG o1 o2 (fun hB => br_f (by decide) (ed_fC hV (fun hC => br_f (by decide) ?_) (fun hC => br_t rfl (hbad (fun z => hC z.2.2))))) (fun hB => br_t rfl (hbad (fun z => hB z.2.1))))) (fun hA => br_t rfl (hbad (fun z => hA z.1)))
  refine pk_lt q R (fun hq => ?_) (fun hq => hfull ⟨hA, hB, hC⟩ (by omega))
  have K := hok ⟨hA, hB, hC⟩ hq
  have hqi : vp_in (nI q) 32 := vp_in_nI (by omega) (by omega)
  have eq : (nI q).toNatClampNeg = q := nI_clamp (by omega)
  have k119 : ∀ cv : Int32, cv = ed_c (nI o) c → wX_put_119 post (nI q) cv (nI q) (nI R) (nI V) (nI G) (nI H) (nI n) (nI q) xstate xpending xreachable xsingleSites xexactVars ximproved (upd xopAt q (nI o)) (upd xaAt q a) (upd xbAt q (ed_b (nI o) b)) xcAt xinputs xrep xpts xdone xflowsTo xtried xloads xstores xnext xprev xafter xvarSet xgen xkill xholdsIn xreads xcovers xneedIn xneedAfter xverdicts xrunStatus xrunSteps xrunOutputs xrunReads xrunWrites xrunMade xrunPlace xvars xcells xheapSite xoutputs := by
    intro cv hcv
    refine ⟨hqi, nm_r (e' := upd xcAt q (ed_c (nI o) c)) (by rw [eq, hcv]) (pk_eq q n (fun z => nm_r (nI_1 n) (nm_r (nI_1 q) ?_)) (fun z => nm_r (nI_1 q) ?_))⟩
    · rw [if_pos z] at K; exact K
    · rw [if_neg z] at K; exact K
  have k98 : ∀ bv : Int32, bv = ed_b (nI o) b → wX_put_98 post (nI o) c (nI q) bv (nI q) (nI R) (nI V) (nI G) (nI H) (nI n) (nI q) xstate xpending xreachable xsingleSites xexactVars ximproved (upd xopAt q (nI o)) (upd xaAt q a) xbAt xcAt xinputs xrep xpts xdone xflowsTo xtried xloads xstores xnext xprev xafter xvarSet xgen xkill xholdsIn xreads xcovers xneedIn xneedAfter xverdicts xrunStatus xrunSteps xrunOutputs xrunReads xrunWrites xrunMade xrunPlace xvars xcells xheapSite xoutputs := by
    intro bv hbv
    refine ⟨hqi, nm_r (e' := upd xbAt q (ed_b (nI o) b)) (by rw [eq, hbv]) (ed_uC (fun z => br_f (by decide) (k119 c ?_)) (fun z => br_t rfl (k119 0 ?_)))⟩
    · unfold ed_c; rw [if_pos z]
    · unfold ed_c; rw [if_neg z]
  refine ⟨hqi, nm_r (e' := upd xopAt q (nI o)) (by rw [eq]) ⟨hqi, nm_r (e' := upd xaAt q a) (by rw [eq]) (ed_uB (fun z => br_t rfl (k98 0 ?_)) (fun z => br_f (by decide) (k98 b ?_)))⟩⟩
  · unfold ed_b; rw [if_pos z]
  · unfold ed_b; rw [if_neg z]
end
end
section

section
variable {yroom : Int32} {yvars : Int32} {yglobals : Int32} {yheap : Int32} {ylength : Int32} {ycursor : Int32} {ystate : Int32} {ygrew : Int32} {yinputs : (Nat → Int32)} {yops : (Nat → Int32)} {yfa : (Nat → Int32)} {yfb : (Nat → Int32)} {yfc : (Nat → Int32)} {yhas : (Nat → Int32)} {ymark : (Nat → Int32)} {yreach : (Nat → Int32)} {ysingle : (Nat → Int32)} {yexact : (Nat → Int32)} {yverdicts : (Nat → Int32)} {yseen : (Nat → Int32)} {yeffect : (Nat → Int32)} {yfacts : (Nat → Int32)} {ywords : (Nat → Int64)} {ycells : (Nat → Int64)} {ysiteOf : (Nat → Int32)} {youts : (Nat → Int64)}
variable {R V G H n q o : Nat} {post : Int32 → SY → Prop} {a b c x5 : Int32}

theorem ey_185 (hR : R ≤ 32) (hV : V ≤ 8) (hG : G ≤ 8) (hnR : n ≤ R) (hqn : q ≤ n) (hx5 : (x5 = 0 ∧ ¬ (nI o = 4 ∨ nI o = 5)) ∨ (x5 = 1 ∧ (nI o = 4 ∨ nI o = 5))) (hbad : ¬ (ed_A R V (nI o) a ∧ ed_B R V G (nI o) b ∧ ed_C V (nI o) c) → post (-1) (nI R, nI V, nI G, nI H, nI n, nI q, ystate, ygrew, yinputs, yops, yfa, yfb, yfc, yhas, ymark, yreach, ysingle, yexact, yverdicts, yseen, yeffect, yfacts, ywords, ycells, ysiteOf, youts)) (hfull : (ed_A R V (nI o) a ∧ ed_B R V G (nI o) b ∧ ed_C V (nI o) c) → ¬ q < R → post (-2) (nI R, nI V, nI G, nI H, nI n, nI q, ystate, ygrew, yinputs, yops, yfa, yfb, yfc, yhas, ymark, yreach, ysingle, yexact, yverdicts, yseen, yeffect, yfacts, ywords, ycells, ysiteOf, youts)) (hok : (ed_A R V (nI o) a ∧ ed_B R V G (nI o) b ∧ ed_C V (nI o) c) → q < R → post (nI q) (nI R, nI V, nI G, nI H, nI (if q = n then n + 1 else n), nI (q + 1), 0, ygrew, yinputs, upd yops q (nI o), upd yfa q a, upd yfb q (ed_b (nI o) b), upd yfc q (ed_c (nI o) c), yhas, ymark, yreach, ysingle, yexact, yverdicts, yseen, yeffect, yfacts, ywords, ycells, ysiteOf, youts)) (hD : (ed_A R V (nI o) a ∧ ed_B R V G (nI o) b ∧ ed_C V (nI o) c)) : wY_put_185 post (nI o) a b c x5 (nI R) (nI V) (nI G) (nI H) (nI n) (nI q) ystate ygrew yinputs yops yfa yfb yfc yhas ymark yreach ysingle yexact yverdicts yseen yeffect yfacts ywords ycells ysiteOf youts := by
  refine pk_lt q R (fun hq => ?_) (fun hq => hfull hD (by omega))
  have K := hok hD hq
  have hqi : vp_in (nI q) 32 := vp_in_nI (by omega) (by omega)
  have eq : (nI q).toNatClampNeg = q := nI_clamp (by omega)
  have em : nI (q + 1) - 1 = nI q := nI_pred q
  have k270 : ∀ cv : Int32, cv = ed_c (nI o) c → wY_put_270 post cv (nI q) (nI R) (nI V) (nI G) (nI H) (nI n) (nI q) ystate ygrew yinputs (upd yops q (nI o)) (upd yfa q a) (upd yfb q (ed_b (nI o) b)) yfc yhas ymark yreach ysingle yexact yverdicts yseen yeffect yfacts ywords ycells ysiteOf youts := by
    intro cv hcv
    refine ⟨hqi, nm_r (e' := upd yfc q (ed_c (nI o) c)) (by rw [eq, hcv]) (pk_eq q n (fun z => nm_r (nI_1 n) (nm_r (nI_1 q) ?_)) (fun z => nm_r (nI_1 q) ?_))⟩
    · rw [if_pos z] at K; rw [em]; exact K
    · rw [if_neg z] at K; rw [em]; exact K
  have k250 : ∀ bv : Int32, bv = ed_b (nI o) b → wY_put_250 post c x5 bv (nI q) (nI R) (nI V) (nI G) (nI H) (nI n) (nI q) ystate ygrew yinputs (upd yops q (nI o)) (upd yfa q a) yfb yfc yhas ymark yreach ysingle yexact yverdicts yseen yeffect yfacts ywords ycells ysiteOf youts := by
    intro bv hbv
    refine ⟨hqi, nm_r (e' := upd yfb q (ed_b (nI o) b)) (by rw [eq, hbv]) ?_⟩
    rcases hx5 with ⟨z, y⟩ | ⟨z, y⟩
    · refine br_t z (k270 0 ?_)
      unfold ed_c; rw [if_neg y]
    · refine br_f (by rw [z]; decide) (k270 c ?_)
      unfold ed_c; rw [if_pos y]
  have b0 : (nI o = 7 ∨ nI o = 10 ∨ nI o = 12) → (0 : Int32) = ed_b (nI o) b := fun z => by unfold ed_b; rw [if_pos z]
  refine ⟨hqi, nm_r (e' := upd yops q (nI o)) (by rw [eq]) ⟨hqi, nm_r (e' := upd yfa q a) (by rw [eq]) (br_c (fun z => k250 0 (b0 (Or.inl z))) (fun z7 => br_c (fun z => k250 0 (b0 (Or.inr (Or.inl z)))) (fun z10 => br_c (fun z => k250 0 (b0 (Or.inr (Or.inr z)))) (fun z12 => k250 b ?_))))⟩⟩
  unfold ed_b
  rw [if_neg (fun z => z.elim z7 (fun z => z.elim z10 z12))]
theorem ey_165 (hR : R ≤ 32) (hV : V ≤ 8) (hG : G ≤ 8) (hnR : n ≤ R) (hqn : q ≤ n) (hx5 : (x5 = 0 ∧ ¬ (nI o = 4 ∨ nI o = 5)) ∨ (x5 = 1 ∧ (nI o = 4 ∨ nI o = 5))) (hbad : ¬ (ed_A R V (nI o) a ∧ ed_B R V G (nI o) b ∧ ed_C V (nI o) c) → post (-1) (nI R, nI V, nI G, nI H, nI n, nI q, ystate, ygrew, yinputs, yops, yfa, yfb, yfc, yhas, ymark, yreach, ysingle, yexact, yverdicts, yseen, yeffect, yfacts, ywords, ycells, ysiteOf, youts)) (hfull : (ed_A R V (nI o) a ∧ ed_B R V G (nI o) b ∧ ed_C V (nI o) c) → ¬ q < R → post (-2) (nI R, nI V, nI G, nI H, nI n, nI q, ystate, ygrew, yinputs, yops, yfa, yfb, yfc, yhas, ymark, yreach, ysingle, yexact, yverdicts, yseen, yeffect, yfacts, ywords, ycells, ysiteOf, youts)) (hok : (ed_A R V (nI o) a ∧ ed_B R V G (nI o) b ∧ ed_C V (nI o) c) → q < R → post (nI q) (nI R, nI V, nI G, nI H, nI (if q = n then n + 1 else n), nI (q + 1), 0, ygrew, yinputs, upd yops q (nI o), upd yfa q a, upd yfb q (ed_b (nI o) b), upd yfc q (ed_c (nI o) c), yhas, ymark, yreach, ysingle, yexact, yverdicts, yseen, yeffect, yfacts, ywords, ycells, ysiteOf, youts)) (hA : ed_A R V (nI o) a) (hB : ed_B R V G (nI o) b) : wY_put_165 post (nI o) a b c x5 (nI R) (nI V) (nI G) (nI H) (nI n) (nI q) ystate ygrew yinputs yops yfa yfb yfc yhas ymark yreach ysingle yexact yverdicts yseen yeffect yfacts ywords ycells ysiteOf youts := by
  have hx5' := hx5
  rcases hx5' with ⟨z, y⟩ | ⟨z, y⟩
  · exact br_t z (ey_185 hR hV hG hnR hqn hx5 hbad hfull hok ⟨hA, hB, fun w => absurd w y⟩)
  · exact br_f (by rw [z]; decide) (yn_in (by omega) (fun j hj e => br_f (by decide) (ey_185 hR hV hG hnR hqn hx5 hbad hfull hok ⟨hA, hB, fun _ => ⟨j, hj, e⟩⟩)) (fun w => br_t rfl (hbad (fun d => w (d.2.2 y)))))
theorem ey_143 (hR : R ≤ 32) (hV : V ≤ 8) (hG : G ≤ 8) (hnR : n ≤ R) (hqn : q ≤ n) (hx5 : (x5 = 0 ∧ ¬ (nI o = 4 ∨ nI o = 5)) ∨ (x5 = 1 ∧ (nI o = 4 ∨ nI o = 5))) (hbad : ¬ (ed_A R V (nI o) a ∧ ed_B R V G (nI o) b ∧ ed_C V (nI o) c) → post (-1) (nI R, nI V, nI G, nI H, nI n, nI q, ystate, ygrew, yinputs, yops, yfa, yfb, yfc, yhas, ymark, yreach, ysingle, yexact, yverdicts, yseen, yeffect, yfacts, ywords, ycells, ysiteOf, youts)) (hfull : (ed_A R V (nI o) a ∧ ed_B R V G (nI o) b ∧ ed_C V (nI o) c) → ¬ q < R → post (-2) (nI R, nI V, nI G, nI H, nI n, nI q, ystate, ygrew, yinputs, yops, yfa, yfb, yfc, yhas, ymark, yreach, ysingle, yexact, yverdicts, yseen, yeffect, yfacts, ywords, ycells, ysiteOf, youts)) (hok : (ed_A R V (nI o) a ∧ ed_B R V G (nI o) b ∧ ed_C V (nI o) c) → q < R → post (nI q) (nI R, nI V, nI G, nI H, nI (if q = n then n + 1 else n), nI (q + 1), 0, ygrew, yinputs, upd yops q (nI o), upd yfa q a, upd yfb q (ed_b (nI o) b), upd yfc q (ed_c (nI o) c), yhas, ymark, yreach, ysingle, yexact, yverdicts, yseen, yeffect, yfacts, ywords, ycells, ysiteOf, youts)) (hA : ed_A R V (nI o) a) (hB : (nI o = 11 → ∃ j, j < R + 1 ∧ b = nI j) → ed_B R V G (nI o) b) : wY_put_143 post (nI o) a b c x5 (nI R) (nI V) (nI G) (nI H) (nI n) (nI q) ystate ygrew yinputs yops yfa yfb yfc yhas ymark yreach ysingle yexact yverdicts yseen yeffect yfacts ywords ycells ysiteOf youts := by
  refine br_c (fun z => ?_) (fun z => ey_165 hR hV hG hnR hqn hx5 hbad hfull hok hA (hB (fun w => absurd w z)))
  rw [nI_1 R]
  exact yn_in (by omega) (fun j hj e => br_f (by decide) (ey_165 hR hV hG hnR hqn hx5 hbad hfull hok hA (hB (fun _ => ⟨j, hj, e⟩)))) (fun w => br_t rfl (hbad (fun d => w (d.2.1.2.2.1 z))))
theorem ey_123 (hR : R ≤ 32) (hV : V ≤ 8) (hG : G ≤ 8) (hnR : n ≤ R) (hqn : q ≤ n) (hx5 : (x5 = 0 ∧ ¬ (nI o = 4 ∨ nI o = 5)) ∨ (x5 = 1 ∧ (nI o = 4 ∨ nI o = 5))) (hbad : ¬ (ed_A R V (nI o) a ∧ ed_B R V G (nI o) b ∧ ed_C V (nI o) c) → post (-1) (nI R, nI V, nI G, nI H, nI n, nI q, ystate, ygrew, yinputs, yops, yfa, yfb, yfc, yhas, ymark, yreach, ysingle, yexact, yverdicts, yseen, yeffect, yfacts, ywords, ycells, ysiteOf, youts)) (hfull : (ed_A R V (nI o) a ∧ ed_B R V G (nI o) b ∧ ed_C V (nI o) c) → ¬ q < R → post (-2) (nI R, nI V, nI G, nI H, nI n, nI q, ystate, ygrew, yinputs, yops, yfa, yfb, yfc, yhas, ymark, yreach, ysingle, yexact, yverdicts, yseen, yeffect, yfacts, ywords, ycells, ysiteOf, youts)) (hok : (ed_A R V (nI o) a ∧ ed_B R V G (nI o) b ∧ ed_C V (nI o) c) → q < R → post (nI q) (nI R, nI V, nI G, nI H, nI (if q = n then n + 1 else n), nI (q + 1), 0, ygrew, yinputs, upd yops q (nI o), upd yfa q a, upd yfb q (ed_b (nI o) b), upd yfc q (ed_c (nI o) c), yhas, ymark, yreach, ysingle, yexact, yverdicts, yseen, yeffect, yfacts, ywords, ycells, ysiteOf, youts)) (hA : ed_A R V (nI o) a) (hB : (nI o = 6 → ∃ j, j < G ∧ b = nI j) → (nI o = 11 → ∃ j, j < R + 1 ∧ b = nI j) → ed_B R V G (nI o) b) : wY_put_123 post (nI o) a b c x5 (nI R) (nI V) (nI G) (nI H) (nI n) (nI q) ystate ygrew yinputs yops yfa yfb yfc yhas ymark yreach ysingle yexact yverdicts yseen yeffect yfacts ywords ycells ysiteOf youts :=
  br_c (fun z => yn_in (by omega) (fun j hj e => br_f (by decide) (ey_143 hR hV hG hnR hqn hx5 hbad hfull hok hA (hB (fun _ => ⟨j, hj, e⟩)))) (fun w => br_t rfl (hbad (fun d => w (d.2.1.2.1 z))))) (fun z => ey_143 hR hV hG hnR hqn hx5 hbad hfull hok hA (hB (fun w => absurd w z)))
theorem ey_107 (hR : R ≤ 32) (hV : V ≤ 8) (hG : G ≤ 8) (hnR : n ≤ R) (hqn : q ≤ n) (hx5 : (x5 = 0 ∧ ¬ (nI o = 4 ∨ nI o = 5)) ∨ (x5 = 1 ∧ (nI o = 4 ∨ nI o = 5))) (hbad : ¬ (ed_A R V (nI o) a ∧ ed_B R V G (nI o) b ∧ ed_C V (nI o) c) → post (-1) (nI R, nI V, nI G, nI H, nI n, nI q, ystate, ygrew, yinputs, yops, yfa, yfb, yfc, yhas, ymark, yreach, ysingle, yexact, yverdicts, yseen, yeffect, yfacts, ywords, ycells, ysiteOf, youts)) (hfull : (ed_A R V (nI o) a ∧ ed_B R V G (nI o) b ∧ ed_C V (nI o) c) → ¬ q < R → post (-2) (nI R, nI V, nI G, nI H, nI n, nI q, ystate, ygrew, yinputs, yops, yfa, yfb, yfc, yhas, ymark, yreach, ysingle, yexact, yverdicts, yseen, yeffect, yfacts, ywords, ycells, ysiteOf, youts)) (hok : (ed_A R V (nI o) a ∧ ed_B R V G (nI o) b ∧ ed_C V (nI o) c) → q < R → post (nI q) (nI R, nI V, nI G, nI H, nI (if q = n then n + 1 else n), nI (q + 1), 0, ygrew, yinputs, upd yops q (nI o), upd yfa q a, upd yfb q (ed_b (nI o) b), upd yfc q (ed_c (nI o) c), yhas, ymark, yreach, ysingle, yexact, yverdicts, yseen, yeffect, yfacts, ywords, ycells, ysiteOf, youts)) (hA : ed_A R V (nI o) a) (hB : (nI o = 2 → ∃ j, j < 4 ∧ b = nI j) → (nI o = 6 → ∃ j, j < G ∧ b = nI j) → (nI o = 11 → ∃ j, j < R + 1 ∧ b = nI j) → ed_B R V G (nI o) b) : wY_put_107 post (nI o) a b c x5 (nI R) (nI V) (nI G) (nI H) (nI n) (nI q) ystate ygrew yinputs yops yfa yfb yfc yhas ymark yreach ysingle yexact yverdicts yseen yeffect yfacts ywords ycells ysiteOf youts :=
  br_c (fun z => yn_in (m := 4) (by omega) (fun j hj e => br_f (by decide) (ey_123 hR hV hG hnR hqn hx5 hbad hfull hok hA (hB (fun _ => ⟨j, hj, e⟩)))) (fun w => br_t rfl (hbad (fun d => w (d.2.1.1 z))))) (fun z => ey_123 hR hV hG hnR hqn hx5 hbad hfull hok hA (hB (fun w => absurd w z)))
theorem ey_86v (hR : R ≤ 32) (hV : V ≤ 8) (hG : G ≤ 8) (hnR : n ≤ R) (hqn : q ≤ n) (hx5 : (x5 = 0 ∧ ¬ (nI o = 4 ∨ nI o = 5)) ∨ (x5 = 1 ∧ (nI o = 4 ∨ nI o = 5))) (hbad : ¬ (ed_A R V (nI o) a ∧ ed_B R V G (nI o) b ∧ ed_C V (nI o) c) → post (-1) (nI R, nI V, nI G, nI H, nI n, nI q, ystate, ygrew, yinputs, yops, yfa, yfb, yfc, yhas, ymark, yreach, ysingle, yexact, yverdicts, yseen, yeffect, yfacts, ywords, ycells, ysiteOf, youts)) (hfull : (ed_A R V (nI o) a ∧ ed_B R V G (nI o) b ∧ ed_C V (nI o) c) → ¬ q < R → post (-2) (nI R, nI V, nI G, nI H, nI n, nI q, ystate, ygrew, yinputs, yops, yfa, yfb, yfc, yhas, ymark, yreach, ysingle, yexact, yverdicts, yseen, yeffect, yfacts, ywords, ycells, ysiteOf, youts)) (hok : (ed_A R V (nI o) a ∧ ed_B R V G (nI o) b ∧ ed_C V (nI o) c) → q < R → post (nI q) (nI R, nI V, nI G, nI H, nI (if q = n then n + 1 else n), nI (q + 1), 0, ygrew, yinputs, upd yops q (nI o), upd yfa q a, upd yfb q (ed_b (nI o) b), upd yfc q (ed_c (nI o) c), yhas, ymark, yreach, ysingle, yexact, yverdicts, yseen, yeffect, yfacts, ywords, ycells, ysiteOf, youts)) (hA : ed_A R V (nI o) a) (ho : nI o = 3 ∨ nI o = 4 ∨ nI o = 5 ∨ nI o = 8 ∨ nI o = 9) : wY_put_86 post (nI o) a b c x5 1 (nI R) (nI V) (nI G) (nI H) (nI n) (nI q) ystate ygrew yinputs yops yfa yfb yfc yhas ymark yreach ysingle yexact yverdicts yseen yeffect yfacts ywords ycells ysiteOf youts :=
  br_f (by decide) (yn_in (by omega) (fun j hj e => br_f (by decide) (ey_107 hR hV hG hnR hqn hx5 hbad hfull hok hA (fun u v w => ⟨u, v, w, fun _ => ⟨j, hj, e⟩⟩))) (fun w => br_t rfl (hbad (fun d => w (d.2.1.2.2.2 ho)))))
theorem ey_86n (hR : R ≤ 32) (hV : V ≤ 8) (hG : G ≤ 8) (hnR : n ≤ R) (hqn : q ≤ n) (hx5 : (x5 = 0 ∧ ¬ (nI o = 4 ∨ nI o = 5)) ∨ (x5 = 1 ∧ (nI o = 4 ∨ nI o = 5))) (hbad : ¬ (ed_A R V (nI o) a ∧ ed_B R V G (nI o) b ∧ ed_C V (nI o) c) → post (-1) (nI R, nI V, nI G, nI H, nI n, nI q, ystate, ygrew, yinputs, yops, yfa, yfb, yfc, yhas, ymark, yreach, ysingle, yexact, yverdicts, yseen, yeffect, yfacts, ywords, ycells, ysiteOf, youts)) (hfull : (ed_A R V (nI o) a ∧ ed_B R V G (nI o) b ∧ ed_C V (nI o) c) → ¬ q < R → post (-2) (nI R, nI V, nI G, nI H, nI n, nI q, ystate, ygrew, yinputs, yops, yfa, yfb, yfc, yhas, ymark, yreach, ysingle, yexact, yverdicts, yseen, yeffect, yfacts, ywords, ycells, ysiteOf, youts)) (hok : (ed_A R V (nI o) a ∧ ed_B R V G (nI o) b ∧ ed_C V (nI o) c) → q < R → post (nI q) (nI R, nI V, nI G, nI H, nI (if q = n then n + 1 else n), nI (q + 1), 0, ygrew, yinputs, upd yops q (nI o), upd yfa q a, upd yfb q (ed_b (nI o) b), upd yfc q (ed_c (nI o) c), yhas, ymark, yreach, ysingle, yexact, yverdicts, yseen, yeffect, yfacts, ywords, ycells, ysiteOf, youts)) (hA : ed_A R V (nI o) a) (ho : ¬ (nI o = 3 ∨ nI o = 4 ∨ nI o = 5 ∨ nI o = 8 ∨ nI o = 9)) : wY_put_86 post (nI o) a b c x5 0 (nI R) (nI V) (nI G) (nI H) (nI n) (nI q) ystate ygrew yinputs yops yfa yfb yfc yhas ymark yreach ysingle yexact yverdicts yseen yeffect yfacts ywords ycells ysiteOf youts :=
  br_t rfl (ey_107 hR hV hG hnR hqn hx5 hbad hfull hok hA (fun u v w => ⟨u, v, w, fun z => absurd z ho⟩))
theorem ed_y (hR : R ≤ 32) (hV : V ≤ 8) (hG : G ≤ 8) (hnR : n ≤ R) (hqn : q ≤ n) (o1 : 1 ≤ o) (o2 : o ≤ 12) (hbad : ¬ (ed_A R V (nI o) a ∧ ed_B R V G (nI o) b ∧ ed_C V (nI o) c) → post (-1) (nI R, nI V, nI G, nI H, nI n, nI q, ystate, ygrew, yinputs, yops, yfa, yfb, yfc, yhas, ymark, yreach, ysingle, yexact, yverdicts, yseen, yeffect, yfacts, ywords, ycells, ysiteOf, youts)) (hfull : (ed_A R V (nI o) a ∧ ed_B R V G (nI o) b ∧ ed_C V (nI o) c) → ¬ q < R → post (-2) (nI R, nI V, nI G, nI H, nI n, nI q, ystate, ygrew, yinputs, yops, yfa, yfb, yfc, yhas, ymark, yreach, ysingle, yexact, yverdicts, yseen, yeffect, yfacts, ywords, ycells, ysiteOf, youts)) (hok : (ed_A R V (nI o) a ∧ ed_B R V G (nI o) b ∧ ed_C V (nI o) c) → q < R → post (nI q) (nI R, nI V, nI G, nI H, nI (if q = n then n + 1 else n), nI (q + 1), 0, ygrew, yinputs, upd yops q (nI o), upd yfa q a, upd yfb q (ed_b (nI o) b), upd yfc q (ed_c (nI o) c), yhas, ymark, yreach, ysingle, yexact, yverdicts, yseen, yeffect, yfacts, ywords, ycells, ysiteOf, youts)) : wpY_put post (nI R, nI V, nI G, nI H, nI n, nI q, ystate, ygrew, yinputs, yops, yfa, yfb, yfc, yhas, ymark, yreach, ysingle, yexact, yverdicts, yseen, yeffect, yfacts, ywords, ycells, ysiteOf, youts) (nI o) a b c := by
  have k57 : ed_A R V (nI o) a → ¬ (nI o = 4 ∨ nI o = 5) → wY_put_57 post (nI o) a b c 0 (nI R) (nI V) (nI G) (nI H) (nI n) (nI q) ystate ygrew yinputs yops yfa yfb yfc yhas ymark yreach ysingle yexact yverdicts yseen yeffect yfacts ywords ycells ysiteOf youts := by
    intro hA h45
    refine br_t rfl (br_c (fun z => ey_86v hR hV hG hnR hqn (Or.inl ⟨rfl, h45⟩) hbad hfull hok hA (Or.inl z)) (fun z3 => br_c (fun z => ey_86v hR hV hG hnR hqn (Or.inl ⟨rfl, h45⟩) hbad hfull hok hA (Or.inr (Or.inr (Or.inr (Or.inl z))))) (fun z8 => br_c (fun z => ey_86v hR hV hG hnR hqn (Or.inl ⟨rfl, h45⟩) hbad hfull hok hA (Or.inr (Or.inr (Or.inr (Or.inr z))))) (fun z9 => ey_86n hR hV hG hnR hqn (Or.inl ⟨rfl, h45⟩) hbad hfull hok hA ?_))))
    rintro (z | z | z | z | z)
    · exact z3 z
    · exact h45 (Or.inl z)
    · exact h45 (Or.inr z)
    · exact z8 z
    · exact z9 z
  have k52 : ed_A R V (nI o) a → (nI o = 4 ∨ nI o = 5) → wY_put_52 post (nI o) a b c (nI R) (nI V) (nI G) (nI H) (nI n) (nI q) ystate ygrew yinputs yops yfa yfb yfc yhas ymark yreach ysingle yexact yverdicts yseen yeffect yfacts ywords ycells ysiteOf youts := by
    intro hA h45
    exact br_f (by decide) (ey_86v hR hV hG hnR hqn (Or.inr ⟨rfl, h45⟩) hbad hfull hok hA (h45.elim (fun z => Or.inr (Or.inl z)) (fun z => Or.inr (Or.inr (Or.inl z)))))
  have k34 : ∀ m : Nat, m < 2 ^ 31 → (ed_A R V (nI o) a ↔ ∃ j, j < m ∧ a = nI j) → wY_put_34 post (nI o) a b c (nI m) a (nI R) (nI V) (nI G) (nI H) (nI n) (nI q) ystate ygrew yinputs yops yfa yfb yfc yhas ymark yreach ysingle yexact yverdicts yseen yeffect yfacts ywords ycells ysiteOf youts := by
    intro m hm hA
    unfold wY_put_34
    exact yn_in hm (fun j hj e => br_f (by decide) (br_c (fun z => k52 (hA.mpr ⟨j, hj, e⟩) (Or.inl z)) (fun z4 => br_c (fun z => k52 (hA.mpr ⟨j, hj, e⟩) (Or.inr z)) (fun z5 => k57 (hA.mpr ⟨j, hj, e⟩) (fun w => w.elim z4 z5))))) (fun w => br_t rfl (hbad (fun d => w (hA.mp d.1))))
  refine br_f (nI_nlt (b := 1) o1 (by omega)) (br_t (nI_le (b := 12) o2 (by omega)) (br_c (fun z => ?_) (fun z => ?_)))
  · rw [nI_1 R]
    exact k34 (R + 1) (by omega) ⟨fun w => w.1 z, fun w => ⟨fun _ => w, fun y => absurd z y⟩⟩
  · exact k34 V (by omega) ⟨fun w => w.2 z, fun w => ⟨fun y => absurd y z, fun _ => w⟩⟩
end
theorem ed_pg {R V G n q o : Nat} {op fa fb fc : Nat → Int32} {a b c : Int32} (h : pg_ok R V G n op fa fb fc) (hq : q ≤ n) (o1 : 1 ≤ o) (o2 : o ≤ 12) (hD : ed_A R V (nI o) a ∧ ed_B R V G (nI o) b ∧ ed_C V (nI o) c) : pg_ok R V G (if q = n then n + 1 else n) (upd op q (nI o)) (upd fa q a) (upd fb q (ed_b (nI o) b)) (upd fc q (ed_c (nI o) c)) := by
  obtain ⟨hA, hB, hC⟩ := hD
  intro i hi
  by_cases e : i = q
  · subst e
    rw [pk_us, pk_us, pk_us, pk_us]
    have keep : ∀ z : Int32, nI o = z → ¬ (z = 7 ∨ z = 10 ∨ z = 12) → ed_b (nI o) b = b := by
      intro z e h
      unfold ed_b
      rw [e, if_neg h]
    refine ⟨⟨o, o1, o2, rfl⟩, fun z => ?_, hA.2, fun z => ?_, fun z => ?_, fun z => ?_, fun z => ?_, fun z => ?_⟩
    · obtain ⟨j, hj, e⟩ := hA.1 z
      exact ⟨j, by omega, e⟩
    · rw [keep 2 z (by decide)]; exact hB.1 z
    · rw [keep 6 z (by decide)]; exact hB.2.1 z
    · rw [keep 11 z (by decide)]
      obtain ⟨j, hj, e⟩ := hB.2.2.1 z
      exact ⟨j, by omega, e⟩
    · have hb := hB.2.2.2 z
      rcases z with z | z | z | z | z
      · rw [keep 3 z (by decide)]; exact hb
      · rw [keep 4 z (by decide)]; exact hb
      · rw [keep 5 z (by decide)]; exact hb
      · rw [keep 8 z (by decide)]; exact hb
      · rw [keep 9 z (by decide)]; exact hb
    · unfold ed_c
      rw [if_pos z]; exact hC z
  · rw [pk_un e, pk_un e, pk_un e, pk_un e]
    refine h i ?_
    by_cases z : q = n
    · rw [if_pos z] at hi; omega
    · rw [if_neg z] at hi; exact hi

theorem i_vc_put {k : Nat} {u : SX} {v : SY} (I : i_Rel k u v) (hk : k + 5 ≤ 2564) (v1 : Int32) (v2 : Int32) (v3 : Int32) (v4 : Int32) : wpX_put (fun r u' => wpY_put (fun r' v' => r' = r ∧ i_Rel (k + 5) u' v') v v1 v2 v3 v4) u v1 v2 v3 v4 := by
  refine I (fun u v => wpX_put (fun r u' => wpY_put (fun r' v' => r' = r ∧ i_Rel (k + 5) u' v') v v1 v2 v3 v4) u v1 v2 v3 v4) ?_
  intro R V G H n q xstate xpending xreachable xsingleSites xexactVars ximproved xopAt xaAt xbAt xcAt xinputs xrep xpts xdone xflowsTo xtried xloads xstores xnext xprev xafter xvarSet xgen xkill xholdsIn xreads xcovers xneedIn xneedAfter xverdicts xrunStatus xrunSteps xrunOutputs xrunReads xrunWrites xrunMade xrunPlace xvars xcells xheapSite xoutputs ygrew yhas ymark yreach ysingle yexact yverdicts yseen yeffect yfacts ysiteOf h1 h2 h3 h4
  have hR : ∀ k : Nat, i_Rel k (nI R, nI V, nI G, nI H, nI n, nI q, xstate, xpending, xreachable, xsingleSites, xexactVars, ximproved, xopAt, xaAt, xbAt, xcAt, xinputs, xrep, xpts, xdone, xflowsTo, xtried, xloads, xstores, xnext, xprev, xafter, xvarSet, xgen, xkill, xholdsIn, xreads, xcovers, xneedIn, xneedAfter, xverdicts, xrunStatus, xrunSteps, xrunOutputs, xrunReads, xrunWrites, xrunMade, xrunPlace, xvars, xcells, xheapSite, xoutputs) (nI R, nI V, nI G, nI H, nI n, nI q, xstate, ygrew, xinputs, xopAt, xaAt, xbAt, xcAt, yhas, ymark, yreach, ysingle, yexact, yverdicts, yseen, yeffect, yfacts, xvars, xcells, ysiteOf, xoutputs) := fun k => rl_in xstate xpending xreachable xsingleSites xexactVars ximproved xopAt xaAt xbAt xcAt xinputs xrep xpts xdone xflowsTo xtried xloads xstores xnext xprev xafter xvarSet xgen xkill xholdsIn xreads xcovers xneedIn xneedAfter xverdicts xrunStatus xrunSteps xrunOutputs xrunReads xrunWrites xrunMade xrunPlace xvars xcells xheapSite xoutputs ygrew yhas ymark yreach ysingle yexact yverdicts yseen yeffect yfacts ysiteOf h1 h2 h3 h4
  obtain ⟨s1, s2, s3, s4, s5, s6, s7, s8, s9, s10, s11⟩ := h1
  by_cases a : v1 < 1
  · exact br_t a (br_t a ⟨rfl, hR _⟩)
  · by_cases b : v1 ≤ 12
    · have a0 : ¬ v1 < 0 := by
        intro z
        rw [Int32.lt_iff_toInt_lt] at z a
        rw [show (0 : Int32).toInt = 0 by decide] at z
        rw [show (1 : Int32).toInt = 1 by decide] at a
        omega
      obtain ⟨o, ho, e⟩ := nI_of a0
      subst e
      have o1 : 1 ≤ o := by
        rcases Nat.lt_or_ge o 1 with z | z
        · exact absurd (nI_lt (b := 1) z (by omega)) a
        · exact z
      have o2 : o ≤ 12 := (nI_leI (b := 12) ho (by omega)).mp b
      refine ed_x s2 s4 s6 s9 s10 o1 o2 (fun hD => ?_) (fun hD hq => ?_) (fun hD hq => ?_)
      · exact ed_y s2 s4 s6 s9 s10 o1 o2 (fun _ => ⟨rfl, hR _⟩) (fun z => absurd z hD) (fun z => absurd z hD)
      · exact ed_y s2 s4 s6 s9 s10 o1 o2 (fun z => absurd hD z) (fun _ _ => ⟨rfl, hR _⟩) (fun _ z => absurd z hq)
      · refine ed_y s2 s4 s6 s9 s10 o1 o2 (fun z => absurd hD z) (fun _ z => absurd hq z) (fun _ _ => ⟨rfl, ?_⟩)
        exact rl_in (n := if q = n then n + 1 else n) (q := q + 1) 0 xpending xreachable xsingleSites xexactVars ximproved (upd xopAt q (nI o)) (upd xaAt q v2) (upd xbAt q (ed_b (nI o) v3)) (upd xcAt q (ed_c (nI o) v4)) xinputs xrep xpts xdone xflowsTo xtried xloads xstores xnext xprev xafter xvarSet xgen xkill xholdsIn xreads xcovers xneedIn xneedAfter xverdicts xrunStatus xrunSteps xrunOutputs xrunReads xrunWrites xrunMade xrunPlace xvars xcells xheapSite xoutputs ygrew yhas ymark yreach ysingle yexact yverdicts yseen yeffect yfacts ysiteOf ⟨s1, s2, s3, s4, s5, s6, s7, s8, by split <;> omega, by split <;> omega, Or.inl rfl⟩ (ed_pg h2 s10 o1 o2 hD) (fun z => absurd rfl z) (fun z => absurd z (by decide))
    · exact br_f a (br_f b (br_f a (br_f b ⟨rfl, hR _⟩)))
end
section


theorem i_vc_analyse {k : Nat} {u : SX} {v : SY} (I : i_Rel k u v) (hk : k + 5 ≤ 2564) : wpX_analyse (fun r u' => wpY_analyse (fun r' v' => r' = r ∧ i_Rel (k + 5) u' v') v) u := by
  refine I (fun u v => wpX_analyse (fun r u' => wpY_analyse (fun r' v' => r' = r ∧ i_Rel (k + 5) u' v') v) u) ?_
  intro R V G H n q xstate xpending xreachable xsingleSites xexactVars ximproved xopAt xaAt xbAt xcAt xinputs xrep xpts xdone xflowsTo xtried xloads xstores xnext xprev xafter xvarSet xgen xkill xholdsIn xreads xcovers xneedIn xneedAfter xverdicts xrunStatus xrunSteps xrunOutputs xrunReads xrunWrites xrunMade xrunPlace xvars xcells xheapSite xoutputs ygrew yhas ymark yreach ysingle yexact yverdicts yseen yeffect yfacts ysiteOf h1 h2 h3 h4
  have hR : ∀ k : Nat, i_Rel k (nI R, nI V, nI G, nI H, nI n, nI q, xstate, xpending, xreachable, xsingleSites, xexactVars, ximproved, xopAt, xaAt, xbAt, xcAt, xinputs, xrep, xpts, xdone, xflowsTo, xtried, xloads, xstores, xnext, xprev, xafter, xvarSet, xgen, xkill, xholdsIn, xreads, xcovers, xneedIn, xneedAfter, xverdicts, xrunStatus, xrunSteps, xrunOutputs, xrunReads, xrunWrites, xrunMade, xrunPlace, xvars, xcells, xheapSite, xoutputs) (nI R, nI V, nI G, nI H, nI n, nI q, xstate, ygrew, xinputs, xopAt, xaAt, xbAt, xcAt, yhas, ymark, yreach, ysingle, yexact, yverdicts, yseen, yeffect, yfacts, xvars, xcells, ysiteOf, xoutputs) := fun k => rl_in xstate xpending xreachable xsingleSites xexactVars ximproved xopAt xaAt xbAt xcAt xinputs xrep xpts xdone xflowsTo xtried xloads xstores xnext xprev xafter xvarSet xgen xkill xholdsIn xreads xcovers xneedIn xneedAfter xverdicts xrunStatus xrunSteps xrunOutputs xrunReads xrunWrites xrunMade xrunPlace xvars xcells xheapSite xoutputs ygrew yhas ymark yreach ysingle yexact yverdicts yseen yeffect yfacts ysiteOf h1 h2 h3 h4
  obtain ⟨s1, s2, s3, s4, s5, s6, s7, s8, s9, s10, s11⟩ := h1
  by_cases hz : xstate = 0
  · subst hz
    refine xr_analyse h2 s2 s4 s6 (by omega) (fun re ss ev im rp pt dn fl tr ld st nx pv af vs ge ki hH rd co ni na vd hax => ?_)
    unfold wpY_analyse
    refine br_t rfl (ya_all h2 s2 s4 s6 (by omega) (fun gr hs mk re2 sg ex vd2 sn ef hay => ya_20 (by omega) ⟨?_, ?_⟩))
    · obtain ⟨a1, a2, a3, a4, a5, a6, a7, a8⟩ := hax
      obtain ⟨b1, b2, b3, b4, b5⟩ := hay
      rw [a8, ax_cc n (fun i hi => vs_2u (b5 i hi) (a7 i hi))]
    · exact rl_in 1 0 re ss ev im xopAt xaAt xbAt xcAt xinputs rp pt dn fl tr ld st nx pv af vs ge ki hH rd co ni na vd xrunStatus xrunSteps xrunOutputs xrunReads xrunWrites xrunMade xrunPlace xvars xcells xheapSite xoutputs gr hs mk re2 sg ex vd2 sn ef yfacts ysiteOf ⟨s1, s2, s3, s4, s5, s6, s7, s8, s9, s10, Or.inr (Or.inl rfl)⟩ h2 (fun _ => ⟨hax, hay⟩) (fun z => absurd z (by decide))
  · refine br_f hz ?_
    unfold wpY_analyse
    refine br_f hz (ya_20 (by omega) ⟨?_, hR _⟩)
    obtain ⟨⟨a1, a2, a3, a4, a5, a6, a7, a8⟩, ⟨b1, b2, b3, b4, b5⟩⟩ := h3 hz
    rw [a8, ax_cc n (fun i hi => vs_2u (b5 i hi) (a7 i hi))]
theorem i_vc_run {k : Nat} {u : SX} {v : SY} (I : i_Rel k u v) (hk : k + 5 ≤ 2564) (v1 : Int32) : wpX_run (fun r u' => wpY_run (fun r' v' => r' = r ∧ i_Rel (k + 5) u' v') v v1) u v1 := by
  refine I (fun u v => wpX_run (fun r u' => wpY_run (fun r' v' => r' = r ∧ i_Rel (k + 5) u' v') v v1) u v1) ?_
  intro R V G H n q xstate xpending xreachable xsingleSites xexactVars ximproved xopAt xaAt xbAt xcAt xinputs xrep xpts xdone xflowsTo xtried xloads xstores xnext xprev xafter xvarSet xgen xkill xholdsIn xreads xcovers xneedIn xneedAfter xverdicts xrunStatus xrunSteps xrunOutputs xrunReads xrunWrites xrunMade xrunPlace xvars xcells xheapSite xoutputs ygrew yhas ymark yreach ysingle yexact yverdicts yseen yeffect yfacts ysiteOf h1 h2 h3 h4
  have hR : ∀ k : Nat, i_Rel k (nI R, nI V, nI G, nI H, nI n, nI q, xstate, xpending, xreachable, xsingleSites, xexactVars, ximproved, xopAt, xaAt, xbAt, xcAt, xinputs, xrep, xpts, xdone, xflowsTo, xtried, xloads, xstores, xnext, xprev, xafter, xvarSet, xgen, xkill, xholdsIn, xreads, xcovers, xneedIn, xneedAfter, xverdicts, xrunStatus, xrunSteps, xrunOutputs, xrunReads, xrunWrites, xrunMade, xrunPlace, xvars, xcells, xheapSite, xoutputs) (nI R, nI V, nI G, nI H, nI n, nI q, xstate, ygrew, xinputs, xopAt, xaAt, xbAt, xcAt, yhas, ymark, yreach, ysingle, yexact, yverdicts, yseen, yeffect, yfacts, xvars, xcells, ysiteOf, xoutputs) := fun k => rl_in xstate xpending xreachable xsingleSites xexactVars ximproved xopAt xaAt xbAt xcAt xinputs xrep xpts xdone xflowsTo xtried xloads xstores xnext xprev xafter xvarSet xgen xkill xholdsIn xreads xcovers xneedIn xneedAfter xverdicts xrunStatus xrunSteps xrunOutputs xrunReads xrunWrites xrunMade xrunPlace xvars xcells xheapSite xoutputs ygrew yhas ymark yreach ysingle yexact yverdicts yseen yeffect yfacts ysiteOf h1 h2 h3 h4
  obtain ⟨s1, s2, s3, s4, s5, s6, s7, s8, s9, s10, s11⟩ := h1
  by_cases hz : xstate = 0
  · exact br_t hz (br_t hz ⟨rfl, hR _⟩)
  · have hB := (cq_b (lo := 0) (hi := 1000) (by decide) (by decide) v1).2
    have hv : ∀ i, i < n → yverdicts i = xverdicts i ∧ (xverdicts i = 0 ∨ xverdicts i = 1 ∨ ∃ x, x < V ∧ xverdicts i = nI (16 + x)) := by
      obtain ⟨⟨a1, a2, a3, a4, a5, a6, a7, a8⟩, ⟨b1, b2, b3, b4, b5⟩⟩ := h3 hz
      exact fun i hi => ⟨vs_2u (b5 i hi) (a7 i hi), vs_2r (a7 i hi)⟩
    refine br_f hz (cq_x 0 1000 (by decide) ?_)
    refine rc_exec (w := 0) (xmaxLength := nI R) (xcursor := nI q) (xstate := xstate) (xpending := xpending) (xreachable := xreachable) (xsingleSites := xsingleSites) (xexactVars := xexactVars) (ximproved := ximproved) (xinputs := xinputs) (xrep := xrep) (xpts := xpts) (xdone := xdone) (xflowsTo := xflowsTo) (xtried := xtried) (xloads := xloads) (xstores := xstores) (xnext := xnext) (xprev := xprev) (xafter := xafter) (xvarSet := xvarSet) (xgen := xgen) (xkill := xkill) (xholdsIn := xholdsIn) (xreads := xreads) (xcovers := xcovers) (xneedIn := xneedIn) (xneedAfter := xneedAfter) (xrunStatus := xrunStatus) (xrunSteps := xrunSteps) (xrunOutputs := xrunOutputs) (xrunReads := xrunReads) (xrunWrites := xrunWrites) (xrunMade := xrunMade) (xrunPlace := xrunPlace) (xvars := xvars) (xcells := xcells) (xheapSite := xheapSite) (xoutputs := xoutputs) (yroom := nI R) (ycursor := nI q) (ystate := xstate) (ygrew := ygrew) (yhas := yhas) (ymark := ymark) (yreach := yreach) (ysingle := ysingle) (yexact := yexact) (yseen := yseen) (yeffect := yeffect) (yfacts := yfacts) (ysiteOf := ysiteOf) (by omega) (by omega) s2 s4 s6 s8 hB h2 hv _ (fun rs1 rst1 ro1 rr1 wr1 rm1 rp1 hs1 fs1 so1 vs1 cs1 os1 hF1 hrs1 hK1 hX1 hY1 => hX1 _ ?_)
    refine rc_exec (w := 1) (xmaxLength := nI R) (xcursor := nI q) (xstate := xstate) (xpending := xpending) (xreachable := xreachable) (xsingleSites := xsingleSites) (xexactVars := xexactVars) (ximproved := ximproved) (xinputs := xinputs) (xrep := xrep) (xpts := xpts) (xdone := xdone) (xflowsTo := xflowsTo) (xtried := xtried) (xloads := xloads) (xstores := xstores) (xnext := xnext) (xprev := xprev) (xafter := xafter) (xvarSet := xvarSet) (xgen := xgen) (xkill := xkill) (xholdsIn := xholdsIn) (xreads := xreads) (xcovers := xcovers) (xneedIn := xneedIn) (xneedAfter := xneedAfter) (xrunStatus := rs1) (xrunSteps := rst1) (xrunOutputs := ro1) (xrunReads := rr1) (xrunWrites := wr1) (xrunMade := rm1) (xrunPlace := rp1) (xvars := vs1) (xcells := cs1) (xheapSite := hs1) (xoutputs := os1) (yroom := nI R) (ycursor := nI q) (ystate := xstate) (ygrew := ygrew) (yhas := yhas) (ymark := ymark) (yreach := yreach) (ysingle := ysingle) (yexact := yexact) (yseen := yseen) (yeffect := yeffect) (yfacts := fs1) (ysiteOf := so1) (by omega) (by omega) s2 s4 s6 s8 hB h2 hv _ (fun rs2 rst2 ro2 rr2 wr2 rm2 rp2 hs2 fs2 so2 vs2 cs2 os2 hF2 hrs2 hK2 hX2 hY2 => hX2 _ ?_)
    have hF0 := rn_Fk (u := 0) (w := 1) (by omega) (by omega) (by omega) s6 s8 (hrs2 0 (by omega)) hK2 hF1
    refine br_f hz (cq_y 0 1000 (by decide) (hY1 _ (hY2 _ ⟨?_, ?_⟩)))
    · exact hF0.1
    · exact rl_in 2 xpending xreachable xsingleSites xexactVars ximproved xopAt xaAt xbAt xcAt xinputs xrep xpts xdone xflowsTo xtried xloads xstores xnext xprev xafter xvarSet xgen xkill xholdsIn xreads xcovers xneedIn xneedAfter xverdicts rs2 rst2 ro2 rr2 wr2 rm2 rp2 vs2 cs2 hs2 os2 ygrew yhas ymark yreach ysingle yexact yverdicts yseen yeffect fs2 so2 ⟨s1, s2, s3, s4, s5, s6, s7, s8, s9, s10, Or.inr (Or.inr rfl)⟩ h2 (fun _ => h3 hz) (fun _ => ⟨hF0, hF2⟩)
end
section

/-- a site: a global, or the place of a NEW -/
def gs_P (G n : Nat) (op : Nat → Int32) (s : Int32) : Prop := ∃ j, j < 40 ∧ s = nI j ∧ (j < G ∨ ∃ i, i < n ∧ j = G + i ∧ op i = 7)
section
variable {xmaxLength : Int32} {xvariableCount : Int32} {xglobalCount : Int32} {xheapLimit : Int32} {xlength : Int32} {xcursor : Int32} {xstate : Int32} {xpending : Int64} {xreachable : Int64} {xsingleSites : Int64} {xexactVars : Int32} {ximproved : Int32} {xopAt : (Nat → Int32)} {xaAt : (Nat → Int32)} {xbAt : (Nat → Int32)} {xcAt : (Nat → Int32)} {xinputs : (Nat → Int32)} {xrep : (Nat → Int32)} {xpts : (Nat → Int64)} {xdone : (Nat → Int64)} {xflowsTo : (Nat → Int64)} {xtried : (Nat → Int64)} {xloads : (Nat → Int32)} {xstores : (Nat → Int32)} {xnext : (Nat → Int64)} {xprev : (Nat → Int64)} {xafter : (Nat → Int64)} {xvarSet : (Nat → Int64)} {xgen : (Nat → Int64)} {xkill : (Nat → Int64)} {xholdsIn : (Nat → Int64)} {xreads : (Nat → Int32)} {xcovers : (Nat → Int32)} {xneedIn : (Nat → Int32)} {xneedAfter : (Nat → Int32)} {xverdicts : (Nat → Int32)} {xrunStatus : (Nat → Int32)} {xrunSteps : (Nat → Int32)} {xrunOutputs : (Nat → Int32)} {xrunReads : (Nat → Int32)} {xrunWrites : (Nat → Int32)} {xrunMade : (Nat → Int32)} {xrunPlace : (Nat → Int32)} {xvars : (Nat → Int64)} {xcells : (Nat → Int64)} {xheapSite : (Nat → Int32)} {xoutputs : (Nat → Int64)}
variable {R V G H n q : Nat} {pst : Int32 → Prop}
theorem gx_site {s : Int32} (hG : G ≤ 8) (hn : n ≤ 32) (h1 : gs_P G n xopAt s → pst 1) (h0 : ¬ gs_P G n xopAt s → pst 0) : wpX_isSite pst (nI R, nI V, nI G, nI H, nI n, nI q, xstate, xpending, xreachable, xsingleSites, xexactVars, ximproved, xopAt, xaAt, xbAt, xcAt, xinputs, xrep, xpts, xdone, xflowsTo, xtried, xloads, xstores, xnext, xprev, xafter, xvarSet, xgen, xkill, xholdsIn, xreads, xcovers, xneedIn, xneedAfter, xverdicts, xrunStatus, xrunSteps, xrunOutputs, xrunReads, xrunWrites, xrunMade, xrunPlace, xvars, xcells, xheapSite, xoutputs) s := by
  by_cases a : s < 0
  · refine br_f (Int32.not_le.mpr a) (h0 ?_)
    rintro ⟨j, hj, e, _⟩
    rw [e] at a
    exact nI_pos (by omega) a
  · obtain ⟨j, hj, e⟩ := nI_of a
    subst e
    refine br_t (nI_pos' hj) (pk_le G j (fun z => nm_r (pk_sub z) (pk_le n (j - G) (fun y => h0 ?_) (fun y => ?_))) (fun z => h1 ⟨j, by omega, rfl, Or.inl z⟩))
    · rintro ⟨i, hi, e, w⟩
      rw [nI_eq hj (by omega)] at e
      subst e
      rcases w with w | ⟨i2, w1, w2, _⟩
      · omega
      · omega
    · have ec : (nI (j - G)).toNatClampNeg = j - G := nI_clamp (by omega)
      rw [ec]
      refine ⟨vp_in_nI (by omega) (by omega), br_c (fun w => h1 ⟨j, by omega, rfl, Or.inr ⟨j - G, y, by omega, w⟩⟩) (fun w => h0 ?_)⟩
      rintro ⟨i, hi, e, u⟩
      rw [nI_eq hj (by omega)] at e
      subst e
      rcases u with u | ⟨i2, u1, u2, u3⟩
      · omega
      · rw [show j - G = i2 by omega] at w
        exact w u3
theorem gx_bit {x : Int64} {i : Nat} (hi : i < 64) (K : pst (if lb_t x i = true then 1 else 0)) : wpX_bit pst (nI R, nI V, nI G, nI H, nI n, nI q, xstate, xpending, xreachable, xsingleSites, xexactVars, ximproved, xopAt, xaAt, xbAt, xcAt, xinputs, xrep, xpts, xdone, xflowsTo, xtried, xloads, xstores, xnext, xprev, xafter, xvarSet, xgen, xkill, xholdsIn, xreads, xcovers, xneedIn, xneedAfter, xverdicts, xrunStatus, xrunSteps, xrunOutputs, xrunReads, xrunWrites, xrunMade, xrunPlace, xvars, xcells, xheapSite, xoutputs) x (nI i) := by
  have e := lb_val x hi
  unfold wpX_bit
  rw [e]; exact K
theorem gx_idx {s : Int32} (hn : n ≤ 32) (h1 : (∃ j, j < n ∧ s = nI j) → pst 1) (h0 : (¬ ∃ j, j < n ∧ s = nI j) → pst 0) : wpX_isIndex pst (nI R, nI V, nI G, nI H, nI n, nI q, xstate, xpending, xreachable, xsingleSites, xexactVars, ximproved, xopAt, xaAt, xbAt, xcAt, xinputs, xrep, xpts, xdone, xflowsTo, xtried, xloads, xstores, xnext, xprev, xafter, xvarSet, xgen, xkill, xholdsIn, xreads, xcovers, xneedIn, xneedAfter, xverdicts, xrunStatus, xrunSteps, xrunOutputs, xrunReads, xrunWrites, xrunMade, xrunPlace, xvars, xcells, xheapSite, xoutputs) s :=
  ix_br (by omega) h0 h0 (fun j hj e => h1 ⟨j, hj, e⟩)
theorem gx_ver {s : Int32} (h1 : (∃ j, j < 2 ∧ s = nI j) → pst 1) (h0 : (¬ ∃ j, j < 2 ∧ s = nI j) → pst 0) : wpX_isVersion pst (nI R, nI V, nI G, nI H, nI n, nI q, xstate, xpending, xreachable, xsingleSites, xexactVars, ximproved, xopAt, xaAt, xbAt, xcAt, xinputs, xrep, xpts, xdone, xflowsTo, xtried, xloads, xstores, xnext, xprev, xafter, xvarSet, xgen, xkill, xholdsIn, xreads, xcovers, xneedIn, xneedAfter, xverdicts, xrunStatus, xrunSteps, xrunOutputs, xrunReads, xrunWrites, xrunMade, xrunPlace, xvars, xcells, xheapSite, xoutputs) s := by
  refine br_c (fun z => h1 ⟨0, by omega, z⟩) (fun z0 => br_c (fun z => h1 ⟨1, by omega, z⟩) (fun z1 => h0 ?_))
  rintro ⟨j, hj, e⟩
  have : j = 0 ∨ j = 1 := by omega
  rcases this with q | q
  · subst q; exact z0 e
  · subst q; exact z1 e
end
section
variable {yroom : Int32} {yvars : Int32} {yglobals : Int32} {yheap : Int32} {ylength : Int32} {ycursor : Int32} {ystate : Int32} {ygrew : Int32} {yinputs : (Nat → Int32)} {yops : (Nat → Int32)} {yfa : (Nat → Int32)} {yfb : (Nat → Int32)} {yfc : (Nat → Int32)} {yhas : (Nat → Int32)} {ymark : (Nat → Int32)} {yreach : (Nat → Int32)} {ysingle : (Nat → Int32)} {yexact : (Nat → Int32)} {yverdicts : (Nat → Int32)} {yseen : (Nat → Int32)} {yeffect : (Nat → Int32)} {yfacts : (Nat → Int32)} {ywords : (Nat → Int64)} {ycells : (Nat → Int64)} {ysiteOf : (Nat → Int32)} {youts : (Nat → Int64)}
variable {R V G H n q : Nat} {pst : Int32 → Prop}

theorem gy_site {s : Int32} (hG : G ≤ 8) (hn : n ≤ 32) (h1 : gs_P G n yops s → pst 1) (h0 : ¬ gs_P G n yops s → pst 0) : wpY_isSite pst (nI R, nI V, nI G, nI H, nI n, nI q, ystate, ygrew, yinputs, yops, yfa, yfb, yfc, yhas, ymark, yreach, ysingle, yexact, yverdicts, yseen, yeffect, yfacts, ywords, ycells, ysiteOf, youts) s := by
  by_cases a : s < 0
  · refine br_t a (h0 ?_)
    rintro ⟨j, hj, e, _⟩
    rw [e] at a
    exact nI_pos (by omega) a
  · obtain ⟨j, hj, e⟩ := nI_of a
    subst e
    refine br_f a ?_
    rw [nI_add]
    refine pk_lt j (G + n) (fun z => pk_lt j G (fun y => h1 ⟨j, by omega, rfl, Or.inl y⟩) (fun y => ?_)) (fun z => h0 ?_)
    · have es : nI j - nI G = nI (j - G) := pk_sub y
      have ec : (nI (j - G)).toNatClampNeg = j - G := nI_clamp (by omega)
      rw [es, ec]
      refine ⟨vp_in_nI (by omega) (by omega), br_c (fun w => h1 ⟨j, by omega, rfl, Or.inr ⟨j - G, by omega, by omega, w⟩⟩) (fun w => h0 ?_)⟩
      rintro ⟨i, hi, e, u⟩
      rw [nI_eq hj (by omega)] at e
      subst e
      rcases u with u | ⟨i2, u1, u2, u3⟩
      · omega
      · rw [show j - G = i2 by omega] at w
        exact w u3
    · rintro ⟨i, hi, e, w⟩
      rw [nI_eq hj (by omega)] at e
      subst e
      rcases w with w | ⟨i2, w1, w2, _⟩
      · omega
      · omega
theorem gy_in {s : Int32} (m : Nat) (hm : m < 2 ^ 31) (h1 : (∃ j, j < m ∧ s = nI j) → pst 1) (h0 : (¬ ∃ j, j < m ∧ s = nI j) → pst 0) : wpY_in pst (nI R, nI V, nI G, nI H, nI n, nI q, ystate, ygrew, yinputs, yops, yfa, yfb, yfc, yhas, ymark, yreach, ysingle, yexact, yverdicts, yseen, yeffect, yfacts, ywords, ycells, ysiteOf, youts) s (nI m) :=
  ix_br hm h0 h0 (fun j hj e => h1 ⟨j, hj, e⟩)
end

theorem i_vc_programFact {k : Nat} {u : SX} {v : SY} (I : i_Rel k u v) (hk : k + 5 ≤ 2564) (v1 : Int32) : wpX_programFact (fun r => wpY_programFact (fun r' => r' = r ∧ i_Rel (k + 5) u v) v v1) u v1 := by
  refine I (fun u v => wpX_programFact (fun r => wpY_programFact (fun r' => r' = r ∧ i_Rel (k + 5) u v) v v1) u v1) ?_
  intro R V G H n q xstate xpending xreachable xsingleSites xexactVars ximproved xopAt xaAt xbAt xcAt xinputs xrep xpts xdone xflowsTo xtried xloads xstores xnext xprev xafter xvarSet xgen xkill xholdsIn xreads xcovers xneedIn xneedAfter xverdicts xrunStatus xrunSteps xrunOutputs xrunReads xrunWrites xrunMade xrunPlace xvars xcells xheapSite xoutputs ygrew yhas ymark yreach ysingle yexact yverdicts yseen yeffect yfacts ysiteOf h1 h2 h3 h4
  have hR : ∀ k : Nat, i_Rel k (nI R, nI V, nI G, nI H, nI n, nI q, xstate, xpending, xreachable, xsingleSites, xexactVars, ximproved, xopAt, xaAt, xbAt, xcAt, xinputs, xrep, xpts, xdone, xflowsTo, xtried, xloads, xstores, xnext, xprev, xafter, xvarSet, xgen, xkill, xholdsIn, xreads, xcovers, xneedIn, xneedAfter, xverdicts, xrunStatus, xrunSteps, xrunOutputs, xrunReads, xrunWrites, xrunMade, xrunPlace, xvars, xcells, xheapSite, xoutputs) (nI R, nI V, nI G, nI H, nI n, nI q, xstate, ygrew, xinputs, xopAt, xaAt, xbAt, xcAt, yhas, ymark, yreach, ysingle, yexact, yverdicts, yseen, yeffect, yfacts, xvars, xcells, ysiteOf, xoutputs) := fun k => rl_in xstate xpending xreachable xsingleSites xexactVars ximproved xopAt xaAt xbAt xcAt xinputs xrep xpts xdone xflowsTo xtried xloads xstores xnext xprev xafter xvarSet xgen xkill xholdsIn xreads xcovers xneedIn xneedAfter xverdicts xrunStatus xrunSteps xrunOutputs xrunReads xrunWrites xrunMade xrunPlace xvars xcells xheapSite xoutputs ygrew yhas ymark yreach ysingle yexact yverdicts yseen yeffect yfacts ysiteOf h1 h2 h3 h4
  have hin : ¬ v1 < 3 → ¬ 6 < v1 → vp_in (v1 - 3) 4 := by
    intro a b
    have a0 : ¬ v1 < 0 := by
      intro z
      rw [Int32.lt_iff_toInt_lt] at z a
      rw [show (0 : Int32).toInt = 0 by decide] at z
      rw [show (3 : Int32).toInt = 3 by decide] at a
      omega
    obtain ⟨j, hj, e⟩ := nI_of a0
    subst e
    have j3 : 3 ≤ j := by
      rcases Nat.lt_or_ge j 3 with z | z
      · exact absurd (nI_lt (b := 3) z (by omega)) a
      · exact z
    have j6 : j ≤ 6 := by
      rcases Nat.lt_or_ge 6 j with z | z
      · exact absurd (nI_lt (a := 6) z hj) b
      · exact z
    have es : nI j - 3 = nI (j - 3) := pk_sub (b := 3) j3
    rw [es]
    exact vp_in_nI (by omega) (by omega)
  exact br_c (fun a => br_t a ⟨rfl, hR _⟩) (fun a => br_c (fun b => br_f a (br_t b ⟨rfl, hR _⟩)) (fun b => br_c (fun c => br_f a (br_f b (br_t c ⟨rfl, hR _⟩))) (fun c => br_c (fun d => br_f a (br_f b (br_f c (br_t d ⟨rfl, hR _⟩)))) (fun d => br_c (fun e => br_f a (br_f b (br_f c (br_f d (br_t e ⟨rfl, hR _⟩))))) (fun e => ⟨hin d e, br_f a (br_f b (br_f c (br_f d (br_f e ⟨hin d e, rfl, hR _⟩))))⟩)))))
theorem i_vc_fieldAt {k : Nat} {u : SX} {v : SY} (I : i_Rel k u v) (hk : k + 5 ≤ 2564) (v1 : Int32) (v2 : Int32) : wpX_fieldAt (fun r => wpY_fieldAt (fun r' => r' = r ∧ i_Rel (k + 5) u v) v v1 v2) u v1 v2 := by
  refine I (fun u v => wpX_fieldAt (fun r => wpY_fieldAt (fun r' => r' = r ∧ i_Rel (k + 5) u v) v v1 v2) u v1 v2) ?_
  intro R V G H n q xstate xpending xreachable xsingleSites xexactVars ximproved xopAt xaAt xbAt xcAt xinputs xrep xpts xdone xflowsTo xtried xloads xstores xnext xprev xafter xvarSet xgen xkill xholdsIn xreads xcovers xneedIn xneedAfter xverdicts xrunStatus xrunSteps xrunOutputs xrunReads xrunWrites xrunMade xrunPlace xvars xcells xheapSite xoutputs ygrew yhas ymark yreach ysingle yexact yverdicts yseen yeffect yfacts ysiteOf h1 h2 h3 h4
  have hR : ∀ k : Nat, i_Rel k (nI R, nI V, nI G, nI H, nI n, nI q, xstate, xpending, xreachable, xsingleSites, xexactVars, ximproved, xopAt, xaAt, xbAt, xcAt, xinputs, xrep, xpts, xdone, xflowsTo, xtried, xloads, xstores, xnext, xprev, xafter, xvarSet, xgen, xkill, xholdsIn, xreads, xcovers, xneedIn, xneedAfter, xverdicts, xrunStatus, xrunSteps, xrunOutputs, xrunReads, xrunWrites, xrunMade, xrunPlace, xvars, xcells, xheapSite, xoutputs) (nI R, nI V, nI G, nI H, nI n, nI q, xstate, ygrew, xinputs, xopAt, xaAt, xbAt, xcAt, yhas, ymark, yreach, ysingle, yexact, yverdicts, yseen, yeffect, yfacts, xvars, xcells, ysiteOf, xoutputs) := fun k => rl_in xstate xpending xreachable xsingleSites xexactVars ximproved xopAt xaAt xbAt xcAt xinputs xrep xpts xdone xflowsTo xtried xloads xstores xnext xprev xafter xvarSet xgen xkill xholdsIn xreads xcovers xneedIn xneedAfter xverdicts xrunStatus xrunSteps xrunOutputs xrunReads xrunWrites xrunMade xrunPlace xvars xcells xheapSite xoutputs ygrew yhas ymark yreach ysingle yexact yverdicts yseen yeffect yfacts ysiteOf h1 h2 h3 h4
  obtain ⟨s1, s2, s3, s4, s5, s6, s7, s8, s9, s10, s11⟩ := h1
  unfold wpX_fieldAt
  refine gx_idx (by omega) (fun hv => br_f (by decide) ?_) (fun hv => br_t rfl ?_)
  · have hin : vp_in v1 32 := by
      obtain ⟨j, hj, e⟩ := hv
      rw [e]; exact vp_in_nI (by omega) (by omega)
    have no : (¬ ∃ j, j < 4 ∧ v2 = nI j) → wpY_fieldAt (fun r' => r' = -4294967296 ∧ i_Rel (k + 5) (nI R, nI V, nI G, nI H, nI n, nI q, xstate, xpending, xreachable, xsingleSites, xexactVars, ximproved, xopAt, xaAt, xbAt, xcAt, xinputs, xrep, xpts, xdone, xflowsTo, xtried, xloads, xstores, xnext, xprev, xafter, xvarSet, xgen, xkill, xholdsIn, xreads, xcovers, xneedIn, xneedAfter, xverdicts, xrunStatus, xrunSteps, xrunOutputs, xrunReads, xrunWrites, xrunMade, xrunPlace, xvars, xcells, xheapSite, xoutputs) (nI R, nI V, nI G, nI H, nI n, nI q, xstate, ygrew, xinputs, xopAt, xaAt, xbAt, xcAt, yhas, ymark, yreach, ysingle, yexact, yverdicts, yseen, yeffect, yfacts, xvars, xcells, ysiteOf, xoutputs)) (nI R, nI V, nI G, nI H, nI n, nI q, xstate, ygrew, xinputs, xopAt, xaAt, xbAt, xcAt, yhas, ymark, yreach, ysingle, yexact, yverdicts, yseen, yeffect, yfacts, xvars, xcells, ysiteOf, xoutputs) v1 v2 := by
      intro w
      unfold wpY_fieldAt
      exact gy_in n (by omega) (fun _ => br_f (by decide) (gy_in 4 (by omega) (fun z => absurd z w) (fun _ => br_t rfl ⟨rfl, hR _⟩))) (fun z => absurd hv z)
    by_cases a : v2 < 0
    · exact br_t a (no (fun ⟨j, hj, e⟩ => by rw [e] at a; exact nI_pos (by omega) a))
    · obtain ⟨j, hj, e⟩ := nI_of a
      subst e
      refine br_f a (pk_lt 3 j (fun z => no (fun ⟨i, hi, e⟩ => by rw [nI_eq hj (by omega)] at e; omega)) (fun z => ?_))
      have yes : ∀ r : Int64, ((nI j = 0 → (vp_in v1 32 ∧ (xopAt v1.toNatClampNeg).toInt64 = r)) ∧ (¬ nI j = 0 → ((nI j = 1 → (vp_in v1 32 ∧ (xaAt v1.toNatClampNeg).toInt64 = r)) ∧ (¬ nI j = 1 → ((nI j = 2 → (vp_in v1 32 ∧ (xbAt v1.toNatClampNeg).toInt64 = r)) ∧ (¬ nI j = 2 → (vp_in v1 32 ∧ (xcAt v1.toNatClampNeg).toInt64 = r))))))) → wpY_fieldAt (fun r' => r' = r ∧ i_Rel (k + 5) (nI R, nI V, nI G, nI H, nI n, nI q, xstate, xpending, xreachable, xsingleSites, xexactVars, ximproved, xopAt, xaAt, xbAt, xcAt, xinputs, xrep, xpts, xdone, xflowsTo, xtried, xloads, xstores, xnext, xprev, xafter, xvarSet, xgen, xkill, xholdsIn, xreads, xcovers, xneedIn, xneedAfter, xverdicts, xrunStatus, xrunSteps, xrunOutputs, xrunReads, xrunWrites, xrunMade, xrunPlace, xvars, xcells, xheapSite, xoutputs) (nI R, nI V, nI G, nI H, nI n, nI q, xstate, ygrew, xinputs, xopAt, xaAt, xbAt, xcAt, yhas, ymark, yreach, ysingle, yexact, yverdicts, yseen, yeffect, yfacts, xvars, xcells, ysiteOf, xoutputs)) (nI R, nI V, nI G, nI H, nI n, nI q, xstate, ygrew, xinputs, xopAt, xaAt, xbAt, xcAt, yhas, ymark, yreach, ysingle, yexact, yverdicts, yseen, yeffect, yfacts, xvars, xcells, ysiteOf, xoutputs) v1 (nI j) := by
        intro r h
        unfold wpY_fieldAt
        exact gy_in n (by omega) (fun _ => br_f (by decide) (gy_in 4 (by omega) (fun _ => br_f (by decide) (br_c (fun c0 => ⟨hin, (h.1 c0).2, hR _⟩) (fun c0 => br_c (fun c1 => ⟨hin, ((h.2 c0).1 c1).2, hR _⟩) (fun c1 => br_c (fun c2 => ⟨hin, (((h.2 c0).2 c1).1 c2).2, hR _⟩) (fun c2 => ⟨hin, (((h.2 c0).2 c1).2 c2).2, hR _⟩))))) (fun w => absurd ⟨j, by omega, rfl⟩ w))) (fun w => absurd hv w)
      refine br_c (fun c0 => ⟨hin, yes _ (br_t c0 ⟨hin, rfl⟩)⟩) (fun c0 => br_c (fun c1 => ⟨hin, yes _ (br_f c0 (br_t c1 ⟨hin, rfl⟩))⟩) (fun c1 => br_c (fun c2 => ⟨hin, yes _ (br_f c0 (br_f c1 (br_t c2 ⟨hin, rfl⟩)))⟩) (fun c2 => br_c (fun c3 => ⟨hin, yes _ (br_f c0 (br_f c1 (br_f c2 ⟨hin, rfl⟩)))⟩) (fun c3 => trivial))))
  · unfold wpY_fieldAt
    exact gy_in n (by omega) (fun w => absurd w hv) (fun _ => br_t rfl ⟨rfl, hR _⟩)
theorem gh_v {L : Nat → Nat → Prop} {has : Nat → Int32} {k s : Nat} {x : Int64} (hH : yb_H L has) (hk : k < 48) (hs : s < 40) (hx : lb_t x s = true ↔ L k s) : (has (k * 40 + s) = 0 ∧ (if lb_t x s = true then (1 : Int32) else 0) = 0) ∨ (¬ has (k * 40 + s) = 0 ∧ (if lb_t x s = true then (1 : Int32) else 0) = 1) := by
  rcases hH k s hk hs with q | q
  · exact Or.inl ⟨q.1, if_neg (fun z => q.2 (hx.mp z))⟩
  · exact Or.inr ⟨by rw [q.1]; decide, if_pos (hx.mpr q.2)⟩
theorem i_vc_pointsTo {k : Nat} {u : SX} {v : SY} (I : i_Rel k u v) (hk : k + 5 ≤ 2564) (v1 : Int32) (v2 : Int32) : wpX_pointsTo (fun r => wpY_pointsTo (fun r' => r' = r ∧ i_Rel (k + 5) u v) v v1 v2) u v1 v2 := by
  refine I (fun u v => wpX_pointsTo (fun r => wpY_pointsTo (fun r' => r' = r ∧ i_Rel (k + 5) u v) v v1 v2) u v1 v2) ?_
  intro R V G H n q xstate xpending xreachable xsingleSites xexactVars ximproved xopAt xaAt xbAt xcAt xinputs xrep xpts xdone xflowsTo xtried xloads xstores xnext xprev xafter xvarSet xgen xkill xholdsIn xreads xcovers xneedIn xneedAfter xverdicts xrunStatus xrunSteps xrunOutputs xrunReads xrunWrites xrunMade xrunPlace xvars xcells xheapSite xoutputs ygrew yhas ymark yreach ysingle yexact yverdicts yseen yeffect yfacts ysiteOf h1 h2 h3 h4
  have hR : ∀ k : Nat, i_Rel k (nI R, nI V, nI G, nI H, nI n, nI q, xstate, xpending, xreachable, xsingleSites, xexactVars, ximproved, xopAt, xaAt, xbAt, xcAt, xinputs, xrep, xpts, xdone, xflowsTo, xtried, xloads, xstores, xnext, xprev, xafter, xvarSet, xgen, xkill, xholdsIn, xreads, xcovers, xneedIn, xneedAfter, xverdicts, xrunStatus, xrunSteps, xrunOutputs, xrunReads, xrunWrites, xrunMade, xrunPlace, xvars, xcells, xheapSite, xoutputs) (nI R, nI V, nI G, nI H, nI n, nI q, xstate, ygrew, xinputs, xopAt, xaAt, xbAt, xcAt, yhas, ymark, yreach, ysingle, yexact, yverdicts, yseen, yeffect, yfacts, xvars, xcells, ysiteOf, xoutputs) := fun k => rl_in xstate xpending xreachable xsingleSites xexactVars ximproved xopAt xaAt xbAt xcAt xinputs xrep xpts xdone xflowsTo xtried xloads xstores xnext xprev xafter xvarSet xgen xkill xholdsIn xreads xcovers xneedIn xneedAfter xverdicts xrunStatus xrunSteps xrunOutputs xrunReads xrunWrites xrunMade xrunPlace xvars xcells xheapSite xoutputs ygrew yhas ymark yreach ysingle yexact yverdicts yseen yeffect yfacts ysiteOf h1 h2 h3 h4
  obtain ⟨s1, s2, s3, s4, s5, s6, s7, s8, s9, s10, s11⟩ := h1
  unfold wpX_pointsTo
  refine ed_var s4 (fun hv => br_f (by decide) (gx_site s6 (by omega) (fun hs => br_f (by decide) (br_c (fun st => ?_) (fun st => ?_))) (fun hs => br_t rfl ?_))) (fun hv => br_t rfl ?_)
  · unfold wpY_pointsTo
    exact gy_in V (by omega) (fun _ => br_f (by decide) (gy_site s6 (by omega) (fun _ => br_f (by decide) (br_t st ⟨rfl, hR _⟩)) (fun w => absurd hs w))) (fun w => absurd hv w)
  · obtain ⟨j, hj, e⟩ := hv
    obtain ⟨s, hs40, es, hs2⟩ := id hs
    subst e es
    have ej : (nI j).toNatClampNeg = j := nI_clamp (by omega)
    obtain ⟨hax, hay⟩ := h3 st
    have hval := gh_v hay.1 (k := j) (s := s) (x := xvarSet j) (by omega) hs40 (hax.2.2.1 j (by omega) s)
    refine ⟨vp_in_nI (by omega) (by omega), ?_⟩
    rw [ej]
    refine gx_bit (by omega) ?_
    unfold wpY_pointsTo
    refine gy_in V (by omega) (fun _ => br_f (by decide) (gy_site s6 (by omega) (fun _ => br_f (by decide) (br_f st ?_)) (fun w => absurd hs w))) (fun w => absurd ⟨j, hj, rfl⟩ w)
    obtain ⟨e1, e2, e3⟩ := yb_ix (k := j) (s := s) (by omega) hs40
    rw [e1, e3]
    rcases hval with ⟨z1, z2⟩ | ⟨z1, z2⟩
    · exact ⟨e2, br_t z1 ⟨z2.symm, hR _⟩⟩
    · exact ⟨e2, br_f z1 ⟨z2.symm, hR _⟩⟩
  · unfold wpY_pointsTo
    exact gy_in V (by omega) (fun _ => br_f (by decide) (gy_site s6 (by omega) (fun w => absurd w hs) (fun _ => br_t rfl ⟨rfl, hR _⟩))) (fun w => absurd hv w)
  · unfold wpY_pointsTo
    exact gy_in V (by omega) (fun w => absurd w hv) (fun _ => br_t rfl ⟨rfl, hR _⟩)
theorem i_vc_sitePointsTo {k : Nat} {u : SX} {v : SY} (I : i_Rel k u v) (hk : k + 5 ≤ 2564) (v1 : Int32) (v2 : Int32) : wpX_sitePointsTo (fun r => wpY_sitePointsTo (fun r' => r' = r ∧ i_Rel (k + 5) u v) v v1 v2) u v1 v2 := by
  refine I (fun u v => wpX_sitePointsTo (fun r => wpY_sitePointsTo (fun r' => r' = r ∧ i_Rel (k + 5) u v) v v1 v2) u v1 v2) ?_
  intro R V G H n q xstate xpending xreachable xsingleSites xexactVars ximproved xopAt xaAt xbAt xcAt xinputs xrep xpts xdone xflowsTo xtried xloads xstores xnext xprev xafter xvarSet xgen xkill xholdsIn xreads xcovers xneedIn xneedAfter xverdicts xrunStatus xrunSteps xrunOutputs xrunReads xrunWrites xrunMade xrunPlace xvars xcells xheapSite xoutputs ygrew yhas ymark yreach ysingle yexact yverdicts yseen yeffect yfacts ysiteOf h1 h2 h3 h4
  have hR : ∀ k : Nat, i_Rel k (nI R, nI V, nI G, nI H, nI n, nI q, xstate, xpending, xreachable, xsingleSites, xexactVars, ximproved, xopAt, xaAt, xbAt, xcAt, xinputs, xrep, xpts, xdone, xflowsTo, xtried, xloads, xstores, xnext, xprev, xafter, xvarSet, xgen, xkill, xholdsIn, xreads, xcovers, xneedIn, xneedAfter, xverdicts, xrunStatus, xrunSteps, xrunOutputs, xrunReads, xrunWrites, xrunMade, xrunPlace, xvars, xcells, xheapSite, xoutputs) (nI R, nI V, nI G, nI H, nI n, nI q, xstate, ygrew, xinputs, xopAt, xaAt, xbAt, xcAt, yhas, ymark, yreach, ysingle, yexact, yverdicts, yseen, yeffect, yfacts, xvars, xcells, ysiteOf, xoutputs) := fun k => rl_in xstate xpending xreachable xsingleSites xexactVars ximproved xopAt xaAt xbAt xcAt xinputs xrep xpts xdone xflowsTo xtried xloads xstores xnext xprev xafter xvarSet xgen xkill xholdsIn xreads xcovers xneedIn xneedAfter xverdicts xrunStatus xrunSteps xrunOutputs xrunReads xrunWrites xrunMade xrunPlace xvars xcells xheapSite xoutputs ygrew yhas ymark yreach ysingle yexact yverdicts yseen yeffect yfacts ysiteOf h1 h2 h3 h4
  obtain ⟨s1, s2, s3, s4, s5, s6, s7, s8, s9, s10, s11⟩ := h1
  unfold wpX_sitePointsTo
  refine gx_site s6 (by omega) (fun hv => br_f (by decide) (gx_site s6 (by omega) (fun hs => br_f (by decide) (br_c (fun st => ?_) (fun st => ?_))) (fun hs => br_t rfl ?_))) (fun hv => br_t rfl ?_)
  · unfold wpY_sitePointsTo
    exact gy_site s6 (by omega) (fun _ => br_f (by decide) (gy_site s6 (by omega) (fun _ => br_f (by decide) (br_t st ⟨rfl, hR _⟩)) (fun w => absurd hs w))) (fun w => absurd hv w)
  · obtain ⟨j, hj, e, hj2⟩ := id hv
    obtain ⟨s, hs40, es, hs2⟩ := id hs
    subst e es
    have e8 : (8 : Int32) + nI j = nI (8 + j) := nI_add 8 j
    have ej : (nI (8 + j)).toNatClampNeg = 8 + j := nI_clamp (by omega)
    obtain ⟨hax, hay⟩ := h3 st
    obtain ⟨r2, hr, hp⟩ := hax.2.2.2.1
    have hrj := hr (8 + j) (by omega)
    have er : (nI (r2 (8 + j))).toNatClampNeg = r2 (8 + j) := nI_clamp (by omega)
    have hval := gh_v hay.1 (k := 8 + j) (s := s) (x := xpts (r2 (8 + j))) (by omega) hs40 (hp (8 + j) (by omega) s)
    rw [e8, ej, hrj.1, er]
    refine ⟨vp_in_nI (by omega) (by omega), vp_in_nI hrj.2 (by omega), gx_bit (by omega) ?_⟩
    unfold wpY_sitePointsTo
    refine gy_site s6 (by omega) (fun _ => br_f (by decide) (gy_site s6 (by omega) (fun _ => br_f (by decide) (br_f st ?_)) (fun w => absurd hs w))) (fun w => absurd hv w)
    obtain ⟨e1, e2, e3⟩ := yb_ix (k := 8 + j) (s := s) (by omega) hs40
    rw [e8, e1, e3]
    rcases hval with ⟨z1, z2⟩ | ⟨z1, z2⟩
    · exact ⟨e2, br_t z1 ⟨z2.symm, hR _⟩⟩
    · exact ⟨e2, br_f z1 ⟨z2.symm, hR _⟩⟩
  · unfold wpY_sitePointsTo
    exact gy_site s6 (by omega) (fun _ => br_f (by decide) (gy_site s6 (by omega) (fun w => absurd w hs) (fun _ => br_t rfl ⟨rfl, hR _⟩))) (fun w => absurd hv w)
  · unfold wpY_sitePointsTo
    exact gy_site s6 (by omega) (fun w => absurd w hv) (fun _ => br_t rfl ⟨rfl, hR _⟩)
theorem gb_v {P : Prop} {a : Int32} {x : Int64} {s : Nat} (h1 : ¬ a = 0 ↔ P) (h2 : lb_t x s = true ↔ P) : (a = 0 ∧ (if lb_t x s = true then (1 : Int32) else 0) = 0) ∨ (¬ a = 0 ∧ (if lb_t x s = true then (1 : Int32) else 0) = 1) := by
  by_cases z : a = 0
  · exact Or.inl ⟨z, if_neg (fun w => h1.mpr (h2.mp w) z)⟩
  · exact Or.inr ⟨z, if_pos (h2.mpr (h1.mp z))⟩
theorem i_vc_isSingle {k : Nat} {u : SX} {v : SY} (I : i_Rel k u v) (hk : k + 5 ≤ 2564) (v1 : Int32) : wpX_isSingle (fun r => wpY_isSingle (fun r' => r' = r ∧ i_Rel (k + 5) u v) v v1) u v1 := by
  refine I (fun u v => wpX_isSingle (fun r => wpY_isSingle (fun r' => r' = r ∧ i_Rel (k + 5) u v) v v1) u v1) ?_
  intro R V G H n q xstate xpending xreachable xsingleSites xexactVars ximproved xopAt xaAt xbAt xcAt xinputs xrep xpts xdone xflowsTo xtried xloads xstores xnext xprev xafter xvarSet xgen xkill xholdsIn xreads xcovers xneedIn xneedAfter xverdicts xrunStatus xrunSteps xrunOutputs xrunReads xrunWrites xrunMade xrunPlace xvars xcells xheapSite xoutputs ygrew yhas ymark yreach ysingle yexact yverdicts yseen yeffect yfacts ysiteOf h1 h2 h3 h4
  have hR : ∀ k : Nat, i_Rel k (nI R, nI V, nI G, nI H, nI n, nI q, xstate, xpending, xreachable, xsingleSites, xexactVars, ximproved, xopAt, xaAt, xbAt, xcAt, xinputs, xrep, xpts, xdone, xflowsTo, xtried, xloads, xstores, xnext, xprev, xafter, xvarSet, xgen, xkill, xholdsIn, xreads, xcovers, xneedIn, xneedAfter, xverdicts, xrunStatus, xrunSteps, xrunOutputs, xrunReads, xrunWrites, xrunMade, xrunPlace, xvars, xcells, xheapSite, xoutputs) (nI R, nI V, nI G, nI H, nI n, nI q, xstate, ygrew, xinputs, xopAt, xaAt, xbAt, xcAt, yhas, ymark, yreach, ysingle, yexact, yverdicts, yseen, yeffect, yfacts, xvars, xcells, ysiteOf, xoutputs) := fun k => rl_in xstate xpending xreachable xsingleSites xexactVars ximproved xopAt xaAt xbAt xcAt xinputs xrep xpts xdone xflowsTo xtried xloads xstores xnext xprev xafter xvarSet xgen xkill xholdsIn xreads xcovers xneedIn xneedAfter xverdicts xrunStatus xrunSteps xrunOutputs xrunReads xrunWrites xrunMade xrunPlace xvars xcells xheapSite xoutputs ygrew yhas ymark yreach ysingle yexact yverdicts yseen yeffect yfacts ysiteOf h1 h2 h3 h4
  obtain ⟨s1, s2, s3, s4, s5, s6, s7, s8, s9, s10, s11⟩ := h1
  unfold wpX_isSingle
  refine gx_site s6 (by omega) (fun hs => br_f (by decide) (br_c (fun st => ?_) (fun st => ?_))) (fun hs => br_t rfl ?_)
  · unfold wpY_isSingle
    exact gy_site s6 (by omega) (fun _ => br_f (by decide) (br_t st ⟨rfl, hR _⟩)) (fun w => absurd hs w)
  · obtain ⟨s, hs40, es, hs2⟩ := id hs
    subst es
    have ej : (nI s).toNatClampNeg = s := nI_clamp (by omega)
    obtain ⟨hax, hay⟩ := h3 st
    have hval := gb_v (hay.2.2.1 s hs40) (hax.2.1 s)
    refine gx_bit (by omega) ?_
    unfold wpY_isSingle
    refine gy_site s6 (by omega) (fun _ => br_f (by decide) (br_f st ?_)) (fun w => absurd hs w)
    rw [ej]
    rcases hval with ⟨z1, z2⟩ | ⟨z1, z2⟩
    · exact ⟨vp_in_nI hs40 (by omega), br_t z1 ⟨z2.symm, hR _⟩⟩
    · exact ⟨vp_in_nI hs40 (by omega), br_f z1 ⟨z2.symm, hR _⟩⟩
  · unfold wpY_isSingle
    exact gy_site s6 (by omega) (fun w => absurd w hs) (fun _ => br_t rfl ⟨rfl, hR _⟩)
theorem i_vc_isReachable {k : Nat} {u : SX} {v : SY} (I : i_Rel k u v) (hk : k + 5 ≤ 2564) (v1 : Int32) : wpX_isReachable (fun r => wpY_isReachable (fun r' => r' = r ∧ i_Rel (k + 5) u v) v v1) u v1 := by
  refine I (fun u v => wpX_isReachable (fun r => wpY_isReachable (fun r' => r' = r ∧ i_Rel (k + 5) u v) v v1) u v1) ?_
  intro R V G H n q xstate xpending xreachable xsingleSites xexactVars ximproved xopAt xaAt xbAt xcAt xinputs xrep xpts xdone xflowsTo xtried xloads xstores xnext xprev xafter xvarSet xgen xkill xholdsIn xreads xcovers xneedIn xneedAfter xverdicts xrunStatus xrunSteps xrunOutputs xrunReads xrunWrites xrunMade xrunPlace xvars xcells xheapSite xoutputs ygrew yhas ymark yreach ysingle yexact yverdicts yseen yeffect yfacts ysiteOf h1 h2 h3 h4
  have hR : ∀ k : Nat, i_Rel k (nI R, nI V, nI G, nI H, nI n, nI q, xstate, xpending, xreachable, xsingleSites, xexactVars, ximproved, xopAt, xaAt, xbAt, xcAt, xinputs, xrep, xpts, xdone, xflowsTo, xtried, xloads, xstores, xnext, xprev, xafter, xvarSet, xgen, xkill, xholdsIn, xreads, xcovers, xneedIn, xneedAfter, xverdicts, xrunStatus, xrunSteps, xrunOutputs, xrunReads, xrunWrites, xrunMade, xrunPlace, xvars, xcells, xheapSite, xoutputs) (nI R, nI V, nI G, nI H, nI n, nI q, xstate, ygrew, xinputs, xopAt, xaAt, xbAt, xcAt, yhas, ymark, yreach, ysingle, yexact, yverdicts, yseen, yeffect, yfacts, xvars, xcells, ysiteOf, xoutputs) := fun k => rl_in xstate xpending xreachable xsingleSites xexactVars ximproved xopAt xaAt xbAt xcAt xinputs xrep xpts xdone xflowsTo xtried xloads xstores xnext xprev xafter xvarSet xgen xkill xholdsIn xreads xcovers xneedIn xneedAfter xverdicts xrunStatus xrunSteps xrunOutputs xrunReads xrunWrites xrunMade xrunPlace xvars xcells xheapSite xoutputs ygrew yhas ymark yreach ysingle yexact yverdicts yseen yeffect yfacts ysiteOf h1 h2 h3 h4
  obtain ⟨s1, s2, s3, s4, s5, s6, s7, s8, s9, s10, s11⟩ := h1
  unfold wpX_isReachable
  refine gx_idx (by omega) (fun hs => br_f (by decide) (br_c (fun st => ?_) (fun st => ?_))) (fun hs => br_t rfl ?_)
  · unfold wpY_isReachable
    exact gy_in n (by omega) (fun _ => br_f (by decide) (br_t st ⟨rfl, hR _⟩)) (fun w => absurd hs w)
  · obtain ⟨s, hsn, es⟩ := id hs
    subst es
    have ej : (nI s).toNatClampNeg = s := nI_clamp (by omega)
    obtain ⟨hax, hay⟩ := h3 st
    have hval := gb_v (hay.2.1 s hsn) (hax.1 s)
    refine gx_bit (by omega) ?_
    unfold wpY_isReachable
    refine gy_in n (by omega) (fun _ => br_f (by decide) (br_f st ?_)) (fun w => absurd hs w)
    rw [ej]
    rcases hval with ⟨z1, z2⟩ | ⟨z1, z2⟩
    · exact ⟨vp_in_nI (by omega) (by omega), br_t z1 ⟨z2.symm, hR _⟩⟩
    · exact ⟨vp_in_nI (by omega) (by omega), br_f z1 ⟨z2.symm, hR _⟩⟩
  · unfold wpY_isReachable
    exact gy_in n (by omega) (fun w => absurd w hs) (fun _ => br_t rfl ⟨rfl, hR _⟩)
theorem i_vc_verdict {k : Nat} {u : SX} {v : SY} (I : i_Rel k u v) (hk : k + 5 ≤ 2564) (v1 : Int32) : wpX_verdict (fun r => wpY_verdict (fun r' => r' = r ∧ i_Rel (k + 5) u v) v v1) u v1 := by
  refine I (fun u v => wpX_verdict (fun r => wpY_verdict (fun r' => r' = r ∧ i_Rel (k + 5) u v) v v1) u v1) ?_
  intro R V G H n q xstate xpending xreachable xsingleSites xexactVars ximproved xopAt xaAt xbAt xcAt xinputs xrep xpts xdone xflowsTo xtried xloads xstores xnext xprev xafter xvarSet xgen xkill xholdsIn xreads xcovers xneedIn xneedAfter xverdicts xrunStatus xrunSteps xrunOutputs xrunReads xrunWrites xrunMade xrunPlace xvars xcells xheapSite xoutputs ygrew yhas ymark yreach ysingle yexact yverdicts yseen yeffect yfacts ysiteOf h1 h2 h3 h4
  have hR : ∀ k : Nat, i_Rel k (nI R, nI V, nI G, nI H, nI n, nI q, xstate, xpending, xreachable, xsingleSites, xexactVars, ximproved, xopAt, xaAt, xbAt, xcAt, xinputs, xrep, xpts, xdone, xflowsTo, xtried, xloads, xstores, xnext, xprev, xafter, xvarSet, xgen, xkill, xholdsIn, xreads, xcovers, xneedIn, xneedAfter, xverdicts, xrunStatus, xrunSteps, xrunOutputs, xrunReads, xrunWrites, xrunMade, xrunPlace, xvars, xcells, xheapSite, xoutputs) (nI R, nI V, nI G, nI H, nI n, nI q, xstate, ygrew, xinputs, xopAt, xaAt, xbAt, xcAt, yhas, ymark, yreach, ysingle, yexact, yverdicts, yseen, yeffect, yfacts, xvars, xcells, ysiteOf, xoutputs) := fun k => rl_in xstate xpending xreachable xsingleSites xexactVars ximproved xopAt xaAt xbAt xcAt xinputs xrep xpts xdone xflowsTo xtried xloads xstores xnext xprev xafter xvarSet xgen xkill xholdsIn xreads xcovers xneedIn xneedAfter xverdicts xrunStatus xrunSteps xrunOutputs xrunReads xrunWrites xrunMade xrunPlace xvars xcells xheapSite xoutputs ygrew yhas ymark yreach ysingle yexact yverdicts yseen yeffect yfacts ysiteOf h1 h2 h3 h4
  obtain ⟨s1, s2, s3, s4, s5, s6, s7, s8, s9, s10, s11⟩ := h1
  unfold wpX_verdict
  refine gx_idx (by omega) (fun hs => br_f (by decide) (br_c (fun st => ?_) (fun st => ?_))) (fun hs => br_t rfl ?_)
  · unfold wpY_verdict
    exact gy_in n (by omega) (fun _ => br_f (by decide) (br_t st ⟨rfl, hR _⟩)) (fun w => absurd hs w)
  · obtain ⟨s, hsn, es⟩ := id hs
    subst es
    have ej : (nI s).toNatClampNeg = s := nI_clamp (by omega)
    obtain ⟨⟨a1, a2, a3, a4, a5, a6, a7, a8⟩, ⟨b1, b2, b3, b4, b5⟩⟩ := h3 st
    refine ⟨vp_in_nI (by omega) (by omega), ?_⟩
    unfold wpY_verdict
    refine gy_in n (by omega) (fun _ => br_f (by decide) (br_f st ⟨vp_in_nI (by omega) (by omega), ?_, hR _⟩)) (fun w => absurd hs w)
    rw [ej]
    exact vs_2u (b5 s hsn) (a7 s hsn)
  · unfold wpY_verdict
    exact gy_in n (by omega) (fun w => absurd w hs) (fun _ => br_t rfl ⟨rfl, hR _⟩)
end
section


theorem i_vc_holds {k : Nat} {u : SX} {v : SY} (I : i_Rel k u v) (hk : k + 5 ≤ 2564) (v1 : Int32) (v2 : Int32) (v3 : Int32) : wpX_holds (fun r => wpY_holds (fun r' v' => r' = r ∧ i_Rel (k + 5) u v') v v1 v2 v3) u v1 v2 v3 := by
  refine I (fun u v => wpX_holds (fun r => wpY_holds (fun r' v' => r' = r ∧ i_Rel (k + 5) u v') v v1 v2 v3) u v1 v2 v3) ?_
  intro R V G H n q xstate xpending xreachable xsingleSites xexactVars ximproved xopAt xaAt xbAt xcAt xinputs xrep xpts xdone xflowsTo xtried xloads xstores xnext xprev xafter xvarSet xgen xkill xholdsIn xreads xcovers xneedIn xneedAfter xverdicts xrunStatus xrunSteps xrunOutputs xrunReads xrunWrites xrunMade xrunPlace xvars xcells xheapSite xoutputs ygrew yhas ymark yreach ysingle yexact yverdicts yseen yeffect yfacts ysiteOf h1 h2 h3 h4
  have hR : ∀ k : Nat, i_Rel k (nI R, nI V, nI G, nI H, nI n, nI q, xstate, xpending, xreachable, xsingleSites, xexactVars, ximproved, xopAt, xaAt, xbAt, xcAt, xinputs, xrep, xpts, xdone, xflowsTo, xtried, xloads, xstores, xnext, xprev, xafter, xvarSet, xgen, xkill, xholdsIn, xreads, xcovers, xneedIn, xneedAfter, xverdicts, xrunStatus, xrunSteps, xrunOutputs, xrunReads, xrunWrites, xrunMade, xrunPlace, xvars, xcells, xheapSite, xoutputs) (nI R, nI V, nI G, nI H, nI n, nI q, xstate, ygrew, xinputs, xopAt, xaAt, xbAt, xcAt, yhas, ymark, yreach, ysingle, yexact, yverdicts, yseen, yeffect, yfacts, xvars, xcells, ysiteOf, xoutputs) := fun k => rl_in xstate xpending xreachable xsingleSites xexactVars ximproved xopAt xaAt xbAt xcAt xinputs xrep xpts xdone xflowsTo xtried xloads xstores xnext xprev xafter xvarSet xgen xkill xholdsIn xreads xcovers xneedIn xneedAfter xverdicts xrunStatus xrunSteps xrunOutputs xrunReads xrunWrites xrunMade xrunPlace xvars xcells xheapSite xoutputs ygrew yhas ymark yreach ysingle yexact yverdicts yseen yeffect yfacts ysiteOf h1 h2 h3 h4
  have h1' := h1
  obtain ⟨s1, s2, s3, s4, s5, s6, s7, s8, s9, s10, s11⟩ := h1
  have hR2 : ∀ (k : Nat) (sn ef : Nat → Int32), i_Rel k (nI R, nI V, nI G, nI H, nI n, nI q, xstate, xpending, xreachable, xsingleSites, xexactVars, ximproved, xopAt, xaAt, xbAt, xcAt, xinputs, xrep, xpts, xdone, xflowsTo, xtried, xloads, xstores, xnext, xprev, xafter, xvarSet, xgen, xkill, xholdsIn, xreads, xcovers, xneedIn, xneedAfter, xverdicts, xrunStatus, xrunSteps, xrunOutputs, xrunReads, xrunWrites, xrunMade, xrunPlace, xvars, xcells, xheapSite, xoutputs) (nI R, nI V, nI G, nI H, nI n, nI q, xstate, ygrew, xinputs, xopAt, xaAt, xbAt, xcAt, yhas, ymark, yreach, ysingle, yexact, yverdicts, sn, ef, yfacts, xvars, xcells, ysiteOf, xoutputs) := fun k sn ef => rl_in xstate xpending xreachable xsingleSites xexactVars ximproved xopAt xaAt xbAt xcAt xinputs xrep xpts xdone xflowsTo xtried xloads xstores xnext xprev xafter xvarSet xgen xkill xholdsIn xreads xcovers xneedIn xneedAfter xverdicts xrunStatus xrunSteps xrunOutputs xrunReads xrunWrites xrunMade xrunPlace xvars xcells xheapSite xoutputs ygrew yhas ymark yreach ysingle yexact yverdicts sn ef yfacts ysiteOf h1' h2 h3 h4
  unfold wpX_holds
  refine gx_idx (by omega) (fun hi => br_f (by decide) (ed_var s4 (fun hv => br_f (by decide) (ed_var s4 (fun hx => br_f (by decide) (br_c (fun st => ?_) (fun st => ?_))) (fun hx => br_t rfl ?_))) (fun hv => br_t rfl ?_))) (fun hi => br_t rfl ?_)
  · unfold wpY_holds
    exact gy_in n (by omega) (fun _ => br_f (by decide) (gy_in V (by omega) (fun _ => br_f (by decide) (gy_in V (by omega) (fun _ => br_f (by decide) (br_t st ⟨rfl, hR _⟩)) (fun w => absurd hx w))) (fun w => absurd hv w))) (fun w => absurd hi w)
  · obtain ⟨i, hin, ei⟩ := id hi
    obtain ⟨a, hav, ea⟩ := id hv
    obtain ⟨x, hxv, ex⟩ := id hx
    subst ei ea ex
    have ej : (nI i).toNatClampNeg = i := nI_clamp (by omega)
    have ep : nI a * 8 + nI x = nI (a * 8 + x) := by
      have : nI a * 8 = nI (a * 8) := pk_mul a 8
      rw [this, nI_add]
    obtain ⟨⟨a1, a2, a3, a4, a5, a6, a7, a8⟩, ⟨b1, b2, b3, b4, b5⟩⟩ := h3 st
    have hbit := a5 i hin a x hav hxv
    rw [ej, ep]
    refine ⟨vp_in_nI (by omega) (by omega), gx_bit (by omega) ?_⟩
    unfold wpY_holds
    refine gy_in n (by omega) (fun _ => br_f (by decide) (gy_in V (by omega) (fun _ => br_f (by decide) (gy_in V (by omega) (fun _ => br_f (by decide) (br_f st ?_)) (fun w => absurd hx w))) (fun w => absurd hv w))) (fun w => absurd hi w)
    refine yh_held (L := pt_L n G xopAt xaAt xbAt) (EX := pp_EX n G V xopAt xaAt xbAt) h2 s2 s4 (by omega) b1 (fun j s h => (pt_bd h2 s4 s6 (by omega) h).2) b4 hin (by omega) (by omega) b2 (fun w sn ef => br_f (by decide) ⟨?_, hR2 _ sn ef⟩) (fun w sn ef => br_t rfl ⟨?_, hR2 _ sn ef⟩)
    · rw [if_pos (hbit.mpr w)]
    · rw [if_neg (fun z => w (hbit.mp z))]
  · unfold wpY_holds
    exact gy_in n (by omega) (fun _ => br_f (by decide) (gy_in V (by omega) (fun _ => br_f (by decide) (gy_in V (by omega) (fun w => absurd w hx) (fun _ => br_t rfl ⟨rfl, hR _⟩))) (fun w => absurd hv w))) (fun w => absurd hi w)
  · unfold wpY_holds
    exact gy_in n (by omega) (fun _ => br_f (by decide) (gy_in V (by omega) (fun w => absurd w hv) (fun _ => br_t rfl ⟨rfl, hR _⟩))) (fun w => absurd hi w)
  · unfold wpY_holds
    exact gy_in n (by omega) (fun w => absurd w hi) (fun _ => br_t rfl ⟨rfl, hR _⟩)
theorem i_vc_needed {k : Nat} {u : SX} {v : SY} (I : i_Rel k u v) (hk : k + 5 ≤ 2564) (v1 : Int32) (v2 : Int32) : wpX_needed (fun r => wpY_needed (fun r' v' => r' = r ∧ i_Rel (k + 5) u v') v v1 v2) u v1 v2 := by
  refine I (fun u v => wpX_needed (fun r => wpY_needed (fun r' v' => r' = r ∧ i_Rel (k + 5) u v') v v1 v2) u v1 v2) ?_
  intro R V G H n q xstate xpending xreachable xsingleSites xexactVars ximproved xopAt xaAt xbAt xcAt xinputs xrep xpts xdone xflowsTo xtried xloads xstores xnext xprev xafter xvarSet xgen xkill xholdsIn xreads xcovers xneedIn xneedAfter xverdicts xrunStatus xrunSteps xrunOutputs xrunReads xrunWrites xrunMade xrunPlace xvars xcells xheapSite xoutputs ygrew yhas ymark yreach ysingle yexact yverdicts yseen yeffect yfacts ysiteOf h1 h2 h3 h4
  have hR : ∀ k : Nat, i_Rel k (nI R, nI V, nI G, nI H, nI n, nI q, xstate, xpending, xreachable, xsingleSites, xexactVars, ximproved, xopAt, xaAt, xbAt, xcAt, xinputs, xrep, xpts, xdone, xflowsTo, xtried, xloads, xstores, xnext, xprev, xafter, xvarSet, xgen, xkill, xholdsIn, xreads, xcovers, xneedIn, xneedAfter, xverdicts, xrunStatus, xrunSteps, xrunOutputs, xrunReads, xrunWrites, xrunMade, xrunPlace, xvars, xcells, xheapSite, xoutputs) (nI R, nI V, nI G, nI H, nI n, nI q, xstate, ygrew, xinputs, xopAt, xaAt, xbAt, xcAt, yhas, ymark, yreach, ysingle, yexact, yverdicts, yseen, yeffect, yfacts, xvars, xcells, ysiteOf, xoutputs) := fun k => rl_in xstate xpending xreachable xsingleSites xexactVars ximproved xopAt xaAt xbAt xcAt xinputs xrep xpts xdone xflowsTo xtried xloads xstores xnext xprev xafter xvarSet xgen xkill xholdsIn xreads xcovers xneedIn xneedAfter xverdicts xrunStatus xrunSteps xrunOutputs xrunReads xrunWrites xrunMade xrunPlace xvars xcells xheapSite xoutputs ygrew yhas ymark yreach ysingle yexact yverdicts yseen yeffect yfacts ysiteOf h1 h2 h3 h4
  have h1' := h1
  obtain ⟨s1, s2, s3, s4, s5, s6, s7, s8, s9, s10, s11⟩ := h1
  have hR2 : ∀ (k : Nat) (sn : Nat → Int32), i_Rel k (nI R, nI V, nI G, nI H, nI n, nI q, xstate, xpending, xreachable, xsingleSites, xexactVars, ximproved, xopAt, xaAt, xbAt, xcAt, xinputs, xrep, xpts, xdone, xflowsTo, xtried, xloads, xstores, xnext, xprev, xafter, xvarSet, xgen, xkill, xholdsIn, xreads, xcovers, xneedIn, xneedAfter, xverdicts, xrunStatus, xrunSteps, xrunOutputs, xrunReads, xrunWrites, xrunMade, xrunPlace, xvars, xcells, xheapSite, xoutputs) (nI R, nI V, nI G, nI H, nI n, nI q, xstate, ygrew, xinputs, xopAt, xaAt, xbAt, xcAt, yhas, ymark, yreach, ysingle, yexact, yverdicts, sn, yeffect, yfacts, xvars, xcells, ysiteOf, xoutputs) := fun k sn => rl_in xstate xpending xreachable xsingleSites xexactVars ximproved xopAt xaAt xbAt xcAt xinputs xrep xpts xdone xflowsTo xtried xloads xstores xnext xprev xafter xvarSet xgen xkill xholdsIn xreads xcovers xneedIn xneedAfter xverdicts xrunStatus xrunSteps xrunOutputs xrunReads xrunWrites xrunMade xrunPlace xvars xcells xheapSite xoutputs ygrew yhas ymark yreach ysingle yexact yverdicts sn yeffect yfacts ysiteOf h1' h2 h3 h4
  unfold wpX_needed
  refine gx_idx (by omega) (fun hi => br_f (by decide) (ed_var s4 (fun hv => br_f (by decide) (br_c (fun st => ?_) (fun st => ?_))) (fun hv => br_t rfl ?_))) (fun hi => br_t rfl ?_)
  · unfold wpY_needed
    exact gy_in n (by omega) (fun _ => br_f (by decide) (gy_in V (by omega) (fun _ => br_f (by decide) (br_t st ⟨rfl, hR _⟩)) (fun w => absurd hv w))) (fun w => absurd hi w)
  · obtain ⟨i, hin, ei⟩ := id hi
    obtain ⟨a, hav, ea⟩ := id hv
    subst ei ea
    have ej : (nI i).toNatClampNeg = i := nI_clamp (by omega)
    obtain ⟨⟨a1, a2, a3, a4, a5, a6, a7, a8⟩, ⟨b1, b2, b3, b4, b5⟩⟩ := h3 st
    have hbit := a6 i hin a hav
    have h16 : ∀ t, t < n → xopAt t = 8 → (¬ 16 ≤ yverdicts t ↔ ∀ x, x < V → ¬ pp_HL n G V xopAt xaAt xbAt t (pn (xbAt t)) x) := by
      intro t ht o8
      rcases b5 t ht with z | z
      · rw [z.1] at o8; exact absurd o8 (by decide)
      · exact vs_16 s4 z.2 o8
    rw [ej]
    refine ⟨vp_in_nI (by omega) (by omega), gx_bit (by omega) ?_⟩
    rw [lb_i32 _ (by omega)]
    unfold wpY_needed
    refine gy_in n (by omega) (fun _ => br_f (by decide) (gy_in V (by omega) (fun _ => br_f (by decide) (br_f st ?_)) (fun w => absurd hv w))) (fun w => absurd hi w)
    refine yn_needed (L := pt_L n G xopAt xaAt xbAt) (EX := pp_EX n G V xopAt xaAt xbAt) (HL := pp_HL n G V xopAt xaAt xbAt) h2 s2 s4 (by omega) b1 (fun j s h => (pt_bd h2 s4 s6 (by omega) h).2) b4 hin hav b2 h16 (fun w sn => br_f (by decide) ⟨?_, hR2 _ sn⟩) (fun w sn => br_t rfl ⟨?_, hR2 _ sn⟩)
    · rw [if_pos (hbit.mpr w)]
    · rw [if_neg (fun z => w (hbit.mp z))]
  · unfold wpY_needed
    exact gy_in n (by omega) (fun _ => br_f (by decide) (gy_in V (by omega) (fun w => absurd w hv) (fun _ => br_t rfl ⟨rfl, hR _⟩))) (fun w => absurd hi w)
  · unfold wpY_needed
    exact gy_in n (by omega) (fun w => absurd w hi) (fun _ => br_t rfl ⟨rfl, hR _⟩)
theorem gr_2 {P : Nat → Prop} (h0 : P 0) (h1 : P 1) {w : Nat} (hw : w < 2) : P w := by
  have : w = 0 ∨ w = 1 := by omega
  rcases this with e | e
  · subst e; exact h0
  · subst e; exact h1
theorem i_vc_runFact {k : Nat} {u : SX} {v : SY} (I : i_Rel k u v) (hk : k + 5 ≤ 2564) (v1 : Int32) (v2 : Int32) : wpX_runFact (fun r => wpY_runFact (fun r' => r' = r ∧ i_Rel (k + 5) u v) v v1 v2) u v1 v2 := by
  refine I (fun u v => wpX_runFact (fun r => wpY_runFact (fun r' => r' = r ∧ i_Rel (k + 5) u v) v v1 v2) u v1 v2) ?_
  intro R V G H n q xstate xpending xreachable xsingleSites xexactVars ximproved xopAt xaAt xbAt xcAt xinputs xrep xpts xdone xflowsTo xtried xloads xstores xnext xprev xafter xvarSet xgen xkill xholdsIn xreads xcovers xneedIn xneedAfter xverdicts xrunStatus xrunSteps xrunOutputs xrunReads xrunWrites xrunMade xrunPlace xvars xcells xheapSite xoutputs ygrew yhas ymark yreach ysingle yexact yverdicts yseen yeffect yfacts ysiteOf h1 h2 h3 h4
  have hR : ∀ k : Nat, i_Rel k (nI R, nI V, nI G, nI H, nI n, nI q, xstate, xpending, xreachable, xsingleSites, xexactVars, ximproved, xopAt, xaAt, xbAt, xcAt, xinputs, xrep, xpts, xdone, xflowsTo, xtried, xloads, xstores, xnext, xprev, xafter, xvarSet, xgen, xkill, xholdsIn, xreads, xcovers, xneedIn, xneedAfter, xverdicts, xrunStatus, xrunSteps, xrunOutputs, xrunReads, xrunWrites, xrunMade, xrunPlace, xvars, xcells, xheapSite, xoutputs) (nI R, nI V, nI G, nI H, nI n, nI q, xstate, ygrew, xinputs, xopAt, xaAt, xbAt, xcAt, yhas, ymark, yreach, ysingle, yexact, yverdicts, yseen, yeffect, yfacts, xvars, xcells, ysiteOf, xoutputs) := fun k => rl_in xstate xpending xreachable xsingleSites xexactVars ximproved xopAt xaAt xbAt xcAt xinputs xrep xpts xdone xflowsTo xtried xloads xstores xnext xprev xafter xvarSet xgen xkill xholdsIn xreads xcovers xneedIn xneedAfter xverdicts xrunStatus xrunSteps xrunOutputs xrunReads xrunWrites xrunMade xrunPlace xvars xcells xheapSite xoutputs ygrew yhas ymark yreach ysingle yexact yverdicts yseen yeffect yfacts ysiteOf h1 h2 h3 h4
  have h1' := h1
  obtain ⟨s1, s2, s3, s4, s5, s6, s7, s8, s9, s10, s11⟩ := h1
  unfold wpX_runFact
  refine gx_ver (fun hv => br_f (by decide) ?_) (fun hv => br_t rfl ?_)
  · have no : (¬ ∃ j, j < 7 ∧ v2 = nI j) → wpY_runFact (fun r' => r' = -1 ∧ i_Rel (k + 5) (nI R, nI V, nI G, nI H, nI n, nI q, xstate, xpending, xreachable, xsingleSites, xexactVars, ximproved, xopAt, xaAt, xbAt, xcAt, xinputs, xrep, xpts, xdone, xflowsTo, xtried, xloads, xstores, xnext, xprev, xafter, xvarSet, xgen, xkill, xholdsIn, xreads, xcovers, xneedIn, xneedAfter, xverdicts, xrunStatus, xrunSteps, xrunOutputs, xrunReads, xrunWrites, xrunMade, xrunPlace, xvars, xcells, xheapSite, xoutputs) (nI R, nI V, nI G, nI H, nI n, nI q, xstate, ygrew, xinputs, xopAt, xaAt, xbAt, xcAt, yhas, ymark, yreach, ysingle, yexact, yverdicts, yseen, yeffect, yfacts, xvars, xcells, ysiteOf, xoutputs)) (nI R, nI V, nI G, nI H, nI n, nI q, xstate, ygrew, xinputs, xopAt, xaAt, xbAt, xcAt, yhas, ymark, yreach, ysingle, yexact, yverdicts, yseen, yeffect, yfacts, xvars, xcells, ysiteOf, xoutputs) v1 v2 := by
      intro w
      unfold wpY_runFact
      exact gy_in 2 (by omega) (fun _ => br_f (by decide) (gy_in 7 (by omega) (fun z => absurd z w) (fun _ => br_t rfl ⟨rfl, hR _⟩))) (fun z => absurd hv z)
    by_cases a : v2 < 0
    · exact br_t a (no (fun ⟨j, hj, e⟩ => by rw [e] at a; exact nI_pos (by omega) a))
    · obtain ⟨j, hj, e⟩ := nI_of a
      subst e
      refine br_f a (pk_le j 6 (fun z => br_c (fun st => ?_) (fun st => ?_)) (fun z => no (fun ⟨i, hi, e⟩ => by rw [nI_eq hj (by omega)] at e; omega)))
      · obtain ⟨w, hw, ew⟩ := id hv
        subst ew
        have hF := gr_2 (P := fun w => rn_F G H w xrunStatus xrunSteps xrunOutputs xrunReads xrunWrites xrunMade xrunPlace xheapSite yfacts ysiteOf) (h4 st).1 (h4 st).2 hw
        obtain ⟨f1, f2, ⟨c, c1, c2, c3⟩, f4, f5, ⟨m, m1, m2, m3, m4⟩, f7, f8⟩ := hF
        obtain ⟨w1, w2⟩ := ix_2 hw
        have yes : ∀ r : Int32, yfacts (w * 7 + j) = r → wpY_runFact (fun r' => r' = r ∧ i_Rel (k + 5) (nI R, nI V, nI G, nI H, nI n, nI q, xstate, xpending, xreachable, xsingleSites, xexactVars, ximproved, xopAt, xaAt, xbAt, xcAt, xinputs, xrep, xpts, xdone, xflowsTo, xtried, xloads, xstores, xnext, xprev, xafter, xvarSet, xgen, xkill, xholdsIn, xreads, xcovers, xneedIn, xneedAfter, xverdicts, xrunStatus, xrunSteps, xrunOutputs, xrunReads, xrunWrites, xrunMade, xrunPlace, xvars, xcells, xheapSite, xoutputs) (nI R, nI V, nI G, nI H, nI n, nI q, xstate, ygrew, xinputs, xopAt, xaAt, xbAt, xcAt, yhas, ymark, yreach, ysingle, yexact, yverdicts, yseen, yeffect, yfacts, xvars, xcells, ysiteOf, xoutputs)) (nI R, nI V, nI G, nI H, nI n, nI q, xstate, ygrew, xinputs, xopAt, xaAt, xbAt, xcAt, yhas, ymark, yreach, ysingle, yexact, yverdicts, yseen, yeffect, yfacts, xvars, xcells, ysiteOf, xoutputs) (nI w) (nI j) := by
          intro r hr
          obtain ⟨g1, g2, g3⟩ := ix_f (w := w) (j := j) hw (by omega)
          unfold wpY_runFact
          refine gy_in 2 (by omega) (fun _ => br_f (by decide) (gy_in 7 (by omega) (fun _ => br_f (by decide) (br_t st ?_)) (fun y => absurd ⟨j, by omega, rfl⟩ y))) (fun y => absurd hv y)
          rw [(ix_m w).2.2.2, g1, g3]
          exact ⟨g2, hr, hR _⟩
        rw [w2]
        refine br_f a (pk_lt 5 j (fun y => ⟨w1, yes _ (by rw [show j = 6 by omega]; exact f7)⟩) (fun y => pk_eq j 0 (fun e => ⟨w1, yes _ (by rw [e]; exact f1)⟩) (fun e0 => pk_eq j 1 (fun e => ⟨w1, yes _ (by rw [e]; exact f2)⟩) (fun e1 => pk_eq j 2 (fun e => ⟨w1, yes _ (by rw [e, c2]; exact c3)⟩) (fun e2 => pk_eq j 3 (fun e => ⟨w1, yes _ (by rw [e]; exact f4)⟩) (fun e3 => pk_eq j 4 (fun e => ⟨w1, yes _ (by rw [e]; exact f5)⟩) (fun e4 => pk_eq j 5 (fun e => ⟨w1, yes _ (by rw [e, m2]; exact m3)⟩) (fun e5 => by omega))))))))
      · unfold wpY_runFact
        exact gy_in 2 (by omega) (fun _ => br_f (by decide) (gy_in 7 (by omega) (fun _ => br_f (by decide) (br_f st ⟨rfl, hR _⟩)) (fun y => absurd ⟨j, by omega, rfl⟩ y))) (fun y => absurd hv y)
  · unfold wpY_runFact
    exact gy_in 2 (by omega) (fun w => absurd w hv) (fun _ => br_t rfl ⟨rfl, hR _⟩)
theorem i_vc_outputWord {k : Nat} {u : SX} {v : SY} (I : i_Rel k u v) (hk : k + 5 ≤ 2564) (v1 : Int32) (v2 : Int32) : wpX_outputWord (fun r => wpY_outputWord (fun r' => r' = r ∧ i_Rel (k + 5) u v) v v1 v2) u v1 v2 := by
  refine I (fun u v => wpX_outputWord (fun r => wpY_outputWord (fun r' => r' = r ∧ i_Rel (k + 5) u v) v v1 v2) u v1 v2) ?_
  intro R V G H n q xstate xpending xreachable xsingleSites xexactVars ximproved xopAt xaAt xbAt xcAt xinputs xrep xpts xdone xflowsTo xtried xloads xstores xnext xprev xafter xvarSet xgen xkill xholdsIn xreads xcovers xneedIn xneedAfter xverdicts xrunStatus xrunSteps xrunOutputs xrunReads xrunWrites xrunMade xrunPlace xvars xcells xheapSite xoutputs ygrew yhas ymark yreach ysingle yexact yverdicts yseen yeffect yfacts ysiteOf h1 h2 h3 h4
  have hR : ∀ k : Nat, i_Rel k (nI R, nI V, nI G, nI H, nI n, nI q, xstate, xpending, xreachable, xsingleSites, xexactVars, ximproved, xopAt, xaAt, xbAt, xcAt, xinputs, xrep, xpts, xdone, xflowsTo, xtried, xloads, xstores, xnext, xprev, xafter, xvarSet, xgen, xkill, xholdsIn, xreads, xcovers, xneedIn, xneedAfter, xverdicts, xrunStatus, xrunSteps, xrunOutputs, xrunReads, xrunWrites, xrunMade, xrunPlace, xvars, xcells, xheapSite, xoutputs) (nI R, nI V, nI G, nI H, nI n, nI q, xstate, ygrew, xinputs, xopAt, xaAt, xbAt, xcAt, yhas, ymark, yreach, ysingle, yexact, yverdicts, yseen, yeffect, yfacts, xvars, xcells, ysiteOf, xoutputs) := fun k => rl_in xstate xpending xreachable xsingleSites xexactVars ximproved xopAt xaAt xbAt xcAt xinputs xrep xpts xdone xflowsTo xtried xloads xstores xnext xprev xafter xvarSet xgen xkill xholdsIn xreads xcovers xneedIn xneedAfter xverdicts xrunStatus xrunSteps xrunOutputs xrunReads xrunWrites xrunMade xrunPlace xvars xcells xheapSite xoutputs ygrew yhas ymark yreach ysingle yexact yverdicts yseen yeffect yfacts ysiteOf h1 h2 h3 h4
  have h1' := h1
  obtain ⟨s1, s2, s3, s4, s5, s6, s7, s8, s9, s10, s11⟩ := h1
  unfold wpX_outputWord
  refine gx_ver (fun hv => br_f (by decide) (br_c (fun st => ?_) (fun st => ?_))) (fun hv => br_t rfl ?_)
  · obtain ⟨w, hw, ew⟩ := id hv
    subst ew
    have hF := gr_2 (P := fun w => rn_F G H w xrunStatus xrunSteps xrunOutputs xrunReads xrunWrites xrunMade xrunPlace xheapSite yfacts ysiteOf) (h4 st).1 (h4 st).2 hw
    obtain ⟨f1, f2, ⟨c, c1, c2, c3⟩, f4, f5, ⟨m, m1, m2, m3, m4⟩, f7, f8⟩ := hF
    obtain ⟨w1, w2⟩ := ix_2 hw
    obtain ⟨g1, g2, g3⟩ := ix_f (w := w) (j := 2) hw (by omega)
    have g1 : nI (w * 7) + 2 = nI (w * 7 + 2) := g1
    have hY : ∀ (r : Int64), ((∃ j, j < c ∧ v2 = nI j) → (vp_in (nI w * 32 + v2) 64 ∧ xoutputs (nI w * 32 + v2).toNatClampNeg = r)) → ((¬ ∃ j, j < c ∧ v2 = nI j) → -4294967296 = r) → wpY_outputWord (fun r' => r' = r ∧ i_Rel (k + 5) (nI R, nI V, nI G, nI H, nI n, nI q, xstate, xpending, xreachable, xsingleSites, xexactVars, ximproved, xopAt, xaAt, xbAt, xcAt, xinputs, xrep, xpts, xdone, xflowsTo, xtried, xloads, xstores, xnext, xprev, xafter, xvarSet, xgen, xkill, xholdsIn, xreads, xcovers, xneedIn, xneedAfter, xverdicts, xrunStatus, xrunSteps, xrunOutputs, xrunReads, xrunWrites, xrunMade, xrunPlace, xvars, xcells, xheapSite, xoutputs) (nI R, nI V, nI G, nI H, nI n, nI q, xstate, ygrew, xinputs, xopAt, xaAt, xbAt, xcAt, yhas, ymark, yreach, ysingle, yexact, yverdicts, yseen, yeffect, yfacts, xvars, xcells, ysiteOf, xoutputs)) (nI R, nI V, nI G, nI H, nI n, nI q, xstate, ygrew, xinputs, xopAt, xaAt, xbAt, xcAt, yhas, ymark, yreach, ysingle, yexact, yverdicts, yseen, yeffect, yfacts, xvars, xcells, ysiteOf, xoutputs) (nI w) v2 := by
      intro r p1 p2
      unfold wpY_outputWord
      refine gy_in 2 (by omega) (fun _ => br_f (by decide) (br_t st ?_)) (fun y => absurd hv y)
      rw [(ix_m w).2.2.2, g1, g3, c3]
      exact ⟨g2, gy_in c (by omega) (fun y => br_f (by decide) ⟨(p1 y).1, (p1 y).2, hR _⟩) (fun y => br_t rfl ⟨p2 y, hR _⟩)⟩
    rw [w2, c2]
    by_cases a : v2 < 0
    · refine br_t a (hY _ (fun ⟨j, hj, e⟩ => ?_) (fun _ => rfl))
      rw [e] at a
      exact absurd a (nI_pos (by omega))
    · obtain ⟨j, hj, e⟩ := nI_of a
      subst e
      refine br_f a ⟨w1, pk_lt j c (fun z => ?_) (fun z => hY _ (fun ⟨i, hi, e⟩ => ?_) (fun _ => rfl))⟩
      · obtain ⟨i1, i2, i3⟩ := ix_h (w := w) (a := j) hw (by omega)
        have hin : vp_in (nI w * 32 + nI j) 64 := by rw [(ix_m w).2.2.1, i1]; exact i2
        exact ⟨hin, hY _ (fun _ => ⟨hin, rfl⟩) (fun y => absurd ⟨j, z, rfl⟩ y)⟩
      · rw [nI_eq hj (by omega)] at e
        omega
  · unfold wpY_outputWord
    exact gy_in 2 (by omega) (fun _ => br_f (by decide) (br_f st ⟨rfl, hR _⟩)) (fun y => absurd hv y)
  · unfold wpY_outputWord
    exact gy_in 2 (by omega) (fun w => absurd w hv) (fun _ => br_t rfl ⟨rfl, hR _⟩)
theorem i_vc_varWord {k : Nat} {u : SX} {v : SY} (I : i_Rel k u v) (hk : k + 5 ≤ 2564) (v1 : Int32) (v2 : Int32) : wpX_varWord (fun r => wpY_varWord (fun r' => r' = r ∧ i_Rel (k + 5) u v) v v1 v2) u v1 v2 := by
  refine I (fun u v => wpX_varWord (fun r => wpY_varWord (fun r' => r' = r ∧ i_Rel (k + 5) u v) v v1 v2) u v1 v2) ?_
  intro R V G H n q xstate xpending xreachable xsingleSites xexactVars ximproved xopAt xaAt xbAt xcAt xinputs xrep xpts xdone xflowsTo xtried xloads xstores xnext xprev xafter xvarSet xgen xkill xholdsIn xreads xcovers xneedIn xneedAfter xverdicts xrunStatus xrunSteps xrunOutputs xrunReads xrunWrites xrunMade xrunPlace xvars xcells xheapSite xoutputs ygrew yhas ymark yreach ysingle yexact yverdicts yseen yeffect yfacts ysiteOf h1 h2 h3 h4
  have hR : ∀ k : Nat, i_Rel k (nI R, nI V, nI G, nI H, nI n, nI q, xstate, xpending, xreachable, xsingleSites, xexactVars, ximproved, xopAt, xaAt, xbAt, xcAt, xinputs, xrep, xpts, xdone, xflowsTo, xtried, xloads, xstores, xnext, xprev, xafter, xvarSet, xgen, xkill, xholdsIn, xreads, xcovers, xneedIn, xneedAfter, xverdicts, xrunStatus, xrunSteps, xrunOutputs, xrunReads, xrunWrites, xrunMade, xrunPlace, xvars, xcells, xheapSite, xoutputs) (nI R, nI V, nI G, nI H, nI n, nI q, xstate, ygrew, xinputs, xopAt, xaAt, xbAt, xcAt, yhas, ymark, yreach, ysingle, yexact, yverdicts, yseen, yeffect, yfacts, xvars, xcells, ysiteOf, xoutputs) := fun k => rl_in xstate xpending xreachable xsingleSites xexactVars ximproved xopAt xaAt xbAt xcAt xinputs xrep xpts xdone xflowsTo xtried xloads xstores xnext xprev xafter xvarSet xgen xkill xholdsIn xreads xcovers xneedIn xneedAfter xverdicts xrunStatus xrunSteps xrunOutputs xrunReads xrunWrites xrunMade xrunPlace xvars xcells xheapSite xoutputs ygrew yhas ymark yreach ysingle yexact yverdicts yseen yeffect yfacts ysiteOf h1 h2 h3 h4
  have h1' := h1
  obtain ⟨s1, s2, s3, s4, s5, s6, s7, s8, s9, s10, s11⟩ := h1
  unfold wpX_varWord
  refine gx_ver (fun hv => br_f (by decide) (ed_var s4 (fun ha => br_f (by decide) (br_c (fun st => ?_) (fun st => ?_))) (fun ha => br_t rfl ?_))) (fun hv => br_t rfl ?_)
  · obtain ⟨w, hw, ew⟩ := id hv
    obtain ⟨a, hav, ea⟩ := id ha
    subst ew ea
    obtain ⟨i1, i2, i3⟩ := ix_v (w := w) (a := a) hw (by omega)
    have hin : vp_in (nI w * 8 + nI a) 16 := by rw [(ix_m w).1, i1]; exact i2
    refine ⟨hin, ?_⟩
    unfold wpY_varWord
    exact gy_in 2 (by omega) (fun _ => br_f (by decide) (gy_in V (by omega) (fun _ => br_f (by decide) (br_t st ⟨hin, rfl, hR _⟩)) (fun y => absurd ha y))) (fun y => absurd hv y)
  · unfold wpY_varWord
    exact gy_in 2 (by omega) (fun _ => br_f (by decide) (gy_in V (by omega) (fun _ => br_f (by decide) (br_f st ⟨rfl, hR _⟩)) (fun y => absurd ha y))) (fun y => absurd hv y)
  · unfold wpY_varWord
    exact gy_in 2 (by omega) (fun _ => br_f (by decide) (gy_in V (by omega) (fun y => absurd y ha) (fun _ => br_t rfl ⟨rfl, hR _⟩))) (fun y => absurd hv y)
  · unfold wpY_varWord
    exact gy_in 2 (by omega) (fun w => absurd w hv) (fun _ => br_t rfl ⟨rfl, hR _⟩)
theorem i_vc_cellWord {k : Nat} {u : SX} {v : SY} (I : i_Rel k u v) (hk : k + 5 ≤ 2564) (v1 : Int32) : wpX_cellWord (fun r => wpY_cellWord (fun r' => r' = r ∧ i_Rel (k + 5) u v) v v1) u v1 := by
  refine I (fun u v => wpX_cellWord (fun r => wpY_cellWord (fun r' => r' = r ∧ i_Rel (k + 5) u v) v v1) u v1) ?_
  intro R V G H n q xstate xpending xreachable xsingleSites xexactVars ximproved xopAt xaAt xbAt xcAt xinputs xrep xpts xdone xflowsTo xtried xloads xstores xnext xprev xafter xvarSet xgen xkill xholdsIn xreads xcovers xneedIn xneedAfter xverdicts xrunStatus xrunSteps xrunOutputs xrunReads xrunWrites xrunMade xrunPlace xvars xcells xheapSite xoutputs ygrew yhas ymark yreach ysingle yexact yverdicts yseen yeffect yfacts ysiteOf h1 h2 h3 h4
  have hR : ∀ k : Nat, i_Rel k (nI R, nI V, nI G, nI H, nI n, nI q, xstate, xpending, xreachable, xsingleSites, xexactVars, ximproved, xopAt, xaAt, xbAt, xcAt, xinputs, xrep, xpts, xdone, xflowsTo, xtried, xloads, xstores, xnext, xprev, xafter, xvarSet, xgen, xkill, xholdsIn, xreads, xcovers, xneedIn, xneedAfter, xverdicts, xrunStatus, xrunSteps, xrunOutputs, xrunReads, xrunWrites, xrunMade, xrunPlace, xvars, xcells, xheapSite, xoutputs) (nI R, nI V, nI G, nI H, nI n, nI q, xstate, ygrew, xinputs, xopAt, xaAt, xbAt, xcAt, yhas, ymark, yreach, ysingle, yexact, yverdicts, yseen, yeffect, yfacts, xvars, xcells, ysiteOf, xoutputs) := fun k => rl_in xstate xpending xreachable xsingleSites xexactVars ximproved xopAt xaAt xbAt xcAt xinputs xrep xpts xdone xflowsTo xtried xloads xstores xnext xprev xafter xvarSet xgen xkill xholdsIn xreads xcovers xneedIn xneedAfter xverdicts xrunStatus xrunSteps xrunOutputs xrunReads xrunWrites xrunMade xrunPlace xvars xcells xheapSite xoutputs ygrew yhas ymark yreach ysingle yexact yverdicts yseen yeffect yfacts ysiteOf h1 h2 h3 h4
  have h1' := h1
  obtain ⟨s1, s2, s3, s4, s5, s6, s7, s8, s9, s10, s11⟩ := h1
  refine br_c (fun st => ?_) (fun st => br_f st ⟨rfl, hR _⟩)
  obtain ⟨f1, f2, ⟨c, c1, c2, c3⟩, f4, f5, ⟨m, m1, m2, m3, m4⟩, f7, f8⟩ := (h4 st).1
  have m3 : yfacts 5 = nI m := m3
  have hY : ∀ (r : Int64), ((∃ j, j < G + m ∧ v1 = nI j) → (vp_in v1 80 ∧ xcells v1.toNatClampNeg = r)) → ((¬ ∃ j, j < G + m ∧ v1 = nI j) → -4294967296 = r) → wpY_cellWord (fun r' => r' = r ∧ i_Rel (k + 5) (nI R, nI V, nI G, nI H, nI n, nI q, xstate, xpending, xreachable, xsingleSites, xexactVars, ximproved, xopAt, xaAt, xbAt, xcAt, xinputs, xrep, xpts, xdone, xflowsTo, xtried, xloads, xstores, xnext, xprev, xafter, xvarSet, xgen, xkill, xholdsIn, xreads, xcovers, xneedIn, xneedAfter, xverdicts, xrunStatus, xrunSteps, xrunOutputs, xrunReads, xrunWrites, xrunMade, xrunPlace, xvars, xcells, xheapSite, xoutputs) (nI R, nI V, nI G, nI H, nI n, nI q, xstate, ygrew, xinputs, xopAt, xaAt, xbAt, xcAt, yhas, ymark, yreach, ysingle, yexact, yverdicts, yseen, yeffect, yfacts, xvars, xcells, ysiteOf, xoutputs)) (nI R, nI V, nI G, nI H, nI n, nI q, xstate, ygrew, xinputs, xopAt, xaAt, xbAt, xcAt, yhas, ymark, yreach, ysingle, yexact, yverdicts, yseen, yeffect, yfacts, xvars, xcells, ysiteOf, xoutputs) v1 := by
    intro r p1 p2
    unfold wpY_cellWord
    refine br_t st ?_
    rw [m3, nI_add]
    exact gy_in (G + m) (by omega) (fun y => br_f (by decide) ⟨(p1 y).1, (p1 y).2, hR _⟩) (fun y => br_t rfl ⟨p2 y, hR _⟩)
  rw [m2, nI_add]
  by_cases a : v1 < 0
  · refine br_t a (hY _ (fun ⟨j, hj, e⟩ => ?_) (fun _ => rfl))
    rw [e] at a
    exact absurd a (nI_pos (by omega))
  · obtain ⟨j, hj, e⟩ := nI_of a
    subst e
    refine br_f a (pk_lt j (G + m) (fun z => ?_) (fun z => hY _ (fun ⟨i, hi, e⟩ => ?_) (fun _ => rfl)))
    · have hin : vp_in (nI j) 80 := vp_in_nI (by omega) (by omega)
      exact ⟨hin, hY _ (fun _ => ⟨hin, rfl⟩) (fun y => absurd ⟨j, z, rfl⟩ y)⟩
    · rw [nI_eq hj (by omega)] at e
      omega
theorem i_vc_cellSite {k : Nat} {u : SX} {v : SY} (I : i_Rel k u v) (hk : k + 5 ≤ 2564) (v1 : Int32) : wpX_cellSite (fun r => wpY_cellSite (fun r' => r' = r ∧ i_Rel (k + 5) u v) v v1) u v1 := by
  refine I (fun u v => wpX_cellSite (fun r => wpY_cellSite (fun r' => r' = r ∧ i_Rel (k + 5) u v) v v1) u v1) ?_
  intro R V G H n q xstate xpending xreachable xsingleSites xexactVars ximproved xopAt xaAt xbAt xcAt xinputs xrep xpts xdone xflowsTo xtried xloads xstores xnext xprev xafter xvarSet xgen xkill xholdsIn xreads xcovers xneedIn xneedAfter xverdicts xrunStatus xrunSteps xrunOutputs xrunReads xrunWrites xrunMade xrunPlace xvars xcells xheapSite xoutputs ygrew yhas ymark yreach ysingle yexact yverdicts yseen yeffect yfacts ysiteOf h1 h2 h3 h4
  have hR : ∀ k : Nat, i_Rel k (nI R, nI V, nI G, nI H, nI n, nI q, xstate, xpending, xreachable, xsingleSites, xexactVars, ximproved, xopAt, xaAt, xbAt, xcAt, xinputs, xrep, xpts, xdone, xflowsTo, xtried, xloads, xstores, xnext, xprev, xafter, xvarSet, xgen, xkill, xholdsIn, xreads, xcovers, xneedIn, xneedAfter, xverdicts, xrunStatus, xrunSteps, xrunOutputs, xrunReads, xrunWrites, xrunMade, xrunPlace, xvars, xcells, xheapSite, xoutputs) (nI R, nI V, nI G, nI H, nI n, nI q, xstate, ygrew, xinputs, xopAt, xaAt, xbAt, xcAt, yhas, ymark, yreach, ysingle, yexact, yverdicts, yseen, yeffect, yfacts, xvars, xcells, ysiteOf, xoutputs) := fun k => rl_in xstate xpending xreachable xsingleSites xexactVars ximproved xopAt xaAt xbAt xcAt xinputs xrep xpts xdone xflowsTo xtried xloads xstores xnext xprev xafter xvarSet xgen xkill xholdsIn xreads xcovers xneedIn xneedAfter xverdicts xrunStatus xrunSteps xrunOutputs xrunReads xrunWrites xrunMade xrunPlace xvars xcells xheapSite xoutputs ygrew yhas ymark yreach ysingle yexact yverdicts yseen yeffect yfacts ysiteOf h1 h2 h3 h4
  have h1' := h1
  obtain ⟨s1, s2, s3, s4, s5, s6, s7, s8, s9, s10, s11⟩ := h1
  have no : (¬ ∃ j, j < G + H ∧ v1 = nI j) → wpY_cellSite (fun r' => r' = -1 ∧ i_Rel (k + 5) (nI R, nI V, nI G, nI H, nI n, nI q, xstate, xpending, xreachable, xsingleSites, xexactVars, ximproved, xopAt, xaAt, xbAt, xcAt, xinputs, xrep, xpts, xdone, xflowsTo, xtried, xloads, xstores, xnext, xprev, xafter, xvarSet, xgen, xkill, xholdsIn, xreads, xcovers, xneedIn, xneedAfter, xverdicts, xrunStatus, xrunSteps, xrunOutputs, xrunReads, xrunWrites, xrunMade, xrunPlace, xvars, xcells, xheapSite, xoutputs) (nI R, nI V, nI G, nI H, nI n, nI q, xstate, ygrew, xinputs, xopAt, xaAt, xbAt, xcAt, yhas, ymark, yreach, ysingle, yexact, yverdicts, yseen, yeffect, yfacts, xvars, xcells, ysiteOf, xoutputs)) (nI R, nI V, nI G, nI H, nI n, nI q, xstate, ygrew, xinputs, xopAt, xaAt, xbAt, xcAt, yhas, ymark, yreach, ysingle, yexact, yverdicts, yseen, yeffect, yfacts, xvars, xcells, ysiteOf, xoutputs) v1 := by
    intro w
    unfold wpY_cellSite
    dsimp only
    rw [nI_add]
    exact gy_in (G + H) (by omega) (fun z => absurd z w) (fun _ => br_t rfl ⟨rfl, hR _⟩)
  by_cases a : v1 < 0
  · exact br_t a (no (fun ⟨j, hj, e⟩ => by rw [e] at a; exact nI_pos (by omega) a))
  · obtain ⟨j, hj, e⟩ := nI_of a
    subst e
    refine br_f a ?_
    rw [nI_add]
    refine pk_lt j (G + H) (fun z => br_c (fun st => ?_) (fun st => ?_)) (fun z => no (fun ⟨i, hi, e⟩ => by rw [nI_eq hj (by omega)] at e; omega))
    · obtain ⟨f1, f2, ⟨c, c1, c2, c3⟩, f4, f5, ⟨m, m1, m2, m3, m4⟩, f7, f8⟩ := (h4 st).1
      have m3 : yfacts 5 = nI m := m3
      have ej : (nI j).toNatClampNeg = j := nI_clamp hj
      have hY : ∀ (r : Int32), (j < G + m → ysiteOf j = r) → (¬ j < G + m → -1 = r) → wpY_cellSite (fun r' => r' = r ∧ i_Rel (k + 5) (nI R, nI V, nI G, nI H, nI n, nI q, xstate, xpending, xreachable, xsingleSites, xexactVars, ximproved, xopAt, xaAt, xbAt, xcAt, xinputs, xrep, xpts, xdone, xflowsTo, xtried, xloads, xstores, xnext, xprev, xafter, xvarSet, xgen, xkill, xholdsIn, xreads, xcovers, xneedIn, xneedAfter, xverdicts, xrunStatus, xrunSteps, xrunOutputs, xrunReads, xrunWrites, xrunMade, xrunPlace, xvars, xcells, xheapSite, xoutputs) (nI R, nI V, nI G, nI H, nI n, nI q, xstate, ygrew, xinputs, xopAt, xaAt, xbAt, xcAt, yhas, ymark, yreach, ysingle, yexact, yverdicts, yseen, yeffect, yfacts, xvars, xcells, ysiteOf, xoutputs)) (nI R, nI V, nI G, nI H, nI n, nI q, xstate, ygrew, xinputs, xopAt, xaAt, xbAt, xcAt, yhas, ymark, yreach, ysingle, yexact, yverdicts, yseen, yeffect, yfacts, xvars, xcells, ysiteOf, xoutputs) (nI j) := by
        intro r p1 p2
        unfold wpY_cellSite
        dsimp only
        rw [nI_add, m3, nI_add, ej]
        exact gy_in (G + H) (by omega) (fun _ => br_f (by decide) (br_t st (pk_lt j (G + m) (fun y => ⟨vp_in_nI (by omega) (by omega), p1 y, hR _⟩) (fun y => ⟨p2 (by omega), hR _⟩)))) (fun y => absurd ⟨j, z, rfl⟩ y)
      rw [m2, nI_add]
      refine pk_lt j (G + m) (fun y => pk_le G j (fun x => ?_) (fun x => hY _ (fun _ => ?_) (fun w => absurd y w))) (fun y => hY _ (fun w => by omega) (fun _ => rfl))
      · have es : nI j - nI G = nI (j - G) := pk_sub x
        have ec : (nI (j - G)).toNatClampNeg = j - G := nI_clamp (by omega)
        rw [es, ec]
        refine ⟨vp_in_nI (by omega) (by omega), hY _ (fun _ => ?_) (fun w => absurd y w)⟩
        have t := m4 (j - G) (by omega)
        rw [show 0 * 40 + (G + (j - G)) = j by omega, show 0 * 32 + (j - G) = j - G by omega] at t
        exact t
      · have t := f8 j x
        rw [show 0 * 40 + j = j by omega] at t
        exact t
    · unfold wpY_cellSite
      dsimp only
      rw [nI_add]
      exact gy_in (G + H) (by omega) (fun _ => br_f (by decide) (br_f st ⟨rfl, hR _⟩)) (fun y => absurd ⟨j, z, rfl⟩ y)
end
