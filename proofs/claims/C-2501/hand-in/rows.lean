section
/-! pure rows to paste: stores, nI and lN arithmetic, masks, shifts, narrowing, branches by naturals (pk_le, pk_lt, pk_eq), loops (lp1 .. lp16: the measure of the state; rp1 ..: recursion), negatives. Take what you need -/
theorem pk_us {f : Nat → Int32} {k : Nat} {x : Int32} : upd f k x k = x := if_pos rfl
theorem pk_un {f : Nat → Int32} {k j : Nat} {x : Int32} (h : j ≠ k) : upd f k x j = f j := if_neg h
theorem pk_uLs {f : Nat → Int64} {k : Nat} {x : Int64} : vp_updL f k x k = x := if_pos rfl
theorem pk_uLn {f : Nat → Int64} {k j : Nat} {x : Int64} (h : j ≠ k) : vp_updL f k x j = f j := if_neg h
theorem pk_sub {a b : Nat} (h : b ≤ a) : nI a - nI b = nI (a - b) := by
  obtain ⟨c, rfl⟩ : ∃ c, a = c + b := ⟨a - b, by omega⟩
  rw [← nI_add, Int32.add_sub_cancel, Nat.add_sub_cancel]
theorem pk_m1 (n : Nat) : nI (n + 1) + (-1) = nI n := by
  rw [← nI_1, Int32.add_assoc, show (1 : Int32) + (-1) = 0 from rfl, Int32.add_zero]
theorem pk_mul (a b : Nat) : nI a * nI b = nI (a * b) := (Int32.ofNat_mul a b).symm
theorem pk_div {a d : Nat} (ha : a < 2 ^ 31) (h0 : 0 < d) (hd : d < 2 ^ 31) : nI a / nI d = nI (a / d) := by
  apply Int32.toInt_inj.mp
  rw [lg_idiv_nonneg (by rw [nI_toInt ha]; omega) (by rw [nI_toInt hd]; omega), nI_toInt ha, nI_toInt hd, nI_toInt (Nat.lt_of_le_of_lt (Nat.div_le_self a d) ha)]
  first | rfl | exact (Int.natCast_ediv _ _).symm
theorem pk_rem {a d : Nat} (ha : a < 2 ^ 31) (h0 : 0 < d) (hd : d < 2 ^ 31) : nI a - nI a / nI d * nI d = nI (a % d) := by
  rw [pk_div ha h0 hd, pk_mul, pk_sub (Nat.div_mul_le_self a d)]
  exact congrArg nI (by have := Nat.div_add_mod' a d; omega)
theorem pk_sub_toInt {a b : Nat} (ha : a < 2 ^ 30) (hb : b < 2 ^ 30) : (nI a - nI b).toInt = (a : Int) - b := by
  rw [Int32.toInt_sub, nI_toInt (by omega), nI_toInt (by omega)]
  exact Int.bmod_eq_of_le (by omega) (by omega)
theorem pk_sneg {a b : Nat} (hb : b < 2 ^ 30) (h : a < b) : nI a - nI b < 0 := by
  rw [Int32.lt_iff_toInt_lt, pk_sub_toInt (by omega) hb, show (0 : Int32).toInt = 0 from by decide]
  omega
theorem pk_ix (x : Int32) {n : Nat} (hn : n < 2 ^ 31) : x < 0 ∨ nI n ≤ x ∨ ∃ j : Nat, j < n ∧ x = nI j := by
  by_cases h : x < 0
  · exact Or.inl h
  · obtain ⟨j, hj, rfl⟩ := nI_of h
    by_cases h2 : j < n
    · exact Or.inr (Or.inr ⟨j, h2, rfl⟩)
    · exact Or.inr (Or.inl (nI_le (by omega) hj))
theorem pk_le {x y : Int32} {A B : Prop} (a b : Nat) (f : a ≤ b → A) (g : b < a → B) (hx : x = nI a := by rfl) (hy : y = nI b := by rfl) (ha : a < 2 ^ 31 := by omega) (hb : b < 2 ^ 31 := by omega) : (x ≤ y → A) ∧ (¬ x ≤ y → B) := by
  subst hx hy
  rw [nI_leI ha hb]
  exact ⟨f, fun z => g (by omega)⟩
theorem pk_lt {x y : Int32} {A B : Prop} (a b : Nat) (f : a < b → A) (g : b ≤ a → B) (hx : x = nI a := by rfl) (hy : y = nI b := by rfl) (ha : a < 2 ^ 31 := by omega) (hb : b < 2 ^ 31 := by omega) : (x < y → A) ∧ (¬ x < y → B) := by
  subst hx hy
  rw [nI_ltI ha hb]
  exact ⟨f, fun z => g (by omega)⟩
theorem pk_eq {x y : Int32} {A B : Prop} (a b : Nat) (f : a = b → A) (g : a ≠ b → B) (hx : x = nI a := by rfl) (hy : y = nI b := by rfl) (ha : a < 2 ^ 31 := by omega) (hb : b < 2 ^ 31 := by omega) : (x = y → A) ∧ (¬ x = y → B) := by
  subst hx hy
  rw [nI_eq ha hb]
  exact ⟨f, g⟩
theorem pk_in {x : Int32} (n N : Nat) (h : n < N) (hx : x = nI n := by rfl) (hN : N < 2 ^ 31 := by omega) : vp_in x N := by
  subst hx
  exact vp_in_nI h hN
theorem pk_cl {x : Int32} (n : Nat) (hx : x = nI n := by rfl) (h : n < 2 ^ 31 := by omega) : x.toNatClampNeg = n := by
  subst hx
  exact nI_clamp h
theorem pk_tn {n : Nat} (h : n < 2 ^ 32) : (nI n).toBitVec.toNat = n := Nat.mod_eq_of_lt h
theorem pk_and (x : Int32) {m : Int32} (k : Nat) (hm : m.toBitVec.toNat = 2 ^ k - 1) : x &&& m = nI (x.toBitVec.toNat % 2 ^ k) := by
  apply Int32.toBitVec_inj.mp
  apply BitVec.eq_of_toNat_eq
  rw [Int32.toBitVec_and, BitVec.toNat_and, hm, Nat.and_two_pow_sub_one_eq_mod]
  show _ = (BitVec.ofNat 32 _).toNat
  rw [BitVec.toNat_ofNat]
  exact (Nat.mod_eq_of_lt (Nat.lt_of_le_of_lt (Nat.mod_le _ _) x.toBitVec.isLt)).symm
theorem pk_andN {n : Nat} (h : n < 2 ^ 32) {m : Int32} (k : Nat) (hm : m.toBitVec.toNat = 2 ^ k - 1) : nI n &&& m = nI (n % 2 ^ k) := by
  rw [pk_and _ k hm, pk_tn h]
theorem pk_andE (x : Int32) {m : Int32} (k : Nat) (hm : m.toBitVec.toNat = 2 ^ k - 1) : ∃ j : Nat, j < 2 ^ k ∧ x &&& m = nI j := ⟨_, Nat.mod_lt _ (Nat.two_pow_pos k), pk_and x k hm⟩
theorem pk_andIn (x : Int32) {m : Int32} (k : Nat) (hm : m.toBitVec.toNat = 2 ^ k - 1) (hk : k ≤ 30) : vp_in (x &&& m) (2 ^ k) := by
  obtain ⟨j, hj, e⟩ := pk_andE x k hm
  rw [e]
  exact vp_in_nI hj (Nat.lt_of_le_of_lt (Nat.pow_le_pow_right (by decide) hk) (by decide))
theorem pk_shl (a s : Int32) (k : Nat) (hs : (s.toBitVec.smod 32).toNat = k) : (a <<< s).toBitVec.toNat = a.toBitVec.toNat * 2 ^ k % 2 ^ 32 := by
  show (a.toBitVec <<< (s.toBitVec.smod 32).toNat).toNat = _
  rw [hs, BitVec.toNat_shiftLeft, Nat.shiftLeft_eq]
theorem pk_shlN {n : Nat} (s : Int32) (k : Nat) (hs : (s.toBitVec.smod 32).toNat = k) (h : n * 2 ^ k < 2 ^ 32) : nI n <<< s = nI (n * 2 ^ k) := by
  apply Int32.toBitVec_inj.mp
  apply BitVec.eq_of_toNat_eq
  have hn : n < 2 ^ 32 := Nat.lt_of_le_of_lt (Nat.le_mul_of_pos_right n (Nat.two_pow_pos k)) h
  rw [pk_shl _ _ k hs, pk_tn hn, pk_tn h, Nat.mod_eq_of_lt h]
theorem pk_shr (a s : Int32) (k : Nat) (hs : (s.toBitVec.smod 32).toNat = k) : (a >>> s).toInt = a.toInt >>> k := by
  show (a.toBitVec.sshiftRight (s.toBitVec.smod 32).toNat).toInt = _
  rw [hs, BitVec.toInt_sshiftRight]
  rfl
theorem pk_shrN {n : Nat} (h : n < 2 ^ 31) (s : Int32) (k : Nat) (hs : (s.toBitVec.smod 32).toNat = k) : nI n >>> s = nI (n / 2 ^ k) := by
  apply Int32.toInt_inj.mp
  have h2 : n / 2 ^ k ≤ n := Nat.div_le_self _ _
  rw [pk_shr _ _ k hs, nI_toInt h, nI_toInt (by omega), Int.shiftRight_eq_div_pow]
  rfl
theorem pk_ushr (x s : Int32) (k : Nat) (hs : ((s.toUInt32 &&& Int32.toUInt32 31).toBitVec % 32).toNat = k) : (x.toUInt32 >>> (s.toUInt32 &&& Int32.toUInt32 31)).toInt32.toBitVec.toNat = x.toBitVec.toNat / 2 ^ k := by
  have e : (x.toUInt32 >>> (s.toUInt32 &&& Int32.toUInt32 31)).toInt32.toBitVec = x.toBitVec >>> k := by
    rw [← hs]
    exact UInt32.toBitVec_shiftRight _ _
  rw [e, BitVec.toNat_ushiftRight, Nat.shiftRight_eq_div_pow]
theorem pk_ushrN {n : Nat} (hn : n < 2 ^ 32) (s : Int32) (k : Nat) (hs : ((s.toUInt32 &&& Int32.toUInt32 31).toBitVec % 32).toNat = k) : ((nI n).toUInt32 >>> (s.toUInt32 &&& Int32.toUInt32 31)).toInt32 = nI (n / 2 ^ k) := by
  apply Int32.toBitVec_inj.mp
  apply BitVec.eq_of_toNat_eq
  rw [pk_ushr _ s k hs, pk_tn hn, pk_tn (Nat.lt_of_le_of_lt (Nat.div_le_self _ _) hn)]
theorem pk_nb (z : Int32) : narrow .byte (.int z.toInt8.toInt32) = .int z.toInt8.toInt32 := congrArg Value.int (by simp)
theorem pk_ns (z : Int32) : narrow .short (.int z.toInt16.toInt32) = .int z.toInt16.toInt32 := congrArg Value.int (by simp)
theorem pk_fb (r : Int32) : fits .byte (.int r.toInt8.toInt32) = true := by
  have ⟨a, b⟩ := lg_i2b_range r
  have h1 : (-128 : Int32).toInt = -128 := by decide
  have h2 : (127 : Int32).toInt = 127 := by decide
  simp only [fits, Bool.and_eq_true, decide_eq_true_eq, Int32.le_iff_toInt_le, h1, h2]
  omega
theorem pk_fs (r : Int32) : fits .short (.int r.toInt16.toInt32) = true := by
  have ⟨a, b⟩ := lg_i2s_range r
  have h1 : (-32768 : Int32).toInt = -32768 := by decide
  have h2 : (32767 : Int32).toInt = 32767 := by decide
  simp only [fits, Bool.and_eq_true, decide_eq_true_eq, Int32.le_iff_toInt_le, h1, h2]
  omega
theorem pk_charN {q : Nat} (hq : q < 65536) : narrow .char (.int (nI q)) = .int (nI q) ∧ fits .char (.int (nI q)) = true := by
  constructor
  · have e : (nI q).toUInt32.toUInt16.toUInt32.toInt32 = nI q := by
      apply Int32.toBitVec_inj.mp
      apply BitVec.eq_of_toNat_eq
      show (nI q).toUInt32.toUInt16.toUInt32.toNat = q % 2 ^ 32
      rw [UInt16.toNat_toUInt32, UInt32.toNat_toUInt16, show (nI q).toUInt32.toNat = q % 2 ^ 32 from rfl]
      omega
    exact congrArg Value.int e
  · have a : (0 : Int32) ≤ nI q := nI_pos' (by omega)
    have b : nI q ≤ 65535 := nI_le (b := 65535) (by omega) (by decide)
    show (decide ((0 : Int32) ≤ nI q) && decide (nI q ≤ 65535)) = true
    rw [decide_eq_true a, decide_eq_true b]
    rfl
theorem pk_char (x : Int32) : (x.toUInt32 % 65536).toInt32 = nI (x.toBitVec.toNat % 65536) := by
  apply Int32.toBitVec_inj.mp
  apply BitVec.eq_of_toNat_eq
  rw [pk_tn (by omega)]
  show (x.toUInt32 % 65536).toNat = _
  rw [UInt32.toNat_mod]
  rfl
theorem pk_nc (x : Int32) : narrow .char (.int (x.toUInt32 % 65536).toInt32) = .int (x.toUInt32 % 65536).toInt32 := by
  rw [pk_char]
  exact (pk_charN (Nat.mod_lt _ (by decide))).1
theorem pk_fc (x : Int32) : fits .char (.int (x.toUInt32 % 65536).toInt32) = true := by
  rw [pk_char]
  exact (pk_charN (Nat.mod_lt _ (by decide))).2
theorem pk_vb (z : Int32) : vp_nar .byte z.toInt8.toInt32 = z.toInt8.toInt32 := by rw [vp_nar_byte]; simp
theorem pk_vs (z : Int32) : vp_nar .short z.toInt16.toInt32 = z.toInt16.toInt32 := by rw [vp_nar_short]; simp
theorem pk_vc (z : Int32) : vp_nar .char (z.toUInt32 % 65536).toInt32 = (z.toUInt32 % 65536).toInt32 := Value.int.inj (pk_nc z)
theorem pk_lT {n : Nat} (h : n < 2 ^ 63) : (lN n).toInt = (n : Int) := lg_ofNat_toInt h
theorem pk_lLT {a b : Nat} (ha : a < 2 ^ 63) (hb : b < 2 ^ 63) : lN a < lN b ↔ a < b := by
  rw [Int64.lt_iff_toInt_lt, pk_lT ha, pk_lT hb]; omega
theorem pk_lLE {a b : Nat} (ha : a < 2 ^ 63) (hb : b < 2 ^ 63) : lN a ≤ lN b ↔ a ≤ b := by
  rw [Int64.le_iff_toInt_le, pk_lT ha, pk_lT hb]; omega
theorem pk_lEQ {a b : Nat} (ha : a < 2 ^ 63) (hb : b < 2 ^ 63) : lN a = lN b ↔ a = b := by
  rw [← Int64.toInt_inj, pk_lT ha, pk_lT hb]; omega
theorem pk_lOf {x : Int64} (h : ¬ x < 0) : ∃ k : Nat, k < 2 ^ 63 ∧ x = lN k := by
  rw [Int64.lt_iff_toInt_lt] at h
  have h0 : (0 : Int64).toInt = 0 := by decide
  have hx := Int64.toInt_lt x
  refine ⟨x.toInt.toNat, by omega, Int64.toInt_inj.mp ?_⟩
  rw [pk_lT (by omega)]
  omega
theorem pk_lDiv {a b : Nat} (ha : a < 2 ^ 63) (h0 : 0 < b) (hb : b < 2 ^ 63) : lN a / lN b = lN (a / b) := by
  apply Int64.toInt_inj.mp
  rw [lg_ldiv_nonneg (by rw [pk_lT ha]; omega) (by rw [pk_lT hb]; omega), pk_lT ha, pk_lT hb, pk_lT (Nat.lt_of_le_of_lt (Nat.div_le_self a b) ha)]
  rfl
theorem pk_lRem {a b : Nat} (ha : a < 2 ^ 63) (h0 : 0 < b) (hb : b < 2 ^ 63) : lN a - lN a / lN b * lN b = lN (a % b) := by
  rw [pk_lDiv ha h0 hb, lN_mul, lN_sub (Nat.div_mul_le_self a b)]
  exact congrArg lN (by have := Nat.div_add_mod' a b; omega)
theorem pk_loop {σ : Type} (W : Nat → Nat → σ → Prop) (I : Nat → σ → Prop) (e i0 : Nat) (s : σ) (hi : i0 ≤ e) (h0 : I i0 s) (hx : ∀ n s, I e s → W (n + 1) e s)
    (hs : ∀ n i s, i < e → I i s → (∀ s', I (i + 1) s' → W n (i + 1) s') → W (n + 1) i s) : ∃ n, W n i0 s :=
  ⟨e + 1, loop_i W I e hx hs (e + 1) i0 s hi (by omega) h0⟩
theorem pk_loopD {σ : Type} (W : Nat → Nat → σ → Prop) (I : Nat → σ → Prop) (hx : ∀ n s, I 0 s → W (n + 1) 0 s)
    (hs : ∀ n i s, I (i + 1) s → (∀ s', I i s' → W n i s') → W (n + 1) (i + 1) s) : ∀ (e : Nat) (s : σ), I e s → W (e + 1) e s := by
  intro e
  induction e with
  | zero => exact fun s h => hx 0 s h
  | succ e ih => exact fun s h => hs (e + 1) e s h (fun s' h' => ih s' h')
theorem lp1 {A1 : Type} (W : Nat → A1 → Prop) (I : A1 → Prop) (μ : A1 → Nat) (hs : ∀ (n : Nat) (a1 : A1), I a1 → (∀ (b1 : A1), I b1 → μ b1 < μ a1 → W n b1) → W (n + 1) a1) (a1 : A1) (h : I a1) : ∃ n, W n a1 :=
  loop_m (σ := A1) (fun n s => W n s) (fun s => I s) (fun s => μ s) (fun n s hI hk => hs n s hI (fun b1 h9 hm => hk b1 h9 hm)) a1 h
theorem lp2 {A1 A2 : Type} (W : Nat → A1 → A2 → Prop) (I : A1 → A2 → Prop) (μ : A1 → A2 → Nat) (hs : ∀ (n : Nat) (a1 : A1) (a2 : A2), I a1 a2 → (∀ (b1 : A1) (b2 : A2), I b1 b2 → μ b1 b2 < μ a1 a2 → W n b1 b2) → W (n + 1) a1 a2) (a1 : A1) (a2 : A2) (h : I a1 a2) : ∃ n, W n a1 a2 :=
  loop_m (σ := A1 × A2) (fun n s => W n s.1 s.2) (fun s => I s.1 s.2) (fun s => μ s.1 s.2) (fun n s hI hk => hs n s.1 s.2 hI (fun b1 b2 h9 hm => hk (b1, b2) h9 hm)) (a1, a2) h
theorem lp3 {A1 A2 A3 : Type} (W : Nat → A1 → A2 → A3 → Prop) (I : A1 → A2 → A3 → Prop) (μ : A1 → A2 → A3 → Nat) (hs : ∀ (n : Nat) (a1 : A1) (a2 : A2) (a3 : A3), I a1 a2 a3 → (∀ (b1 : A1) (b2 : A2) (b3 : A3), I b1 b2 b3 → μ b1 b2 b3 < μ a1 a2 a3 → W n b1 b2 b3) → W (n + 1) a1 a2 a3) (a1 : A1) (a2 : A2) (a3 : A3) (h : I a1 a2 a3) : ∃ n, W n a1 a2 a3 :=
  loop_m (σ := A1 × A2 × A3) (fun n s => W n s.1 s.2.1 s.2.2) (fun s => I s.1 s.2.1 s.2.2) (fun s => μ s.1 s.2.1 s.2.2) (fun n s hI hk => hs n s.1 s.2.1 s.2.2 hI (fun b1 b2 b3 h9 hm => hk (b1, b2, b3) h9 hm)) (a1, a2, a3) h
theorem lp4 {A1 A2 A3 A4 : Type} (W : Nat → A1 → A2 → A3 → A4 → Prop) (I : A1 → A2 → A3 → A4 → Prop) (μ : A1 → A2 → A3 → A4 → Nat) (hs : ∀ (n : Nat) (a1 : A1) (a2 : A2) (a3 : A3) (a4 : A4), I a1 a2 a3 a4 → (∀ (b1 : A1) (b2 : A2) (b3 : A3) (b4 : A4), I b1 b2 b3 b4 → μ b1 b2 b3 b4 < μ a1 a2 a3 a4 → W n b1 b2 b3 b4) → W (n + 1) a1 a2 a3 a4) (a1 : A1) (a2 : A2) (a3 : A3) (a4 : A4) (h : I a1 a2 a3 a4) : ∃ n, W n a1 a2 a3 a4 :=
  loop_m (σ := A1 × A2 × A3 × A4) (fun n s => W n s.1 s.2.1 s.2.2.1 s.2.2.2) (fun s => I s.1 s.2.1 s.2.2.1 s.2.2.2) (fun s => μ s.1 s.2.1 s.2.2.1 s.2.2.2) (fun n s hI hk => hs n s.1 s.2.1 s.2.2.1 s.2.2.2 hI (fun b1 b2 b3 b4 h9 hm => hk (b1, b2, b3, b4) h9 hm)) (a1, a2, a3, a4) h
theorem lp5 {A1 A2 A3 A4 A5 : Type} (W : Nat → A1 → A2 → A3 → A4 → A5 → Prop) (I : A1 → A2 → A3 → A4 → A5 → Prop) (μ : A1 → A2 → A3 → A4 → A5 → Nat) (hs : ∀ (n : Nat) (a1 : A1) (a2 : A2) (a3 : A3) (a4 : A4) (a5 : A5), I a1 a2 a3 a4 a5 → (∀ (b1 : A1) (b2 : A2) (b3 : A3) (b4 : A4) (b5 : A5), I b1 b2 b3 b4 b5 → μ b1 b2 b3 b4 b5 < μ a1 a2 a3 a4 a5 → W n b1 b2 b3 b4 b5) → W (n + 1) a1 a2 a3 a4 a5) (a1 : A1) (a2 : A2) (a3 : A3) (a4 : A4) (a5 : A5) (h : I a1 a2 a3 a4 a5) : ∃ n, W n a1 a2 a3 a4 a5 :=
  loop_m (σ := A1 × A2 × A3 × A4 × A5) (fun n s => W n s.1 s.2.1 s.2.2.1 s.2.2.2.1 s.2.2.2.2) (fun s => I s.1 s.2.1 s.2.2.1 s.2.2.2.1 s.2.2.2.2) (fun s => μ s.1 s.2.1 s.2.2.1 s.2.2.2.1 s.2.2.2.2) (fun n s hI hk => hs n s.1 s.2.1 s.2.2.1 s.2.2.2.1 s.2.2.2.2 hI (fun b1 b2 b3 b4 b5 h9 hm => hk (b1, b2, b3, b4, b5) h9 hm)) (a1, a2, a3, a4, a5) h
theorem pk_least (P : Nat → Prop) (h : ∃ k, P k) : ∃ k, P k ∧ ∀ j, j < k → ¬ P j := by
  obtain ⟨k, hk⟩ := h
  induction k using Nat.strongRecOn with
  | ind k ih =>
    by_cases e : ∃ j, j < k ∧ P j
    · obtain ⟨j, hj, pj⟩ := e
      exact ih j hj pj
    · exact ⟨k, hk, fun j hj pj => e ⟨j, hj, pj⟩⟩
/-! ===== Int32 by its bits: bt x i ===== -/
def bt (x : Int32) (i : Nat) : Bool := x.toBitVec.getLsbD i
theorem b_ext {x y : Int32} (h : ∀ i, i < 32 → bt x i = bt y i) : x = y := Int32.toBitVec_inj.mp (BitVec.eq_of_getLsbD_eq (fun i hi => h i hi))
theorem b_or (x y : Int32) (i : Nat) : bt (x ||| y) i = (bt x i || bt y i) := by unfold bt; rw [Int32.toBitVec_or, BitVec.getLsbD_or]
theorem b_and (x y : Int32) (i : Nat) : bt (x &&& y) i = (bt x i && bt y i) := by unfold bt; rw [Int32.toBitVec_and, BitVec.getLsbD_and]
theorem b_xor (x y : Int32) (i : Nat) : bt (x ^^^ y) i = (bt x i ^^ bt y i) := by unfold bt; rw [Int32.toBitVec_xor, BitVec.getLsbD_xor]
theorem b_big {x : Int32} {i : Nat} (h : 32 ≤ i) : bt x i = false := BitVec.getLsbD_of_ge _ _ h
theorem b_255 (i : Nat) : bt 255 i = decide (i < 8) := by
  rcases Nat.lt_or_ge i 32 with h | h
  · exact (by decide +kernel : ∀ i, i < 32 → bt 255 i = decide (i < 8)) i h
  · rw [b_big h, decide_eq_false (by omega)]
theorem b_65535 (i : Nat) : bt 65535 i = decide (i < 16) := by
  rcases Nat.lt_or_ge i 32 with h | h
  · exact (by decide +kernel : ∀ i, i < 32 → bt 65535 i = decide (i < 16)) i h
  · rw [b_big h, decide_eq_false (by omega)]
theorem b_m1 : ∀ i, i < 32 → bt (-1) i = true := by decide +kernel
theorem b_0 (i : Nat) : bt 0 i = false := BitVec.getLsbD_zero
theorem s_l : ∀ n, n < 32 → ((nI n &&& 31).toBitVec.smod 32).toNat = n := by decide +kernel
theorem s_u : ∀ n, n < 32 → (((nI n).toUInt32 &&& Int32.toUInt32 31).toBitVec % 32).toNat = n := by decide +kernel
theorem b_shl (n : Nat) (hn : n < 32) (x : Int32) {i : Nat} (hi : i < 32) : bt (x <<< (nI n &&& 31)) i = (decide (n ≤ i) && bt x (i - n)) := by
  unfold bt
  rw [Int32.toBitVec_shiftLeft]
  show (x.toBitVec <<< ((nI n &&& 31).toBitVec.smod 32).toNat).getLsbD i = _
  rw [s_l n hn, BitVec.getLsbD_shiftLeft]
  rcases Nat.lt_or_ge i n with h | h
  · simp [h, Nat.not_le.mpr h]
  · simp [hi, h, Nat.not_lt.mpr h]
theorem b_ushr (n : Nat) (hn : n < 32) (x : Int32) (i : Nat) : bt ((x.toUInt32 >>> ((nI n).toUInt32 &&& Int32.toUInt32 31)).toInt32) i = bt x (n + i) := by
  show (x.toUInt32 >>> ((nI n).toUInt32 &&& Int32.toUInt32 31)).toBitVec.getLsbD i = x.toUInt32.toBitVec.getLsbD (n + i)
  rw [UInt32.toBitVec_shiftRight]
  show (x.toUInt32.toBitVec >>> (((nI n).toUInt32 &&& Int32.toUInt32 31).toBitVec % 32).toNat).getLsbD i = _
  rw [s_u n hn, BitVec.getLsbD_ushiftRight]
theorem b_sshr (n : Nat) (hn : n < 32) (x : Int32) {i : Nat} (hi : i < 32) : bt (x >>> (nI n &&& 31)) i = if n + i < 32 then bt x (n + i) else bt x 31 := by
  unfold bt
  rw [Int32.toBitVec_shiftRight]
  show (x.toBitVec.sshiftRight ((nI n &&& 31).toBitVec.smod 32).toNat).getLsbD i = _
  rw [s_l n hn, BitVec.getLsbD_sshiftRight, BitVec.msb_eq_getLsbD_last]
  simp [hi]
theorem b_shl8 (x : Int32) {i : Nat} (hi : i < 32) : bt (x <<< ((8 : Int32) &&& 31)) i = (decide (8 ≤ i) && bt x (i - 8)) := b_shl 8 (by omega) x hi
theorem b_shl16 (x : Int32) {i : Nat} (hi : i < 32) : bt (x <<< ((16 : Int32) &&& 31)) i = (decide (16 ≤ i) && bt x (i - 16)) := b_shl 16 (by omega) x hi
theorem b_shl24 (x : Int32) {i : Nat} (hi : i < 32) : bt (x <<< ((24 : Int32) &&& 31)) i = (decide (24 ≤ i) && bt x (i - 24)) := b_shl 24 (by omega) x hi
theorem b_sshr8 (x : Int32) {i : Nat} (hi : i < 32) : bt (x >>> ((8 : Int32) &&& 31)) i = if 8 + i < 32 then bt x (8 + i) else bt x 31 := b_sshr 8 (by omega) x hi
/-! ===== nI under and, xor, >>>, one bit, 65535 ===== -/
theorem nx_and (a b : Nat) : nI a &&& nI b = nI (a &&& b) := by
  apply Int32.toBitVec_inj.1
  show BitVec.ofNat 32 a &&& BitVec.ofNat 32 b = BitVec.ofNat 32 (a &&& b)
  apply BitVec.eq_of_getLsbD_eq
  intro i hi
  simp [hi]
theorem nx_xor (a b : Nat) : nI a ^^^ nI b = nI (a ^^^ b) := by
  apply Int32.toBitVec_inj.1
  show BitVec.ofNat 32 a ^^^ BitVec.ofNat 32 b = BitVec.ofNat 32 (a ^^^ b)
  apply BitVec.eq_of_getLsbD_eq
  intro i hi
  simp [hi]
theorem nx_cnt : ∀ j : Fin 32, (UInt32.ofNat j.val &&& Int32.toUInt32 31).toNat % 32 = j.val := by decide +kernel
theorem nx_ush {k j : Nat} (hk : k < 65536) (hj : j < 32) : ((nI k).toUInt32 >>> ((nI j).toUInt32 &&& Int32.toUInt32 31)).toInt32 = nI (k >>> j) := by
  have hs : k >>> j ≤ k := by
    rw [Nat.shiftRight_eq_div_pow]
    exact Nat.div_le_self _ _
  have e2 : UInt32.ofNat k >>> (UInt32.ofNat j &&& Int32.toUInt32 31) = UInt32.ofNat (k >>> j) := by
    apply UInt32.toNat_inj.1
    have h1 : (UInt32.ofNat k).toNat = k := Nat.mod_eq_of_lt (by omega)
    have h2 : (UInt32.ofNat (k >>> j)).toNat = k >>> j := Nat.mod_eq_of_lt (by omega)
    rw [UInt32.toNat_shiftRight, nx_cnt ⟨j, hj⟩, h1, h2]
  show (UInt32.ofNat k >>> (UInt32.ofNat j &&& Int32.toUInt32 31)).toInt32 = _
  rw [e2]
  rfl
theorem nx_bit {k j : Nat} (hk : k < 65536) (hj : j < 16) : (((nI k).toUInt32 >>> ((nI j).toUInt32 &&& Int32.toUInt32 31)).toInt32 &&& 1) = 0 ↔ k.testBit j = false := by
  rw [nx_ush hk (by omega)]
  show nI (k >>> j) &&& nI 1 = 0 ↔ _
  rw [nx_and, Nat.and_one_is_mod, ← nI_0, nI_eq (by omega) (by omega), Nat.testBit_eq_decide_div_mod_eq, Nat.shiftRight_eq_div_pow, decide_eq_false_iff_not]
  generalize k / 2 ^ j = z
  omega
theorem nx_mod (k : Nat) : nI k &&& 65535 = nI (k % 65536) := by
  show nI k &&& nI 65535 = _
  rw [nx_and, show (65535 : Nat) = 2 ^ 16 - 1 from rfl, Nat.and_two_pow_sub_one_eq_mod]
theorem nx_m16 {k : Nat} (h : k < 65536) : nI k &&& 65535 = nI k := by rw [nx_mod, Nat.mod_eq_of_lt h]
theorem nx_mask (x : Int32) : ∃ k, k < 65536 ∧ x &&& 65535 = nI k := by
  have e : x = nI x.toBitVec.toNat := by
    apply Int32.toBitVec_inj.1
    show x.toBitVec = BitVec.ofNat 32 x.toBitVec.toNat
    simp
  refine ⟨x.toBitVec.toNat % 65536, Nat.mod_lt _ (by omega), ?_⟩
  rw [← nx_mod, ← e]
end
section
/-! ===== the state as one thing: read by ao, fo; written by sa, sf ===== -/
def mkx (F : Nat → Int32) (A : Nat → Nat → Int32) : SX := (F 0, F 1, F 2, F 3, F 4, F 5, F 6, A 7, A 8, A 9, A 10, A 11, A 12, A 13, A 14, A 15, A 16, A 17, A 18, A 19, A 20, A 21, A 22, A 23, A 24, A 25, A 26, A 27, A 28, A 29, A 30, A 31, A 32, A 33, A 34, A 35, A 36, A 37, A 38, A 39, A 40, A 41, A 42, A 43, A 44, A 45, A 46, A 47, A 48, A 49)
def fo (u : SX) : Nat → Int32
  | 0 => u.1
  | 1 => u.2.1
  | 2 => u.2.2.1
  | 3 => u.2.2.2.1
  | 4 => u.2.2.2.2.1
  | 5 => u.2.2.2.2.2.1
  | 6 => u.2.2.2.2.2.2.1
  | _ => 0
def ao (u : SX) : Nat → Nat → Int32
  | 0 => fun _ => 0
  | 1 => fun _ => 0
  | 2 => fun _ => 0
  | 3 => fun _ => 0
  | 4 => fun _ => 0
  | 5 => fun _ => 0
  | 6 => fun _ => 0
  | 7 => u.2.2.2.2.2.2.2.1
  | 8 => u.2.2.2.2.2.2.2.2.1
  | 9 => u.2.2.2.2.2.2.2.2.2.1
  | 10 => u.2.2.2.2.2.2.2.2.2.2.1
  | 11 => u.2.2.2.2.2.2.2.2.2.2.2.1
  | 12 => u.2.2.2.2.2.2.2.2.2.2.2.2.1
  | 13 => u.2.2.2.2.2.2.2.2.2.2.2.2.2.1
  | 14 => u.2.2.2.2.2.2.2.2.2.2.2.2.2.2.1
  | 15 => u.2.2.2.2.2.2.2.2.2.2.2.2.2.2.2.1
  | 16 => u.2.2.2.2.2.2.2.2.2.2.2.2.2.2.2.2.1
  | 17 => u.2.2.2.2.2.2.2.2.2.2.2.2.2.2.2.2.2.1
  | 18 => u.2.2.2.2.2.2.2.2.2.2.2.2.2.2.2.2.2.2.1
  | 19 => u.2.2.2.2.2.2.2.2.2.2.2.2.2.2.2.2.2.2.2.1
  | 20 => u.2.2.2.2.2.2.2.2.2.2.2.2.2.2.2.2.2.2.2.2.1
  | 21 => u.2.2.2.2.2.2.2.2.2.2.2.2.2.2.2.2.2.2.2.2.2.1
  | 22 => u.2.2.2.2.2.2.2.2.2.2.2.2.2.2.2.2.2.2.2.2.2.2.1
  | 23 => u.2.2.2.2.2.2.2.2.2.2.2.2.2.2.2.2.2.2.2.2.2.2.2.1
  | 24 => u.2.2.2.2.2.2.2.2.2.2.2.2.2.2.2.2.2.2.2.2.2.2.2.2.1
  | 25 => u.2.2.2.2.2.2.2.2.2.2.2.2.2.2.2.2.2.2.2.2.2.2.2.2.2.1
  | 26 => u.2.2.2.2.2.2.2.2.2.2.2.2.2.2.2.2.2.2.2.2.2.2.2.2.2.2.1
  | 27 => u.2.2.2.2.2.2.2.2.2.2.2.2.2.2.2.2.2.2.2.2.2.2.2.2.2.2.2.1
  | 28 => u.2.2.2.2.2.2.2.2.2.2.2.2.2.2.2.2.2.2.2.2.2.2.2.2.2.2.2.2.1
  | 29 => u.2.2.2.2.2.2.2.2.2.2.2.2.2.2.2.2.2.2.2.2.2.2.2.2.2.2.2.2.2.1
  | 30 => u.2.2.2.2.2.2.2.2.2.2.2.2.2.2.2.2.2.2.2.2.2.2.2.2.2.2.2.2.2.2.1
  | 31 => u.2.2.2.2.2.2.2.2.2.2.2.2.2.2.2.2.2.2.2.2.2.2.2.2.2.2.2.2.2.2.2.1
  | 32 => u.2.2.2.2.2.2.2.2.2.2.2.2.2.2.2.2.2.2.2.2.2.2.2.2.2.2.2.2.2.2.2.2.1
  | 33 => u.2.2.2.2.2.2.2.2.2.2.2.2.2.2.2.2.2.2.2.2.2.2.2.2.2.2.2.2.2.2.2.2.2.1
  | 34 => u.2.2.2.2.2.2.2.2.2.2.2.2.2.2.2.2.2.2.2.2.2.2.2.2.2.2.2.2.2.2.2.2.2.2.1
  | 35 => u.2.2.2.2.2.2.2.2.2.2.2.2.2.2.2.2.2.2.2.2.2.2.2.2.2.2.2.2.2.2.2.2.2.2.2.1
  | 36 => u.2.2.2.2.2.2.2.2.2.2.2.2.2.2.2.2.2.2.2.2.2.2.2.2.2.2.2.2.2.2.2.2.2.2.2.2.1
  | 37 => u.2.2.2.2.2.2.2.2.2.2.2.2.2.2.2.2.2.2.2.2.2.2.2.2.2.2.2.2.2.2.2.2.2.2.2.2.2.1
  | 38 => u.2.2.2.2.2.2.2.2.2.2.2.2.2.2.2.2.2.2.2.2.2.2.2.2.2.2.2.2.2.2.2.2.2.2.2.2.2.2.1
  | 39 => u.2.2.2.2.2.2.2.2.2.2.2.2.2.2.2.2.2.2.2.2.2.2.2.2.2.2.2.2.2.2.2.2.2.2.2.2.2.2.2.1
  | 40 => u.2.2.2.2.2.2.2.2.2.2.2.2.2.2.2.2.2.2.2.2.2.2.2.2.2.2.2.2.2.2.2.2.2.2.2.2.2.2.2.2.1
  | 41 => u.2.2.2.2.2.2.2.2.2.2.2.2.2.2.2.2.2.2.2.2.2.2.2.2.2.2.2.2.2.2.2.2.2.2.2.2.2.2.2.2.2.1
  | 42 => u.2.2.2.2.2.2.2.2.2.2.2.2.2.2.2.2.2.2.2.2.2.2.2.2.2.2.2.2.2.2.2.2.2.2.2.2.2.2.2.2.2.2.1
  | 43 => u.2.2.2.2.2.2.2.2.2.2.2.2.2.2.2.2.2.2.2.2.2.2.2.2.2.2.2.2.2.2.2.2.2.2.2.2.2.2.2.2.2.2.2.1
  | 44 => u.2.2.2.2.2.2.2.2.2.2.2.2.2.2.2.2.2.2.2.2.2.2.2.2.2.2.2.2.2.2.2.2.2.2.2.2.2.2.2.2.2.2.2.2.1
  | 45 => u.2.2.2.2.2.2.2.2.2.2.2.2.2.2.2.2.2.2.2.2.2.2.2.2.2.2.2.2.2.2.2.2.2.2.2.2.2.2.2.2.2.2.2.2.2.1
  | 46 => u.2.2.2.2.2.2.2.2.2.2.2.2.2.2.2.2.2.2.2.2.2.2.2.2.2.2.2.2.2.2.2.2.2.2.2.2.2.2.2.2.2.2.2.2.2.2.1
  | 47 => u.2.2.2.2.2.2.2.2.2.2.2.2.2.2.2.2.2.2.2.2.2.2.2.2.2.2.2.2.2.2.2.2.2.2.2.2.2.2.2.2.2.2.2.2.2.2.2.1
  | 48 => u.2.2.2.2.2.2.2.2.2.2.2.2.2.2.2.2.2.2.2.2.2.2.2.2.2.2.2.2.2.2.2.2.2.2.2.2.2.2.2.2.2.2.2.2.2.2.2.2.1
  | 49 => u.2.2.2.2.2.2.2.2.2.2.2.2.2.2.2.2.2.2.2.2.2.2.2.2.2.2.2.2.2.2.2.2.2.2.2.2.2.2.2.2.2.2.2.2.2.2.2.2.2
  | _ => fun _ => 0
def sf (u : SX) (k : Nat) (x : Int32) : SX := mkx (fun j => if j = k then x else fo u j) (ao u)
def sa (u : SX) (k : Nat) (a : Nat → Int32) : SX := mkx (fo u) (fun j => if j = k then a else ao u j)
theorem ao_mk (F : Nat → Int32) (A : Nat → Nat → Int32) : ∀ k, 7 ≤ k → k < 50 → ao (mkx F A) k = A k
  | 0, h, _ => absurd h (by decide)
  | 1, h, _ => absurd h (by decide)
  | 2, h, _ => absurd h (by decide)
  | 3, h, _ => absurd h (by decide)
  | 4, h, _ => absurd h (by decide)
  | 5, h, _ => absurd h (by decide)
  | 6, h, _ => absurd h (by decide)
  | 7, _, _ => rfl
  | 8, _, _ => rfl
  | 9, _, _ => rfl
  | 10, _, _ => rfl
  | 11, _, _ => rfl
  | 12, _, _ => rfl
  | 13, _, _ => rfl
  | 14, _, _ => rfl
  | 15, _, _ => rfl
  | 16, _, _ => rfl
  | 17, _, _ => rfl
  | 18, _, _ => rfl
  | 19, _, _ => rfl
  | 20, _, _ => rfl
  | 21, _, _ => rfl
  | 22, _, _ => rfl
  | 23, _, _ => rfl
  | 24, _, _ => rfl
  | 25, _, _ => rfl
  | 26, _, _ => rfl
  | 27, _, _ => rfl
  | 28, _, _ => rfl
  | 29, _, _ => rfl
  | 30, _, _ => rfl
  | 31, _, _ => rfl
  | 32, _, _ => rfl
  | 33, _, _ => rfl
  | 34, _, _ => rfl
  | 35, _, _ => rfl
  | 36, _, _ => rfl
  | 37, _, _ => rfl
  | 38, _, _ => rfl
  | 39, _, _ => rfl
  | 40, _, _ => rfl
  | 41, _, _ => rfl
  | 42, _, _ => rfl
  | 43, _, _ => rfl
  | 44, _, _ => rfl
  | 45, _, _ => rfl
  | 46, _, _ => rfl
  | 47, _, _ => rfl
  | 48, _, _ => rfl
  | 49, _, _ => rfl
  | k + 50, _, h => absurd h (by omega)
theorem fo_mk (F : Nat → Int32) (A : Nat → Nat → Int32) : ∀ k, k < 7 → fo (mkx F A) k = F k
  | 0, _ => rfl
  | 1, _ => rfl
  | 2, _ => rfl
  | 3, _ => rfl
  | 4, _ => rfl
  | 5, _ => rfl
  | 6, _ => rfl
  | k + 7, h => absurd h (by omega)
theorem ao_o (u : SX) : ∀ k, (k < 7 ∨ 50 ≤ k) → ao u k = fun _ => 0
  | 0, _ => rfl
  | 1, _ => rfl
  | 2, _ => rfl
  | 3, _ => rfl
  | 4, _ => rfl
  | 5, _ => rfl
  | 6, _ => rfl
  | 7, h => absurd h (by decide)
  | 8, h => absurd h (by decide)
  | 9, h => absurd h (by decide)
  | 10, h => absurd h (by decide)
  | 11, h => absurd h (by decide)
  | 12, h => absurd h (by decide)
  | 13, h => absurd h (by decide)
  | 14, h => absurd h (by decide)
  | 15, h => absurd h (by decide)
  | 16, h => absurd h (by decide)
  | 17, h => absurd h (by decide)
  | 18, h => absurd h (by decide)
  | 19, h => absurd h (by decide)
  | 20, h => absurd h (by decide)
  | 21, h => absurd h (by decide)
  | 22, h => absurd h (by decide)
  | 23, h => absurd h (by decide)
  | 24, h => absurd h (by decide)
  | 25, h => absurd h (by decide)
  | 26, h => absurd h (by decide)
  | 27, h => absurd h (by decide)
  | 28, h => absurd h (by decide)
  | 29, h => absurd h (by decide)
  | 30, h => absurd h (by decide)
  | 31, h => absurd h (by decide)
  | 32, h => absurd h (by decide)
  | 33, h => absurd h (by decide)
  | 34, h => absurd h (by decide)
  | 35, h => absurd h (by decide)
  | 36, h => absurd h (by decide)
  | 37, h => absurd h (by decide)
  | 38, h => absurd h (by decide)
  | 39, h => absurd h (by decide)
  | 40, h => absurd h (by decide)
  | 41, h => absurd h (by decide)
  | 42, h => absurd h (by decide)
  | 43, h => absurd h (by decide)
  | 44, h => absurd h (by decide)
  | 45, h => absurd h (by decide)
  | 46, h => absurd h (by decide)
  | 47, h => absurd h (by decide)
  | 48, h => absurd h (by decide)
  | 49, h => absurd h (by decide)
  | k + 50, _ => rfl
theorem fo_o (u : SX) : ∀ k, 7 ≤ k → fo u k = 0
  | 0, h => absurd h (by decide)
  | 1, h => absurd h (by decide)
  | 2, h => absurd h (by decide)
  | 3, h => absurd h (by decide)
  | 4, h => absurd h (by decide)
  | 5, h => absurd h (by decide)
  | 6, h => absurd h (by decide)
  | k + 7, _ => rfl
theorem mkx_cg {F F' : Nat → Int32} {A A' : Nat → Nat → Int32} (h : ∀ j, j < 7 → F j = F' j) (g : ∀ j, 7 ≤ j → j < 50 → A j = A' j) : mkx F A = mkx F' A' := by
  unfold mkx
  rw [h 0 (by decide), h 1 (by decide), h 2 (by decide), h 3 (by decide), h 4 (by decide), h 5 (by decide), h 6 (by decide), g 7 (by decide) (by decide), g 8 (by decide) (by decide), g 9 (by decide) (by decide), g 10 (by decide) (by decide), g 11 (by decide) (by decide), g 12 (by decide) (by decide), g 13 (by decide) (by decide), g 14 (by decide) (by decide), g 15 (by decide) (by decide), g 16 (by decide) (by decide), g 17 (by decide) (by decide), g 18 (by decide) (by decide), g 19 (by decide) (by decide), g 20 (by decide) (by decide), g 21 (by decide) (by decide), g 22 (by decide) (by decide), g 23 (by decide) (by decide), g 24 (by decide) (by decide), g 25 (by decide) (by decide), g 26 (by decide) (by decide), g 27 (by decide) (by decide), g 28 (by decide) (by decide), g 29 (by decide) (by decide), g 30 (by decide) (by decide), g 31 (by decide) (by decide), g 32 (by decide) (by decide), g 33 (by decide) (by decide), g 34 (by decide) (by decide), g 35 (by decide) (by decide), g 36 (by decide) (by decide), g 37 (by decide) (by decide), g 38 (by decide) (by decide), g 39 (by decide) (by decide), g 40 (by decide) (by decide), g 41 (by decide) (by decide), g 42 (by decide) (by decide), g 43 (by decide) (by decide), g 44 (by decide) (by decide), g 45 (by decide) (by decide), g 46 (by decide) (by decide), g 47 (by decide) (by decide), g 48 (by decide) (by decide), g 49 (by decide) (by decide)]
theorem n_fmx (F : Nat → Int32) (A : Nat → Nat → Int32) (k : Nat) (x : Int32) : sf (mkx F A) k x = mkx (fun j => if j = k then x else F j) A :=
  mkx_cg (fun j h => by simp only [fo_mk F A j h]) (fun j h h' => ao_mk F A j h h')
theorem n_amx (F : Nat → Int32) (A : Nat → Nat → Int32) (k : Nat) (a : Nat → Int32) : sa (mkx F A) k a = mkx F (fun j => if j = k then a else A j) :=
  mkx_cg (fun j h => fo_mk F A j h) (fun j h h' => by simp only [ao_mk F A j h h'])
theorem n_ffx (u : SX) (k l : Nat) (x y : Int32) : sf (sf u k x) l y = mkx (fun j => if j = l then y else if j = k then x else fo u j) (ao u) := n_fmx _ _ _ _
theorem n_afx (u : SX) (k l : Nat) (x : Int32) (a : Nat → Int32) : sa (sf u k x) l a = mkx (fun j => if j = k then x else fo u j) (fun j => if j = l then a else ao u j) := n_amx _ _ _ _
theorem n_aax (u : SX) (k l : Nat) (a b : Nat → Int32) : sa (sa u k a) l b = mkx (fo u) (fun j => if j = l then b else if j = k then a else ao u j) := n_amx _ _ _ _
theorem mkx_eta (u : SX) : mkx (fo u) (ao u) = u := rfl
def mky (F : Nat → Int32) (A : Nat → Nat → Int32) : SY := (F 0, F 1, F 2, F 3, F 4, A 5, A 6, A 7, A 8)
def fy (u : SY) : Nat → Int32
  | 0 => u.1
  | 1 => u.2.1
  | 2 => u.2.2.1
  | 3 => u.2.2.2.1
  | 4 => u.2.2.2.2.1
  | _ => 0
def ay (u : SY) : Nat → Nat → Int32
  | 0 => fun _ => 0
  | 1 => fun _ => 0
  | 2 => fun _ => 0
  | 3 => fun _ => 0
  | 4 => fun _ => 0
  | 5 => u.2.2.2.2.2.1
  | 6 => u.2.2.2.2.2.2.1
  | 7 => u.2.2.2.2.2.2.2.1
  | 8 => u.2.2.2.2.2.2.2.2
  | _ => fun _ => 0
def sfy (u : SY) (k : Nat) (x : Int32) : SY := mky (fun j => if j = k then x else fy u j) (ay u)
def say (u : SY) (k : Nat) (a : Nat → Int32) : SY := mky (fy u) (fun j => if j = k then a else ay u j)
theorem ay_mk (F : Nat → Int32) (A : Nat → Nat → Int32) : ∀ k, 5 ≤ k → k < 9 → ay (mky F A) k = A k
  | 0, h, _ => absurd h (by decide)
  | 1, h, _ => absurd h (by decide)
  | 2, h, _ => absurd h (by decide)
  | 3, h, _ => absurd h (by decide)
  | 4, h, _ => absurd h (by decide)
  | 5, _, _ => rfl
  | 6, _, _ => rfl
  | 7, _, _ => rfl
  | 8, _, _ => rfl
  | k + 9, _, h => absurd h (by omega)
theorem fy_mk (F : Nat → Int32) (A : Nat → Nat → Int32) : ∀ k, k < 5 → fy (mky F A) k = F k
  | 0, _ => rfl
  | 1, _ => rfl
  | 2, _ => rfl
  | 3, _ => rfl
  | 4, _ => rfl
  | k + 5, h => absurd h (by omega)
theorem ay_o (u : SY) : ∀ k, (k < 5 ∨ 9 ≤ k) → ay u k = fun _ => 0
  | 0, _ => rfl
  | 1, _ => rfl
  | 2, _ => rfl
  | 3, _ => rfl
  | 4, _ => rfl
  | 5, h => absurd h (by decide)
  | 6, h => absurd h (by decide)
  | 7, h => absurd h (by decide)
  | 8, h => absurd h (by decide)
  | k + 9, _ => rfl
theorem fy_o (u : SY) : ∀ k, 5 ≤ k → fy u k = 0
  | 0, h => absurd h (by decide)
  | 1, h => absurd h (by decide)
  | 2, h => absurd h (by decide)
  | 3, h => absurd h (by decide)
  | 4, h => absurd h (by decide)
  | k + 5, _ => rfl
theorem mky_cg {F F' : Nat → Int32} {A A' : Nat → Nat → Int32} (h : ∀ j, j < 5 → F j = F' j) (g : ∀ j, 5 ≤ j → j < 9 → A j = A' j) : mky F A = mky F' A' := by
  unfold mky
  rw [h 0 (by decide), h 1 (by decide), h 2 (by decide), h 3 (by decide), h 4 (by decide), g 5 (by decide) (by decide), g 6 (by decide) (by decide), g 7 (by decide) (by decide), g 8 (by decide) (by decide)]
theorem n_fmy (F : Nat → Int32) (A : Nat → Nat → Int32) (k : Nat) (x : Int32) : sfy (mky F A) k x = mky (fun j => if j = k then x else F j) A :=
  mky_cg (fun j h => by simp only [fy_mk F A j h]) (fun j h h' => ay_mk F A j h h')
theorem n_amy (F : Nat → Int32) (A : Nat → Nat → Int32) (k : Nat) (a : Nat → Int32) : say (mky F A) k a = mky F (fun j => if j = k then a else A j) :=
  mky_cg (fun j h => fy_mk F A j h) (fun j h h' => by simp only [ay_mk F A j h h'])
theorem n_ffy (u : SY) (k l : Nat) (x y : Int32) : sfy (sfy u k x) l y = mky (fun j => if j = l then y else if j = k then x else fy u j) (ay u) := n_fmy _ _ _ _
theorem n_afy (u : SY) (k l : Nat) (x : Int32) (a : Nat → Int32) : say (sfy u k x) l a = mky (fun j => if j = k then x else fy u j) (fun j => if j = l then a else ay u j) := n_amy _ _ _ _
theorem n_aay (u : SY) (k l : Nat) (a b : Nat → Int32) : say (say u k a) l b = mky (fy u) (fun j => if j = l then b else if j = k then a else ay u j) := n_amy _ _ _ _
theorem mky_eta (u : SY) : mky (fy u) (ay u) = u := rfl
theorem ao_ne (u : SX) {k j : Nat} (a : Nat → Int32) (h : j ≠ k) : ao (sa u k a) j = ao u j := by
  by_cases h1 : 7 ≤ j ∧ j < 50
  · rw [sa, ao_mk _ _ j h1.1 h1.2, if_neg h]
  · rw [ao_o _ j (by omega), ao_o _ j (by omega)]
theorem ao_eq (u : SX) {k : Nat} (a : Nat → Int32) (h1 : 7 ≤ k) (h2 : k < 50) : ao (sa u k a) k = a := by
  rw [sa, ao_mk _ _ k h1 h2, if_pos rfl]
theorem fo_a (u : SX) (k j : Nat) (a : Nat → Int32) : fo (sa u k a) j = fo u j := by
  by_cases h1 : j < 7
  · rw [sa, fo_mk _ _ j h1]
  · rw [fo_o _ j (by omega), fo_o _ j (by omega)]
theorem ao_f (u : SX) (k j : Nat) (x : Int32) : ao (sf u k x) j = ao u j := by
  by_cases h1 : 7 ≤ j ∧ j < 50
  · rw [sf, ao_mk _ _ j h1.1 h1.2]
  · rw [ao_o _ j (by omega), ao_o _ j (by omega)]
theorem fo_ne (u : SX) {k j : Nat} (x : Int32) (h : j ≠ k) : fo (sf u k x) j = fo u j := by
  by_cases h1 : j < 7
  · rw [sf, fo_mk _ _ j h1, if_neg h]
  · rw [fo_o _ j (by omega), fo_o _ j (by omega)]
theorem fo_eq (u : SX) {k : Nat} (x : Int32) (h : k < 7) : fo (sf u k x) k = x := by
  rw [sf, fo_mk _ _ k h, if_pos rfl]
/-- all but the places in L is kept -/
def fr (L : List Nat) (u v : SX) : Prop := ∀ k, k ∉ L → ao v k = ao u k ∧ fo v k = fo u k
theorem fr_rf {L : List Nat} {u : SX} : fr L u u := fun _ _ => ⟨rfl, rfl⟩
theorem fr_tr {L : List Nat} {u v w : SX} (h : fr L u v) (g : fr L v w) : fr L u w :=
  fun k hk => ⟨(g k hk).1.trans (h k hk).1, (g k hk).2.trans (h k hk).2⟩
theorem fr_mn {L M : List Nat} {u v : SX} (h : fr L u v) (hs : ∀ k ∈ L, k ∈ M) : fr M u v :=
  fun k hk => h k (fun z => hk (hs k z))
theorem fr_a {L : List Nat} {u v : SX} {k : Nat} {a : Nat → Int32} (h : fr L u v) (hk : k ∈ L) : fr L u (sa v k a) :=
  fun j hj => have e : j ≠ k := fun z => hj (z ▸ hk)
    ⟨(ao_ne v a e).trans (h j hj).1, (fo_a v k j a).trans (h j hj).2⟩
theorem fr_f {L : List Nat} {u v : SX} {k : Nat} {x : Int32} (h : fr L u v) (hk : k ∈ L) : fr L u (sf v k x) :=
  fun j hj => have e : j ≠ k := fun z => hj (z ▸ hk)
    ⟨(ao_f v k j x).trans (h j hj).1, (fo_ne v x e).trans (h j hj).2⟩
theorem fr_ao {L : List Nat} {u v : SX} (h : fr L u v) (k : Nat) (hk : k ∉ L := by decide) : ao v k = ao u k := (h k hk).1
theorem fr_fo {L : List Nat} {u v : SX} (h : fr L u v) (k : Nat) (hk : k ∉ L := by decide) : fo v k = fo u k := (h k hk).2
/-! ===== small numbers ===== -/
theorem by_n {m : Nat} (h : m < 128) : (nI m).toInt8.toInt32 = nI m := by
  apply Int32.toInt_inj.mp
  rw [Int8.toInt_toInt32, Int32.toInt_toInt8, nI_toInt (by omega)]
  exact Int.bmod_eq_of_le (by omega) (by omega)
theorem sh_n {m : Nat} (h : m < 32768) : (nI m).toInt16.toInt32 = nI m := by
  apply Int32.toInt_inj.mp
  rw [Int16.toInt_toInt32, Int32.toInt_toInt16, nI_toInt (by omega)]
  exact Int.bmod_eq_of_le (by omega) (by omega)
theorem vby {m : Nat} (h : m < 128) : vp_nar .byte (nI m).toInt8.toInt32 = nI m := by rw [by_n h, vp_nar_byte, by_n h]
theorem vbn {m : Nat} (h : m < 128) : vp_nar .byte (nI m) = nI m := by rw [vp_nar_byte, by_n h]
theorem vsh {m : Nat} (h : m < 32768) : vp_nar .short (nI m).toInt16.toInt32 = nI m := by rw [sh_n h, vp_nar_short, sh_n h]
theorem vsn {m : Nat} (h : m < 32768) : vp_nar .short (nI m) = nI m := by rw [vp_nar_short, sh_n h]
theorem vb_m : vp_nar .byte (-1) = -1 := by decide +kernel
theorem vb_m' : vp_nar .byte ((-1 : Int32).toInt8.toInt32) = -1 := by decide +kernel
theorem vo_0 : vp_nar .boolean 0 = 0 := rfl
theorem vo_1 : vp_nar .boolean 1 = 1 := rfl
/-- 0 for none (-1), m + 1 for m -/
def pI (t : Nat) : Int32 := if t = 0 then -1 else nI (t - 1)
theorem pI_0 : pI 0 = -1 := rfl
theorem pI_s (t : Nat) : pI (t + 1) = nI t := by
  unfold pI; rw [if_neg (by omega), Nat.add_sub_cancel]
theorem pI_neg {t : Nat} (ht : t < 2 ^ 31) : pI t < 0 ↔ t = 0 := by
  cases t with
  | zero => exact ⟨fun _ => rfl, fun _ => by decide⟩
  | succ t => rw [pI_s]; exact ⟨fun h => absurd h (nI_pos (by omega)), fun h => by omega⟩
theorem pI_eq {s t : Nat} (hs : s < 2 ^ 31) (ht : t < 2 ^ 31) : pI s = pI t ↔ s = t := by
  refine ⟨fun h => ?_, fun h => by rw [h]⟩
  cases s with
  | zero =>
    cases t with
    | zero => rfl
    | succ t => have := (pI_neg ht).mp (h ▸ (pI_neg hs).mpr rfl); omega
  | succ s =>
    cases t with
    | zero => have := (pI_neg hs).mp (h ▸ (pI_neg ht).mpr rfl); omega
    | succ t => rw [pI_s, pI_s, nI_eq (by omega) (by omega)] at h; omega
theorem vbp {t : Nat} (h : t < 128) : vp_nar .byte (pI t).toInt8.toInt32 = pI t := by
  cases t with
  | zero => exact vb_m'
  | succ t => rw [pI_s]; exact vby (by omega)
theorem vbq {t : Nat} (h : t < 128) : vp_nar .byte (pI t) = pI t := by
  cases t with
  | zero => exact vb_m
  | succ t => rw [pI_s]; exact vbn (by omega)
/-- a truth value as 0 or 1 -/
def bI (b : Bool) : Int32 := if b then 1 else 0
theorem bI_0 {b : Bool} : bI b = 0 ↔ b = false := by cases b <;> decide
theorem bI_1 {b : Bool} : bI b = 1 ↔ b = true := by cases b <;> decide
theorem bI_n {b : Bool} : narrow .boolean (.int (bI b)) = .int (bI b) := by cases b <;> rfl
theorem bI_vo {b : Bool} : vp_nar .boolean (bI b) = bI b := by cases b <;> rfl
theorem bI_vb {b : Bool} : vp_nar .byte (bI b) = bI b := by cases b <;> decide +kernel
theorem bI_vb' {b : Bool} : vp_nar .byte (bI b).toInt8.toInt32 = bI b := by cases b <;> decide +kernel
theorem bI_inj {a b : Bool} : bI a = bI b ↔ a = b := by cases a <;> cases b <;> decide
theorem br_b {b : Bool} {x : Int32} {A B : Prop} (hx : x = bI b) (f : b = false → A) (g : b = true → B) : (x = 0 → A) ∧ (¬ x = 0 → B) := by
  subst hx
  cases b
  · exact br_t (by decide) (f rfl)
  · exact br_f (by decide) (g rfl)
theorem br_p {t : Nat} {x : Int32} {A B : Prop} (hx : x = pI t) (ht : t < 2 ^ 31) (f : t = 0 → A) (g : ∀ m, t = m + 1 → x = nI m → B) : (x < 0 → A) ∧ (¬ x < 0 → B) := by
  subst hx
  cases t with
  | zero => exact br_t (by decide) (f rfl)
  | succ t => exact br_f (by rw [pI_s]; exact nI_pos (by omega)) (g t rfl (pI_s t))
theorem u_s {f : Nat → Int32} {k : Nat} {x : Int32} : upd f k x k = x := if_pos rfl
theorem u_n {f : Nat → Int32} {k j : Nat} {x : Int32} (h : j ≠ k) : upd f k x j = f j := if_neg h
theorem clI {n : Nat} (h : n < 2 ^ 31) : (nI n).toNatClampNeg = n := nI_clamp h
/-! ===== counting ===== -/
def cn (f : Nat → Bool) : Nat → Nat
  | 0 => 0
  | k + 1 => cn f k + (if f k then 1 else 0)
theorem cn_le (f : Nat → Bool) : ∀ k, cn f k ≤ k
  | 0 => Nat.le_refl _
  | k + 1 => by have := cn_le f k; unfold cn; split <;> omega
theorem cn_ex {f : Nat → Bool} : ∀ {k}, cn f k < k → ∃ i, i < k ∧ f i = false
  | 0, h => absurd h (Nat.not_lt_zero _)
  | k + 1, h => by
    cases hf : f k with
    | false => exact ⟨k, by omega, hf⟩
    | true =>
      have h' : cn f k < k := by simp only [cn, hf, if_true] at h; omega
      obtain ⟨i, hi, e⟩ := cn_ex h'
      exact ⟨i, by omega, e⟩
theorem cn_all {f : Nat → Bool} : ∀ {k}, cn f k = k → ∀ i, i < k → f i = true
  | 0, _, i, hi => absurd hi (Nat.not_lt_zero _)
  | k + 1, h, i, hi => by
    have hl := cn_le f k
    cases hf : f k with
    | false => simp only [cn, hf] at h; simp at h; omega
    | true =>
      have h' : cn f k = k := by simp only [cn, hf, if_true] at h; omega
      by_cases e : i = k
      · rw [e]; exact hf
      · exact cn_all h' i (by omega)
theorem cn_cg {f g : Nat → Bool} : ∀ {k}, (∀ i, i < k → f i = g i) → cn f k = cn g k
  | 0, _ => rfl
  | k + 1, h => by
    have := cn_cg (fun i hi => h i (by omega) : ∀ i, i < k → f i = g i)
    simp only [cn, this, h k (by omega)]
theorem cn_0 {f : Nat → Bool} : ∀ {k}, (∀ i, i < k → f i = false) → cn f k = 0
  | 0, _ => rfl
  | k + 1, h => by
    have := cn_0 (fun i hi => h i (by omega) : ∀ i, i < k → f i = false)
    simp only [cn, this, h k (by omega)]; rfl
/-- one more is set -/
theorem cn_up {f g : Nat → Bool} {p : Nat} : ∀ {k}, p < k → f p = false → g p = true → (∀ i, i < k → i ≠ p → g i = f i) → cn g k = cn f k + 1
  | 0, h, _, _, _ => absurd h (Nat.not_lt_zero _)
  | k + 1, h, h0, h1, hr => by
    by_cases e : p = k
    · subst e
      have := cn_cg (fun i hi => hr i (by omega) (by omega) : ∀ i, i < p → g i = f i)
      simp only [cn, this, h0, h1]; simp
    · have := cn_up (k := k) (by omega) h0 h1 (fun i hi => hr i (by omega))
      simp only [cn, this, hr k (by omega) (fun z => e z.symm)]; omega
end
section
/-! ===== A: gates to ANDs ===== -/
theorem cx_isSignal (post : Int32 → Prop) (u : SX) (p0 : Int32) : wpX_isSignal post u p0 = (((p0 < 0 → (post 0)) ∧ (¬ p0 < 0 → ((((12 + (fo u 0)) ≤ p0 → (post 0)) ∧ (¬ (12 + (fo u 0)) ≤ p0 → (post 1))))))) := rfl
def kx_and_55 (post : Int32 → SX → Prop) (x3 : Int32) (x4 : Int32) (n : Nat) (x5 : Int32) (u : SX) : Prop := match u with
  | (qf_gates, qf_nodes, qf_joinedSize, qf_cells, qf_chanceState, qf_isBuilt, qf_levels, qa_kinds, qa_firsts, qa_seconds, qa_thirds, qa_nextOf, qa_shownBy, qa_left, qa_right, qa_endOf, qa_cutCount, qa_cutSize, qa_cutLeaf, qa_cutDepth, qa_depthOf, qa_needed, qa_tableOf, qa_rows, qa_joined, qa_tableBits, qa_cellSource, qa_placeOf, qa_cellAt, qa_used, qa_worn, qa_inTree, qa_treeFrom, qa_farness, qa_cameFrom, qa_settled, qa_trackTaken, qa_trackOf, qa_switchBits, qa_pinTrack, qa_outTrack, qa_padTrack, qa_deviceTable, qa_hasFlip, qa_registerPlace, qa_outputPlace, qa_wireRoot, qa_wireLevel, qa_flip, qa_tableOut) => wX_and_55 post x3 x4 qf_gates qf_nodes qf_joinedSize qf_cells qf_chanceState qf_isBuilt qf_levels qa_kinds qa_firsts qa_seconds qa_thirds qa_nextOf qa_shownBy qa_left qa_right qa_endOf qa_cutCount qa_cutSize qa_cutLeaf qa_cutDepth qa_depthOf qa_needed qa_tableOf qa_rows qa_joined qa_tableBits qa_cellSource qa_placeOf qa_cellAt qa_used qa_worn qa_inTree qa_treeFrom qa_farness qa_cameFrom qa_settled qa_trackTaken qa_trackOf qa_switchBits qa_pinTrack qa_outTrack qa_padTrack qa_deviceTable qa_hasFlip qa_registerPlace qa_outputPlace qa_wireRoot qa_wireLevel qa_flip qa_tableOut n x5
theorem cx_and_55 (post : Int32 → SX → Prop) (x3 : Int32) (x4 : Int32) (n : Nat) (x5 : Int32) (u : SX) : kx_and_55 post x3 x4 (n + 1) x5 u = ((((fo u 1) ≤ x5 → (vp_in (fo u 1) 256 ∧ ∀ a_left_9 : Nat → Int32, a_left_9 = upd (ao u 13) (fo u 1).toNatClampNeg (vp_nar .short x3.toInt16.toInt32) → (vp_in (fo u 1) 256 ∧ ∀ a_right_11 : Nat → Int32, a_right_11 = upd (ao u 14) (fo u 1).toNatClampNeg (vp_nar .short x4.toInt16.toInt32) → (∀ f_nodes_12 : Int32, f_nodes_12 = (fo u 1) + 1 → (post ((2 * f_nodes_12) - 2) (sa (sa (sf u 1 f_nodes_12) 13 a_left_9) 14 a_right_11)))))) ∧ (¬ (fo u 1) ≤ x5 → (vp_in x5 256 ∧ (((((ao u 13) x5.toNatClampNeg) = x3 → (vp_in x5 256 ∧ (((((ao u 14) x5.toNatClampNeg) = x4 → (post (2 * x5) u)) ∧ (¬ ((ao u 14) x5.toNatClampNeg) = x4 → (∀ x5_18 : Int32, x5_18 = x5 + 1 → (kx_and_55 post x3 x4 n x5_18 u))))))) ∧ (¬ ((ao u 13) x5.toNatClampNeg) = x3 → (∀ x5_15 : Int32, x5_15 = x5 + 1 → (kx_and_55 post x3 x4 n x5_15 u))))))))) := by simp only [n_ffx, n_afx, n_aax, n_fmx, n_amx]; rfl
def kx_and_21 (post : Int32 → SX → Prop) (x3 : Int32) (z0 : Int32) (u : SX) : Prop := match u with
  | (qf_gates, qf_nodes, qf_joinedSize, qf_cells, qf_chanceState, qf_isBuilt, qf_levels, qa_kinds, qa_firsts, qa_seconds, qa_thirds, qa_nextOf, qa_shownBy, qa_left, qa_right, qa_endOf, qa_cutCount, qa_cutSize, qa_cutLeaf, qa_cutDepth, qa_depthOf, qa_needed, qa_tableOf, qa_rows, qa_joined, qa_tableBits, qa_cellSource, qa_placeOf, qa_cellAt, qa_used, qa_worn, qa_inTree, qa_treeFrom, qa_farness, qa_cameFrom, qa_settled, qa_trackTaken, qa_trackOf, qa_switchBits, qa_pinTrack, qa_outTrack, qa_padTrack, qa_deviceTable, qa_hasFlip, qa_registerPlace, qa_outputPlace, qa_wireRoot, qa_wireLevel, qa_flip, qa_tableOut) => wX_and_21 post x3 z0 qf_gates qf_nodes qf_joinedSize qf_cells qf_chanceState qf_isBuilt qf_levels qa_kinds qa_firsts qa_seconds qa_thirds qa_nextOf qa_shownBy qa_left qa_right qa_endOf qa_cutCount qa_cutSize qa_cutLeaf qa_cutDepth qa_depthOf qa_needed qa_tableOf qa_rows qa_joined qa_tableBits qa_cellSource qa_placeOf qa_cellAt qa_used qa_worn qa_inTree qa_treeFrom qa_farness qa_cameFrom qa_settled qa_trackTaken qa_trackOf qa_switchBits qa_pinTrack qa_outTrack qa_padTrack qa_deviceTable qa_hasFlip qa_registerPlace qa_outputPlace qa_wireRoot qa_wireLevel qa_flip qa_tableOut
theorem cx_and_21 (post : Int32 → SX → Prop) (x3 : Int32) (z0 : Int32) (u : SX) : kx_and_21 post x3 z0 u = (((x3 = 0 → (post 0 u)) ∧ (¬ x3 = 0 → (((x3 = (z0 ^^^ 1) → (post 0 u)) ∧ (¬ x3 = (z0 ^^^ 1) → (((x3 = 1 → (post z0 u)) ∧ (¬ x3 = 1 → (((x3 = z0 → (post z0 u)) ∧ (¬ x3 = z0 → (∃ n55 : Nat, kx_and_55 post x3 z0 n55 13 u))))))))))))) := rfl
def kx_and_10 (post : Int32 → SX → Prop) (x1 : Int32) (x2 : Int32) (z0 : Int32) (u : SX) : Prop := match u with
  | (qf_gates, qf_nodes, qf_joinedSize, qf_cells, qf_chanceState, qf_isBuilt, qf_levels, qa_kinds, qa_firsts, qa_seconds, qa_thirds, qa_nextOf, qa_shownBy, qa_left, qa_right, qa_endOf, qa_cutCount, qa_cutSize, qa_cutLeaf, qa_cutDepth, qa_depthOf, qa_needed, qa_tableOf, qa_rows, qa_joined, qa_tableBits, qa_cellSource, qa_placeOf, qa_cellAt, qa_used, qa_worn, qa_inTree, qa_treeFrom, qa_farness, qa_cameFrom, qa_settled, qa_trackTaken, qa_trackOf, qa_switchBits, qa_pinTrack, qa_outTrack, qa_padTrack, qa_deviceTable, qa_hasFlip, qa_registerPlace, qa_outputPlace, qa_wireRoot, qa_wireLevel, qa_flip, qa_tableOut) => wX_and_10 post x1 x2 z0 qf_gates qf_nodes qf_joinedSize qf_cells qf_chanceState qf_isBuilt qf_levels qa_kinds qa_firsts qa_seconds qa_thirds qa_nextOf qa_shownBy qa_left qa_right qa_endOf qa_cutCount qa_cutSize qa_cutLeaf qa_cutDepth qa_depthOf qa_needed qa_tableOf qa_rows qa_joined qa_tableBits qa_cellSource qa_placeOf qa_cellAt qa_used qa_worn qa_inTree qa_treeFrom qa_farness qa_cameFrom qa_settled qa_trackTaken qa_trackOf qa_switchBits qa_pinTrack qa_outTrack qa_padTrack qa_deviceTable qa_hasFlip qa_registerPlace qa_outputPlace qa_wireRoot qa_wireLevel qa_flip qa_tableOut
theorem cx_and_10 (post : Int32 → SX → Prop) (x1 : Int32) (x2 : Int32) (z0 : Int32) (u : SX) : kx_and_10 post x1 x2 z0 u = (((x2 ≤ x1 → (kx_and_21 post z0 x1 u)) ∧ (¬ x2 ≤ x1 → (kx_and_21 post z0 x2 u)))) := rfl
theorem cx_and (post : Int32 → SX → Prop) (u : SX) (p0 : Int32) (p1 : Int32) : wpX_and post u p0 p1 = (((p1 ≤ p0 → (kx_and_10 post p0 p1 p1 u)) ∧ (¬ p1 ≤ p0 → (kx_and_10 post p0 p1 p0 u)))) := rfl
theorem cx_or (post : Int32 → SX → Prop) (u : SX) (p0 : Int32) (p1 : Int32) : wpX_or post u p0 p1 = (wpX_and (fun r_1 u1 => (post (r_1 ^^^ 1) u1)) u (p0 ^^^ 1) (p1 ^^^ 1)) := rfl
theorem cx_xor (post : Int32 → SX → Prop) (u : SX) (p0 : Int32) (p1 : Int32) : wpX_xor post u p0 p1 = (wpX_and (fun r_1 u1 => (wpX_and (fun r_52 u2 => (wpX_or (fun r_103 u3 => (post r_103 u3)) u2 r_1 r_52)) u1 (p0 ^^^ 1) p1)) u p0 (p1 ^^^ 1)) := rfl
theorem cx_choose (post : Int32 → SX → Prop) (u : SX) (p0 : Int32) (p1 : Int32) (p2 : Int32) : wpX_choose post u p0 p1 p2 = (wpX_and (fun r_1 u1 => (wpX_and (fun r_52 u2 => (wpX_or (fun r_103 u3 => (post r_103 u3)) u2 r_1 r_52)) u1 (p0 ^^^ 1) p2)) u p0 p1) := rfl
theorem cx_majority (post : Int32 → SX → Prop) (u : SX) (p0 : Int32) (p1 : Int32) (p2 : Int32) : wpX_majority post u p0 p1 p2 = (wpX_and (fun r_1 u1 => (wpX_or (fun r_52 u2 => (wpX_and (fun r_103 u3 => (wpX_or (fun r_154 u4 => (post r_154 u4)) u3 r_1 r_103)) u2 r_52 p2)) u1 p0 p1)) u p0 p1) := rfl
theorem cx_endFor (post : Int32 → SX → Prop) (u : SX) (p0 : Int32) (p1 : Int32) (p2 : Int32) (p3 : Int32) : wpX_endFor post u p0 p1 p2 p3 = (((p0 < 0 → (wpX_xor (fun r_3 u1 => (wpX_xor (fun r_54 u2 => (post r_54 u2)) u1 r_3 p3)) u p1 p2)) ∧ (¬ p0 < 0 → (((8 < p0 → (wpX_xor (fun r_105 u3 => (wpX_xor (fun r_156 u4 => (post r_156 u4)) u3 r_105 p3)) u p1 p2)) ∧ (¬ 8 < p0 → (((p0 = 0 → (wpX_and (fun r_208 u5 => (post r_208 u5)) u p1 p2)) ∧ (¬ p0 = 0 → (((p0 = 1 → (wpX_or (fun r_260 u6 => (post r_260 u6)) u p1 p2)) ∧ (¬ p0 = 1 → (((p0 = 2 → (wpX_xor (fun r_312 u7 => (post r_312 u7)) u p1 p2)) ∧ (¬ p0 = 2 → (((p0 = 3 → (wpX_and (fun r_364 u8 => (post (r_364 ^^^ 1) u8)) u p1 p2)) ∧ (¬ p0 = 3 → (((p0 = 4 → (wpX_or (fun r_416 u9 => (post (r_416 ^^^ 1) u9)) u p1 p2)) ∧ (¬ p0 = 4 → (((p0 = 5 → (wpX_xor (fun r_468 u10 => (post (r_468 ^^^ 1) u10)) u p1 p2)) ∧ (¬ p0 = 5 → (((p0 = 6 → (wpX_and (fun r_520 u11 => (post (r_520 ^^^ 1) u11)) u p1 (p2 ^^^ 1))) ∧ (¬ p0 = 6 → (((p0 = 7 → (wpX_choose (fun r_572 u12 => (post r_572 u12)) u p1 p2 p3)) ∧ (¬ p0 = 7 → (((p0 = 8 → (wpX_majority (fun r_624 u13 => (post r_624 u13)) u p1 p2 p3)) ∧ (¬ p0 = 8 → (True)))))))))))))))))))))))))))))))))) := rfl
def kx_makeGraph_34 (post : SX → Prop) (n : Nat) (x1 : Int32) (u : SX) : Prop := match u with
  | (qf_gates, qf_nodes, qf_joinedSize, qf_cells, qf_chanceState, qf_isBuilt, qf_levels, qa_kinds, qa_firsts, qa_seconds, qa_thirds, qa_nextOf, qa_shownBy, qa_left, qa_right, qa_endOf, qa_cutCount, qa_cutSize, qa_cutLeaf, qa_cutDepth, qa_depthOf, qa_needed, qa_tableOf, qa_rows, qa_joined, qa_tableBits, qa_cellSource, qa_placeOf, qa_cellAt, qa_used, qa_worn, qa_inTree, qa_treeFrom, qa_farness, qa_cameFrom, qa_settled, qa_trackTaken, qa_trackOf, qa_switchBits, qa_pinTrack, qa_outTrack, qa_padTrack, qa_deviceTable, qa_hasFlip, qa_registerPlace, qa_outputPlace, qa_wireRoot, qa_wireLevel, qa_flip, qa_tableOut) => wX_makeGraph_34 post n x1 qf_gates qf_nodes qf_joinedSize qf_cells qf_chanceState qf_isBuilt qf_levels qa_kinds qa_firsts qa_seconds qa_thirds qa_nextOf qa_shownBy qa_left qa_right qa_endOf qa_cutCount qa_cutSize qa_cutLeaf qa_cutDepth qa_depthOf qa_needed qa_tableOf qa_rows qa_joined qa_tableBits qa_cellSource qa_placeOf qa_cellAt qa_used qa_worn qa_inTree qa_treeFrom qa_farness qa_cameFrom qa_settled qa_trackTaken qa_trackOf qa_switchBits qa_pinTrack qa_outTrack qa_padTrack qa_deviceTable qa_hasFlip qa_registerPlace qa_outputPlace qa_wireRoot qa_wireLevel qa_flip qa_tableOut
theorem cx_makeGraph_34 (post : SX → Prop) (n : Nat) (x1 : Int32) (u : SX) : kx_makeGraph_34 post (n + 1) x1 u = ((((fo u 0) ≤ x1 → (post u)) ∧ (¬ (fo u 0) ≤ x1 → (vp_in x1 20 ∧ (vp_in x1 20 ∧ (vp_in ((ao u 8) x1.toNatClampNeg) 32 ∧ (vp_in x1 20 ∧ (vp_in ((ao u 9) x1.toNatClampNeg) 32 ∧ (vp_in x1 20 ∧ (vp_in ((ao u 10) x1.toNatClampNeg) 32 ∧ (wpX_endFor (fun r_10 u1 => (vp_in (12 + x1) 32 ∧ ∀ a_endOf_62 : Nat → Int32, a_endOf_62 = upd (ao u1 15) (12 + x1).toNatClampNeg (vp_nar .short r_10.toInt16.toInt32) → (∀ x1_63 : Int32, x1_63 = x1 + 1 → (kx_makeGraph_34 post n x1_63 (sa u1 15 a_endOf_62))))) u ((ao u 7) x1.toNatClampNeg) ((ao u 15) ((ao u 8) x1.toNatClampNeg).toNatClampNeg) ((ao u 15) ((ao u 9) x1.toNatClampNeg).toNatClampNeg) ((ao u 15) ((ao u 10) x1.toNatClampNeg).toNatClampNeg)))))))))))) := rfl
def kx_makeGraph_8 (post : SX → Prop) (n : Nat) (x1 : Int32) (u : SX) : Prop := match u with
  | (qf_gates, qf_nodes, qf_joinedSize, qf_cells, qf_chanceState, qf_isBuilt, qf_levels, qa_kinds, qa_firsts, qa_seconds, qa_thirds, qa_nextOf, qa_shownBy, qa_left, qa_right, qa_endOf, qa_cutCount, qa_cutSize, qa_cutLeaf, qa_cutDepth, qa_depthOf, qa_needed, qa_tableOf, qa_rows, qa_joined, qa_tableBits, qa_cellSource, qa_placeOf, qa_cellAt, qa_used, qa_worn, qa_inTree, qa_treeFrom, qa_farness, qa_cameFrom, qa_settled, qa_trackTaken, qa_trackOf, qa_switchBits, qa_pinTrack, qa_outTrack, qa_padTrack, qa_deviceTable, qa_hasFlip, qa_registerPlace, qa_outputPlace, qa_wireRoot, qa_wireLevel, qa_flip, qa_tableOut) => wX_makeGraph_8 post qf_gates qf_nodes qf_joinedSize qf_cells qf_chanceState qf_isBuilt qf_levels n x1 qa_kinds qa_firsts qa_seconds qa_thirds qa_nextOf qa_shownBy qa_left qa_right qa_endOf qa_cutCount qa_cutSize qa_cutLeaf qa_cutDepth qa_depthOf qa_needed qa_tableOf qa_rows qa_joined qa_tableBits qa_cellSource qa_placeOf qa_cellAt qa_used qa_worn qa_inTree qa_treeFrom qa_farness qa_cameFrom qa_settled qa_trackTaken qa_trackOf qa_switchBits qa_pinTrack qa_outTrack qa_padTrack qa_deviceTable qa_hasFlip qa_registerPlace qa_outputPlace qa_wireRoot qa_wireLevel qa_flip qa_tableOut
theorem cx_makeGraph_8 (post : SX → Prop) (n : Nat) (x1 : Int32) (u : SX) : kx_makeGraph_8 post (n + 1) x1 u = (((12 ≤ x1 → (∃ n34 : Nat, kx_makeGraph_34 post n34 0 u)) ∧ (¬ 12 ≤ x1 → (vp_in x1 32 ∧ ∀ a_endOf_65 : Nat → Int32, a_endOf_65 = upd (ao u 15) x1.toNatClampNeg (vp_nar .short ((2 * (x1 + 1)).toInt16.toInt32)) → (∀ x1_66 : Int32, x1_66 = x1 + 1 → (kx_makeGraph_8 post n x1_66 (sa u 15 a_endOf_65))))))) := rfl
theorem cx_makeGraph (post : SX → Prop) (u : SX) : wpX_makeGraph post u = (∃ n8 : Nat, kx_makeGraph_8 post n8 0 (sf u 1 13)) := rfl
def ev (v : Nat → Bool) (x : Nat) : Bool := v (x / 2) ^^ decide (x % 2 = 1)
def ng (x : Nat) : Nat := x ^^^ 1
theorem ng_f : ∀ x, x < 512 → ng x / 2 = x / 2 ∧ ng x % 2 = 1 - x % 2 := by decide +kernel
theorem ng_I (x : Nat) : nI x ^^^ 1 = nI (ng x) := nx_xor x 1
theorem ev_ng {v : Nat → Bool} {x : Nat} (h : x < 512) : ev v (ng x) = !ev v x := by
  unfold ev
  rw [(ng_f x h).1, (ng_f x h).2]
  rcases Nat.mod_two_eq_zero_or_one x with e | e <;> rw [e] <;> cases v (x / 2) <;> rfl
theorem ng_lt {x N : Nat} (h : x < 2 * N) (hN : N ≤ 256) : ng x < 2 * N := by
  have := (ng_f x (by omega)).1
  omega
theorem ev_2 (v : Nat → Bool) (i : Nat) : ev v (2 * i) = v i := by
  unfold ev
  rw [show 2 * i / 2 = i from by omega, show 2 * i % 2 = 0 from by omega]
  cases v i <;> rfl
theorem ev_k {v w : Nat → Bool} {N x : Nat} (h : ∀ m, m < N → w m = v m) (hx : x < 2 * N) : ev w x = ev v x := by
  unfold ev
  rw [h (x / 2) (by omega)]
def Gq (u : SX) (N : Nat) (L R : Nat → Nat) : Prop := fo u 1 = nI N ∧ 13 ≤ N ∧ ∀ n, 13 ≤ n → n < N →
  ao u 13 n = nI (L n) ∧ ao u 14 n = nI (R n) ∧ 2 ≤ L n ∧ L n < 2 * n ∧ 2 ≤ R n ∧ R n < 2 * n
def Gv (N : Nat) (L R : Nat → Nat) (V : (Nat → Bool) → Nat → Bool) : Prop := ∀ e, V e 0 = false ∧ (∀ s, s < 12 → V e (s + 1) = e s) ∧
  ∀ n, 13 ≤ n → n < N → V e n = (ev (V e) (L n) && ev (V e) (R n))
def Gr (u : SX) (N : Nat) (V : (Nat → Bool) → Nat → Bool) : Prop := ∃ L R, Gq u N L R ∧ Gv N L R V
def Go (d : Nat) (u : SX) (N : Nat) (V : (Nat → Bool) → Nat → Bool) (val : (Nat → Bool) → Bool) (r : Nat) (u' : SX) (N' : Nat) (V' : (Nat → Bool) → Nat → Bool) : Prop :=
  fr [1, 13, 14] u u' ∧ Gr u' N' V' ∧ N ≤ N' ∧ N' ≤ N + d ∧ r < 2 * N' ∧ (∀ e m, m < N → V' e m = V e m) ∧ ∀ e, ev (V' e) r = val e
theorem hx_and55 {post : Int32 → SX → Prop} {u : SX} {N : Nat} {V : (Nat → Bool) → Nat → Bool} (hG : Gr u N V) {a b : Nat} (ha : 2 ≤ a) (ha' : a < 2 * N) (hb : 2 ≤ b) (hb' : b < 2 * N) (hN : N < 256)
    (K : ∀ r u' N' V', Go 1 u N V (fun e => ev (V e) a && ev (V e) b) r u' N' V' → post (nI r) u') : ∃ n, kx_and_55 post (nI a) (nI b) n 13 u := by
  obtain ⟨L, R, hq, hv⟩ := hG
  refine pk_loop (fun n i s => kx_and_55 post (nI a) (nI b) n (nI i) s) (fun i s => 13 ≤ i ∧ s = u) N 13 u hq.2.1 ⟨by omega, rfl⟩ ?_ ?_
  · rintro n s ⟨_, rfl⟩
    show kx_and_55 _ _ _ _ _ _
    rw [cx_and_55]
    simp only [hq.1, clI (show N < 2 ^ 31 by omega), vsh (show a < 32768 by omega), vsh (show b < 32768 by omega)]
    refine pk_le N N (fun _ => ?_) (fun h => absurd h (by omega))
    refine ⟨pk_in N 256 hN, nm_e ⟨pk_in N 256 hN, nm_e (nm_r (nI_1 N) ?_)⟩⟩
    have e2 : (2 : Int32) * nI (N + 1) - 2 = nI (2 * N) := by
      show nI 2 * nI (N + 1) - nI 2 = _
      rw [pk_mul, pk_sub (by omega)]
      exact congrArg nI (by omega)
    rw [e2]
    refine K (2 * N) _ (N + 1) (fun e m => if m = N then ev (V e) a && ev (V e) b else V e m) ⟨fr_a (fr_a (fr_f fr_rf (by decide)) (by decide)) (by decide), ⟨fun n => if n = N then a else L n, fun n => if n = N then b else R n, ⟨rfl, by omega, fun n h1 h2 => ?_⟩, fun e => ⟨?_, fun s hs => ?_, fun n h1 h2 => ?_⟩⟩, by omega, by omega, by omega, fun e m hm => if_neg (by omega), fun e => ?_⟩
    · show upd (ao s 13) N (nI a) n = _ ∧ upd (ao s 14) N (nI b) n = _ ∧ _
      dsimp only
      by_cases e : n = N
      · subst e
        rw [u_s, u_s, if_pos rfl, if_pos rfl]
        exact ⟨rfl, rfl, ha, ha', hb, hb'⟩
      · rw [u_n e, u_n e, if_neg e, if_neg e]
        exact hq.2.2 n h1 (by omega)
    · have h := hq.2.1
      show (if 0 = N then _ else V e 0) = false
      rw [if_neg (by omega)]
      exact (hv e).1
    · have h := hq.2.1
      show (if s + 1 = N then _ else V e (s + 1)) = e s
      rw [if_neg (by omega)]
      exact (hv e).2.1 s hs
    · have k : ∀ m, m < N → (fun m => if m = N then ev (V e) a && ev (V e) b else V e m) m = V e m := fun m hm => if_neg (by omega)
      show (if n = N then ev (V e) a && ev (V e) b else V e n) = (ev (fun m => if m = N then ev (V e) a && ev (V e) b else V e m) (if n = N then a else L n) && ev (fun m => if m = N then ev (V e) a && ev (V e) b else V e m) (if n = N then b else R n))
      by_cases en : n = N
      · rw [if_pos en, if_pos en, if_pos en, ev_k k ha', ev_k k hb']
      · have hn := hq.2.2 n h1 (by omega)
        rw [if_neg en, if_neg en, if_neg en, ev_k k (by omega), ev_k k (by omega)]
        exact (hv e).2.2 n h1 (by omega)
    · show ev (fun m => if m = N then ev (V e) a && ev (V e) b else V e m) (2 * N) = _
      rw [ev_2, if_pos rfl]
  · rintro n i s hi ⟨h13, rfl⟩ hk
    have hn := hq.2.2 i h13 hi
    show kx_and_55 _ _ _ _ _ _
    rw [cx_and_55]
    simp only [hq.1, clI (show i < 2 ^ 31 by omega), hn.1, hn.2.1]
    refine pk_le N i (fun h => absurd h (by omega)) (fun _ => ?_)
    refine ⟨pk_in i 256 (by omega), pk_eq (L i) a (fun h1 => ⟨pk_in i 256 (by omega), pk_eq (R i) b (fun h2 => ?_) (fun _ => nm_r (nI_1 i) (hk s ⟨by omega, rfl⟩))⟩) (fun _ => nm_r (nI_1 i) (hk s ⟨by omega, rfl⟩))⟩
    rw [show (2 : Int32) * nI i = nI (2 * i) from pk_mul 2 i]
    refine K (2 * i) s N V ⟨fr_rf, ⟨L, R, hq, hv⟩, by omega, by omega, by omega, fun _ _ _ => rfl, fun e => ?_⟩
    rw [ev_2, (hv e).2.2 i h13 hi, h1, h2]
theorem hx_and21 {post : Int32 → SX → Prop} {u : SX} {N : Nat} {V : (Nat → Bool) → Nat → Bool} (hG : Gr u N V) {a b : Nat} (hab : a ≤ b) (hb : b < 2 * N) (hN : N < 256)
    (K : ∀ r u' N' V', Go 1 u N V (fun e => ev (V e) a && ev (V e) b) r u' N' V' → post (nI r) u') : kx_and_21 post (nI a) (nI b) u := by
  have hN0 : 0 < N := by obtain ⟨L, R, hq, hv⟩ := hG; have := hq.2.1; omega
  have h0 : ∀ e, V e 0 = false := fun e => by obtain ⟨L, R, hq, hv⟩ := hG; exact (hv e).1
  rw [cx_and_21, ng_I]
  refine pk_eq a 0 (fun h => ?_) (fun h0' => pk_eq a (ng b) (fun h => ?_) (fun hn => pk_eq a 1 (fun h => ?_) (fun h1 => pk_eq a b (fun h => ?_) (fun hne => ?_))) (hb := by have := ng_lt hb (by omega); omega))
  · exact K 0 u N V ⟨fr_rf, hG, by omega, by omega, by omega, fun _ _ _ => rfl, fun e => by
      show ev (V e) 0 = (ev (V e) a && ev (V e) b)
      rw [h]; unfold ev; rw [show 0 / 2 = 0 from rfl, h0 e]; rfl⟩
  · exact K 0 u N V ⟨fr_rf, hG, by omega, by omega, by omega, fun _ _ _ => rfl, fun e => by
      show ev (V e) 0 = (ev (V e) a && ev (V e) b)
      rw [h, ev_ng (by omega)]; unfold ev; rw [show 0 / 2 = 0 from rfl, h0 e]; cases (V e (b / 2) ^^ decide (b % 2 = 1)) <;> rfl⟩
  · exact K b u N V ⟨fr_rf, hG, by omega, by omega, by omega, fun _ _ _ => rfl, fun e => by
      show ev (V e) b = (ev (V e) a && ev (V e) b)
      rw [h]; unfold ev; rw [show 1 / 2 = 0 from rfl, h0 e]; cases (V e (b / 2) ^^ decide (b % 2 = 1)) <;> rfl⟩
  · exact K b u N V ⟨fr_rf, hG, by omega, by omega, by omega, fun _ _ _ => rfl, fun e => by
      show ev (V e) b = (ev (V e) a && ev (V e) b)
      rw [h]; cases ev (V e) b <;> rfl⟩
  · exact hx_and55 hG (by omega) (by omega) (by omega) hb hN K
theorem hx_and {post : Int32 → SX → Prop} {u : SX} {N : Nat} {V : (Nat → Bool) → Nat → Bool} (hG : Gr u N V) {x y : Nat} (hx : x < 2 * N) (hy : y < 2 * N) (hN : N < 256)
    (K : ∀ r u' N' V', Go 1 u N V (fun e => ev (V e) x && ev (V e) y) r u' N' V' → post (nI r) u') : wpX_and post u (nI x) (nI y) := by
  rw [cx_and]
  refine pk_le y x (fun h => ?_) (fun h => ?_)
  · rw [cx_and_10]
    refine pk_le y x (fun _ => ?_) (fun h' => absurd h (by omega))
    refine hx_and21 hG h hx hN (fun r u' N' V' g => K r u' N' V' ⟨g.1, g.2.1, g.2.2.1, g.2.2.2.1, g.2.2.2.2.1, g.2.2.2.2.2.1, fun e => ?_⟩)
    exact (g.2.2.2.2.2.2 e).trans (Bool.and_comm _ _)
  · rw [cx_and_10]
    refine pk_le y x (fun h' => absurd h (by omega)) (fun _ => ?_)
    exact hx_and21 hG (by omega) hy hN K
theorem hx_or {post : Int32 → SX → Prop} {u : SX} {N : Nat} {V : (Nat → Bool) → Nat → Bool} (hG : Gr u N V) {x y : Nat} (hx : x < 2 * N) (hy : y < 2 * N) (hN : N < 256)
    (K : ∀ r u' N' V', Go 1 u N V (fun e => ev (V e) x || ev (V e) y) r u' N' V' → post (nI r) u') : wpX_or post u (nI x) (nI y) := by
  rw [cx_or, ng_I, ng_I]
  refine hx_and hG (ng_lt hx (by omega)) (ng_lt hy (by omega)) hN (fun r u' N' V' g => ?_)
  try dsimp only
  rw [ng_I]
  obtain ⟨g1, g2, g3, g4, g5, g6, g7⟩ := g
  refine K (ng r) u' N' V' ⟨g1, g2, g3, g4, ng_lt g5 (by omega), g6, fun e => ?_⟩
  have g7 := g7 e
  dsimp only at g7 ⊢
  rw [ev_ng (by omega), g7, ev_ng (by omega), ev_ng (by omega)]
  cases ev (V e) x <;> cases ev (V e) y <;> rfl
theorem hx_xor {post : Int32 → SX → Prop} {u : SX} {N : Nat} {V : (Nat → Bool) → Nat → Bool} (hG : Gr u N V) {x y : Nat} (hx : x < 2 * N) (hy : y < 2 * N) (hN : N + 2 < 256)
    (K : ∀ r u' N' V', Go 3 u N V (fun e => ev (V e) x ^^ ev (V e) y) r u' N' V' → post (nI r) u') : wpX_xor post u (nI x) (nI y) := by
  rw [cx_xor, ng_I, ng_I]
  refine hx_and hG hx (ng_lt hy (by omega)) (by omega) (fun r1 u1 N1 V1 g => ?_)
  obtain ⟨g1, g2, g3, g4, g5, g6, g7⟩ := g
  have hx' := ng_lt hx (by omega)
  try dsimp only
  refine hx_and g2 (x := ng x) (y := y) (by omega) (by omega) (by omega) (fun r2 u2 N2 V2 h => ?_)
  obtain ⟨h1, h2, h3, h4, h5, h6, h7⟩ := h
  try dsimp only
  refine hx_or h2 (x := r1) (y := r2) (by omega) (by omega) (by omega) (fun r3 u3 N3 V3 k => ?_)
  obtain ⟨k1, k2, k3, k4, k5, k6, k7⟩ := k
  refine K r3 u3 N3 V3 ⟨fr_tr g1 (fr_tr h1 k1), k2, by omega, by omega, k5, fun e m hm => by rw [k6 e m (by omega), h6 e m (by omega), g6 e m hm], fun e => ?_⟩
  have g7 := g7 e; have h7 := h7 e; have k7 := k7 e
  dsimp only at g7 h7 k7 ⊢
  rw [k7, h7, ev_k (h6 e) g5, g7, ev_k (g6 e) hx', ev_k (g6 e) hy, ev_ng (by omega), ev_ng (by omega)]
  cases ev (V e) x <;> cases ev (V e) y <;> rfl
theorem hx_choose {post : Int32 → SX → Prop} {u : SX} {N : Nat} {V : (Nat → Bool) → Nat → Bool} (hG : Gr u N V) {s x y : Nat} (hs : s < 2 * N) (hx : x < 2 * N) (hy : y < 2 * N) (hN : N + 2 < 256)
    (K : ∀ r u' N' V', Go 3 u N V (fun e => (ev (V e) s && ev (V e) x) || (!ev (V e) s && ev (V e) y)) r u' N' V' → post (nI r) u') : wpX_choose post u (nI s) (nI x) (nI y) := by
  rw [cx_choose, ng_I]
  refine hx_and hG hs hx (by omega) (fun r1 u1 N1 V1 g => ?_)
  obtain ⟨g1, g2, g3, g4, g5, g6, g7⟩ := g
  have hs' := ng_lt hs (by omega)
  try dsimp only
  refine hx_and g2 (x := ng s) (y := y) (by omega) (by omega) (by omega) (fun r2 u2 N2 V2 h => ?_)
  obtain ⟨h1, h2, h3, h4, h5, h6, h7⟩ := h
  try dsimp only
  refine hx_or h2 (x := r1) (y := r2) (by omega) (by omega) (by omega) (fun r3 u3 N3 V3 k => ?_)
  obtain ⟨k1, k2, k3, k4, k5, k6, k7⟩ := k
  refine K r3 u3 N3 V3 ⟨fr_tr g1 (fr_tr h1 k1), k2, by omega, by omega, k5, fun e m hm => by rw [k6 e m (by omega), h6 e m (by omega), g6 e m hm], fun e => ?_⟩
  have g7 := g7 e; have h7 := h7 e; have k7 := k7 e
  dsimp only at g7 h7 k7 ⊢
  rw [k7, h7, ev_k (h6 e) g5, g7, ev_k (g6 e) hs', ev_k (g6 e) hy, ev_ng (by omega)]
theorem hx_majority {post : Int32 → SX → Prop} {u : SX} {N : Nat} {V : (Nat → Bool) → Nat → Bool} (hG : Gr u N V) {x y z : Nat} (hx : x < 2 * N) (hy : y < 2 * N) (hz : z < 2 * N) (hN : N + 3 < 256)
    (K : ∀ r u' N' V', Go 4 u N V (fun e => (ev (V e) x && ev (V e) y) || ((ev (V e) x || ev (V e) y) && ev (V e) z)) r u' N' V' → post (nI r) u') : wpX_majority post u (nI x) (nI y) (nI z) := by
  rw [cx_majority]
  refine hx_and hG hx hy (by omega) (fun r1 u1 N1 V1 g => ?_)
  obtain ⟨g1, g2, g3, g4, g5, g6, g7⟩ := g
  try dsimp only
  refine hx_or g2 (x := x) (y := y) (by omega) (by omega) (by omega) (fun r2 u2 N2 V2 h => ?_)
  obtain ⟨h1, h2, h3, h4, h5, h6, h7⟩ := h
  try dsimp only
  refine hx_and h2 (x := r2) (y := z) (by omega) (by omega) (by omega) (fun r3 u3 N3 V3 k => ?_)
  obtain ⟨k1, k2, k3, k4, k5, k6, k7⟩ := k
  try dsimp only
  refine hx_or k2 (x := r1) (y := r3) (by omega) (by omega) (by omega) (fun r4 u4 N4 V4 l => ?_)
  obtain ⟨l1, l2, l3, l4, l5, l6, l7⟩ := l
  refine K r4 u4 N4 V4 ⟨fr_tr g1 (fr_tr h1 (fr_tr k1 l1)), l2, by omega, by omega, l5, fun e m hm => by rw [l6 e m (by omega), k6 e m (by omega), h6 e m (by omega), g6 e m hm], fun e => ?_⟩
  have z1 : ev (V3 e) r1 = ev (V1 e) r1 := (ev_k (k6 e) (by omega)).trans (ev_k (h6 e) g5)
  have z2 : ev (V2 e) z = ev (V e) z := (ev_k (h6 e) (by omega)).trans (ev_k (g6 e) hz)
  have g7 := g7 e; have h7 := h7 e; have k7 := k7 e; have l7 := l7 e
  dsimp only at g7 h7 k7 l7 ⊢
  rw [l7, k7, h7, z1, z2, g7, ev_k (g6 e) hx, ev_k (g6 e) hy]
/-- what a gate makes -/
def gv (k : Nat) (a b c : Bool) : Bool := match k with
  | 0 => a && b
  | 1 => a || b
  | 2 => a ^^ b
  | 3 => !(a && b)
  | 4 => !(a || b)
  | 5 => !(a ^^ b)
  | 6 => !(a && !b)
  | 7 => (a && b) || (!a && c)
  | 8 => (a && b) || ((a || b) && c)
  | _ => (a ^^ b) ^^ c
theorem Go_mn {d d' : Nat} {u : SX} {N : Nat} {V : (Nat → Bool) → Nat → Bool} {v w : (Nat → Bool) → Bool} {r : Nat} {u' : SX} {N' : Nat} {V' : (Nat → Bool) → Nat → Bool} (h : Go d u N V v r u' N' V') (hd : d ≤ d') (hv : ∀ e, v e = w e) : Go d' u N V w r u' N' V' := by
  obtain ⟨g1, g2, g3, g4, g5, g6, g7⟩ := h
  exact ⟨g1, g2, g3, by omega, g5, g6, fun e => (g7 e).trans (hv e)⟩
theorem Go_ng {d d' : Nat} {u : SX} {N : Nat} {V : (Nat → Bool) → Nat → Bool} {v w : (Nat → Bool) → Bool} {r : Nat} {u' : SX} {N' : Nat} {V' : (Nat → Bool) → Nat → Bool} (h : Go d u N V v r u' N' V') (hd : d ≤ d') (hN : N + d ≤ 256) (hv : ∀ e, (!v e) = w e) : Go d' u N V w (ng r) u' N' V' := by
  obtain ⟨g1, g2, g3, g4, g5, g6, g7⟩ := h
  exact ⟨g1, g2, g3, by omega, ng_lt g5 (by omega), g6, fun e => by rw [ev_ng (by omega), g7 e, hv e]⟩
end
section
theorem hx_endFor {post : Int32 → SX → Prop} {u : SX} {N : Nat} {V : (Nat → Bool) → Nat → Bool} (hG : Gr u N V) {k x y z : Nat} (hk : k ≤ 9) (hx : x < 2 * N) (hy : y < 2 * N) (hz : z < 2 * N) (hN : N + 6 ≤ 256)
    (K : ∀ r u' N' V', Go 6 u N V (fun e => gv k (ev (V e) x) (ev (V e) y) (ev (V e) z)) r u' N' V' → post (nI r) u') : wpX_endFor post u (nI k) (nI x) (nI y) (nI z) := by
  rw [cx_endFor]
  have hk' : k = 0 ∨ k = 1 ∨ k = 2 ∨ k = 3 ∨ k = 4 ∨ k = 5 ∨ k = 6 ∨ k = 7 ∨ k = 8 ∨ k = 9 := by omega
  rcases hk' with rfl | rfl | rfl | rfl | rfl | rfl | rfl | rfl | rfl | rfl
  · refine br_f (by decide) (br_f (by decide) (br_t (by decide) ?_))
    exact hx_and hG hx hy (by omega) (fun r u' N' V' g => K r u' N' V' (Go_mn g (by omega) (fun e => rfl)))
  · refine br_f (by decide) (br_f (by decide) (br_f (by decide) (br_t (by decide) ?_)))
    exact hx_or hG hx hy (by omega) (fun r u' N' V' g => K r u' N' V' (Go_mn g (by omega) (fun e => rfl)))
  · refine br_f (by decide) (br_f (by decide) (br_f (by decide) (br_f (by decide) (br_t (by decide) ?_))))
    exact hx_xor hG hx hy (by omega) (fun r u' N' V' g => K r u' N' V' (Go_mn g (by omega) (fun e => rfl)))
  · refine br_f (by decide) (br_f (by decide) (br_f (by decide) (br_f (by decide) (br_f (by decide) (br_t (by decide) ?_)))))
    refine hx_and hG hx hy (by omega) (fun r u' N' V' g => ?_)
    try dsimp only
    rw [ng_I]
    exact K (ng r) u' N' V' (Go_ng g (by omega) (by omega) (fun e => rfl))
  · refine br_f (by decide) (br_f (by decide) (br_f (by decide) (br_f (by decide) (br_f (by decide) (br_f (by decide) (br_t (by decide) ?_))))))
    refine hx_or hG hx hy (by omega) (fun r u' N' V' g => ?_)
    try dsimp only
    rw [ng_I]
    exact K (ng r) u' N' V' (Go_ng g (by omega) (by omega) (fun e => rfl))
  · refine br_f (by decide) (br_f (by decide) (br_f (by decide) (br_f (by decide) (br_f (by decide) (br_f (by decide) (br_f (by decide) (br_t (by decide) ?_)))))))
    refine hx_xor hG hx hy (by omega) (fun r u' N' V' g => ?_)
    try dsimp only
    rw [ng_I]
    exact K (ng r) u' N' V' (Go_ng g (by omega) (by omega) (fun e => rfl))
  · refine br_f (by decide) (br_f (by decide) (br_f (by decide) (br_f (by decide) (br_f (by decide) (br_f (by decide) (br_f (by decide) (br_f (by decide) (br_t (by decide) ?_))))))))
    rw [ng_I]
    refine hx_and hG hx (ng_lt hy (by omega)) (by omega) (fun r u' N' V' g => ?_)
    try dsimp only
    rw [ng_I]
    exact K (ng r) u' N' V' (Go_ng g (by omega) (by omega) (fun e => by rw [ev_ng (by omega)]; rfl))
  · refine br_f (by decide) (br_f (by decide) (br_f (by decide) (br_f (by decide) (br_f (by decide) (br_f (by decide) (br_f (by decide) (br_f (by decide) (br_f (by decide) (br_t (by decide) ?_)))))))))
    exact hx_choose hG hx hy hz (by omega) (fun r u' N' V' g => K r u' N' V' (Go_mn g (by omega) (fun e => rfl)))
  · refine br_f (by decide) (br_f (by decide) (br_f (by decide) (br_f (by decide) (br_f (by decide) (br_f (by decide) (br_f (by decide) (br_f (by decide) (br_f (by decide) (br_f (by decide) (br_t (by decide) ?_))))))))))
    exact hx_majority hG hx hy hz (by omega) (fun r u' N' V' g => K r u' N' V' (Go_mn g (by omega) (fun e => rfl)))
  · refine br_f (by decide) (br_t (by decide) ?_)
    refine hx_xor hG hx hy (by omega) (fun r1 u1 N1 V1 g => ?_)
    obtain ⟨g1, g2, g3, g4, g5, g6, g7⟩ := g
    try dsimp only
    refine hx_xor g2 (x := r1) (y := z) (by omega) (by omega) (by omega) (fun r2 u2 N2 V2 h => ?_)
    obtain ⟨h1, h2, h3, h4, h5, h6, h7⟩ := h
    refine K r2 u2 N2 V2 ⟨fr_tr g1 h1, h2, by omega, by omega, h5, fun e m hm => by rw [h6 e m (by omega), g6 e m hm], fun e => ?_⟩
    have g7 := g7 e; have h7 := h7 e
    dsimp only at g7 h7 ⊢
    rw [h7, g7, ev_k (g6 e) hz]
    rfl
/-- the values of the signals when g gates are worked out -/
def cv (kd fi se th : Nat → Nat) (e : Nat → Bool) : Nat → Nat → Bool
  | 0 => e
  | g + 1 => fun s => if s = 12 + g then gv (kd g) (cv kd fi se th e g (fi g)) (cv kd fi se th e g (se g)) (cv kd fi se th e g (th g)) else cv kd fi se th e g s
/-- the circuit as X holds it -/
def Cq (u : SX) (G : Nat) (kd fi se th nx sh : Nat → Nat) : Prop :=
  fo u 0 = nI G ∧ G ≤ 20 ∧ (∀ g, g < G → ao u 7 g = nI (kd g) ∧ kd g ≤ 9 ∧ ao u 8 g = nI (fi g) ∧ fi g < 12 + g ∧ ao u 9 g = nI (se g) ∧ se g < 12 + g ∧ ao u 10 g = nI (th g) ∧ th g < 12 + g) ∧
  (∀ r, r < 6 → ao u 11 r = nI (nx r) ∧ nx r < 12 + G) ∧ (∀ o, o < 4 → ao u 12 o = nI (sh o) ∧ sh o < 12 + G)
/-- the ends of the signals -/
def Eq_ (u : SX) (N : Nat) (V : (Nat → Bool) → Nat → Bool) (S : Nat) (val : (Nat → Bool) → Nat → Bool) : Prop :=
  ∀ s, s < S → ∃ E, ao u 15 s = nI E ∧ E < 2 * N ∧ ∀ e, ev (V e) E = val e s
theorem hx_mg34 {post : SX → Prop} {u : SX} {G : Nat} {kd fi se th nx sh : Nat → Nat} (hC : Cq u G kd fi se th nx sh) {u0 : SX} (hf : fr [1, 13, 14, 15] u u0) {V : (Nat → Bool) → Nat → Bool} (hG : Gr u0 13 V)
    (hE : Eq_ u0 13 V 12 (fun e => e))
    (K : ∀ u' N V, fr [1, 13, 14, 15] u u' → Gr u' N V → N ≤ 133 → Eq_ u' N V (12 + G) (fun e => cv kd fi se th e G) → post u') : ∃ n, kx_makeGraph_34 post n 0 u0 := by
  have hG20 := hC.2.1
  refine pk_loop (fun n i s => kx_makeGraph_34 post n (nI i) s) (fun i s => fr [1, 13, 14, 15] u s ∧ ∃ N V, Gr s N V ∧ N ≤ 13 + 6 * i ∧ Eq_ s N V (12 + i) (fun e => cv kd fi se th e i)) G 0 u0 (Nat.zero_le _) ⟨hf, 13, V, hG, by omega, hE⟩ ?_ ?_
  · rintro n s ⟨h1, N, V, h2, h3, h4⟩
    show kx_makeGraph_34 _ _ _ _
    rw [cx_makeGraph_34, fr_fo h1 0, hC.1]
    exact pk_le G G (fun _ => K s N V h1 h2 (by omega) h4) (fun h => absurd h (by omega))
  · rintro n i s hi ⟨h1, N, V, h2, h3, h4⟩ hk
    show kx_makeGraph_34 _ _ _ _
    obtain ⟨c1, c2, c3, c4, c5, c6, c7, c8⟩ := hC.2.2.1 i hi
    obtain ⟨E1, a1, a2, a3⟩ := h4 (fi i) (by omega)
    obtain ⟨E2, b1, b2, b3⟩ := h4 (se i) (by omega)
    obtain ⟨E3, d1, d2, d3⟩ := h4 (th i) (by omega)
    rw [cx_makeGraph_34]
    simp only [fr_fo h1 0, hC.1, clI (show i < 2 ^ 31 by omega), fr_ao h1 7, fr_ao h1 8, fr_ao h1 9, fr_ao h1 10, c1, c3, c5, c7, clI (show fi i < 2 ^ 31 by omega), clI (show se i < 2 ^ 31 by omega), clI (show th i < 2 ^ 31 by omega), a1, b1, d1]
    refine pk_le G i (fun h => absurd h (by omega)) (fun _ => ?_)
    refine ⟨pk_in i 20 (by omega), pk_in i 20 (by omega), pk_in (fi i) 32 (by omega), pk_in i 20 (by omega), pk_in (se i) 32 (by omega), pk_in i 20 (by omega), pk_in (th i) 32 (by omega), ?_⟩
    refine hx_endFor h2 c2 a2 b2 d2 (by omega) (fun r u' N' V' g => ?_)
    obtain ⟨g1, g2, g3, g4, g5, g6, g7⟩ := g
    have e12 : (12 : Int32) + nI i = nI (12 + i) := nI_add 12 i
    simp only [e12, clI (show 12 + i < 2 ^ 31 by omega), vsh (show r < 32768 by omega)]
    refine ⟨pk_in (12 + i) 32 (by omega), nm_e (nm_r (nI_1 i) (hk _ ⟨fr_a (fr_tr h1 (fr_mn g1 (by decide))) (by decide), N', V', ?_, by omega, fun s' hs' => ?_⟩))⟩
    · obtain ⟨L, R, q, v⟩ := g2
      exact ⟨L, R, q, v⟩
    · show ∃ E, upd (ao u' 15) (12 + i) (nI r) s' = nI E ∧ E < 2 * N' ∧ ∀ e, ev (V' e) E = (if s' = 12 + i then gv (kd i) (cv kd fi se th e i (fi i)) (cv kd fi se th e i (se i)) (cv kd fi se th e i (th i)) else cv kd fi se th e i s')
      by_cases es : s' = 12 + i
      · refine ⟨r, by rw [es, u_s], g5, fun e => ?_⟩
        have g7 := g7 e
        dsimp only at g7
        rw [if_pos es, g7, a3 e, b3 e, d3 e]
      · obtain ⟨E, z1, z2, z3⟩ := h4 s' (by omega)
        refine ⟨E, by rw [u_n es, fr_ao g1 15, z1], by omega, fun e => ?_⟩
        rw [if_neg es, ev_k (g6 e) z2, z3 e]
theorem hx_makeGraph {post : SX → Prop} {u : SX} {G : Nat} {kd fi se th nx sh : Nat → Nat} (hC : Cq u G kd fi se th nx sh)
    (K : ∀ u' N V, fr [1, 13, 14, 15] u u' → Gr u' N V → N ≤ 133 → Eq_ u' N V (12 + G) (fun e => cv kd fi se th e G) → post u') : wpX_makeGraph post u := by
  rw [cx_makeGraph]
  refine pk_loop (fun n i s => kx_makeGraph_8 post n (nI i) s) (fun i s => fr [1, 13, 14, 15] u s ∧ fo s 1 = nI 13 ∧ ∀ j, j < i → ao s 15 j = nI (2 * (j + 1))) 12 0 _ (Nat.zero_le _) ⟨fr_f fr_rf (by decide), rfl, fun j hj => by omega⟩ ?_ ?_
  · rintro n s ⟨h1, h2, h3⟩
    show kx_makeGraph_8 _ _ _ _
    rw [cx_makeGraph_8]
    refine pk_le 12 12 (fun _ => ?_) (fun h => absurd h (by omega))
    refine hx_mg34 hC h1 (V := fun e m => if m = 0 then false else e (m - 1)) ⟨fun _ => 0, fun _ => 0, ⟨h2, by omega, fun n h1 h2 => by omega⟩, fun e => ⟨rfl, fun s hs => ?_, fun n h1 h2 => by omega⟩⟩ (fun s' hs' => ⟨2 * (s' + 1), h3 s' hs', by omega, fun e => ?_⟩) K
    · show (if s + 1 = 0 then false else e (s + 1 - 1)) = e s
      rw [if_neg (by omega), Nat.add_sub_cancel]
    · rw [ev_2]
      dsimp only
      rw [if_neg (by omega), Nat.add_sub_cancel]
  · rintro n i s hi ⟨h1, h2, h3⟩ hk
    show kx_makeGraph_8 _ _ _ _
    have e2 : (2 : Int32) * (nI i + 1) = nI (2 * (i + 1)) := by rw [nI_1]; exact pk_mul 2 (i + 1)
    rw [cx_makeGraph_8]
    simp only [e2, clI (show i < 2 ^ 31 by omega), vsh (show 2 * (i + 1) < 32768 by omega)]
    refine pk_le 12 i (fun h => absurd h (by omega)) (fun _ => ?_)
    refine ⟨pk_in i 32 (by omega), nm_e (nm_r (nI_1 i) (hk _ ⟨fr_a h1 (by decide), h2, fun j hj => ?_⟩))⟩
    show upd (ao s 15) i (nI (2 * (i + 1))) j = _
    by_cases e : j = i
    · rw [e, u_s]
    · rw [u_n e]; exact h3 j (by omega)
end
section
/-! ===== B: cuts ===== -/
def kx_joinCuts_146 (post : Int32 → SX → Prop) (J10 : Int32 → Int32 → SX → Prop) (x1 : Int32) (x2 : Int32) (x4 : Int32) (x5 : Int32) (x6 : Int32) (z0 : Int32) (z1 : Int32) (u : SX) : Prop := match u with
  | (qf_gates, qf_nodes, qf_joinedSize, qf_cells, qf_chanceState, qf_isBuilt, qf_levels, qa_kinds, qa_firsts, qa_seconds, qa_thirds, qa_nextOf, qa_shownBy, qa_left, qa_right, qa_endOf, qa_cutCount, qa_cutSize, qa_cutLeaf, qa_cutDepth, qa_depthOf, qa_needed, qa_tableOf, qa_rows, qa_joined, qa_tableBits, qa_cellSource, qa_placeOf, qa_cellAt, qa_used, qa_worn, qa_inTree, qa_treeFrom, qa_farness, qa_cameFrom, qa_settled, qa_trackTaken, qa_trackOf, qa_switchBits, qa_pinTrack, qa_outTrack, qa_padTrack, qa_deviceTable, qa_hasFlip, qa_registerPlace, qa_outputPlace, qa_wireRoot, qa_wireLevel, qa_flip, qa_tableOut) => wX_joinCuts_146 post (fun x3 x4 f_joinedSize a_kinds a_firsts a_seconds a_thirds a_nextOf a_shownBy a_left a_right a_endOf a_cutCount a_cutSize a_cutLeaf a_cutDepth a_depthOf a_needed a_tableOf a_rows a_joined a_tableBits a_cellSource a_placeOf a_cellAt a_used a_worn a_inTree a_treeFrom a_farness a_cameFrom a_settled a_trackTaken a_trackOf a_switchBits a_pinTrack a_outTrack a_padTrack a_deviceTable a_hasFlip a_registerPlace a_outputPlace a_wireRoot a_wireLevel a_flip a_tableOut => J10 x3 x4 (qf_gates, qf_nodes, f_joinedSize, qf_cells, qf_chanceState, qf_isBuilt, qf_levels, a_kinds, a_firsts, a_seconds, a_thirds, a_nextOf, a_shownBy, a_left, a_right, a_endOf, a_cutCount, a_cutSize, a_cutLeaf, a_cutDepth, a_depthOf, a_needed, a_tableOf, a_rows, a_joined, a_tableBits, a_cellSource, a_placeOf, a_cellAt, a_used, a_worn, a_inTree, a_treeFrom, a_farness, a_cameFrom, a_settled, a_trackTaken, a_trackOf, a_switchBits, a_pinTrack, a_outTrack, a_padTrack, a_deviceTable, a_hasFlip, a_registerPlace, a_outputPlace, a_wireRoot, a_wireLevel, a_flip, a_tableOut)) x1 x2 x4 x5 x6 z0 z1 qf_gates qf_nodes qf_joinedSize qf_cells qf_chanceState qf_isBuilt qf_levels qa_kinds qa_firsts qa_seconds qa_thirds qa_nextOf qa_shownBy qa_left qa_right qa_endOf qa_cutCount qa_cutSize qa_cutLeaf qa_cutDepth qa_depthOf qa_needed qa_tableOf qa_rows qa_joined qa_tableBits qa_cellSource qa_placeOf qa_cellAt qa_used qa_worn qa_inTree qa_treeFrom qa_farness qa_cameFrom qa_settled qa_trackTaken qa_trackOf qa_switchBits qa_pinTrack qa_outTrack qa_padTrack qa_deviceTable qa_hasFlip qa_registerPlace qa_outputPlace qa_wireRoot qa_wireLevel qa_flip qa_tableOut
theorem cx_joinCuts_146 (post : Int32 → SX → Prop) (J10 : Int32 → Int32 → SX → Prop) (x1 : Int32) (x2 : Int32) (x4 : Int32) (x5 : Int32) (x6 : Int32) (z0 : Int32) (z1 : Int32) (u : SX) : kx_joinCuts_146 post J10 x1 x2 x4 x5 x6 z0 z1 u = (∀ x3_13 : Int32, x3_13 = z1 + z0 → (((x5 < x6 → (∀ x4_15 : Int32, x4_15 = x4 + 0 → (J10 x3_13 x4_15 u))) ∧ (¬ x5 < x6 → (∀ x4_16 : Int32, x4_16 = x4 + 1 → (J10 x3_13 x4_16 u)))))) := rfl
def kx_joinCuts_121 (post : Int32 → SX → Prop) (J10 : Int32 → Int32 → SX → Prop) (x1 : Int32) (x2 : Int32) (x3 : Int32) (x4 : Int32) (x5 : Int32) (x6 : Int32) (z0 : Int32) (z1 : Int32) (u : SX) : Prop := match u with
  | (qf_gates, qf_nodes, qf_joinedSize, qf_cells, qf_chanceState, qf_isBuilt, qf_levels, qa_kinds, qa_firsts, qa_seconds, qa_thirds, qa_nextOf, qa_shownBy, qa_left, qa_right, qa_endOf, qa_cutCount, qa_cutSize, qa_cutLeaf, qa_cutDepth, qa_depthOf, qa_needed, qa_tableOf, qa_rows, qa_joined, qa_tableBits, qa_cellSource, qa_placeOf, qa_cellAt, qa_used, qa_worn, qa_inTree, qa_treeFrom, qa_farness, qa_cameFrom, qa_settled, qa_trackTaken, qa_trackOf, qa_switchBits, qa_pinTrack, qa_outTrack, qa_padTrack, qa_deviceTable, qa_hasFlip, qa_registerPlace, qa_outputPlace, qa_wireRoot, qa_wireLevel, qa_flip, qa_tableOut) => wX_joinCuts_121 post (fun x3 x4 f_joinedSize a_kinds a_firsts a_seconds a_thirds a_nextOf a_shownBy a_left a_right a_endOf a_cutCount a_cutSize a_cutLeaf a_cutDepth a_depthOf a_needed a_tableOf a_rows a_joined a_tableBits a_cellSource a_placeOf a_cellAt a_used a_worn a_inTree a_treeFrom a_farness a_cameFrom a_settled a_trackTaken a_trackOf a_switchBits a_pinTrack a_outTrack a_padTrack a_deviceTable a_hasFlip a_registerPlace a_outputPlace a_wireRoot a_wireLevel a_flip a_tableOut => J10 x3 x4 (qf_gates, qf_nodes, f_joinedSize, qf_cells, qf_chanceState, qf_isBuilt, qf_levels, a_kinds, a_firsts, a_seconds, a_thirds, a_nextOf, a_shownBy, a_left, a_right, a_endOf, a_cutCount, a_cutSize, a_cutLeaf, a_cutDepth, a_depthOf, a_needed, a_tableOf, a_rows, a_joined, a_tableBits, a_cellSource, a_placeOf, a_cellAt, a_used, a_worn, a_inTree, a_treeFrom, a_farness, a_cameFrom, a_settled, a_trackTaken, a_trackOf, a_switchBits, a_pinTrack, a_outTrack, a_padTrack, a_deviceTable, a_hasFlip, a_registerPlace, a_outputPlace, a_wireRoot, a_wireLevel, a_flip, a_tableOut)) x1 x2 x3 x4 x5 x6 z0 z1 qf_gates qf_nodes qf_joinedSize qf_cells qf_chanceState qf_isBuilt qf_levels qa_kinds qa_firsts qa_seconds qa_thirds qa_nextOf qa_shownBy qa_left qa_right qa_endOf qa_cutCount qa_cutSize qa_cutLeaf qa_cutDepth qa_depthOf qa_needed qa_tableOf qa_rows qa_joined qa_tableBits qa_cellSource qa_placeOf qa_cellAt qa_used qa_worn qa_inTree qa_treeFrom qa_farness qa_cameFrom qa_settled qa_trackTaken qa_trackOf qa_switchBits qa_pinTrack qa_outTrack qa_padTrack qa_deviceTable qa_hasFlip qa_registerPlace qa_outputPlace qa_wireRoot qa_wireLevel qa_flip qa_tableOut
theorem cx_joinCuts_121 (post : Int32 → SX → Prop) (J10 : Int32 → Int32 → SX → Prop) (x1 : Int32) (x2 : Int32) (x3 : Int32) (x4 : Int32) (x5 : Int32) (x6 : Int32) (z0 : Int32) (z1 : Int32) (u : SX) : kx_joinCuts_121 post J10 x1 x2 x3 x4 x5 x6 z0 z1 u = (vp_in z1 8 ∧ ∀ a_joined_10 : Nat → Int32, a_joined_10 = upd (ao u 24) z1.toNatClampNeg (vp_nar .short z0.toInt16.toInt32) → (∀ f_joinedSize_11 : Int32, f_joinedSize_11 = (fo u 2) + 1 → (((x6 < x5 → (kx_joinCuts_146 post J10 x1 x2 x4 x5 x6 0 x3 (sa (sf u 2 f_joinedSize_11) 24 a_joined_10))) ∧ (¬ x6 < x5 → (kx_joinCuts_146 post J10 x1 x2 x4 x5 x6 1 x3 (sa (sf u 2 f_joinedSize_11) 24 a_joined_10))))))) := by simp only [n_ffx, n_afx, n_aax, n_fmx, n_amx]; rfl
def kx_joinCuts_87 (post : Int32 → SX → Prop) (J10 : Int32 → Int32 → SX → Prop) (x1 : Int32) (x2 : Int32) (x3 : Int32) (x4 : Int32) (x5 : Int32) (z0 : Int32) (u : SX) : Prop := match u with
  | (qf_gates, qf_nodes, qf_joinedSize, qf_cells, qf_chanceState, qf_isBuilt, qf_levels, qa_kinds, qa_firsts, qa_seconds, qa_thirds, qa_nextOf, qa_shownBy, qa_left, qa_right, qa_endOf, qa_cutCount, qa_cutSize, qa_cutLeaf, qa_cutDepth, qa_depthOf, qa_needed, qa_tableOf, qa_rows, qa_joined, qa_tableBits, qa_cellSource, qa_placeOf, qa_cellAt, qa_used, qa_worn, qa_inTree, qa_treeFrom, qa_farness, qa_cameFrom, qa_settled, qa_trackTaken, qa_trackOf, qa_switchBits, qa_pinTrack, qa_outTrack, qa_padTrack, qa_deviceTable, qa_hasFlip, qa_registerPlace, qa_outputPlace, qa_wireRoot, qa_wireLevel, qa_flip, qa_tableOut) => wX_joinCuts_87 post (fun x3 x4 f_joinedSize a_kinds a_firsts a_seconds a_thirds a_nextOf a_shownBy a_left a_right a_endOf a_cutCount a_cutSize a_cutLeaf a_cutDepth a_depthOf a_needed a_tableOf a_rows a_joined a_tableBits a_cellSource a_placeOf a_cellAt a_used a_worn a_inTree a_treeFrom a_farness a_cameFrom a_settled a_trackTaken a_trackOf a_switchBits a_pinTrack a_outTrack a_padTrack a_deviceTable a_hasFlip a_registerPlace a_outputPlace a_wireRoot a_wireLevel a_flip a_tableOut => J10 x3 x4 (qf_gates, qf_nodes, f_joinedSize, qf_cells, qf_chanceState, qf_isBuilt, qf_levels, a_kinds, a_firsts, a_seconds, a_thirds, a_nextOf, a_shownBy, a_left, a_right, a_endOf, a_cutCount, a_cutSize, a_cutLeaf, a_cutDepth, a_depthOf, a_needed, a_tableOf, a_rows, a_joined, a_tableBits, a_cellSource, a_placeOf, a_cellAt, a_used, a_worn, a_inTree, a_treeFrom, a_farness, a_cameFrom, a_settled, a_trackTaken, a_trackOf, a_switchBits, a_pinTrack, a_outTrack, a_padTrack, a_deviceTable, a_hasFlip, a_registerPlace, a_outputPlace, a_wireRoot, a_wireLevel, a_flip, a_tableOut)) x1 x2 x3 x4 x5 z0 qf_gates qf_nodes qf_joinedSize qf_cells qf_chanceState qf_isBuilt qf_levels qa_kinds qa_firsts qa_seconds qa_thirds qa_nextOf qa_shownBy qa_left qa_right qa_endOf qa_cutCount qa_cutSize qa_cutLeaf qa_cutDepth qa_depthOf qa_needed qa_tableOf qa_rows qa_joined qa_tableBits qa_cellSource qa_placeOf qa_cellAt qa_used qa_worn qa_inTree qa_treeFrom qa_farness qa_cameFrom qa_settled qa_trackTaken qa_trackOf qa_switchBits qa_pinTrack qa_outTrack qa_padTrack qa_deviceTable qa_hasFlip qa_registerPlace qa_outputPlace qa_wireRoot qa_wireLevel qa_flip qa_tableOut
theorem cx_joinCuts_87 (post : Int32 → SX → Prop) (J10 : Int32 → Int32 → SX → Prop) (x1 : Int32) (x2 : Int32) (x3 : Int32) (x4 : Int32) (x5 : Int32) (z0 : Int32) (u : SX) : kx_joinCuts_87 post J10 x1 x2 x3 x4 x5 z0 u = ((((fo u 2) = 4 → (post 0 u)) ∧ (¬ (fo u 2) = 4 → (((z0 ≤ x5 → (kx_joinCuts_121 post J10 x1 x2 x3 x4 x5 z0 z0 (fo u 2) u)) ∧ (¬ z0 ≤ x5 → (kx_joinCuts_121 post J10 x1 x2 x3 x4 x5 z0 x5 (fo u 2) u))))))) := rfl
def kx_joinCuts_57 (post : Int32 → SX → Prop) (J10 : Int32 → Int32 → SX → Prop) (x1 : Int32) (x2 : Int32) (x3 : Int32) (x4 : Int32) (z0 : Int32) (u : SX) : Prop := match u with
  | (qf_gates, qf_nodes, qf_joinedSize, qf_cells, qf_chanceState, qf_isBuilt, qf_levels, qa_kinds, qa_firsts, qa_seconds, qa_thirds, qa_nextOf, qa_shownBy, qa_left, qa_right, qa_endOf, qa_cutCount, qa_cutSize, qa_cutLeaf, qa_cutDepth, qa_depthOf, qa_needed, qa_tableOf, qa_rows, qa_joined, qa_tableBits, qa_cellSource, qa_placeOf, qa_cellAt, qa_used, qa_worn, qa_inTree, qa_treeFrom, qa_farness, qa_cameFrom, qa_settled, qa_trackTaken, qa_trackOf, qa_switchBits, qa_pinTrack, qa_outTrack, qa_padTrack, qa_deviceTable, qa_hasFlip, qa_registerPlace, qa_outputPlace, qa_wireRoot, qa_wireLevel, qa_flip, qa_tableOut) => wX_joinCuts_57 post (fun x3 x4 f_joinedSize a_kinds a_firsts a_seconds a_thirds a_nextOf a_shownBy a_left a_right a_endOf a_cutCount a_cutSize a_cutLeaf a_cutDepth a_depthOf a_needed a_tableOf a_rows a_joined a_tableBits a_cellSource a_placeOf a_cellAt a_used a_worn a_inTree a_treeFrom a_farness a_cameFrom a_settled a_trackTaken a_trackOf a_switchBits a_pinTrack a_outTrack a_padTrack a_deviceTable a_hasFlip a_registerPlace a_outputPlace a_wireRoot a_wireLevel a_flip a_tableOut => J10 x3 x4 (qf_gates, qf_nodes, f_joinedSize, qf_cells, qf_chanceState, qf_isBuilt, qf_levels, a_kinds, a_firsts, a_seconds, a_thirds, a_nextOf, a_shownBy, a_left, a_right, a_endOf, a_cutCount, a_cutSize, a_cutLeaf, a_cutDepth, a_depthOf, a_needed, a_tableOf, a_rows, a_joined, a_tableBits, a_cellSource, a_placeOf, a_cellAt, a_used, a_worn, a_inTree, a_treeFrom, a_farness, a_cameFrom, a_settled, a_trackTaken, a_trackOf, a_switchBits, a_pinTrack, a_outTrack, a_padTrack, a_deviceTable, a_hasFlip, a_registerPlace, a_outputPlace, a_wireRoot, a_wireLevel, a_flip, a_tableOut)) x1 x2 x3 x4 z0 qf_gates qf_nodes qf_joinedSize qf_cells qf_chanceState qf_isBuilt qf_levels qa_kinds qa_firsts qa_seconds qa_thirds qa_nextOf qa_shownBy qa_left qa_right qa_endOf qa_cutCount qa_cutSize qa_cutLeaf qa_cutDepth qa_depthOf qa_needed qa_tableOf qa_rows qa_joined qa_tableBits qa_cellSource qa_placeOf qa_cellAt qa_used qa_worn qa_inTree qa_treeFrom qa_farness qa_cameFrom qa_settled qa_trackTaken qa_trackOf qa_switchBits qa_pinTrack qa_outTrack qa_padTrack qa_deviceTable qa_hasFlip qa_registerPlace qa_outputPlace qa_wireRoot qa_wireLevel qa_flip qa_tableOut
theorem cx_joinCuts_57 (post : Int32 → SX → Prop) (J10 : Int32 → Int32 → SX → Prop) (x1 : Int32) (x2 : Int32) (x3 : Int32) (x4 : Int32) (z0 : Int32) (u : SX) : kx_joinCuts_57 post J10 x1 x2 x3 x4 z0 u = (vp_in x2 1536 ∧ (((((ao u 17) x2.toNatClampNeg) ≤ x4 → (kx_joinCuts_87 post J10 x1 x2 x3 x4 z0 256 u)) ∧ (¬ ((ao u 17) x2.toNatClampNeg) ≤ x4 → (vp_in ((x2 * 4) + x4) 6144 ∧ (kx_joinCuts_87 post J10 x1 x2 x3 x4 z0 ((ao u 18) ((x2 * 4) + x4).toNatClampNeg) u)))))) := rfl
def kx_joinCuts_31 (post : Int32 → SX → Prop) (J10 : Int32 → Int32 → SX → Prop) (x1 : Int32) (x2 : Int32) (x3 : Int32) (x4 : Int32) (u : SX) : Prop := match u with
  | (qf_gates, qf_nodes, qf_joinedSize, qf_cells, qf_chanceState, qf_isBuilt, qf_levels, qa_kinds, qa_firsts, qa_seconds, qa_thirds, qa_nextOf, qa_shownBy, qa_left, qa_right, qa_endOf, qa_cutCount, qa_cutSize, qa_cutLeaf, qa_cutDepth, qa_depthOf, qa_needed, qa_tableOf, qa_rows, qa_joined, qa_tableBits, qa_cellSource, qa_placeOf, qa_cellAt, qa_used, qa_worn, qa_inTree, qa_treeFrom, qa_farness, qa_cameFrom, qa_settled, qa_trackTaken, qa_trackOf, qa_switchBits, qa_pinTrack, qa_outTrack, qa_padTrack, qa_deviceTable, qa_hasFlip, qa_registerPlace, qa_outputPlace, qa_wireRoot, qa_wireLevel, qa_flip, qa_tableOut) => wX_joinCuts_31 post (fun x3 x4 f_joinedSize a_kinds a_firsts a_seconds a_thirds a_nextOf a_shownBy a_left a_right a_endOf a_cutCount a_cutSize a_cutLeaf a_cutDepth a_depthOf a_needed a_tableOf a_rows a_joined a_tableBits a_cellSource a_placeOf a_cellAt a_used a_worn a_inTree a_treeFrom a_farness a_cameFrom a_settled a_trackTaken a_trackOf a_switchBits a_pinTrack a_outTrack a_padTrack a_deviceTable a_hasFlip a_registerPlace a_outputPlace a_wireRoot a_wireLevel a_flip a_tableOut => J10 x3 x4 (qf_gates, qf_nodes, f_joinedSize, qf_cells, qf_chanceState, qf_isBuilt, qf_levels, a_kinds, a_firsts, a_seconds, a_thirds, a_nextOf, a_shownBy, a_left, a_right, a_endOf, a_cutCount, a_cutSize, a_cutLeaf, a_cutDepth, a_depthOf, a_needed, a_tableOf, a_rows, a_joined, a_tableBits, a_cellSource, a_placeOf, a_cellAt, a_used, a_worn, a_inTree, a_treeFrom, a_farness, a_cameFrom, a_settled, a_trackTaken, a_trackOf, a_switchBits, a_pinTrack, a_outTrack, a_padTrack, a_deviceTable, a_hasFlip, a_registerPlace, a_outputPlace, a_wireRoot, a_wireLevel, a_flip, a_tableOut)) x1 x2 x3 x4 qf_gates qf_nodes qf_joinedSize qf_cells qf_chanceState qf_isBuilt qf_levels qa_kinds qa_firsts qa_seconds qa_thirds qa_nextOf qa_shownBy qa_left qa_right qa_endOf qa_cutCount qa_cutSize qa_cutLeaf qa_cutDepth qa_depthOf qa_needed qa_tableOf qa_rows qa_joined qa_tableBits qa_cellSource qa_placeOf qa_cellAt qa_used qa_worn qa_inTree qa_treeFrom qa_farness qa_cameFrom qa_settled qa_trackTaken qa_trackOf qa_switchBits qa_pinTrack qa_outTrack qa_padTrack qa_deviceTable qa_hasFlip qa_registerPlace qa_outputPlace qa_wireRoot qa_wireLevel qa_flip qa_tableOut
theorem cx_joinCuts_31 (post : Int32 → SX → Prop) (J10 : Int32 → Int32 → SX → Prop) (x1 : Int32) (x2 : Int32) (x3 : Int32) (x4 : Int32) (u : SX) : kx_joinCuts_31 post J10 x1 x2 x3 x4 u = (vp_in x1 1536 ∧ (((((ao u 17) x1.toNatClampNeg) ≤ x3 → (kx_joinCuts_57 post J10 x1 x2 x3 x4 256 u)) ∧ (¬ ((ao u 17) x1.toNatClampNeg) ≤ x3 → (vp_in ((x1 * 4) + x3) 6144 ∧ (kx_joinCuts_57 post J10 x1 x2 x3 x4 ((ao u 18) ((x1 * 4) + x3).toNatClampNeg) u)))))) := rfl
def kx_joinCuts_10 (post : Int32 → SX → Prop) (x1 : Int32) (x2 : Int32) (n : Nat) (x3 : Int32) (x4 : Int32) (u : SX) : Prop := match u with
  | (qf_gates, qf_nodes, qf_joinedSize, qf_cells, qf_chanceState, qf_isBuilt, qf_levels, qa_kinds, qa_firsts, qa_seconds, qa_thirds, qa_nextOf, qa_shownBy, qa_left, qa_right, qa_endOf, qa_cutCount, qa_cutSize, qa_cutLeaf, qa_cutDepth, qa_depthOf, qa_needed, qa_tableOf, qa_rows, qa_joined, qa_tableBits, qa_cellSource, qa_placeOf, qa_cellAt, qa_used, qa_worn, qa_inTree, qa_treeFrom, qa_farness, qa_cameFrom, qa_settled, qa_trackTaken, qa_trackOf, qa_switchBits, qa_pinTrack, qa_outTrack, qa_padTrack, qa_deviceTable, qa_hasFlip, qa_registerPlace, qa_outputPlace, qa_wireRoot, qa_wireLevel, qa_flip, qa_tableOut) => wX_joinCuts_10 post x1 x2 qf_gates qf_nodes qf_cells qf_chanceState qf_isBuilt qf_levels n x3 x4 qf_joinedSize qa_kinds qa_firsts qa_seconds qa_thirds qa_nextOf qa_shownBy qa_left qa_right qa_endOf qa_cutCount qa_cutSize qa_cutLeaf qa_cutDepth qa_depthOf qa_needed qa_tableOf qa_rows qa_joined qa_tableBits qa_cellSource qa_placeOf qa_cellAt qa_used qa_worn qa_inTree qa_treeFrom qa_farness qa_cameFrom qa_settled qa_trackTaken qa_trackOf qa_switchBits qa_pinTrack qa_outTrack qa_padTrack qa_deviceTable qa_hasFlip qa_registerPlace qa_outputPlace qa_wireRoot qa_wireLevel qa_flip qa_tableOut
theorem cx_joinCuts_10 (post : Int32 → SX → Prop) (x1 : Int32) (x2 : Int32) (n : Nat) (x3 : Int32) (x4 : Int32) (u : SX) : kx_joinCuts_10 post x1 x2 (n + 1) x3 x4 u = (vp_in x1 1536 ∧ (((x3 < ((ao u 17) x1.toNatClampNeg) → (kx_joinCuts_31 post (fun y0 y1 s => kx_joinCuts_10 post x1 x2 n y0 y1 s) x1 x2 x3 x4 u)) ∧ (¬ x3 < ((ao u 17) x1.toNatClampNeg) → (vp_in x2 1536 ∧ (((((ao u 17) x2.toNatClampNeg) ≤ x4 → (post 1 u)) ∧ (¬ ((ao u 17) x2.toNatClampNeg) ≤ x4 → (kx_joinCuts_31 post (fun y0 y1 s => kx_joinCuts_10 post x1 x2 n y0 y1 s) x1 x2 x3 x4 u))))))))) := rfl
theorem cx_joinCuts (post : Int32 → SX → Prop) (u : SX) (p0 : Int32) (p1 : Int32) : wpX_joinCuts post u p0 p1 = (∃ n10 : Nat, kx_joinCuts_10 post p0 p1 n10 0 0 (sf u 2 0)) := rfl
def kx_joinedDepth_4 (post : Int32 → Prop) (n : Nat) (x1 : Int32) (x2 : Int32) (u : SX) : Prop := match u with
  | (qf_gates, qf_nodes, qf_joinedSize, qf_cells, qf_chanceState, qf_isBuilt, qf_levels, qa_kinds, qa_firsts, qa_seconds, qa_thirds, qa_nextOf, qa_shownBy, qa_left, qa_right, qa_endOf, qa_cutCount, qa_cutSize, qa_cutLeaf, qa_cutDepth, qa_depthOf, qa_needed, qa_tableOf, qa_rows, qa_joined, qa_tableBits, qa_cellSource, qa_placeOf, qa_cellAt, qa_used, qa_worn, qa_inTree, qa_treeFrom, qa_farness, qa_cameFrom, qa_settled, qa_trackTaken, qa_trackOf, qa_switchBits, qa_pinTrack, qa_outTrack, qa_padTrack, qa_deviceTable, qa_hasFlip, qa_registerPlace, qa_outputPlace, qa_wireRoot, qa_wireLevel, qa_flip, qa_tableOut) => wX_joinedDepth_4 post qf_gates qf_nodes qf_joinedSize qf_cells qf_chanceState qf_isBuilt qf_levels qa_kinds qa_firsts qa_seconds qa_thirds qa_nextOf qa_shownBy qa_left qa_right qa_endOf qa_cutCount qa_cutSize qa_cutLeaf qa_cutDepth qa_depthOf qa_needed qa_tableOf qa_rows qa_joined qa_tableBits qa_cellSource qa_placeOf qa_cellAt qa_used qa_worn qa_inTree qa_treeFrom qa_farness qa_cameFrom qa_settled qa_trackTaken qa_trackOf qa_switchBits qa_pinTrack qa_outTrack qa_padTrack qa_deviceTable qa_hasFlip qa_registerPlace qa_outputPlace qa_wireRoot qa_wireLevel qa_flip qa_tableOut n x1 x2
theorem cx_joinedDepth_4 (post : Int32 → Prop) (n : Nat) (x1 : Int32) (x2 : Int32) (u : SX) : kx_joinedDepth_4 post (n + 1) x1 x2 u = ((((fo u 2) ≤ x2 → (post (x1 + 1))) ∧ (¬ (fo u 2) ≤ x2 → (vp_in x2 8 ∧ (vp_in ((ao u 24) x2.toNatClampNeg) 256 ∧ (((((ao u 20) ((ao u 24) x2.toNatClampNeg).toNatClampNeg) ≤ x1 → (∀ x2_5 : Int32, x2_5 = x2 + 1 → (kx_joinedDepth_4 post n x1 x2_5 u))) ∧ (¬ ((ao u 20) ((ao u 24) x2.toNatClampNeg).toNatClampNeg) ≤ x1 → (vp_in x2 8 ∧ (vp_in ((ao u 24) x2.toNatClampNeg) 256 ∧ (∀ x1_8 : Int32, x1_8 = (ao u 20) ((ao u 24) x2.toNatClampNeg).toNatClampNeg → (∀ x2_9 : Int32, x2_9 = x2 + 1 → (kx_joinedDepth_4 post n x1_8 x2_9 u))))))))))))) := rfl
theorem cx_joinedDepth (post : Int32 → Prop) (u : SX) : wpX_joinedDepth post u = (∃ n4 : Nat, kx_joinedDepth_4 post n4 0 0 u) := rfl
def kx_hasJoined_88 (post : Int32 → Prop) (J5 : Int32 → SX → Prop) (x1 : Int32) (x2 : Int32) (x3 : Int32) (u : SX) : Prop := match u with
  | (qf_gates, qf_nodes, qf_joinedSize, qf_cells, qf_chanceState, qf_isBuilt, qf_levels, qa_kinds, qa_firsts, qa_seconds, qa_thirds, qa_nextOf, qa_shownBy, qa_left, qa_right, qa_endOf, qa_cutCount, qa_cutSize, qa_cutLeaf, qa_cutDepth, qa_depthOf, qa_needed, qa_tableOf, qa_rows, qa_joined, qa_tableBits, qa_cellSource, qa_placeOf, qa_cellAt, qa_used, qa_worn, qa_inTree, qa_treeFrom, qa_farness, qa_cameFrom, qa_settled, qa_trackTaken, qa_trackOf, qa_switchBits, qa_pinTrack, qa_outTrack, qa_padTrack, qa_deviceTable, qa_hasFlip, qa_registerPlace, qa_outputPlace, qa_wireRoot, qa_wireLevel, qa_flip, qa_tableOut) => wX_hasJoined_88 post (fun x2 => J5 x2 (qf_gates, qf_nodes, qf_joinedSize, qf_cells, qf_chanceState, qf_isBuilt, qf_levels, qa_kinds, qa_firsts, qa_seconds, qa_thirds, qa_nextOf, qa_shownBy, qa_left, qa_right, qa_endOf, qa_cutCount, qa_cutSize, qa_cutLeaf, qa_cutDepth, qa_depthOf, qa_needed, qa_tableOf, qa_rows, qa_joined, qa_tableBits, qa_cellSource, qa_placeOf, qa_cellAt, qa_used, qa_worn, qa_inTree, qa_treeFrom, qa_farness, qa_cameFrom, qa_settled, qa_trackTaken, qa_trackOf, qa_switchBits, qa_pinTrack, qa_outTrack, qa_padTrack, qa_deviceTable, qa_hasFlip, qa_registerPlace, qa_outputPlace, qa_wireRoot, qa_wireLevel, qa_flip, qa_tableOut)) x1 x2 x3 qf_gates qf_nodes qf_joinedSize qf_cells qf_chanceState qf_isBuilt qf_levels qa_kinds qa_firsts qa_seconds qa_thirds qa_nextOf qa_shownBy qa_left qa_right qa_endOf qa_cutCount qa_cutSize qa_cutLeaf qa_cutDepth qa_depthOf qa_needed qa_tableOf qa_rows qa_joined qa_tableBits qa_cellSource qa_placeOf qa_cellAt qa_used qa_worn qa_inTree qa_treeFrom qa_farness qa_cameFrom qa_settled qa_trackTaken qa_trackOf qa_switchBits qa_pinTrack qa_outTrack qa_padTrack qa_deviceTable qa_hasFlip qa_registerPlace qa_outputPlace qa_wireRoot qa_wireLevel qa_flip qa_tableOut
theorem cx_hasJoined_88 (post : Int32 → Prop) (J5 : Int32 → SX → Prop) (x1 : Int32) (x2 : Int32) (x3 : Int32) (u : SX) : kx_hasJoined_88 post J5 x1 x2 x3 u = (((x3 = 0 → (∀ x2_8 : Int32, x2_8 = x2 + 1 → (J5 x2_8 u))) ∧ (¬ x3 = 0 → (post 1)))) := rfl
def kx_hasJoined_42 (post : Int32 → Prop) (J5 : Int32 → SX → Prop) (x1 : Int32) (x2 : Int32) (n : Nat) (x3 : Int32) (x4 : Int32) (u : SX) : Prop := match u with
  | (qf_gates, qf_nodes, qf_joinedSize, qf_cells, qf_chanceState, qf_isBuilt, qf_levels, qa_kinds, qa_firsts, qa_seconds, qa_thirds, qa_nextOf, qa_shownBy, qa_left, qa_right, qa_endOf, qa_cutCount, qa_cutSize, qa_cutLeaf, qa_cutDepth, qa_depthOf, qa_needed, qa_tableOf, qa_rows, qa_joined, qa_tableBits, qa_cellSource, qa_placeOf, qa_cellAt, qa_used, qa_worn, qa_inTree, qa_treeFrom, qa_farness, qa_cameFrom, qa_settled, qa_trackTaken, qa_trackOf, qa_switchBits, qa_pinTrack, qa_outTrack, qa_padTrack, qa_deviceTable, qa_hasFlip, qa_registerPlace, qa_outputPlace, qa_wireRoot, qa_wireLevel, qa_flip, qa_tableOut) => wX_hasJoined_42 post (fun x2 => J5 x2 (qf_gates, qf_nodes, qf_joinedSize, qf_cells, qf_chanceState, qf_isBuilt, qf_levels, qa_kinds, qa_firsts, qa_seconds, qa_thirds, qa_nextOf, qa_shownBy, qa_left, qa_right, qa_endOf, qa_cutCount, qa_cutSize, qa_cutLeaf, qa_cutDepth, qa_depthOf, qa_needed, qa_tableOf, qa_rows, qa_joined, qa_tableBits, qa_cellSource, qa_placeOf, qa_cellAt, qa_used, qa_worn, qa_inTree, qa_treeFrom, qa_farness, qa_cameFrom, qa_settled, qa_trackTaken, qa_trackOf, qa_switchBits, qa_pinTrack, qa_outTrack, qa_padTrack, qa_deviceTable, qa_hasFlip, qa_registerPlace, qa_outputPlace, qa_wireRoot, qa_wireLevel, qa_flip, qa_tableOut)) x1 x2 qf_gates qf_nodes qf_joinedSize qf_cells qf_chanceState qf_isBuilt qf_levels qa_kinds qa_firsts qa_seconds qa_thirds qa_nextOf qa_shownBy qa_left qa_right qa_endOf qa_cutCount qa_cutSize qa_cutLeaf qa_cutDepth qa_depthOf qa_needed qa_tableOf qa_rows qa_joined qa_tableBits qa_cellSource qa_placeOf qa_cellAt qa_used qa_worn qa_inTree qa_treeFrom qa_farness qa_cameFrom qa_settled qa_trackTaken qa_trackOf qa_switchBits qa_pinTrack qa_outTrack qa_padTrack qa_deviceTable qa_hasFlip qa_registerPlace qa_outputPlace qa_wireRoot qa_wireLevel qa_flip qa_tableOut n x3 x4
theorem cx_hasJoined_42 (post : Int32 → Prop) (J5 : Int32 → SX → Prop) (x1 : Int32) (x2 : Int32) (n : Nat) (x3 : Int32) (x4 : Int32) (u : SX) : kx_hasJoined_42 post J5 x1 x2 (n + 1) x3 x4 u = ((((fo u 2) ≤ x4 → (kx_hasJoined_88 post J5 x1 x2 x3 u)) ∧ (¬ (fo u 2) ≤ x4 → (((x3 = 0 → (kx_hasJoined_88 post J5 x1 x2 x3 u)) ∧ (¬ x3 = 0 → (vp_in ((x2 * 4) + x4) 6144 ∧ (vp_in x4 8 ∧ (((((ao u 18) ((x2 * 4) + x4).toNatClampNeg) = ((ao u 24) x4.toNatClampNeg) → (∀ x4_14 : Int32, x4_14 = x4 + 1 → (kx_hasJoined_42 post J5 x1 x2 n 1 x4_14 u))) ∧ (¬ ((ao u 18) ((x2 * 4) + x4).toNatClampNeg) = ((ao u 24) x4.toNatClampNeg) → (∀ x4_13 : Int32, x4_13 = x4 + 1 → (kx_hasJoined_42 post J5 x1 x2 n 0 x4_13 u))))))))))))) := rfl
def kx_hasJoined_5 (post : Int32 → Prop) (x1 : Int32) (n : Nat) (x2 : Int32) (u : SX) : Prop := match u with
  | (qf_gates, qf_nodes, qf_joinedSize, qf_cells, qf_chanceState, qf_isBuilt, qf_levels, qa_kinds, qa_firsts, qa_seconds, qa_thirds, qa_nextOf, qa_shownBy, qa_left, qa_right, qa_endOf, qa_cutCount, qa_cutSize, qa_cutLeaf, qa_cutDepth, qa_depthOf, qa_needed, qa_tableOf, qa_rows, qa_joined, qa_tableBits, qa_cellSource, qa_placeOf, qa_cellAt, qa_used, qa_worn, qa_inTree, qa_treeFrom, qa_farness, qa_cameFrom, qa_settled, qa_trackTaken, qa_trackOf, qa_switchBits, qa_pinTrack, qa_outTrack, qa_padTrack, qa_deviceTable, qa_hasFlip, qa_registerPlace, qa_outputPlace, qa_wireRoot, qa_wireLevel, qa_flip, qa_tableOut) => wX_hasJoined_5 post x1 qf_gates qf_nodes qf_joinedSize qf_cells qf_chanceState qf_isBuilt qf_levels qa_kinds qa_firsts qa_seconds qa_thirds qa_nextOf qa_shownBy qa_left qa_right qa_endOf qa_cutCount qa_cutSize qa_cutLeaf qa_cutDepth qa_depthOf qa_needed qa_tableOf qa_rows qa_joined qa_tableBits qa_cellSource qa_placeOf qa_cellAt qa_used qa_worn qa_inTree qa_treeFrom qa_farness qa_cameFrom qa_settled qa_trackTaken qa_trackOf qa_switchBits qa_pinTrack qa_outTrack qa_padTrack qa_deviceTable qa_hasFlip qa_registerPlace qa_outputPlace qa_wireRoot qa_wireLevel qa_flip qa_tableOut n x2
theorem cx_hasJoined_5 (post : Int32 → Prop) (x1 : Int32) (n : Nat) (x2 : Int32) (u : SX) : kx_hasJoined_5 post x1 (n + 1) x2 u = (vp_in x1 256 ∧ (((((x1 * 6) + ((ao u 16) x1.toNatClampNeg)) ≤ x2 → (post 0)) ∧ (¬ ((x1 * 6) + ((ao u 16) x1.toNatClampNeg)) ≤ x2 → (vp_in x2 1536 ∧ (((((ao u 17) x2.toNatClampNeg) = (fo u 2) → (∃ n42 : Nat, kx_hasJoined_42 post (fun y0 s => kx_hasJoined_5 post x1 n y0 s) x1 x2 n42 1 0 u)) ∧ (¬ ((ao u 17) x2.toNatClampNeg) = (fo u 2) → (∃ n42 : Nat, kx_hasJoined_42 post (fun y0 s => kx_hasJoined_5 post x1 n y0 s) x1 x2 n42 0 0 u))))))))) := rfl
theorem cx_hasJoined (post : Int32 → Prop) (u : SX) (p0 : Int32) : wpX_hasJoined post u p0 = (∀ x2_1 : Int32, x2_1 = p0 * 6 → (∃ n5 : Nat, kx_hasJoined_5 post p0 n5 x2_1 u)) := rfl
def kx_copyCut_26 (post : SX → Prop) (x1 : Int32) (x2 : Int32) (n : Nat) (x3 : Int32) (u : SX) : Prop := match u with
  | (qf_gates, qf_nodes, qf_joinedSize, qf_cells, qf_chanceState, qf_isBuilt, qf_levels, qa_kinds, qa_firsts, qa_seconds, qa_thirds, qa_nextOf, qa_shownBy, qa_left, qa_right, qa_endOf, qa_cutCount, qa_cutSize, qa_cutLeaf, qa_cutDepth, qa_depthOf, qa_needed, qa_tableOf, qa_rows, qa_joined, qa_tableBits, qa_cellSource, qa_placeOf, qa_cellAt, qa_used, qa_worn, qa_inTree, qa_treeFrom, qa_farness, qa_cameFrom, qa_settled, qa_trackTaken, qa_trackOf, qa_switchBits, qa_pinTrack, qa_outTrack, qa_padTrack, qa_deviceTable, qa_hasFlip, qa_registerPlace, qa_outputPlace, qa_wireRoot, qa_wireLevel, qa_flip, qa_tableOut) => wX_copyCut_26 post x1 x2 qf_gates qf_nodes qf_joinedSize qf_cells qf_chanceState qf_isBuilt qf_levels n x3 qa_kinds qa_firsts qa_seconds qa_thirds qa_nextOf qa_shownBy qa_left qa_right qa_endOf qa_cutCount qa_cutSize qa_cutLeaf qa_cutDepth qa_depthOf qa_needed qa_tableOf qa_rows qa_joined qa_tableBits qa_cellSource qa_placeOf qa_cellAt qa_used qa_worn qa_inTree qa_treeFrom qa_farness qa_cameFrom qa_settled qa_trackTaken qa_trackOf qa_switchBits qa_pinTrack qa_outTrack qa_padTrack qa_deviceTable qa_hasFlip qa_registerPlace qa_outputPlace qa_wireRoot qa_wireLevel qa_flip qa_tableOut
theorem cx_copyCut_26 (post : SX → Prop) (x1 : Int32) (x2 : Int32) (n : Nat) (x3 : Int32) (u : SX) : kx_copyCut_26 post x1 x2 (n + 1) x3 u = (((4 ≤ x3 → (post u)) ∧ (¬ 4 ≤ x3 → (vp_in ((x1 * 4) + x3) 6144 ∧ (vp_in ((x2 * 4) + x3) 6144 ∧ ∀ a_cutLeaf_10 : Nat → Int32, a_cutLeaf_10 = upd (ao u 18) ((x2 * 4) + x3).toNatClampNeg (vp_nar .short ((ao u 18) ((x1 * 4) + x3).toNatClampNeg)) → (∀ x3_11 : Int32, x3_11 = x3 + 1 → (kx_copyCut_26 post x1 x2 n x3_11 (sa u 18 a_cutLeaf_10)))))))) := rfl
theorem cx_copyCut (post : SX → Prop) (u : SX) (p0 : Int32) (p1 : Int32) : wpX_copyCut post u p0 p1 = (vp_in p0 1536 ∧ (vp_in p1 1536 ∧ ∀ a_cutSize_3 : Nat → Int32, a_cutSize_3 = upd (ao u 17) p1.toNatClampNeg (vp_nar .byte ((ao u 17) p0.toNatClampNeg)) → (vp_in p0 1536 ∧ (vp_in p1 1536 ∧ ∀ a_cutDepth_6 : Nat → Int32, a_cutDepth_6 = upd (ao u 19) p1.toNatClampNeg (vp_nar .byte ((ao u 19) p0.toNatClampNeg)) → (∃ n26 : Nat, kx_copyCut_26 post p0 p1 n26 0 (sa (sa u 17 a_cutSize_3) 19 a_cutDepth_6)))))) := by simp only [n_ffx, n_afx, n_aax, n_fmx, n_amx]; rfl
def kx_enterJoined_126 (post : SX → Prop) (x1 : Int32) (x3 : Int32) (n : Nat) (x5 : Int32) (u : SX) : Prop := match u with
  | (qf_gates, qf_nodes, qf_joinedSize, qf_cells, qf_chanceState, qf_isBuilt, qf_levels, qa_kinds, qa_firsts, qa_seconds, qa_thirds, qa_nextOf, qa_shownBy, qa_left, qa_right, qa_endOf, qa_cutCount, qa_cutSize, qa_cutLeaf, qa_cutDepth, qa_depthOf, qa_needed, qa_tableOf, qa_rows, qa_joined, qa_tableBits, qa_cellSource, qa_placeOf, qa_cellAt, qa_used, qa_worn, qa_inTree, qa_treeFrom, qa_farness, qa_cameFrom, qa_settled, qa_trackTaken, qa_trackOf, qa_switchBits, qa_pinTrack, qa_outTrack, qa_padTrack, qa_deviceTable, qa_hasFlip, qa_registerPlace, qa_outputPlace, qa_wireRoot, qa_wireLevel, qa_flip, qa_tableOut) => wX_enterJoined_126 post x1 x3 qf_gates qf_nodes qf_joinedSize qf_cells qf_chanceState qf_isBuilt qf_levels n x5 qa_kinds qa_firsts qa_seconds qa_thirds qa_nextOf qa_shownBy qa_left qa_right qa_endOf qa_cutCount qa_cutSize qa_cutLeaf qa_cutDepth qa_depthOf qa_needed qa_tableOf qa_rows qa_joined qa_tableBits qa_cellSource qa_placeOf qa_cellAt qa_used qa_worn qa_inTree qa_treeFrom qa_farness qa_cameFrom qa_settled qa_trackTaken qa_trackOf qa_switchBits qa_pinTrack qa_outTrack qa_padTrack qa_deviceTable qa_hasFlip qa_registerPlace qa_outputPlace qa_wireRoot qa_wireLevel qa_flip qa_tableOut
theorem cx_enterJoined_126 (post : SX → Prop) (x1 : Int32) (x3 : Int32) (n : Nat) (x5 : Int32) (u : SX) : kx_enterJoined_126 post x1 x3 (n + 1) x5 u = ((((fo u 2) ≤ x5 → (vp_in x1 256 ∧ (((5 ≤ ((ao u 16) x1.toNatClampNeg) → (vp_in x1 256 ∧ ∀ a_cutCount_65 : Nat → Int32, a_cutCount_65 = upd (ao u 16) x1.toNatClampNeg (vp_nar .byte ((5 : Int32).toInt8.toInt32)) → (post (sa u 16 a_cutCount_65)))) ∧ (¬ 5 ≤ ((ao u 16) x1.toNatClampNeg) → (vp_in x1 256 ∧ (vp_in x1 256 ∧ ∀ a_cutCount_68 : Nat → Int32, a_cutCount_68 = upd (ao u 16) x1.toNatClampNeg (vp_nar .byte ((((ao u 16) x1.toNatClampNeg) + 1).toInt8.toInt32)) → (post (sa u 16 a_cutCount_68))))))))) ∧ (¬ (fo u 2) ≤ x5 → (vp_in x5 8 ∧ (vp_in ((x3 * 4) + x5) 6144 ∧ ∀ a_cutLeaf_71 : Nat → Int32, a_cutLeaf_71 = upd (ao u 18) ((x3 * 4) + x5).toNatClampNeg (vp_nar .short ((ao u 24) x5.toNatClampNeg)) → (∀ x5_72 : Int32, x5_72 = x5 + 1 → (kx_enterJoined_126 post x1 x3 n x5_72 (sa u 18 a_cutLeaf_71)))))))) := rfl
def kx_enterJoined_93 (post : SX → Prop) (x1 : Int32) (x2 : Int32) (x3 : Int32) (x4 : Int32) (u : SX) : Prop := match u with
  | (qf_gates, qf_nodes, qf_joinedSize, qf_cells, qf_chanceState, qf_isBuilt, qf_levels, qa_kinds, qa_firsts, qa_seconds, qa_thirds, qa_nextOf, qa_shownBy, qa_left, qa_right, qa_endOf, qa_cutCount, qa_cutSize, qa_cutLeaf, qa_cutDepth, qa_depthOf, qa_needed, qa_tableOf, qa_rows, qa_joined, qa_tableBits, qa_cellSource, qa_placeOf, qa_cellAt, qa_used, qa_worn, qa_inTree, qa_treeFrom, qa_farness, qa_cameFrom, qa_settled, qa_trackTaken, qa_trackOf, qa_switchBits, qa_pinTrack, qa_outTrack, qa_padTrack, qa_deviceTable, qa_hasFlip, qa_registerPlace, qa_outputPlace, qa_wireRoot, qa_wireLevel, qa_flip, qa_tableOut) => wX_enterJoined_93 post x1 x2 x3 x4 qf_gates qf_nodes qf_joinedSize qf_cells qf_chanceState qf_isBuilt qf_levels qa_kinds qa_firsts qa_seconds qa_thirds qa_nextOf qa_shownBy qa_left qa_right qa_endOf qa_cutCount qa_cutSize qa_cutLeaf qa_cutDepth qa_depthOf qa_needed qa_tableOf qa_rows qa_joined qa_tableBits qa_cellSource qa_placeOf qa_cellAt qa_used qa_worn qa_inTree qa_treeFrom qa_farness qa_cameFrom qa_settled qa_trackTaken qa_trackOf qa_switchBits qa_pinTrack qa_outTrack qa_padTrack qa_deviceTable qa_hasFlip qa_registerPlace qa_outputPlace qa_wireRoot qa_wireLevel qa_flip qa_tableOut
theorem cx_enterJoined_93 (post : SX → Prop) (x1 : Int32) (x2 : Int32) (x3 : Int32) (x4 : Int32) (u : SX) : kx_enterJoined_93 post x1 x2 x3 x4 u = (((((x4 + 6) - 1) ≤ x3 → (post u)) ∧ (¬ ((x4 + 6) - 1) ≤ x3 → (vp_in x3 1536 ∧ ∀ a_cutSize_58 : Nat → Int32, a_cutSize_58 = upd (ao u 17) x3.toNatClampNeg (vp_nar .byte (fo u 2).toInt8.toInt32) → (vp_in x3 1536 ∧ ∀ a_cutDepth_60 : Nat → Int32, a_cutDepth_60 = upd (ao u 19) x3.toNatClampNeg (vp_nar .byte x2.toInt8.toInt32) → (∃ n126 : Nat, kx_enterJoined_126 post x1 x3 n126 0 (sa (sa u 17 a_cutSize_58) 19 a_cutDepth_60))))))) := by simp only [n_ffx, n_afx, n_aax, n_fmx, n_amx]; rfl
def kx_enterJoined_68 (post : SX → Prop) (J23 : Int32 → SX → Prop) (x1 : Int32) (x2 : Int32) (x3 : Int32) (x4 : Int32) (u : SX) : Prop := match u with
  | (qf_gates, qf_nodes, qf_joinedSize, qf_cells, qf_chanceState, qf_isBuilt, qf_levels, qa_kinds, qa_firsts, qa_seconds, qa_thirds, qa_nextOf, qa_shownBy, qa_left, qa_right, qa_endOf, qa_cutCount, qa_cutSize, qa_cutLeaf, qa_cutDepth, qa_depthOf, qa_needed, qa_tableOf, qa_rows, qa_joined, qa_tableBits, qa_cellSource, qa_placeOf, qa_cellAt, qa_used, qa_worn, qa_inTree, qa_treeFrom, qa_farness, qa_cameFrom, qa_settled, qa_trackTaken, qa_trackOf, qa_switchBits, qa_pinTrack, qa_outTrack, qa_padTrack, qa_deviceTable, qa_hasFlip, qa_registerPlace, qa_outputPlace, qa_wireRoot, qa_wireLevel, qa_flip, qa_tableOut) => wX_enterJoined_68 post (fun x3 f_gates f_nodes f_joinedSize f_cells f_chanceState f_isBuilt f_levels a_kinds a_firsts a_seconds a_thirds a_nextOf a_shownBy a_left a_right a_endOf a_cutCount a_cutSize a_cutLeaf a_cutDepth a_depthOf a_needed a_tableOf a_rows a_joined a_tableBits a_cellSource a_placeOf a_cellAt a_used a_worn a_inTree a_treeFrom a_farness a_cameFrom a_settled a_trackTaken a_trackOf a_switchBits a_pinTrack a_outTrack a_padTrack a_deviceTable a_hasFlip a_registerPlace a_outputPlace a_wireRoot a_wireLevel a_flip a_tableOut => J23 x3 (f_gates, f_nodes, f_joinedSize, f_cells, f_chanceState, f_isBuilt, f_levels, a_kinds, a_firsts, a_seconds, a_thirds, a_nextOf, a_shownBy, a_left, a_right, a_endOf, a_cutCount, a_cutSize, a_cutLeaf, a_cutDepth, a_depthOf, a_needed, a_tableOf, a_rows, a_joined, a_tableBits, a_cellSource, a_placeOf, a_cellAt, a_used, a_worn, a_inTree, a_treeFrom, a_farness, a_cameFrom, a_settled, a_trackTaken, a_trackOf, a_switchBits, a_pinTrack, a_outTrack, a_padTrack, a_deviceTable, a_hasFlip, a_registerPlace, a_outputPlace, a_wireRoot, a_wireLevel, a_flip, a_tableOut)) x1 x2 x3 x4 qf_gates qf_nodes qf_joinedSize qf_cells qf_chanceState qf_isBuilt qf_levels qa_kinds qa_firsts qa_seconds qa_thirds qa_nextOf qa_shownBy qa_left qa_right qa_endOf qa_cutCount qa_cutSize qa_cutLeaf qa_cutDepth qa_depthOf qa_needed qa_tableOf qa_rows qa_joined qa_tableBits qa_cellSource qa_placeOf qa_cellAt qa_used qa_worn qa_inTree qa_treeFrom qa_farness qa_cameFrom qa_settled qa_trackTaken qa_trackOf qa_switchBits qa_pinTrack qa_outTrack qa_padTrack qa_deviceTable qa_hasFlip qa_registerPlace qa_outputPlace qa_wireRoot qa_wireLevel qa_flip qa_tableOut
theorem cx_enterJoined_68 (post : SX → Prop) (J23 : Int32 → SX → Prop) (x1 : Int32) (x2 : Int32) (x3 : Int32) (x4 : Int32) (u : SX) : kx_enterJoined_68 post J23 x1 x2 x3 x4 u = (((((x4 + 6) - 1) ≤ x3 → (∀ x3_76 : Int32, x3_76 = x3 + (- 1) → (J23 x3_76 u))) ∧ (¬ ((x4 + 6) - 1) ≤ x3 → (wpX_copyCut (fun u1 => (∀ x3_128 : Int32, x3_128 = x3 + (- 1) → (J23 x3_128 u1))) u (x3 - 1) x3)))) := rfl
def kx_enterJoined_23 (post : SX → Prop) (x1 : Int32) (x2 : Int32) (x4 : Int32) (n : Nat) (x3 : Int32) (u : SX) : Prop := match u with
  | (qf_gates, qf_nodes, qf_joinedSize, qf_cells, qf_chanceState, qf_isBuilt, qf_levels, qa_kinds, qa_firsts, qa_seconds, qa_thirds, qa_nextOf, qa_shownBy, qa_left, qa_right, qa_endOf, qa_cutCount, qa_cutSize, qa_cutLeaf, qa_cutDepth, qa_depthOf, qa_needed, qa_tableOf, qa_rows, qa_joined, qa_tableBits, qa_cellSource, qa_placeOf, qa_cellAt, qa_used, qa_worn, qa_inTree, qa_treeFrom, qa_farness, qa_cameFrom, qa_settled, qa_trackTaken, qa_trackOf, qa_switchBits, qa_pinTrack, qa_outTrack, qa_padTrack, qa_deviceTable, qa_hasFlip, qa_registerPlace, qa_outputPlace, qa_wireRoot, qa_wireLevel, qa_flip, qa_tableOut) => wX_enterJoined_23 post x1 x2 x4 n x3 qf_gates qf_nodes qf_joinedSize qf_cells qf_chanceState qf_isBuilt qf_levels qa_kinds qa_firsts qa_seconds qa_thirds qa_nextOf qa_shownBy qa_left qa_right qa_endOf qa_cutCount qa_cutSize qa_cutLeaf qa_cutDepth qa_depthOf qa_needed qa_tableOf qa_rows qa_joined qa_tableBits qa_cellSource qa_placeOf qa_cellAt qa_used qa_worn qa_inTree qa_treeFrom qa_farness qa_cameFrom qa_settled qa_trackTaken qa_trackOf qa_switchBits qa_pinTrack qa_outTrack qa_padTrack qa_deviceTable qa_hasFlip qa_registerPlace qa_outputPlace qa_wireRoot qa_wireLevel qa_flip qa_tableOut
theorem cx_enterJoined_23 (post : SX → Prop) (x1 : Int32) (x2 : Int32) (x4 : Int32) (n : Nat) (x3 : Int32) (u : SX) : kx_enterJoined_23 post x1 x2 x4 (n + 1) x3 u = (((x3 ≤ x4 → (kx_enterJoined_93 post x1 x2 x3 x4 u)) ∧ (¬ x3 ≤ x4 → (vp_in (x3 - 1) 1536 ∧ (((x2 < ((ao u 19) (x3 - 1).toNatClampNeg) → (kx_enterJoined_68 post (fun y0 s => kx_enterJoined_23 post x1 x2 x4 n y0 s) x1 x2 x3 x4 u)) ∧ (¬ x2 < ((ao u 19) (x3 - 1).toNatClampNeg) → (vp_in (x3 - 1) 1536 ∧ (((((ao u 19) (x3 - 1).toNatClampNeg) = x2 → (vp_in (x3 - 1) 1536 ∧ (((((ao u 17) (x3 - 1).toNatClampNeg) ≤ (fo u 2) → (kx_enterJoined_93 post x1 x2 x3 x4 u)) ∧ (¬ ((ao u 17) (x3 - 1).toNatClampNeg) ≤ (fo u 2) → (kx_enterJoined_68 post (fun y0 s => kx_enterJoined_23 post x1 x2 x4 n y0 s) x1 x2 x3 x4 u)))))) ∧ (¬ ((ao u 19) (x3 - 1).toNatClampNeg) = x2 → (kx_enterJoined_93 post x1 x2 x3 x4 u)))))))))))) := rfl
theorem cx_enterJoined (post : SX → Prop) (u : SX) (p0 : Int32) : wpX_enterJoined post u p0 = (wpX_joinedDepth (fun r_1 => (vp_in p0 256 ∧ (∀ x3_53 : Int32, x3_53 = (p0 * 6) + ((ao u 16) p0.toNatClampNeg) → (∀ x4_54 : Int32, x4_54 = p0 * 6 → (∃ n23 : Nat, kx_enterJoined_23 post p0 r_1 x4_54 n23 x3_53 u))))) u) := rfl
theorem cx_enterSelf (post : SX → Prop) (u : SX) (p0 : Int32) : wpX_enterSelf post u p0 = (vp_in p0 256 ∧ (∀ x2_2 : Int32, x2_2 = (p0 * 6) + ((ao u 16) p0.toNatClampNeg) → (vp_in x2_2 1536 ∧ ∀ a_cutSize_4 : Nat → Int32, a_cutSize_4 = upd (ao u 17) x2_2.toNatClampNeg (vp_nar .byte 1) → (vp_in p0 256 ∧ (vp_in x2_2 1536 ∧ ∀ a_cutDepth_7 : Nat → Int32, a_cutDepth_7 = upd (ao u 19) x2_2.toNatClampNeg (vp_nar .byte ((((ao u 20) p0.toNatClampNeg) + 1).toInt8.toInt32)) → (vp_in (x2_2 * 4) 6144 ∧ ∀ a_cutLeaf_9 : Nat → Int32, a_cutLeaf_9 = upd (ao u 18) (x2_2 * 4).toNatClampNeg (vp_nar .short p0.toInt16.toInt32) → (vp_in p0 256 ∧ (vp_in p0 256 ∧ ∀ a_cutCount_12 : Nat → Int32, a_cutCount_12 = upd (ao u 16) p0.toNatClampNeg (vp_nar .byte ((((ao u 16) p0.toNatClampNeg) + 1).toInt8.toInt32)) → (post (sa (sa (sa (sa u 16 a_cutCount_12) 17 a_cutSize_4) 18 a_cutLeaf_9) 19 a_cutDepth_7)))))))))) := by simp only [n_ffx, n_afx, n_aax, n_fmx, n_amx]; rfl
def kx_joinAll_28 (post : SX → Prop) (J6 : Int32 → SX → Prop) (x1 : Int32) (x2 : Int32) (x3 : Int32) (x4 : Int32) (n : Nat) (x5 : Int32) (u : SX) : Prop := match u with
  | (qf_gates, qf_nodes, qf_joinedSize, qf_cells, qf_chanceState, qf_isBuilt, qf_levels, qa_kinds, qa_firsts, qa_seconds, qa_thirds, qa_nextOf, qa_shownBy, qa_left, qa_right, qa_endOf, qa_cutCount, qa_cutSize, qa_cutLeaf, qa_cutDepth, qa_depthOf, qa_needed, qa_tableOf, qa_rows, qa_joined, qa_tableBits, qa_cellSource, qa_placeOf, qa_cellAt, qa_used, qa_worn, qa_inTree, qa_treeFrom, qa_farness, qa_cameFrom, qa_settled, qa_trackTaken, qa_trackOf, qa_switchBits, qa_pinTrack, qa_outTrack, qa_padTrack, qa_deviceTable, qa_hasFlip, qa_registerPlace, qa_outputPlace, qa_wireRoot, qa_wireLevel, qa_flip, qa_tableOut) => wX_joinAll_28 post (fun x4 f_gates f_nodes f_joinedSize f_cells f_chanceState f_isBuilt f_levels a_kinds a_firsts a_seconds a_thirds a_nextOf a_shownBy a_left a_right a_endOf a_cutCount a_cutSize a_cutLeaf a_cutDepth a_depthOf a_needed a_tableOf a_rows a_joined a_tableBits a_cellSource a_placeOf a_cellAt a_used a_worn a_inTree a_treeFrom a_farness a_cameFrom a_settled a_trackTaken a_trackOf a_switchBits a_pinTrack a_outTrack a_padTrack a_deviceTable a_hasFlip a_registerPlace a_outputPlace a_wireRoot a_wireLevel a_flip a_tableOut => J6 x4 (f_gates, f_nodes, f_joinedSize, f_cells, f_chanceState, f_isBuilt, f_levels, a_kinds, a_firsts, a_seconds, a_thirds, a_nextOf, a_shownBy, a_left, a_right, a_endOf, a_cutCount, a_cutSize, a_cutLeaf, a_cutDepth, a_depthOf, a_needed, a_tableOf, a_rows, a_joined, a_tableBits, a_cellSource, a_placeOf, a_cellAt, a_used, a_worn, a_inTree, a_treeFrom, a_farness, a_cameFrom, a_settled, a_trackTaken, a_trackOf, a_switchBits, a_pinTrack, a_outTrack, a_padTrack, a_deviceTable, a_hasFlip, a_registerPlace, a_outputPlace, a_wireRoot, a_wireLevel, a_flip, a_tableOut)) x1 x2 x3 x4 n x5 qf_gates qf_nodes qf_joinedSize qf_cells qf_chanceState qf_isBuilt qf_levels qa_kinds qa_firsts qa_seconds qa_thirds qa_nextOf qa_shownBy qa_left qa_right qa_endOf qa_cutCount qa_cutSize qa_cutLeaf qa_cutDepth qa_depthOf qa_needed qa_tableOf qa_rows qa_joined qa_tableBits qa_cellSource qa_placeOf qa_cellAt qa_used qa_worn qa_inTree qa_treeFrom qa_farness qa_cameFrom qa_settled qa_trackTaken qa_trackOf qa_switchBits qa_pinTrack qa_outTrack qa_padTrack qa_deviceTable qa_hasFlip qa_registerPlace qa_outputPlace qa_wireRoot qa_wireLevel qa_flip qa_tableOut
theorem cx_joinAll_28 (post : SX → Prop) (J6 : Int32 → SX → Prop) (x1 : Int32) (x2 : Int32) (x3 : Int32) (x4 : Int32) (n : Nat) (x5 : Int32) (u : SX) : kx_joinAll_28 post J6 x1 x2 x3 x4 (n + 1) x5 u = (vp_in x3 256 ∧ (((((x3 * 6) + ((ao u 16) x3.toNatClampNeg)) ≤ x5 → (∀ x4_7 : Int32, x4_7 = x4 + 1 → (J6 x4_7 u))) ∧ (¬ ((x3 * 6) + ((ao u 16) x3.toNatClampNeg)) ≤ x5 → (wpX_joinCuts (fun r_8 u1 => (((r_8 = 0 → (∀ x5_60 : Int32, x5_60 = x5 + 1 → (kx_joinAll_28 post J6 x1 x2 x3 x4 n x5_60 u1))) ∧ (¬ r_8 = 0 → (wpX_hasJoined (fun r_61 => (((r_61 = 0 → (wpX_enterJoined (fun u2 => (∀ x5_165 : Int32, x5_165 = x5 + 1 → (kx_joinAll_28 post J6 x1 x2 x3 x4 n x5_165 u2))) u1 x1)) ∧ (¬ r_61 = 0 → (∀ x5_113 : Int32, x5_113 = x5 + 1 → (kx_joinAll_28 post J6 x1 x2 x3 x4 n x5_113 u1)))))) u1 x1))))) u x4 x5))))) := rfl
def kx_joinAll_6 (post : SX → Prop) (x1 : Int32) (x2 : Int32) (x3 : Int32) (n : Nat) (x4 : Int32) (u : SX) : Prop := match u with
  | (qf_gates, qf_nodes, qf_joinedSize, qf_cells, qf_chanceState, qf_isBuilt, qf_levels, qa_kinds, qa_firsts, qa_seconds, qa_thirds, qa_nextOf, qa_shownBy, qa_left, qa_right, qa_endOf, qa_cutCount, qa_cutSize, qa_cutLeaf, qa_cutDepth, qa_depthOf, qa_needed, qa_tableOf, qa_rows, qa_joined, qa_tableBits, qa_cellSource, qa_placeOf, qa_cellAt, qa_used, qa_worn, qa_inTree, qa_treeFrom, qa_farness, qa_cameFrom, qa_settled, qa_trackTaken, qa_trackOf, qa_switchBits, qa_pinTrack, qa_outTrack, qa_padTrack, qa_deviceTable, qa_hasFlip, qa_registerPlace, qa_outputPlace, qa_wireRoot, qa_wireLevel, qa_flip, qa_tableOut) => wX_joinAll_6 post x1 x2 x3 n x4 qf_gates qf_nodes qf_joinedSize qf_cells qf_chanceState qf_isBuilt qf_levels qa_kinds qa_firsts qa_seconds qa_thirds qa_nextOf qa_shownBy qa_left qa_right qa_endOf qa_cutCount qa_cutSize qa_cutLeaf qa_cutDepth qa_depthOf qa_needed qa_tableOf qa_rows qa_joined qa_tableBits qa_cellSource qa_placeOf qa_cellAt qa_used qa_worn qa_inTree qa_treeFrom qa_farness qa_cameFrom qa_settled qa_trackTaken qa_trackOf qa_switchBits qa_pinTrack qa_outTrack qa_padTrack qa_deviceTable qa_hasFlip qa_registerPlace qa_outputPlace qa_wireRoot qa_wireLevel qa_flip qa_tableOut
theorem cx_joinAll_6 (post : SX → Prop) (x1 : Int32) (x2 : Int32) (x3 : Int32) (n : Nat) (x4 : Int32) (u : SX) : kx_joinAll_6 post x1 x2 x3 (n + 1) x4 u = (vp_in x2 256 ∧ (((((x2 * 6) + ((ao u 16) x2.toNatClampNeg)) ≤ x4 → (post u)) ∧ (¬ ((x2 * 6) + ((ao u 16) x2.toNatClampNeg)) ≤ x4 → (∀ x5_4 : Int32, x5_4 = x3 * 6 → (∃ n28 : Nat, kx_joinAll_28 post (fun y0 s => kx_joinAll_6 post x1 x2 x3 n y0 s) x1 x2 x3 x4 n28 x5_4 u)))))) := rfl
theorem cx_joinAll (post : SX → Prop) (u : SX) (p0 : Int32) (p1 : Int32) (p2 : Int32) : wpX_joinAll post u p0 p1 p2 = (∀ x4_1 : Int32, x4_1 = p1 * 6 → (∃ n6 : Nat, kx_joinAll_6 post p0 p1 p2 n6 x4_1 u)) := rfl
def kx_findCuts_36 (post : SX → Prop) (n : Nat) (x1 : Int32) (u : SX) : Prop := match u with
  | (qf_gates, qf_nodes, qf_joinedSize, qf_cells, qf_chanceState, qf_isBuilt, qf_levels, qa_kinds, qa_firsts, qa_seconds, qa_thirds, qa_nextOf, qa_shownBy, qa_left, qa_right, qa_endOf, qa_cutCount, qa_cutSize, qa_cutLeaf, qa_cutDepth, qa_depthOf, qa_needed, qa_tableOf, qa_rows, qa_joined, qa_tableBits, qa_cellSource, qa_placeOf, qa_cellAt, qa_used, qa_worn, qa_inTree, qa_treeFrom, qa_farness, qa_cameFrom, qa_settled, qa_trackTaken, qa_trackOf, qa_switchBits, qa_pinTrack, qa_outTrack, qa_padTrack, qa_deviceTable, qa_hasFlip, qa_registerPlace, qa_outputPlace, qa_wireRoot, qa_wireLevel, qa_flip, qa_tableOut) => wX_findCuts_36 post n x1 qf_gates qf_nodes qf_joinedSize qf_cells qf_chanceState qf_isBuilt qf_levels qa_kinds qa_firsts qa_seconds qa_thirds qa_nextOf qa_shownBy qa_left qa_right qa_endOf qa_cutCount qa_cutSize qa_cutLeaf qa_cutDepth qa_depthOf qa_needed qa_tableOf qa_rows qa_joined qa_tableBits qa_cellSource qa_placeOf qa_cellAt qa_used qa_worn qa_inTree qa_treeFrom qa_farness qa_cameFrom qa_settled qa_trackTaken qa_trackOf qa_switchBits qa_pinTrack qa_outTrack qa_padTrack qa_deviceTable qa_hasFlip qa_registerPlace qa_outputPlace qa_wireRoot qa_wireLevel qa_flip qa_tableOut
theorem cx_findCuts_36 (post : SX → Prop) (n : Nat) (x1 : Int32) (u : SX) : kx_findCuts_36 post (n + 1) x1 u = ((((fo u 1) ≤ x1 → (post u)) ∧ (¬ (fo u 1) ≤ x1 → (vp_in x1 256 ∧ ∀ a_cutCount_4 : Nat → Int32, a_cutCount_4 = upd (ao u 16) x1.toNatClampNeg (vp_nar .byte 0) → (vp_in x1 256 ∧ (vp_in x1 256 ∧ (wpX_joinAll (fun u1 => (vp_in (x1 * 6) 1536 ∧ (vp_in x1 256 ∧ ∀ a_depthOf_60 : Nat → Int32, a_depthOf_60 = upd (ao u1 20) x1.toNatClampNeg (vp_nar .byte ((ao u1 19) (x1 * 6).toNatClampNeg)) → (wpX_enterSelf (fun u2 => (∀ x1_112 : Int32, x1_112 = x1 + 1 → (kx_findCuts_36 post n x1_112 u2))) (sa u1 20 a_depthOf_60) x1)))) (sa u 16 a_cutCount_4) x1 (((ao u 13) x1.toNatClampNeg) >>> ((1 : Int32) &&& 31)) (((ao u 14) x1.toNatClampNeg) >>> ((1 : Int32) &&& 31))))))))) := rfl
def kx_findCuts_2 (post : SX → Prop) (n : Nat) (x1 : Int32) (u : SX) : Prop := match u with
  | (qf_gates, qf_nodes, qf_joinedSize, qf_cells, qf_chanceState, qf_isBuilt, qf_levels, qa_kinds, qa_firsts, qa_seconds, qa_thirds, qa_nextOf, qa_shownBy, qa_left, qa_right, qa_endOf, qa_cutCount, qa_cutSize, qa_cutLeaf, qa_cutDepth, qa_depthOf, qa_needed, qa_tableOf, qa_rows, qa_joined, qa_tableBits, qa_cellSource, qa_placeOf, qa_cellAt, qa_used, qa_worn, qa_inTree, qa_treeFrom, qa_farness, qa_cameFrom, qa_settled, qa_trackTaken, qa_trackOf, qa_switchBits, qa_pinTrack, qa_outTrack, qa_padTrack, qa_deviceTable, qa_hasFlip, qa_registerPlace, qa_outputPlace, qa_wireRoot, qa_wireLevel, qa_flip, qa_tableOut) => wX_findCuts_2 post n x1 qf_gates qf_nodes qf_joinedSize qf_cells qf_chanceState qf_isBuilt qf_levels qa_kinds qa_firsts qa_seconds qa_thirds qa_nextOf qa_shownBy qa_left qa_right qa_endOf qa_cutCount qa_cutSize qa_cutLeaf qa_cutDepth qa_depthOf qa_needed qa_tableOf qa_rows qa_joined qa_tableBits qa_cellSource qa_placeOf qa_cellAt qa_used qa_worn qa_inTree qa_treeFrom qa_farness qa_cameFrom qa_settled qa_trackTaken qa_trackOf qa_switchBits qa_pinTrack qa_outTrack qa_padTrack qa_deviceTable qa_hasFlip qa_registerPlace qa_outputPlace qa_wireRoot qa_wireLevel qa_flip qa_tableOut
theorem cx_findCuts_2 (post : SX → Prop) (n : Nat) (x1 : Int32) (u : SX) : kx_findCuts_2 post (n + 1) x1 u = (((13 ≤ x1 → (∃ n36 : Nat, kx_findCuts_36 post n36 13 u)) ∧ (¬ 13 ≤ x1 → (vp_in x1 256 ∧ ∀ a_cutCount_114 : Nat → Int32, a_cutCount_114 = upd (ao u 16) x1.toNatClampNeg (vp_nar .byte 0) → (vp_in x1 256 ∧ ∀ a_depthOf_116 : Nat → Int32, a_depthOf_116 = upd (ao u 20) x1.toNatClampNeg (vp_nar .byte 0) → (wpX_enterSelf (fun u1 => (∀ x1_168 : Int32, x1_168 = x1 + 1 → (kx_findCuts_2 post n x1_168 u1))) (sa (sa u 16 a_cutCount_114) 20 a_depthOf_116) x1)))))) := by simp only [n_ffx, n_afx, n_aax, n_fmx, n_amx]; rfl
theorem cx_findCuts (post : SX → Prop) (u : SX) : wpX_findCuts post u = (∃ n2 : Nat, kx_findCuts_2 post n2 0 u) := rfl
theorem m4 (c i : Nat) : nI c * 4 + nI i = nI (4 * c + i) := by
  show nI c * nI 4 + nI i = _
  rw [pk_mul, nI_add, Nat.mul_comm]
theorem m40 (c : Nat) : nI c * 4 = nI (4 * c) := by
  show nI c * nI 4 = _
  rw [pk_mul, Nat.mul_comm]
theorem m60 (c : Nat) : nI c * 6 = nI (6 * c) := by
  show nI c * nI 6 = _
  rw [pk_mul, Nat.mul_comm]
theorem m24 (n i : Nat) : nI n * 6 * 4 + nI i = nI (24 * n + i) := by
  rw [m60, m4]
  exact congrArg nI (by omega)
/-- cut c has z leaves l -/
def Ct (u : SX) (c z : Nat) (l : Nat → Nat) : Prop := ao u 17 c = nI z ∧ z ≤ 4 ∧ ∀ i, i < z → ao u 18 (4 * c + i) = nI (l i)
def Jn (u : SX) (z : Nat) (q : Nat → Nat) : Prop := fo u 2 = nI z ∧ z ≤ 4 ∧ ∀ t, t < z → ao u 24 t = nI (q t)
theorem Ct_fr {L : List Nat} {u v : SX} {c z : Nat} {l : Nat → Nat} (hf : fr L u v) (h : Ct u c z l) (h1 : 17 ∉ L := by decide) (h2 : 18 ∉ L := by decide) : Ct v c z l :=
  ⟨by rw [fr_ao hf 17 h1]; exact h.1, h.2.1, fun i hi => by rw [fr_ao hf 18 h2]; exact h.2.2 i hi⟩
theorem hx_jc31 {post : Int32 → SX → Prop} {J : Int32 → Int32 → SX → Prop} {s : SX} {i j k c1 c2 z1 z2 : Nat} {l1 l2 : Nat → Nat} (h1 : Ct s c1 z1 l1) (h2 : Ct s c2 z2 l2) (hc1 : c1 < 1536) (hc2 : c2 < 1536)
    (hl1 : ∀ i, i < z1 → l1 i < 256) (hl2 : ∀ i, i < z2 → l2 i < 256) (hi : i ≤ 4) (hj : j ≤ 4) (hk : fo s 2 = nI k) (hk4 : k ≤ 4) (a b : Nat) (ha : (if i < z1 then l1 i else 256) = a) (hb : (if j < z2 then l2 j else 256) = b)
    (P0 : k = 4 → post 0 s)
    (P1 : k < 4 → J (nI (if a ≤ b then i + 1 else i)) (nI (if b ≤ a then j + 1 else j)) (sa (sf s 2 (nI (k + 1))) 24 (upd (ao s 24) k (nI (if a ≤ b then a else b))))) :
    kx_joinCuts_31 post J (nI c1) (nI c2) (nI i) (nI j) s := by
  have ha' : a ≤ 256 := by
    rw [← ha]; split
    · next h => have := hl1 i h; omega
    · omega
  have hb' : b ≤ 256 := by
    rw [← hb]; split
    · next h => have := hl2 j h; omega
    · omega
  have H146 : ∀ p, k < 4 → p = (if a ≤ b then 1 else 0) → kx_joinCuts_146 post J (nI c1) (nI c2) (nI j) (nI a) (nI b) (nI p) (nI i) (sa (sf s 2 (nI (k + 1))) 24 (upd (ao s 24) k (nI (if a ≤ b then a else b)))) := by
    intro p hk hp
    have P1 := P1 hk
    rw [cx_joinCuts_146]
    refine nm_r (nI_add i p) (pk_lt a b (fun h => ?_) (fun h => ?_))
    · refine nm_r (e' := nI j) (nI_add j 0) ?_
      rw [if_pos (by omega)] at hp
      rw [if_pos (by omega), if_neg (by omega)] at P1
      rw [hp]; exact P1
    · refine nm_r (nI_1 j) ?_
      rw [if_pos h] at P1
      rw [hp]
      by_cases e : a ≤ b
      · rw [if_pos e]; rw [if_pos e] at P1; exact P1
      · rw [if_neg e]; rw [if_neg e] at P1; exact P1
  have H121 : k < 4 → kx_joinCuts_121 post J (nI c1) (nI c2) (nI i) (nI j) (nI a) (nI b) (nI (if a ≤ b then a else b)) (nI k) s := by
    intro hk'
    have hm : (if a ≤ b then a else b) < 32768 := by split <;> omega
    rw [cx_joinCuts_121]
    simp only [clI (show k < 2 ^ 31 by omega), vsh hm]
    refine ⟨pk_in k 8 (by omega), nm_e (nm_r (e' := nI (k + 1)) (by rw [hk, nI_1]) (pk_lt b a (fun h => ?_) (fun h => ?_)))⟩
    · exact H146 0 hk' (by rw [if_neg (by omega)])
    · exact H146 1 hk' (by rw [if_pos h])
  have H87 : kx_joinCuts_87 post J (nI c1) (nI c2) (nI i) (nI j) (nI a) (nI b) s := by
    rw [cx_joinCuts_87, hk]
    refine pk_eq k 4 P0 (fun h => pk_le b a (fun h' => ?_) (fun h' => ?_))
    · have := H121 (by omega)
      by_cases e : a = b
      · rw [if_pos (by omega)] at this
        rw [e] at this ⊢; exact this
      · rw [if_neg (by omega)] at this; exact this
    · have := H121 (by omega)
      rw [if_pos (by omega)] at this; exact this
  have H57 : kx_joinCuts_57 post J (nI c1) (nI c2) (nI i) (nI j) (nI a) s := by
    rw [cx_joinCuts_57]
    simp only [m4, clI (show c2 < 2 ^ 31 by omega), clI (show 4 * c2 + j < 2 ^ 31 by omega), h2.1]
    have hz := h2.2.1
    refine ⟨pk_in c2 1536 hc2, pk_le z2 j (fun h => ?_) (fun h => ?_)⟩
    · rw [if_neg (by omega)] at hb
      rw [← hb] at H87; exact H87
    · rw [if_pos h] at hb
      rw [h2.2.2 j h, hb]
      exact ⟨pk_in (4 * c2 + j) 6144 (by omega), H87⟩
  rw [cx_joinCuts_31]
  simp only [m4, clI (show c1 < 2 ^ 31 by omega), clI (show 4 * c1 + i < 2 ^ 31 by omega), h1.1]
  have hz := h1.2.1
  refine ⟨pk_in c1 1536 hc1, pk_le z1 i (fun h => ?_) (fun h => ?_)⟩
  · rw [if_neg (by omega)] at ha
    rw [← ha] at H57; exact H57
  · rw [if_pos h] at ha
    rw [h1.2.2 i h, ha]
    exact ⟨pk_in (4 * c1 + i) 6144 (by omega), H57⟩
/-- the joined leaves: those of both -/
def Jo (z1 z2 z : Nat) (l1 l2 q : Nat → Nat) : Prop := (∀ t, t < z → (∃ i, i < z1 ∧ q t = l1 i) ∨ ∃ i, i < z2 ∧ q t = l2 i) ∧ (∀ i, i < z1 → ∃ t, t < z ∧ q t = l1 i) ∧ ∀ i, i < z2 → ∃ t, t < z ∧ q t = l2 i
theorem hx_joinCuts {post : Int32 → SX → Prop} {u : SX} {c1 c2 z1 z2 : Nat} {l1 l2 : Nat → Nat} (h1 : Ct u c1 z1 l1) (h2 : Ct u c2 z2 l2) (hc1 : c1 < 1536) (hc2 : c2 < 1536)
    (hl1 : ∀ i, i < z1 → l1 i < 256) (hl2 : ∀ i, i < z2 → l2 i < 256)
    (K0 : ∀ u', fr [2, 24] u u' → 4 < z1 + z2 → post 0 u')
    (K1 : ∀ u' z q, fr [2, 24] u u' → Jn u' z q → Jo z1 z2 z l1 l2 q → post 1 u') : wpX_joinCuts post u (nI c1) (nI c2) := by
  rw [cx_joinCuts]
  refine lp3 (fun n i j s => kx_joinCuts_10 post (nI c1) (nI c2) n (nI i) (nI j) s)
    (fun i j s => fr [2, 24] u s ∧ i ≤ z1 ∧ j ≤ z2 ∧ ∃ k q, Jn s k q ∧ k ≤ i + j ∧ (∀ t, t < k → (∃ i, i < z1 ∧ q t = l1 i) ∨ ∃ i, i < z2 ∧ q t = l2 i) ∧ (∀ i', i' < i → ∃ t, t < k ∧ q t = l1 i') ∧ ∀ i', i' < j → ∃ t, t < k ∧ q t = l2 i')
    (fun i j _ => z1 - i + (z2 - j)) ?_ 0 0 _ ⟨fr_f fr_rf (by decide), by omega, by omega, 0, fun _ => 0, ⟨rfl, by omega, fun t ht => by omega⟩, by omega, fun t ht => by omega, fun t ht => by omega, fun t ht => by omega⟩
  rintro n i j s ⟨hf, hi, hj, k, q, hJ, hk, q1, q2, q3⟩ hr
  have z14 := h1.2.1
  have z24 := h2.2.1
  have h1' := Ct_fr hf h1
  have h2' := Ct_fr hf h2
  have hmain : i < z1 ∨ j < z2 → kx_joinCuts_31 post (fun y0 y1 s => kx_joinCuts_10 post (nI c1) (nI c2) n y0 y1 s) (nI c1) (nI c2) (nI i) (nI j) s := by
    intro hor
    refine hx_jc31 h1' h2' hc1 hc2 hl1 hl2 (by omega) (by omega) hJ.1 hJ.2.1 _ _ rfl rfl (fun h => K0 s hf (by omega)) (fun h => ?_)
    generalize ha : (if i < z1 then l1 i else 256) = a
    generalize hb : (if j < z2 then l2 j else 256) = b
    have ia : a ≤ b → i < z1 ∧ a = l1 i := by
      intro hab
      by_cases e : i < z1
      · rw [if_pos e] at ha; exact ⟨e, ha.symm⟩
      · exfalso
        rw [if_neg e] at ha
        rw [if_pos (by omega)] at hb
        have := hl2 j (by omega)
        omega
    have ib : b ≤ a → j < z2 ∧ b = l2 j := by
      intro hab
      by_cases e : j < z2
      · rw [if_pos e] at hb; exact ⟨e, hb.symm⟩
      · exfalso
        rw [if_neg e] at hb
        rw [if_pos (by omega)] at ha
        have := hl1 i (by omega)
        omega
    refine hr _ _ _ ⟨fr_a (fr_f hf (by decide)) (by decide), ?_, ?_, k + 1, fun t => if t = k then (if a ≤ b then a else b) else q t, ⟨rfl, by omega, fun t ht => ?_⟩, ?_, fun t ht => ?_, fun i' hi' => ?_, fun i' hi' => ?_⟩ ?_
    · split
      · next h => have := (ia h).1; omega
      · omega
    · split
      · next h => have := (ib h).1; omega
      · omega
    · show upd (ao s 24) k _ t = _
      dsimp only
      by_cases e : t = k
      · rw [e, u_s, if_pos rfl]
      · rw [u_n e, if_neg e]; exact hJ.2.2 t (by omega)
    · by_cases e : a ≤ b
      · rw [if_pos e]; split <;> omega
      · rw [if_neg e, if_pos (by omega)]; omega
    · dsimp only
      by_cases e : t = k
      · rw [if_pos e]
        by_cases e2 : a ≤ b
        · rw [if_pos e2]; exact Or.inl ⟨i, (ia e2).1, (ia e2).2⟩
        · rw [if_neg e2]; exact Or.inr ⟨j, (ib (by omega)).1, (ib (by omega)).2⟩
      · rw [if_neg e]; exact q1 t (by omega)
    · by_cases e : i' < i
      · obtain ⟨t, t1, t2⟩ := q2 i' e
        exact ⟨t, by omega, by dsimp only; rw [if_neg (by omega)]; exact t2⟩
      · by_cases e2 : a ≤ b
        · rw [if_pos e2] at hi'
          have : i' = i := by omega
          exact ⟨k, by omega, by dsimp only; rw [if_pos rfl, if_pos e2, this]; exact (ia e2).2⟩
        · rw [if_neg e2] at hi'; omega
    · by_cases e : i' < j
      · obtain ⟨t, t1, t2⟩ := q3 i' e
        exact ⟨t, by omega, by dsimp only; rw [if_neg (by omega)]; exact t2⟩
      · by_cases e2 : b ≤ a
        · rw [if_pos e2] at hi'
          have : i' = j := by omega
          refine ⟨k, by omega, ?_⟩
          dsimp only
          rw [if_pos rfl, this, ← (ib e2).2]
          split <;> omega
        · rw [if_neg e2] at hi'; omega
    · by_cases e : a ≤ b
      · have := (ia e).1
        rw [if_pos e]; split <;> omega
      · have := (ib (by omega)).1
        rw [if_neg e, if_pos (by omega)]; omega
  show kx_joinCuts_10 _ _ _ _ _ _ _
  rw [cx_joinCuts_10]
  simp only [clI (show c1 < 2 ^ 31 by omega), clI (show c2 < 2 ^ 31 by omega), h1'.1, h2'.1]
  refine ⟨pk_in c1 1536 hc1, pk_lt i z1 (fun h => hmain (Or.inl h)) (fun h => ⟨pk_in c2 1536 hc2, pk_le z2 j (fun h' => ?_) (fun h' => hmain (Or.inr h'))⟩)⟩
  exact K1 s k q hf hJ ⟨q1, fun i' hi' => q2 i' (by omega), fun i' hi' => q3 i' (by omega)⟩
theorem hx_joinedDepth {post : Int32 → Prop} {u : SX} {z : Nat} {q : Nat → Nat} (hJ : Jn u z q) (hq : ∀ t, t < z → q t < 256) (K : ∀ r, post r) : wpX_joinedDepth post u := by
  rw [cx_joinedDepth]
  have h4 := hJ.2.1
  refine lp2 (fun n (x : Int32) (i : Nat) => kx_joinedDepth_4 post n x (nI i) u) (fun _ i => i ≤ z) (fun _ i => z - i) ?_ 0 0 (Nat.zero_le _)
  rintro n x i hi hr
  show kx_joinedDepth_4 _ _ _ _ _
  rw [cx_joinedDepth_4]
  simp only [clI (show i < 2 ^ 31 by omega), hJ.1]
  refine pk_le z i (fun _ => K _) (fun h => ?_)
  have hq' := hq i h
  rw [hJ.2.2 i h]
  exact ⟨pk_in i 8 (by omega), pk_in (q i) 256 hq', br_c (fun _ => nm_r (nI_1 i) (hr _ _ (by omega) (by omega))) (fun _ => ⟨pk_in i 8 (by omega), pk_in (q i) 256 hq', nm_e (nm_r (nI_1 i) (hr _ _ (by omega) (by omega)))⟩)⟩
theorem hx_hasJoined {post : Int32 → Prop} {u : SX} {n k z : Nat} (hn : n < 256) (hk : ao u 16 n = nI k) (hk6 : k ≤ 6) (hz : fo u 2 = nI z) (hz4 : z ≤ 4) (K0 : post 0) (K1 : 0 < k → post 1) : wpX_hasJoined post u (nI n) := by
  rw [cx_hasJoined, m60]
  refine nm_e ?_
  refine lp1 (fun m (i : Nat) => kx_hasJoined_5 post (nI n) m (nI i) u) (fun i => 6 * n ≤ i ∧ i ≤ 6 * n + k) (fun i => 6 * n + k - i) ?_ (6 * n) ⟨Nat.le_refl _, by omega⟩
  rintro m i ⟨hi0, hi⟩ hr
  show kx_hasJoined_5 _ _ _ _ _
  rw [cx_hasJoined_5]
  simp only [clI (show n < 2 ^ 31 by omega), clI (show i < 2 ^ 31 by omega), hk, m60, nI_add]
  refine ⟨pk_in n 256 hn, pk_le (6 * n + k) i (fun _ => K0) (fun h => ⟨pk_in i 1536 (by omega), ?_⟩)⟩
  have H88 : ∀ x3 : Int32, kx_hasJoined_88 post (fun y0 s => kx_hasJoined_5 post (nI n) m y0 s) (nI n) (nI i) x3 u := by
    intro x3
    rw [cx_hasJoined_88]
    exact br_c (fun _ => nm_r (nI_1 i) (hr _ ⟨by omega, by omega⟩ (by omega))) (fun _ => K1 (by omega))
  have H42 : ∀ x3 : Int32, ∃ n42, kx_hasJoined_42 post (fun y0 s => kx_hasJoined_5 post (nI n) m y0 s) (nI n) (nI i) n42 x3 0 u := by
    intro x3
    refine lp2 (fun m' (x : Int32) (j : Nat) => kx_hasJoined_42 post (fun y0 s => kx_hasJoined_5 post (nI n) m y0 s) (nI n) (nI i) m' x (nI j) u) (fun _ j => j ≤ z) (fun _ j => z - j) ?_ x3 0 (Nat.zero_le _)
    rintro m' x j hj hr'
    show kx_hasJoined_42 _ _ _ _ _ _ _ _
    rw [cx_hasJoined_42]
    simp only [hz, m4, clI (show j < 2 ^ 31 by omega), clI (show 4 * i + j < 2 ^ 31 by omega)]
    refine pk_le z j (fun _ => H88 x) (fun h => br_c (fun _ => H88 x) (fun _ => ⟨pk_in (4 * i + j) 6144 (by omega), pk_in j 8 (by omega), br_c (fun _ => nm_r (nI_1 j) (hr' _ _ (by omega) (by omega))) (fun _ => nm_r (nI_1 j) (hr' _ _ (by omega) (by omega)))⟩))
  exact br_c (fun _ => H42 1) (fun _ => H42 0)
end
section
theorem Ct_i {u v : SX} {c z : Nat} {l : Nat → Nat} (h : Ct u c z l) (h1 : ao v 17 c = ao u 17 c) (h2 : ∀ i, i < 4 → ao v 18 (4 * c + i) = ao u 18 (4 * c + i)) : Ct v c z l :=
  ⟨h1.trans h.1, h.2.1, fun i hi => (h2 i (by have := h.2.1; omega)).trans (h.2.2 i hi)⟩
theorem hx_copyCut {post : SX → Prop} {u : SX} {f t : Nat} (hf : f < 1536) (ht : t < 1536) (hne : f ≠ t)
    (K : ∀ u', fr [17, 18, 19] u u' → (∀ c, c ≠ t → ao u' 17 c = ao u 17 c) → (∀ i, (i < 4 * t ∨ 4 * t + 4 ≤ i) → ao u' 18 i = ao u 18 i) →
      (∀ z l, Ct u f z l → (∀ i, i < z → l i < 256) → Ct u' t z l) → post u') : wpX_copyCut post u (nI f) (nI t) := by
  rw [cx_copyCut]
  simp only [clI (show f < 2 ^ 31 by omega), clI (show t < 2 ^ 31 by omega)]
  refine ⟨pk_in f 1536 hf, pk_in t 1536 ht, nm_e ⟨pk_in f 1536 hf, pk_in t 1536 ht, nm_e ?_⟩⟩
  refine pk_loop (fun n i s => kx_copyCut_26 post (nI f) (nI t) n (nI i) s) (fun i s => fr [17, 18, 19] u s ∧ (∀ c, c ≠ t → ao s 17 c = ao u 17 c) ∧ ao s 17 t = vp_nar .byte (ao u 17 f) ∧ (∀ j, (j < 4 * t ∨ 4 * t + i ≤ j) → ao s 18 j = ao u 18 j) ∧ ∀ j, j < i → ao s 18 (4 * t + j) = vp_nar .short (ao u 18 (4 * f + j))) 4 0 _ (Nat.zero_le _)
    ⟨fr_a (fr_a fr_rf (by decide)) (by decide), fun c hc => u_n hc, u_s, fun j hj => rfl, fun j hj => by omega⟩ ?_ ?_
  · rintro n s ⟨h1, h2, h3, h4, h5⟩
    show kx_copyCut_26 _ _ _ _ _ _
    rw [cx_copyCut_26]
    refine pk_le 4 4 (fun _ => K s h1 h2 h4 (fun z l hc hl => ?_)) (fun h => absurd h (by omega))
    refine ⟨by rw [h3, hc.1, vbn (by have := hc.2.1; omega)], hc.2.1, fun i hi => ?_⟩
    have := hl i hi
    rw [h5 i (by have := hc.2.1; omega), hc.2.2 i hi, vsn (by omega)]
  · rintro n i s hi ⟨h1, h2, h3, h4, h5⟩ hk
    show kx_copyCut_26 _ _ _ _ _ _
    rw [cx_copyCut_26]
    simp only [m4, clI (show 4 * f + i < 2 ^ 31 by omega), clI (show 4 * t + i < 2 ^ 31 by omega)]
    refine pk_le 4 i (fun h => absurd h (by omega)) (fun _ => ⟨pk_in (4 * f + i) 6144 (by omega), pk_in (4 * t + i) 6144 (by omega), nm_e (nm_r (nI_1 i) (hk _ ⟨fr_a h1 (by decide), h2, h3, fun j hj => ?_, fun j hj => ?_⟩))⟩)
    · show upd (ao s 18) (4 * t + i) _ j = _
      rw [u_n (by omega)]; exact h4 j (by omega)
    · show upd (ao s 18) (4 * t + i) _ (4 * t + j) = _
      by_cases e : j = i
      · rw [e, u_s, h4 (4 * f + i) (by omega)]
      · rw [u_n (by omega)]; exact h5 j (by omega)
/-- the least set that holds S and every AND of two that it holds -/
def Cov (N : Nat) (L R : Nat → Nat) (S : Nat → Prop) (n : Nat) : Prop := ∀ P : Nat → Prop, (∀ l, S l → P l) → (∀ m, 13 ≤ m → m < N → P (L m / 2) → P (R m / 2) → P m) → P n
/-- cut c is one of node n, its leaves below b -/
def Gc (N : Nat) (L R : Nat → Nat) (u : SX) (n c b : Nat) : Prop := ∃ z l, Ct u c z l ∧ (∀ i, i < z → 1 ≤ l i ∧ l i < b) ∧ Cov N L R (fun m => ∃ i, i < z ∧ l i = m) n
theorem Gc_i {N : Nat} {L R : Nat → Nat} {u v : SX} {n c b : Nat} (h : Gc N L R u n c b) (h1 : ao v 17 c = ao u 17 c) (h2 : ∀ i, i < 4 → ao v 18 (4 * c + i) = ao u 18 (4 * c + i)) : Gc N L R v n c b := by
  obtain ⟨z, l, a, b, c⟩ := h
  exact ⟨z, l, Ct_i a h1 h2, b, c⟩
theorem Gc_mn {N : Nat} {L R : Nat → Nat} {u : SX} {n c b b' : Nat} (h : Gc N L R u n c b) (hb : b ≤ b') : Gc N L R u n c b' := by
  obtain ⟨z, l, a, d, c⟩ := h
  exact ⟨z, l, a, fun i hi => ⟨(d i hi).1, by have := (d i hi).2; omega⟩, c⟩
/-- the cuts of nodes below n are kept -/
def Ca (n : Nat) (u v : SX) : Prop := (∀ m, m < n → ao v 16 m = ao u 16 m) ∧ (∀ c, c < 6 * n → ao v 17 c = ao u 17 c) ∧ ∀ i, i < 24 * n → ao v 18 i = ao u 18 i
theorem Ca_rf {n : Nat} {u : SX} : Ca n u u := ⟨fun _ _ => rfl, fun _ _ => rfl, fun _ _ => rfl⟩
theorem Ca_tr {n : Nat} {u v w : SX} (h : Ca n u v) (g : Ca n v w) : Ca n u w :=
  ⟨fun m hm => (g.1 m hm).trans (h.1 m hm), fun m hm => (g.2.1 m hm).trans (h.2.1 m hm), fun m hm => (g.2.2 m hm).trans (h.2.2 m hm)⟩
theorem Ca_fr {L : List Nat} {n : Nat} {u v : SX} (h : fr L u v) (h1 : 16 ∉ L := by decide) (h2 : 17 ∉ L := by decide) (h3 : 18 ∉ L := by decide) : Ca n u v :=
  ⟨fun m _ => by rw [fr_ao h 16 h1], fun m _ => by rw [fr_ao h 17 h2], fun m _ => by rw [fr_ao h 18 h3]⟩
def Ks (N : Nat) (L R : Nat → Nat) (u : SX) (n k : Nat) : Prop := ao u 16 n = nI k ∧ k ≤ 5 ∧ ∀ c, c < k → Gc N L R u n (6 * n + c) n
theorem hx_ej126 {post : SX → Prop} {u : SX} {n p k z : Nat} {q : Nat → Nat} (hn : n < 256) (hp : p < 5) (hJ : Jn u z q) (hq : ∀ t, t < z → q t < 256) (hk : ao u 16 n = nI k) (hk5 : k ≤ 5)
    (K : ∀ u', fr [16, 17, 18, 19] u u' → (∀ m, m ≠ n → ao u' 16 m = ao u 16 m) → ao u' 16 n = nI (if k < 5 then k + 1 else 5) → (∀ c, ao u' 17 c = ao u 17 c) →
      (∀ i, (i < 4 * (6 * n + p) ∨ 4 * (6 * n + p) + 4 ≤ i) → ao u' 18 i = ao u 18 i) → (∀ t, t < z → ao u' 18 (4 * (6 * n + p) + t) = nI (q t)) → post u') :
    ∃ m, kx_enterJoined_126 post (nI n) (nI (6 * n + p)) m 0 u := by
  have z4 := hJ.2.1
  refine pk_loop (fun m i s => kx_enterJoined_126 post (nI n) (nI (6 * n + p)) m (nI i) s) (fun i s => fr [18] u s ∧ (∀ j, (j < 4 * (6 * n + p) ∨ 4 * (6 * n + p) + 4 ≤ j) → ao s 18 j = ao u 18 j) ∧ ∀ t, t < i → ao s 18 (4 * (6 * n + p) + t) = nI (q t)) z 0 u (Nat.zero_le _)
    ⟨fr_rf, fun _ _ => rfl, fun t ht => by omega⟩ ?_ ?_
  · rintro m s ⟨h1, h2, h3⟩
    show kx_enterJoined_126 _ _ _ _ _ _
    rw [cx_enterJoined_126]
    simp only [fr_fo h1 2, hJ.1, clI (show n < 2 ^ 31 by omega), fr_ao h1 16, hk]
    refine pk_le z z (fun _ => ⟨pk_in n 256 hn, pk_le 5 k (fun h => ⟨pk_in n 256 hn, nm_e ?_⟩) (fun h => ⟨pk_in n 256 hn, pk_in n 256 hn, nm_e ?_⟩)⟩) (fun h => absurd h (by omega))
    · refine K _ (fr_a (fr_mn h1 (by decide)) (by decide)) (fun m hm => ?_) ?_ (fun c => ?_) h2 h3
      · exact u_n hm
      · show upd (ao u 16) n _ n = _
        rw [u_s, if_neg (by omega)]
        exact vby (m := 5) (by omega)
      · show ao s 17 c = _
        rw [fr_ao h1 17]
    · refine K _ (fr_a (fr_mn h1 (by decide)) (by decide)) (fun m hm => ?_) ?_ (fun c => ?_) h2 h3
      · exact u_n hm
      · show upd (ao u 16) n _ n = _
        rw [u_s, if_pos (by omega), nI_1]
        exact vby (by omega)
      · show ao s 17 c = _
        rw [fr_ao h1 17]
  · rintro m i s hi ⟨h1, h2, h3⟩ hr
    have hqi := hq i hi
    show kx_enterJoined_126 _ _ _ _ _ _
    rw [cx_enterJoined_126]
    simp only [fr_fo h1 2, hJ.1, m4, clI (show i < 2 ^ 31 by omega), clI (show 4 * (6 * n + p) + i < 2 ^ 31 by omega), fr_ao h1 24, hJ.2.2 i hi, vsn (show q i < 32768 by omega)]
    refine pk_le z i (fun h => absurd h (by omega)) (fun _ => ⟨pk_in i 8 (by omega), pk_in (4 * (6 * n + p) + i) 6144 (by omega), nm_e (nm_r (nI_1 i) (hr _ ⟨fr_a h1 (by decide), fun j hj => ?_, fun t ht => ?_⟩))⟩)
    · show upd (ao s 18) (4 * (6 * n + p) + i) _ j = _
      rw [u_n (by omega)]; exact h2 j hj
    · show upd (ao s 18) (4 * (6 * n + p) + i) _ (4 * (6 * n + p) + t) = _
      by_cases e : t = i
      · rw [e, u_s]
      · rw [u_n (by omega)]; exact h3 t (by omega)
/-- putting the joined cut at place p: the cuts below p and those above it (up to k, not beyond 4) are good -/
theorem hx_ej93 {post : SX → Prop} {N : Nat} {L R : Nat → Nat} {u : SX} {n p k z : Nat} {q : Nat → Nat} {dp : Int32} (hn : n < 256) (hpk : p ≤ k) (hJ : Jn u z q) (hq : ∀ t, t < z → 1 ≤ q t ∧ q t < n) (hcov : Cov N L R (fun m => ∃ i, i < z ∧ q i = m) n)
    (hk : ao u 16 n = nI k) (hk5 : k ≤ 5) (g1 : ∀ c, c < p → Gc N L R u n (6 * n + c) n) (g2 : ∀ c, p < c → c ≤ k → c ≤ 4 → Gc N L R u n (6 * n + c) n)
    (K : ∀ u' k', fr [16, 17, 18, 19] u u' → Ca n u u' → Ks N L R u' n k' → 1 ≤ k' → post u') : kx_enterJoined_93 post (nI n) dp (nI (6 * n + p)) (nI (6 * n)) u := by
  have e5 : nI (6 * n) + 6 - 1 = nI (6 * n + 5) := by
    show nI (6 * n) + nI 6 - nI 1 = _
    rw [nI_add, pk_sub (by omega)]
    exact congrArg nI (by omega)
  have z4 := hJ.2.1
  rw [cx_enterJoined_93]
  simp only [e5, hJ.1, clI (show 6 * n + p < 2 ^ 31 by omega), vby (show z < 128 by omega)]
  refine pk_le (6 * n + 5) (6 * n + p) (fun h => ?_) (fun h => ⟨pk_in (6 * n + p) 1536 (by omega), nm_e ⟨pk_in (6 * n + p) 1536 (by omega), nm_e ?_⟩⟩)
  · exact K u k fr_rf Ca_rf ⟨hk, hk5, fun c hc => g1 c (by omega)⟩ (by omega)
  · refine hx_ej126 (k := k) (z := z) (q := q) hn (by omega) ⟨hJ.1, z4, hJ.2.2⟩ (fun t ht => by have := hq t ht; omega) hk hk5 (fun u' f1 f2 f3 f4 f5 f6 => ?_)
    have s1 : ∀ c, c ≠ 6 * n + p → ao u' 17 c = ao u 17 c := fun c hc => (f4 c).trans (u_n hc)
    have s2 : ao u' 17 (6 * n + p) = nI z := (f4 (6 * n + p)).trans u_s
    refine K u' (if k < 5 then k + 1 else 5) (fr_tr (fr_a (fr_a fr_rf (by decide)) (by decide)) f1) ⟨fun m hm => f2 m (by omega), fun c hc => s1 c (by omega), fun i hi => f5 i (by omega)⟩ ⟨f3, by split <;> omega, fun c hc => ?_⟩ (by split <;> omega)
    by_cases e : c = p
    · subst e
      exact ⟨z, q, ⟨s2, z4, f6⟩, hq, hcov⟩
    · have hg : Gc N L R u n (6 * n + c) n := by
        by_cases e2 : c < p
        · exact g1 c e2
        · exact g2 c (by omega) (by split at hc <;> omega) (by split at hc <;> omega)
      exact Gc_i hg (s1 _ (by omega)) (fun i hi => f5 _ (by omega))
theorem hx_enterJoined {post : SX → Prop} {N : Nat} {L R : Nat → Nat} {u : SX} {n k z : Nat} {q : Nat → Nat} (hn : n < 256) (hJ : Jn u z q) (hq : ∀ t, t < z → 1 ≤ q t ∧ q t < n) (hcov : Cov N L R (fun m => ∃ i, i < z ∧ q i = m) n) (hK : Ks N L R u n k)
    (K : ∀ u' k', fr [16, 17, 18, 19] u u' → Ca n u u' → Ks N L R u' n k' → 1 ≤ k' → post u') : wpX_enterJoined post u (nI n) := by
  have hk5 := hK.2.1
  rw [cx_enterJoined]
  refine hx_joinedDepth hJ (fun t ht => by have := hq t ht; omega) (fun r => ?_)
  simp only [clI (show n < 2 ^ 31 by omega), hK.1, m60, nI_add]
  refine ⟨pk_in n 256 hn, nm_e (nm_e ?_)⟩
  suffices h : ∃ m, (fun m (p : Nat) (s : SX) => kx_enterJoined_23 post (nI n) r (nI (6 * n)) m (nI (6 * n + p)) s) m k u from h
  refine lp2 (fun m (p : Nat) (s : SX) => kx_enterJoined_23 post (nI n) r (nI (6 * n)) m (nI (6 * n + p)) s) (fun p s => fr [17, 18, 19] u s ∧ Ca n u s ∧ p ≤ k ∧ (∀ c, c < p → Gc N L R s n (6 * n + c) n) ∧ ∀ c, p < c → c ≤ k → c ≤ 4 → Gc N L R s n (6 * n + c) n) (fun p _ => p) ?_ k u ⟨fr_rf, Ca_rf, Nat.le_refl _, hK.2.2, fun c h1 h2 _ => by omega⟩
  rintro m p s ⟨f1, f2, f3, f4, f5⟩ hr
  have hJ' : Jn s z q := ⟨by rw [fr_fo f1 2]; exact hJ.1, hJ.2.1, fun t ht => by rw [fr_ao f1 24]; exact hJ.2.2 t ht⟩
  have hk' : ao s 16 n = nI k := by rw [fr_ao f1 16]; exact hK.1
  have H93 : kx_enterJoined_93 post (nI n) r (nI (6 * n + p)) (nI (6 * n)) s :=
    hx_ej93 hn f3 hJ' hq hcov hk' hk5 f4 f5 (fun u' k' a b c d => K u' k' (fr_tr (fr_mn f1 (by decide)) a) (Ca_tr f2 b) c d)
  have e5 : nI (6 * n) + 6 - 1 = nI (6 * n + 5) := by
    show nI (6 * n) + nI 6 - nI 1 = _
    rw [nI_add, pk_sub (by omega)]
    exact congrArg nI (by omega)
  have H68 : 0 < p → kx_enterJoined_68 post (fun y0 s => kx_enterJoined_23 post (nI n) r (nI (6 * n)) m y0 s) (nI n) r (nI (6 * n + p)) (nI (6 * n)) s := by
    intro hp
    obtain ⟨p, rfl⟩ : ∃ p', p = p' + 1 := ⟨p - 1, by omega⟩
    have em : nI (6 * n + (p + 1)) + (-1) = nI (6 * n + p) := pk_m1 (6 * n + p)
    have em' : nI (6 * n + (p + 1)) - 1 = nI (6 * n + p) := nI_pred (6 * n + p)
    rw [cx_enterJoined_68]
    simp only [e5, em']
    refine pk_le (6 * n + 5) (6 * n + (p + 1)) (fun h => nm_r em (hr p s ⟨f1, f2, by omega, fun c hc => f4 c (by omega), fun c h1 h2 h3 => by omega⟩ (by omega))) (fun h => ?_)
    refine hx_copyCut (f := 6 * n + p) (t := 6 * n + (p + 1)) (by omega) (by omega) (by omega) (fun u' a1 a2 a3 a4 => ?_)
    refine nm_r em (hr p u' ⟨fr_tr f1 a1, Ca_tr f2 ⟨fun m hm => by rw [fr_ao a1 16], fun c hc => a2 c (by omega), fun i hi => a3 i (by omega)⟩, by omega, fun c hc => ?_, fun c h1 h2 h3 => ?_⟩ (by omega))
    · exact Gc_i (f4 c (by omega)) (a2 _ (by omega)) (fun i hi => a3 _ (by omega))
    · by_cases e : c = p + 1
      · subst e
        obtain ⟨z', l', b1, b2, b3⟩ := f4 p (by omega)
        exact ⟨z', l', a4 z' l' b1 (fun i hi => by have := b2 i hi; omega), b2, b3⟩
      · exact Gc_i (f5 c (by omega) h2 h3) (a2 _ (by omega)) (fun i hi => a3 _ (by omega))
  show kx_enterJoined_23 _ _ _ _ _ _ _
  rw [cx_enterJoined_23]
  refine pk_le (6 * n + p) (6 * n) (fun _ => H93) (fun h => ?_)
  have hin : vp_in (nI (6 * n + p) - 1) 1536 := by
    obtain ⟨p, rfl⟩ : ∃ p', p = p' + 1 := ⟨p - 1, by omega⟩
    rw [show nI (6 * n + (p + 1)) - 1 = nI (6 * n + p) from nI_pred (6 * n + p)]
    exact pk_in (6 * n + p) 1536 (by omega)
  exact ⟨hin, br_c (fun _ => H68 (by omega)) (fun _ => ⟨hin, br_c (fun _ => ⟨hin, br_c (fun _ => H93) (fun _ => H68 (by omega))⟩) (fun _ => H93)⟩)⟩
end
section
theorem hx_enterSelf {post : SX → Prop} {u : SX} {n k : Nat} (hn : n < 256) (hk : ao u 16 n = nI k) (hk5 : k ≤ 5)
    (K : ∀ u', fr [16, 17, 18, 19] u u' → (∀ c, c ≠ 6 * n + k → ao u' 17 c = ao u 17 c) → (∀ i, i ≠ 4 * (6 * n + k) → ao u' 18 i = ao u 18 i) →
      (∀ m, m ≠ n → ao u' 16 m = ao u 16 m) → ao u' 16 n = nI (k + 1) → Ct u' (6 * n + k) 1 (fun _ => n) → post u') : wpX_enterSelf post u (nI n) := by
  rw [cx_enterSelf]
  simp only [clI (show n < 2 ^ 31 by omega), hk, m60, nI_add]
  refine ⟨pk_in n 256 hn, nm_e ?_⟩
  simp only [clI (show 6 * n + k < 2 ^ 31 by omega), m40, clI (show 4 * (6 * n + k) < 2 ^ 31 by omega), vsh (show n < 32768 by omega), nI_1, vby (show k + 1 < 128 by omega)]
  refine ⟨pk_in (6 * n + k) 1536 (by omega), nm_e ⟨pk_in n 256 hn, pk_in (6 * n + k) 1536 (by omega), nm_e ⟨pk_in (4 * (6 * n + k)) 6144 (by omega), nm_e ⟨pk_in n 256 hn, pk_in n 256 hn, nm_e ?_⟩⟩⟩⟩
  refine K _ (fr_a (fr_a (fr_a (fr_a fr_rf (by decide)) (by decide)) (by decide)) (by decide)) (fun c hc => u_n hc) (fun i hi => u_n hi) (fun m hm => u_n hm) u_s ⟨?_, by omega, fun i hi => ?_⟩
  · show upd (ao u 17) (6 * n + k) _ (6 * n + k) = _
    rw [u_s]; exact vbn (m := 1) (by omega)
  · show upd (ao u 18) (4 * (6 * n + k)) _ (4 * (6 * n + k) + i) = _
    rw [show 4 * (6 * n + k) + i = 4 * (6 * n + k) from by omega, u_s]
/-- node n has k cuts, the last of one leaf -/
def Nk (N : Nat) (L R : Nat → Nat) (u : SX) (n k : Nat) : Prop := ao u 16 n = nI k ∧ 1 ≤ k ∧ k ≤ 6 ∧ (∀ c, c < k → Gc N L R u n (6 * n + c) (n + 1)) ∧ ∃ l, Ct u (6 * n + (k - 1)) 1 l
theorem Gc_ca {N : Nat} {L R : Nat → Nat} {u v : SX} {n m c b : Nat} (h : Gc N L R u m c b) (hc : Ca n u v) (hn : c < 6 * n) : Gc N L R v m c b :=
  Gc_i h (hc.2.1 c hn) (fun i hi => hc.2.2 _ (by omega))
theorem Ct_ca {u v : SX} {n c z : Nat} {l : Nat → Nat} (h : Ct u c z l) (hc : Ca n u v) (hn : c < 6 * n) : Ct v c z l :=
  Ct_i h (hc.2.1 c hn) (fun i hi => hc.2.2 _ (by omega))
theorem Nk_ca {N : Nat} {L R : Nat → Nat} {u v : SX} {n m k : Nat} (h : Nk N L R u m k) (hc : Ca n u v) (hn : m < n) : Nk N L R v m k := by
  obtain ⟨h1, h2, h3, h4, l, h5⟩ := h
  exact ⟨(hc.1 m hn).trans h1, h2, h3, fun c hk => Gc_ca (h4 c hk) hc (by omega), l, Ct_ca h5 hc (by omega)⟩
theorem Ks_ca {N : Nat} {L R : Nat → Nat} {u v : SX} {n k : Nat} (h : Ks N L R u n k) (hf : fr [2, 24] u v) : Ks N L R v n k :=
  ⟨by rw [fr_ao hf 16]; exact h.1, h.2.1, fun c hk => Gc_i (h.2.2 c hk) (by rw [fr_ao hf 17]) (fun i _ => by rw [fr_ao hf 18])⟩
theorem hx_ja28 {post : SX → Prop} {J : Int32 → SX → Prop} {N : Nat} {L R : Nat → Nat} {u : SX} {n a b ka kb i k0 : Nat} (hn : n < 256) (h13 : 13 ≤ n) (hN : n < N) (hL : L n / 2 = a) (hR : R n / 2 = b) (ha : a < n) (hb : b < n)
    (hA : Nk N L R u a ka) (hB : Nk N L R u b kb) (hi0 : 6 * a ≤ i) (hi : i < 6 * a + ka) (hk0 : Ks N L R u n k0)
    (K : ∀ u' k, fr [2, 24, 16, 17, 18, 19] u u' → Ca n u u' → Ks N L R u' n k → (i + 1 = 6 * a + ka → 1 ≤ k) → J (nI (i + 1)) u') :
    ∃ m, kx_joinAll_28 post J (nI n) (nI a) (nI b) (nI i) m (nI (6 * b)) u := by
  have kb6 := hB.2.2.1
  have ka6 := hA.2.2.1
  refine pk_loop (fun m j s => kx_joinAll_28 post J (nI n) (nI a) (nI b) (nI i) m (nI j) s) (fun j s => 6 * b ≤ j ∧ fr [2, 24, 16, 17, 18, 19] u s ∧ Ca n u s ∧ ∃ k, Ks N L R s n k ∧ (i + 1 = 6 * a + ka → j = 6 * b + kb → 1 ≤ k)) (6 * b + kb) (6 * b) u (by omega)
    ⟨Nat.le_refl _, fr_rf, Ca_rf, k0, hk0, fun _ h => by have := hB.2.1; omega⟩ ?_ ?_
  · rintro m s ⟨_, h1, h2, k, h3, h4⟩
    show kx_joinAll_28 _ _ _ _ _ _ _ _ _
    rw [cx_joinAll_28]
    simp only [clI (show b < 2 ^ 31 by omega), (Nk_ca hB h2 hb).1, m60, nI_add]
    exact ⟨pk_in b 256 (by omega), pk_le (6 * b + kb) (6 * b + kb) (fun _ => nm_r (nI_1 i) (K s k h1 h2 h3 (fun h => h4 h rfl))) (fun h => absurd h (by omega))⟩
  · rintro m j s hj ⟨hj0, h1, h2, k, h3, h4⟩ hr
    have hA' := Nk_ca hA h2 ha
    have hB' := Nk_ca hB h2 hb
    obtain ⟨z1, l1, p1, p2, p3⟩ := hA'.2.2.2.1 (i - 6 * a) (by omega)
    obtain ⟨z2, l2, q1, q2, q3⟩ := hB'.2.2.2.1 (j - 6 * b) (by omega)
    rw [show 6 * a + (i - 6 * a) = i from by omega] at p1
    rw [show 6 * b + (j - 6 * b) = j from by omega] at q1
    have hlast : i + 1 = 6 * a + ka → j + 1 = 6 * b + kb → z1 + z2 = 2 := by
      intro e1 e2
      obtain ⟨x, hx⟩ := hA'.2.2.2.2
      obtain ⟨y, hy⟩ := hB'.2.2.2.2
      rw [show 6 * a + (ka - 1) = i from by omega] at hx
      rw [show 6 * b + (kb - 1) = j from by omega] at hy
      have w1 := (nI_eq (by have := p1.2.1; omega) (by omega)).mp (p1.1.symm.trans hx.1)
      have w2 := (nI_eq (by have := q1.2.1; omega) (by omega)).mp (q1.1.symm.trans hy.1)
      omega
    show kx_joinAll_28 _ _ _ _ _ _ _ _ _
    rw [cx_joinAll_28]
    simp only [clI (show b < 2 ^ 31 by omega), hB'.1, m60, nI_add]
    refine ⟨pk_in b 256 (by omega), pk_le (6 * b + kb) j (fun h => absurd h (by omega)) (fun _ => ?_)⟩
    refine hx_joinCuts p1 q1 (by omega) (by omega) (fun t ht => by have := p2 t ht; omega) (fun t ht => by have := q2 t ht; omega) (fun u1 f1 h5 => ?_) (fun u1 z q f1 hJ hJo => ?_)
    · refine br_t rfl (nm_r (nI_1 j) (hr u1 ⟨by omega, fr_tr h1 (fr_mn f1 (by decide)), Ca_tr h2 (Ca_fr f1), k, Ks_ca h3 f1, fun e1 e2 => ?_⟩))
      have := hlast e1 e2
      omega
    · refine br_f (by decide) ?_
      have h3' := Ks_ca h3 f1
      have hq : ∀ t, t < z → 1 ≤ q t ∧ q t < n := by
        intro t ht
        rcases hJo.1 t ht with ⟨x, hx, e⟩ | ⟨x, hx, e⟩
        · have := p2 x hx; omega
        · have := q2 x hx; omega
      have hcov : Cov N L R (fun m => ∃ i, i < z ∧ q i = m) n := by
        intro P hS hC
        refine hC n h13 hN ?_ ?_
        · rw [hL]
          refine p3 P ?_ hC
          rintro l ⟨x, hx, rfl⟩
          obtain ⟨t, ht, e⟩ := hJo.2.1 x hx
          exact hS _ ⟨t, ht, e⟩
        · rw [hR]
          refine q3 P ?_ hC
          rintro l ⟨x, hx, rfl⟩
          obtain ⟨t, ht, e⟩ := hJo.2.2 x hx
          exact hS _ ⟨t, ht, e⟩
      refine hx_hasJoined hn h3'.1 (by have := h3'.2.1; omega) hJ.1 hJ.2.1 (br_t rfl ?_) (fun hk => br_f (by decide) ?_)
      · refine hx_enterJoined hn hJ hq hcov h3' (fun u2 k2 f2 c2 s2 g2 => ?_)
        exact nm_r (nI_1 j) (hr u2 ⟨by omega, fr_tr (fr_tr h1 (fr_mn f1 (by decide))) (fr_mn f2 (by decide)), Ca_tr h2 (Ca_tr (Ca_fr f1) c2), k2, s2, fun _ _ => g2⟩)
      · exact nm_r (nI_1 j) (hr u1 ⟨by omega, fr_tr h1 (fr_mn f1 (by decide)), Ca_tr h2 (Ca_fr f1), k, h3', fun _ _ => hk⟩)
theorem hx_joinAll {post : SX → Prop} {N : Nat} {L R : Nat → Nat} {u : SX} {n a b ka kb : Nat} (hn : n < 256) (h13 : 13 ≤ n) (hN : n < N) (hL : L n / 2 = a) (hR : R n / 2 = b) (ha : a < n) (hb : b < n)
    (hA : Nk N L R u a ka) (hB : Nk N L R u b kb) (hk0 : Ks N L R u n 0)
    (K : ∀ u' k, fr [2, 24, 16, 17, 18, 19] u u' → Ca n u u' → Ks N L R u' n k → 1 ≤ k → post u') : wpX_joinAll post u (nI n) (nI a) (nI b) := by
  have ka6 := hA.2.2.1
  rw [cx_joinAll, m60]
  refine nm_e ?_
  refine pk_loop (fun m i s => kx_joinAll_6 post (nI n) (nI a) (nI b) m (nI i) s) (fun i s => 6 * a ≤ i ∧ fr [2, 24, 16, 17, 18, 19] u s ∧ Ca n u s ∧ ∃ k, Ks N L R s n k ∧ (i = 6 * a + ka → 1 ≤ k)) (6 * a + ka) (6 * a) u (by omega)
    ⟨Nat.le_refl _, fr_rf, Ca_rf, 0, hk0, fun h => by have := hA.2.1; omega⟩ ?_ ?_
  · rintro m s ⟨_, h1, h2, k, h3, h4⟩
    show kx_joinAll_6 _ _ _ _ _ _ _
    rw [cx_joinAll_6]
    simp only [clI (show a < 2 ^ 31 by omega), (Nk_ca hA h2 ha).1, m60, nI_add]
    exact ⟨pk_in a 256 (by omega), pk_le (6 * a + ka) (6 * a + ka) (fun _ => K s k h1 h2 h3 (h4 rfl)) (fun h => absurd h (by omega))⟩
  · rintro m i s hi ⟨hi0, h1, h2, k, h3, h4⟩ hr
    show kx_joinAll_6 _ _ _ _ _ _ _
    rw [cx_joinAll_6]
    simp only [clI (show a < 2 ^ 31 by omega), (Nk_ca hA h2 ha).1, m60, nI_add]
    refine ⟨pk_in a 256 (by omega), pk_le (6 * a + ka) i (fun h => absurd h (by omega)) (fun _ => nm_e ?_)⟩
    exact hx_ja28 hn h13 hN hL hR ha hb (Nk_ca hA h2 ha) (Nk_ca hB h2 hb) hi0 hi h3 (fun u' k' f1 f2 f3 f4 => hr u' ⟨by omega, fr_tr h1 f1, Ca_tr h2 f2, k', f3, f4⟩)
def Nf (N : Nat) (L R : Nat → Nat) (u : SX) (m : Nat) : Prop := (1 ≤ m → ∃ k, Nk N L R u m k) ∧ (13 ≤ m → Gc N L R u m (6 * m) m) ∧ (m < 13 → Ct u (6 * m) 1 (fun _ => m))
theorem Nf_ca {N : Nat} {L R : Nat → Nat} {u v : SX} {n m : Nat} (h : Nf N L R u m) (hc : Ca n u v) (hn : m < n) : Nf N L R v m :=
  ⟨fun z => (h.1 z).imp (fun k hk => Nk_ca hk hc hn), fun z => Gc_ca (h.2.1 z) hc (by omega), fun z => Ct_ca (h.2.2 z) hc (by omega)⟩
theorem sh1 {m : Nat} (h : m < 2 ^ 31) : nI m >>> ((1 : Int32) &&& 31) = nI (m / 2) := pk_shrN h ((1 : Int32) &&& 31) 1 (by decide)
theorem hx_fc36 {post : SX → Prop} {N : Nat} {L R : Nat → Nat} {u u0 : SX} (hq : Gq u N L R) (hN : N ≤ 133) (hf : fr [2, 24, 16, 17, 18, 19, 20] u u0) (h0 : ∀ m, m < 13 → Nf N L R u0 m)
    (K : ∀ u', fr [2, 24, 16, 17, 18, 19, 20] u u' → (∀ m, m < N → Nf N L R u' m) → post u') : ∃ n, kx_findCuts_36 post n 13 u0 := by
  refine pk_loop (fun n i s => kx_findCuts_36 post n (nI i) s) (fun i s => 13 ≤ i ∧ fr [2, 24, 16, 17, 18, 19, 20] u s ∧ ∀ m, m < i → Nf N L R s m) N 13 u0 hq.2.1 ⟨Nat.le_refl _, hf, h0⟩ ?_ ?_
  · rintro n s ⟨_, h1, h2⟩
    show kx_findCuts_36 _ _ _ _
    rw [cx_findCuts_36, fr_fo h1 1, hq.1]
    exact pk_le N N (fun _ => K s h1 h2) (fun h => absurd h (by omega))
  · rintro n i s hi ⟨h13, h1, h2⟩ hr
    have hn := hq.2.2 i h13 hi
    show kx_findCuts_36 _ _ _ _
    rw [cx_findCuts_36]
    simp only [fr_fo h1 1, hq.1, clI (show i < 2 ^ 31 by omega), fr_ao h1 13, fr_ao h1 14, hn.1, hn.2.1, sh1 (show L i < 2 ^ 31 by omega), sh1 (show R i < 2 ^ 31 by omega)]
    refine pk_le N i (fun h => absurd h (by omega)) (fun _ => ⟨pk_in i 256 (by omega), nm_e ⟨pk_in i 256 (by omega), pk_in i 256 (by omega), ?_⟩⟩)
    have c1 : Ca i s (sa s 16 (upd (ao s 16) i (vp_nar .byte 0))) := ⟨fun m hm => u_n (by omega), fun _ _ => rfl, fun _ _ => rfl⟩
    obtain ⟨ka, hA⟩ := (Nf_ca (h2 (L i / 2) (by omega)) c1 (by omega)).1 (by omega)
    obtain ⟨kb, hB⟩ := (Nf_ca (h2 (R i / 2) (by omega)) c1 (by omega)).1 (by omega)
    refine hx_joinAll (by omega) h13 hi rfl rfl (by omega) (by omega) hA hB ⟨?_, by omega, fun c hc => by omega⟩ (fun u1 k f1 c2 k1 k2 => ?_)
    · show upd (ao s 16) i _ i = _
      rw [u_s]; exact vbn (m := 0) (by omega)
    have k5 := k1.2.1
    simp only [m60, clI (show 6 * i < 2 ^ 31 by omega), clI (show i < 2 ^ 31 by omega)]
    refine ⟨pk_in (6 * i) 1536 (by omega), pk_in i 256 (by omega), nm_e ?_⟩
    refine hx_enterSelf (k := k) (by omega) k1.1 k5 (fun u2 f2 e1 e2 e3 e4 e5 => ?_)
    have c3 : Ca i s u2 := Ca_tr c1 (Ca_tr c2 ⟨fun m hm => e3 m (by omega), fun c hc => e1 c (by omega), fun j hj => e2 j (by omega)⟩)
    have g : ∀ c, c < k → Gc N L R u2 i (6 * i + c) i := fun c hc => Gc_i (k1.2.2 c hc) (e1 _ (by omega)) (fun j hj => e2 _ (by omega))
    refine nm_r (nI_1 i) (hr u2 ⟨by omega, fr_tr (fr_a (fr_tr (fr_a h1 (by decide)) (fr_mn f1 (by decide))) (by decide)) (fr_mn f2 (by decide)), fun m hm => ?_⟩)
    by_cases e : m = i
    · subst e
      refine ⟨fun _ => ⟨k + 1, e4, by omega, by omega, fun c hc => ?_, fun _ => m, e5⟩, fun _ => g 0 (by omega), fun h => absurd h13 (by omega)⟩
      by_cases ec : c = k
      · subst ec
        exact ⟨1, fun _ => m, e5, fun _ _ => ⟨by omega, by omega⟩, fun P hS _ => hS m ⟨0, by omega, rfl⟩⟩
      · exact Gc_mn (g c (by omega)) (by omega)
    · exact Nf_ca (h2 m (by omega)) c3 (by omega)
theorem hx_findCuts {post : SX → Prop} {N : Nat} {L R : Nat → Nat} {u : SX} (hq : Gq u N L R) (hN : N ≤ 133)
    (K : ∀ u', fr [2, 24, 16, 17, 18, 19, 20] u u' → (∀ m, m < N → Nf N L R u' m) → post u') : wpX_findCuts post u := by
  rw [cx_findCuts]
  refine pk_loop (fun n i s => kx_findCuts_2 post n (nI i) s) (fun i s => fr [2, 24, 16, 17, 18, 19, 20] u s ∧ ∀ m, m < i → Nf N L R s m) 13 0 u (Nat.zero_le _) ⟨fr_rf, fun m hm => by omega⟩ ?_ ?_
  · rintro n s ⟨h1, h2⟩
    show kx_findCuts_2 _ _ _ _
    rw [cx_findCuts_2]
    exact pk_le 13 13 (fun _ => hx_fc36 hq hN h1 h2 K) (fun h => absurd h (by omega))
  · rintro n i s hi ⟨h1, h2⟩ hr
    show kx_findCuts_2 _ _ _ _
    rw [cx_findCuts_2]
    simp only [clI (show i < 2 ^ 31 by omega)]
    refine pk_le 13 i (fun h => absurd h (by omega)) (fun _ => ⟨pk_in i 256 (by omega), nm_e ⟨pk_in i 256 (by omega), nm_e ?_⟩⟩)
    refine hx_enterSelf (k := 0) (by omega) ?_ (by omega) (fun u2 f2 e1 e2 e3 e4 e5 => ?_)
    · show upd (ao s 16) i _ i = _
      rw [u_s]; exact vbn (m := 0) (by omega)
    have c3 : Ca i s u2 := ⟨fun m hm => (e3 m (by omega)).trans (u_n (by omega)), fun c hc => e1 c (by omega), fun j hj => e2 j (by omega)⟩
    refine nm_r (nI_1 i) (hr u2 ⟨fr_tr (fr_a (fr_a h1 (by decide)) (by decide)) (fr_mn f2 (by decide)), fun m hm => ?_⟩)
    by_cases e : m = i
    · subst e
      refine ⟨fun h => ⟨1, e4, by omega, by omega, fun c hc => ?_, fun _ => m, e5⟩, fun h => absurd h (by omega), fun _ => e5⟩
      rw [show c = 0 from by omega]
      exact ⟨1, fun _ => m, e5, fun _ _ => ⟨h, by omega⟩, fun P hS _ => hS m ⟨0, by omega, rfl⟩⟩
    · exact Nf_ca (h2 m (by omega)) c3 (by omega)
end
section
/-! ===== C: tables and needed nodes ===== -/
theorem cx_rowsOfEnd (post : Int32 → Prop) (u : SX) (p0 : Int32) : wpX_rowsOfEnd post u p0 = (vp_in (p0 >>> ((1 : Int32) &&& 31)) 256 ∧ (∀ x2_2 : Int32, x2_2 = (ao u 23) (p0 >>> ((1 : Int32) &&& 31)).toNatClampNeg → ((((p0 &&& 1) = 0 → (post x2_2)) ∧ (¬ (p0 &&& 1) = 0 → (post ((x2_2 ^^^ (- 1)) &&& 65535))))))) := rfl
def kx_tableFor_51 (post : Int32 → SX → Prop) (J6 : Int32 → SX → Prop) (x1 : Int32) (x2 : Int32) (x3 : Int32) (n : Nat) (x4 : Int32) (u : SX) : Prop := match u with
  | (qf_gates, qf_nodes, qf_joinedSize, qf_cells, qf_chanceState, qf_isBuilt, qf_levels, qa_kinds, qa_firsts, qa_seconds, qa_thirds, qa_nextOf, qa_shownBy, qa_left, qa_right, qa_endOf, qa_cutCount, qa_cutSize, qa_cutLeaf, qa_cutDepth, qa_depthOf, qa_needed, qa_tableOf, qa_rows, qa_joined, qa_tableBits, qa_cellSource, qa_placeOf, qa_cellAt, qa_used, qa_worn, qa_inTree, qa_treeFrom, qa_farness, qa_cameFrom, qa_settled, qa_trackTaken, qa_trackOf, qa_switchBits, qa_pinTrack, qa_outTrack, qa_padTrack, qa_deviceTable, qa_hasFlip, qa_registerPlace, qa_outputPlace, qa_wireRoot, qa_wireLevel, qa_flip, qa_tableOut) => wX_tableFor_51 post (fun x3 a_kinds a_firsts a_seconds a_thirds a_nextOf a_shownBy a_left a_right a_endOf a_cutCount a_cutSize a_cutLeaf a_cutDepth a_depthOf a_needed a_tableOf a_rows a_joined a_tableBits a_cellSource a_placeOf a_cellAt a_used a_worn a_inTree a_treeFrom a_farness a_cameFrom a_settled a_trackTaken a_trackOf a_switchBits a_pinTrack a_outTrack a_padTrack a_deviceTable a_hasFlip a_registerPlace a_outputPlace a_wireRoot a_wireLevel a_flip a_tableOut => J6 x3 (qf_gates, qf_nodes, qf_joinedSize, qf_cells, qf_chanceState, qf_isBuilt, qf_levels, a_kinds, a_firsts, a_seconds, a_thirds, a_nextOf, a_shownBy, a_left, a_right, a_endOf, a_cutCount, a_cutSize, a_cutLeaf, a_cutDepth, a_depthOf, a_needed, a_tableOf, a_rows, a_joined, a_tableBits, a_cellSource, a_placeOf, a_cellAt, a_used, a_worn, a_inTree, a_treeFrom, a_farness, a_cameFrom, a_settled, a_trackTaken, a_trackOf, a_switchBits, a_pinTrack, a_outTrack, a_padTrack, a_deviceTable, a_hasFlip, a_registerPlace, a_outputPlace, a_wireRoot, a_wireLevel, a_flip, a_tableOut)) x1 x2 x3 qf_gates qf_nodes qf_joinedSize qf_cells qf_chanceState qf_isBuilt qf_levels n x4 qa_kinds qa_firsts qa_seconds qa_thirds qa_nextOf qa_shownBy qa_left qa_right qa_endOf qa_cutCount qa_cutSize qa_cutLeaf qa_cutDepth qa_depthOf qa_needed qa_tableOf qa_rows qa_joined qa_tableBits qa_cellSource qa_placeOf qa_cellAt qa_used qa_worn qa_inTree qa_treeFrom qa_farness qa_cameFrom qa_settled qa_trackTaken qa_trackOf qa_switchBits qa_pinTrack qa_outTrack qa_padTrack qa_deviceTable qa_hasFlip qa_registerPlace qa_outputPlace qa_wireRoot qa_wireLevel qa_flip qa_tableOut
theorem cx_tableFor_51 (post : Int32 → SX → Prop) (J6 : Int32 → SX → Prop) (x1 : Int32) (x2 : Int32) (x3 : Int32) (n : Nat) (x4 : Int32) (u : SX) : kx_tableFor_51 post J6 x1 x2 x3 (n + 1) x4 u = (vp_in (x2 * 6) 1536 ∧ (((((ao u 17) (x2 * 6).toNatClampNeg) ≤ x4 → (∀ x3_163 : Int32, x3_163 = x3 + 1 → (J6 x3_163 u))) ∧ (¬ ((ao u 17) (x2 * 6).toNatClampNeg) ≤ x4 → (vp_in (((x2 * 6) * 4) + x4) 6144 ∧ (((((ao u 18) (((x2 * 6) * 4) + x4).toNatClampNeg) = x3 → (((x3 ≤ 0 → (vp_in x3 256 ∧ (vp_in x3 256 ∧ ∀ a_rows_173 : Nat → Int32, a_rows_173 = upd (ao u 23) x3.toNatClampNeg ((ao u 23) x3.toNatClampNeg) → (∀ x4_174 : Int32, x4_174 = x4 + 1 → (kx_tableFor_51 post J6 x1 x2 x3 n x4_174 (sa u 23 a_rows_173)))))) ∧ (¬ x3 ≤ 0 → (wpX_rowsOfInput (fun r_175 => (vp_in x3 256 ∧ ∀ a_rows_177 : Nat → Int32, a_rows_177 = upd (ao u 23) x3.toNatClampNeg r_175 → (∀ x4_178 : Int32, x4_178 = x4 + 1 → (kx_tableFor_51 post J6 x1 x2 x3 n x4_178 (sa u 23 a_rows_177))))) x4))))) ∧ (¬ ((ao u 18) (((x2 * 6) * 4) + x4).toNatClampNeg) = x3 → (vp_in x3 256 ∧ (vp_in x3 256 ∧ ∀ a_rows_168 : Nat → Int32, a_rows_168 = upd (ao u 23) x3.toNatClampNeg ((ao u 23) x3.toNatClampNeg) → (∀ x4_169 : Int32, x4_169 = x4 + 1 → (kx_tableFor_51 post J6 x1 x2 x3 n x4_169 (sa u 23 a_rows_168))))))))))))) := rfl
def kx_tableFor_6 (post : Int32 → SX → Prop) (x1 : Int32) (x2 : Int32) (n : Nat) (x3 : Int32) (u : SX) : Prop := match u with
  | (qf_gates, qf_nodes, qf_joinedSize, qf_cells, qf_chanceState, qf_isBuilt, qf_levels, qa_kinds, qa_firsts, qa_seconds, qa_thirds, qa_nextOf, qa_shownBy, qa_left, qa_right, qa_endOf, qa_cutCount, qa_cutSize, qa_cutLeaf, qa_cutDepth, qa_depthOf, qa_needed, qa_tableOf, qa_rows, qa_joined, qa_tableBits, qa_cellSource, qa_placeOf, qa_cellAt, qa_used, qa_worn, qa_inTree, qa_treeFrom, qa_farness, qa_cameFrom, qa_settled, qa_trackTaken, qa_trackOf, qa_switchBits, qa_pinTrack, qa_outTrack, qa_padTrack, qa_deviceTable, qa_hasFlip, qa_registerPlace, qa_outputPlace, qa_wireRoot, qa_wireLevel, qa_flip, qa_tableOut) => wX_tableFor_6 post x1 x2 qf_gates qf_nodes qf_joinedSize qf_cells qf_chanceState qf_isBuilt qf_levels n x3 qa_kinds qa_firsts qa_seconds qa_thirds qa_nextOf qa_shownBy qa_left qa_right qa_endOf qa_cutCount qa_cutSize qa_cutLeaf qa_cutDepth qa_depthOf qa_needed qa_tableOf qa_rows qa_joined qa_tableBits qa_cellSource qa_placeOf qa_cellAt qa_used qa_worn qa_inTree qa_treeFrom qa_farness qa_cameFrom qa_settled qa_trackTaken qa_trackOf qa_switchBits qa_pinTrack qa_outTrack qa_padTrack qa_deviceTable qa_hasFlip qa_registerPlace qa_outputPlace qa_wireRoot qa_wireLevel qa_flip qa_tableOut
theorem cx_tableFor_6 (post : Int32 → SX → Prop) (x1 : Int32) (x2 : Int32) (n : Nat) (x3 : Int32) (u : SX) : kx_tableFor_6 post x1 x2 (n + 1) x3 u = (((x2 < x3 → (wpX_rowsOfEnd (fun r_3 => (post r_3 u)) u x1)) ∧ (¬ x2 < x3 → (((13 ≤ x3 → (vp_in x3 256 ∧ (wpX_rowsOfEnd (fun r_56 => (vp_in x3 256 ∧ (wpX_rowsOfEnd (fun r_108 => (vp_in x3 256 ∧ ∀ a_rows_160 : Nat → Int32, a_rows_160 = upd (ao u 23) x3.toNatClampNeg (r_56 &&& r_108) → (∃ n51 : Nat, kx_tableFor_51 post (fun y0 s => kx_tableFor_6 post x1 x2 n y0 s) x1 x2 x3 n51 0 (sa u 23 a_rows_160)))) u ((ao u 14) x3.toNatClampNeg)))) u ((ao u 13) x3.toNatClampNeg)))) ∧ (¬ 13 ≤ x3 → (vp_in x3 256 ∧ ∀ a_rows_180 : Nat → Int32, a_rows_180 = upd (ao u 23) x3.toNatClampNeg 0 → (∃ n51 : Nat, kx_tableFor_51 post (fun y0 s => kx_tableFor_6 post x1 x2 n y0 s) x1 x2 x3 n51 0 (sa u 23 a_rows_180))))))))) := rfl
theorem cx_tableFor (post : Int32 → SX → Prop) (u : SX) (p0 : Int32) : wpX_tableFor post u p0 = (∀ x2_1 : Int32, x2_1 = p0 >>> ((1 : Int32) &&& 31) → (∃ n6 : Nat, kx_tableFor_6 post p0 x2_1 n6 0 u)) := rfl
theorem cx_rootOf (post : Int32 → Prop) (u : SX) (p0 : Int32) : wpX_rootOf post u p0 = (((6 ≤ p0 → (vp_in (p0 - 6) 4 ∧ (vp_in ((ao u 12) (p0 - 6).toNatClampNeg) 32 ∧ (post ((ao u 15) ((ao u 12) (p0 - 6).toNatClampNeg).toNatClampNeg))))) ∧ (¬ 6 ≤ p0 → (vp_in p0 6 ∧ (vp_in ((ao u 11) p0.toNatClampNeg) 32 ∧ (post ((ao u 15) ((ao u 11) p0.toNatClampNeg).toNatClampNeg))))))) := rfl
def kx_needLeaves_2 (post : SX → Prop) (x1 : Int32) (n : Nat) (x2 : Int32) (u : SX) : Prop := match u with
  | (qf_gates, qf_nodes, qf_joinedSize, qf_cells, qf_chanceState, qf_isBuilt, qf_levels, qa_kinds, qa_firsts, qa_seconds, qa_thirds, qa_nextOf, qa_shownBy, qa_left, qa_right, qa_endOf, qa_cutCount, qa_cutSize, qa_cutLeaf, qa_cutDepth, qa_depthOf, qa_needed, qa_tableOf, qa_rows, qa_joined, qa_tableBits, qa_cellSource, qa_placeOf, qa_cellAt, qa_used, qa_worn, qa_inTree, qa_treeFrom, qa_farness, qa_cameFrom, qa_settled, qa_trackTaken, qa_trackOf, qa_switchBits, qa_pinTrack, qa_outTrack, qa_padTrack, qa_deviceTable, qa_hasFlip, qa_registerPlace, qa_outputPlace, qa_wireRoot, qa_wireLevel, qa_flip, qa_tableOut) => wX_needLeaves_2 post x1 qf_gates qf_nodes qf_joinedSize qf_cells qf_chanceState qf_isBuilt qf_levels n x2 qa_kinds qa_firsts qa_seconds qa_thirds qa_nextOf qa_shownBy qa_left qa_right qa_endOf qa_cutCount qa_cutSize qa_cutLeaf qa_cutDepth qa_depthOf qa_needed qa_tableOf qa_rows qa_joined qa_tableBits qa_cellSource qa_placeOf qa_cellAt qa_used qa_worn qa_inTree qa_treeFrom qa_farness qa_cameFrom qa_settled qa_trackTaken qa_trackOf qa_switchBits qa_pinTrack qa_outTrack qa_padTrack qa_deviceTable qa_hasFlip qa_registerPlace qa_outputPlace qa_wireRoot qa_wireLevel qa_flip qa_tableOut
theorem cx_needLeaves_2 (post : SX → Prop) (x1 : Int32) (n : Nat) (x2 : Int32) (u : SX) : kx_needLeaves_2 post x1 (n + 1) x2 u = (vp_in (x1 * 6) 1536 ∧ (((((ao u 17) (x1 * 6).toNatClampNeg) ≤ x2 → (post u)) ∧ (¬ ((ao u 17) (x1 * 6).toNatClampNeg) ≤ x2 → (((x1 < 13 → (post u)) ∧ (¬ x1 < 13 → (vp_in (((x1 * 6) * 4) + x2) 6144 ∧ (vp_in ((ao u 18) (((x1 * 6) * 4) + x2).toNatClampNeg) 256 ∧ ∀ a_needed_6 : Nat → Int32, a_needed_6 = upd (ao u 21) ((ao u 18) (((x1 * 6) * 4) + x2).toNatClampNeg).toNatClampNeg (vp_nar .boolean 1) → (∀ x2_7 : Int32, x2_7 = x2 + 1 → (kx_needLeaves_2 post x1 n x2_7 (sa u 21 a_needed_6)))))))))))) := rfl
theorem cx_needLeaves (post : SX → Prop) (u : SX) (p0 : Int32) : wpX_needLeaves post u p0 = (∃ n2 : Nat, kx_needLeaves_2 post p0 n2 0 u) := rfl
def kx_findNeeded_57 (post : SX → Prop) (n : Nat) (x1 : Int32) (u : SX) : Prop := match u with
  | (qf_gates, qf_nodes, qf_joinedSize, qf_cells, qf_chanceState, qf_isBuilt, qf_levels, qa_kinds, qa_firsts, qa_seconds, qa_thirds, qa_nextOf, qa_shownBy, qa_left, qa_right, qa_endOf, qa_cutCount, qa_cutSize, qa_cutLeaf, qa_cutDepth, qa_depthOf, qa_needed, qa_tableOf, qa_rows, qa_joined, qa_tableBits, qa_cellSource, qa_placeOf, qa_cellAt, qa_used, qa_worn, qa_inTree, qa_treeFrom, qa_farness, qa_cameFrom, qa_settled, qa_trackTaken, qa_trackOf, qa_switchBits, qa_pinTrack, qa_outTrack, qa_padTrack, qa_deviceTable, qa_hasFlip, qa_registerPlace, qa_outputPlace, qa_wireRoot, qa_wireLevel, qa_flip, qa_tableOut) => wX_findNeeded_57 post n x1 qf_gates qf_nodes qf_joinedSize qf_cells qf_chanceState qf_isBuilt qf_levels qa_kinds qa_firsts qa_seconds qa_thirds qa_nextOf qa_shownBy qa_left qa_right qa_endOf qa_cutCount qa_cutSize qa_cutLeaf qa_cutDepth qa_depthOf qa_needed qa_tableOf qa_rows qa_joined qa_tableBits qa_cellSource qa_placeOf qa_cellAt qa_used qa_worn qa_inTree qa_treeFrom qa_farness qa_cameFrom qa_settled qa_trackTaken qa_trackOf qa_switchBits qa_pinTrack qa_outTrack qa_padTrack qa_deviceTable qa_hasFlip qa_registerPlace qa_outputPlace qa_wireRoot qa_wireLevel qa_flip qa_tableOut
theorem cx_findNeeded_57 (post : SX → Prop) (n : Nat) (x1 : Int32) (u : SX) : kx_findNeeded_57 post (n + 1) x1 u = (((x1 < 13 → (post u)) ∧ (¬ x1 < 13 → (vp_in x1 256 ∧ (((((ao u 21) x1.toNatClampNeg) = 0 → (∀ x1_7 : Int32, x1_7 = x1 + (- 1) → (kx_findNeeded_57 post n x1_7 u))) ∧ (¬ ((ao u 21) x1.toNatClampNeg) = 0 → (wpX_needLeaves (fun u1 => (∀ x1_59 : Int32, x1_59 = x1 + (- 1) → (kx_findNeeded_57 post n x1_59 u1))) u x1)))))))) := rfl
def kx_findNeeded_25 (post : SX → Prop) (n : Nat) (x1 : Int32) (u : SX) : Prop := match u with
  | (qf_gates, qf_nodes, qf_joinedSize, qf_cells, qf_chanceState, qf_isBuilt, qf_levels, qa_kinds, qa_firsts, qa_seconds, qa_thirds, qa_nextOf, qa_shownBy, qa_left, qa_right, qa_endOf, qa_cutCount, qa_cutSize, qa_cutLeaf, qa_cutDepth, qa_depthOf, qa_needed, qa_tableOf, qa_rows, qa_joined, qa_tableBits, qa_cellSource, qa_placeOf, qa_cellAt, qa_used, qa_worn, qa_inTree, qa_treeFrom, qa_farness, qa_cameFrom, qa_settled, qa_trackTaken, qa_trackOf, qa_switchBits, qa_pinTrack, qa_outTrack, qa_padTrack, qa_deviceTable, qa_hasFlip, qa_registerPlace, qa_outputPlace, qa_wireRoot, qa_wireLevel, qa_flip, qa_tableOut) => wX_findNeeded_25 post n x1 qf_gates qf_nodes qf_joinedSize qf_cells qf_chanceState qf_isBuilt qf_levels qa_kinds qa_firsts qa_seconds qa_thirds qa_nextOf qa_shownBy qa_left qa_right qa_endOf qa_cutCount qa_cutSize qa_cutLeaf qa_cutDepth qa_depthOf qa_needed qa_tableOf qa_rows qa_joined qa_tableBits qa_cellSource qa_placeOf qa_cellAt qa_used qa_worn qa_inTree qa_treeFrom qa_farness qa_cameFrom qa_settled qa_trackTaken qa_trackOf qa_switchBits qa_pinTrack qa_outTrack qa_padTrack qa_deviceTable qa_hasFlip qa_registerPlace qa_outputPlace qa_wireRoot qa_wireLevel qa_flip qa_tableOut
theorem cx_findNeeded_25 (post : SX → Prop) (n : Nat) (x1 : Int32) (u : SX) : kx_findNeeded_25 post (n + 1) x1 u = (((10 ≤ x1 → (∀ x1_3 : Int32, x1_3 = (fo u 1) - 1 → (∃ n57 : Nat, kx_findNeeded_57 post n57 x1_3 u))) ∧ (¬ 10 ≤ x1 → (wpX_rootOf (fun r_60 => (wpX_needLeaves (fun u1 => (∀ x1_162 : Int32, x1_162 = x1 + 1 → (kx_findNeeded_25 post n x1_162 u1))) u (r_60 >>> ((1 : Int32) &&& 31)))) u x1)))) := rfl
def kx_findNeeded_2 (post : SX → Prop) (n : Nat) (x1 : Int32) (u : SX) : Prop := match u with
  | (qf_gates, qf_nodes, qf_joinedSize, qf_cells, qf_chanceState, qf_isBuilt, qf_levels, qa_kinds, qa_firsts, qa_seconds, qa_thirds, qa_nextOf, qa_shownBy, qa_left, qa_right, qa_endOf, qa_cutCount, qa_cutSize, qa_cutLeaf, qa_cutDepth, qa_depthOf, qa_needed, qa_tableOf, qa_rows, qa_joined, qa_tableBits, qa_cellSource, qa_placeOf, qa_cellAt, qa_used, qa_worn, qa_inTree, qa_treeFrom, qa_farness, qa_cameFrom, qa_settled, qa_trackTaken, qa_trackOf, qa_switchBits, qa_pinTrack, qa_outTrack, qa_padTrack, qa_deviceTable, qa_hasFlip, qa_registerPlace, qa_outputPlace, qa_wireRoot, qa_wireLevel, qa_flip, qa_tableOut) => wX_findNeeded_2 post qf_gates qf_nodes qf_joinedSize qf_cells qf_chanceState qf_isBuilt qf_levels n x1 qa_kinds qa_firsts qa_seconds qa_thirds qa_nextOf qa_shownBy qa_left qa_right qa_endOf qa_cutCount qa_cutSize qa_cutLeaf qa_cutDepth qa_depthOf qa_needed qa_tableOf qa_rows qa_joined qa_tableBits qa_cellSource qa_placeOf qa_cellAt qa_used qa_worn qa_inTree qa_treeFrom qa_farness qa_cameFrom qa_settled qa_trackTaken qa_trackOf qa_switchBits qa_pinTrack qa_outTrack qa_padTrack qa_deviceTable qa_hasFlip qa_registerPlace qa_outputPlace qa_wireRoot qa_wireLevel qa_flip qa_tableOut
theorem cx_findNeeded_2 (post : SX → Prop) (n : Nat) (x1 : Int32) (u : SX) : kx_findNeeded_2 post (n + 1) x1 u = ((((fo u 1) ≤ x1 → (∃ n25 : Nat, kx_findNeeded_25 post n25 0 u)) ∧ (¬ (fo u 1) ≤ x1 → (vp_in x1 256 ∧ ∀ a_needed_164 : Nat → Int32, a_needed_164 = upd (ao u 21) x1.toNatClampNeg (vp_nar .boolean 0) → (∀ x1_165 : Int32, x1_165 = x1 + 1 → (kx_findNeeded_2 post n x1_165 (sa u 21 a_needed_164))))))) := rfl
theorem cx_findNeeded (post : SX → Prop) (u : SX) : wpX_findNeeded post u = (∃ n2 : Nat, kx_findNeeded_2 post n2 0 u) := rfl
theorem cx_sourceOf (post : Int32 → Prop) (u : SX) (p0 : Int32) : wpX_sourceOf post u p0 = (((13 ≤ p0 → (vp_in p0 256 ∧ (post ((12 + ((ao u 22) p0.toNatClampNeg)) - 10)))) ∧ (¬ 13 ≤ p0 → (post (p0 - 1))))) := rfl
def kx_makeCell_47 (post : SX → Prop) (J18 : Int32 → SX → Prop) (x1 : Int32) (x3 : Int32) (x4 : Int32) (z0 : Int32) (u : SX) : Prop := match u with
  | (qf_gates, qf_nodes, qf_joinedSize, qf_cells, qf_chanceState, qf_isBuilt, qf_levels, qa_kinds, qa_firsts, qa_seconds, qa_thirds, qa_nextOf, qa_shownBy, qa_left, qa_right, qa_endOf, qa_cutCount, qa_cutSize, qa_cutLeaf, qa_cutDepth, qa_depthOf, qa_needed, qa_tableOf, qa_rows, qa_joined, qa_tableBits, qa_cellSource, qa_placeOf, qa_cellAt, qa_used, qa_worn, qa_inTree, qa_treeFrom, qa_farness, qa_cameFrom, qa_settled, qa_trackTaken, qa_trackOf, qa_switchBits, qa_pinTrack, qa_outTrack, qa_padTrack, qa_deviceTable, qa_hasFlip, qa_registerPlace, qa_outputPlace, qa_wireRoot, qa_wireLevel, qa_flip, qa_tableOut) => wX_makeCell_47 post (fun x4 a_kinds a_firsts a_seconds a_thirds a_nextOf a_shownBy a_left a_right a_endOf a_cutCount a_cutSize a_cutLeaf a_cutDepth a_depthOf a_needed a_tableOf a_rows a_joined a_tableBits a_cellSource a_placeOf a_cellAt a_used a_worn a_inTree a_treeFrom a_farness a_cameFrom a_settled a_trackTaken a_trackOf a_switchBits a_pinTrack a_outTrack a_padTrack a_deviceTable a_hasFlip a_registerPlace a_outputPlace a_wireRoot a_wireLevel a_flip a_tableOut => J18 x4 (qf_gates, qf_nodes, qf_joinedSize, qf_cells, qf_chanceState, qf_isBuilt, qf_levels, a_kinds, a_firsts, a_seconds, a_thirds, a_nextOf, a_shownBy, a_left, a_right, a_endOf, a_cutCount, a_cutSize, a_cutLeaf, a_cutDepth, a_depthOf, a_needed, a_tableOf, a_rows, a_joined, a_tableBits, a_cellSource, a_placeOf, a_cellAt, a_used, a_worn, a_inTree, a_treeFrom, a_farness, a_cameFrom, a_settled, a_trackTaken, a_trackOf, a_switchBits, a_pinTrack, a_outTrack, a_padTrack, a_deviceTable, a_hasFlip, a_registerPlace, a_outputPlace, a_wireRoot, a_wireLevel, a_flip, a_tableOut)) x1 x3 x4 z0 qf_gates qf_nodes qf_joinedSize qf_cells qf_chanceState qf_isBuilt qf_levels qa_kinds qa_firsts qa_seconds qa_thirds qa_nextOf qa_shownBy qa_left qa_right qa_endOf qa_cutCount qa_cutSize qa_cutLeaf qa_cutDepth qa_depthOf qa_needed qa_tableOf qa_rows qa_joined qa_tableBits qa_cellSource qa_placeOf qa_cellAt qa_used qa_worn qa_inTree qa_treeFrom qa_farness qa_cameFrom qa_settled qa_trackTaken qa_trackOf qa_switchBits qa_pinTrack qa_outTrack qa_padTrack qa_deviceTable qa_hasFlip qa_registerPlace qa_outputPlace qa_wireRoot qa_wireLevel qa_flip qa_tableOut
theorem cx_makeCell_47 (post : SX → Prop) (J18 : Int32 → SX → Prop) (x1 : Int32) (x3 : Int32) (x4 : Int32) (z0 : Int32) (u : SX) : kx_makeCell_47 post J18 x1 x3 x4 z0 u = (((z0 = 0 → (vp_in ((x1 * 4) + x4) 256 ∧ ∀ a_cellSource_59 : Nat → Int32, a_cellSource_59 = upd (ao u 26) ((x1 * 4) + x4).toNatClampNeg (vp_nar .byte ((- 1 : Int32).toInt8.toInt32)) → (∀ x4_60 : Int32, x4_60 = x4 + 1 → (J18 x4_60 (sa u 26 a_cellSource_59))))) ∧ (¬ z0 = 0 → (vp_in (((x3 * 6) * 4) + x4) 6144 ∧ (wpX_sourceOf (fun r_62 => (vp_in ((x1 * 4) + x4) 256 ∧ ∀ a_cellSource_114 : Nat → Int32, a_cellSource_114 = upd (ao u 26) ((x1 * 4) + x4).toNatClampNeg (vp_nar .byte r_62.toInt8.toInt32) → (∀ x4_115 : Int32, x4_115 = x4 + 1 → (J18 x4_115 (sa u 26 a_cellSource_114))))) u ((ao u 18) (((x3 * 6) * 4) + x4).toNatClampNeg)))))) := rfl
def kx_makeCell_46 (post : SX → Prop) (J18 : Int32 → SX → Prop) (x1 : Int32) (x3 : Int32) (x4 : Int32) (u : SX) : Prop := match u with
  | (qf_gates, qf_nodes, qf_joinedSize, qf_cells, qf_chanceState, qf_isBuilt, qf_levels, qa_kinds, qa_firsts, qa_seconds, qa_thirds, qa_nextOf, qa_shownBy, qa_left, qa_right, qa_endOf, qa_cutCount, qa_cutSize, qa_cutLeaf, qa_cutDepth, qa_depthOf, qa_needed, qa_tableOf, qa_rows, qa_joined, qa_tableBits, qa_cellSource, qa_placeOf, qa_cellAt, qa_used, qa_worn, qa_inTree, qa_treeFrom, qa_farness, qa_cameFrom, qa_settled, qa_trackTaken, qa_trackOf, qa_switchBits, qa_pinTrack, qa_outTrack, qa_padTrack, qa_deviceTable, qa_hasFlip, qa_registerPlace, qa_outputPlace, qa_wireRoot, qa_wireLevel, qa_flip, qa_tableOut) => wX_makeCell_46 post (fun x4 a_kinds a_firsts a_seconds a_thirds a_nextOf a_shownBy a_left a_right a_endOf a_cutCount a_cutSize a_cutLeaf a_cutDepth a_depthOf a_needed a_tableOf a_rows a_joined a_tableBits a_cellSource a_placeOf a_cellAt a_used a_worn a_inTree a_treeFrom a_farness a_cameFrom a_settled a_trackTaken a_trackOf a_switchBits a_pinTrack a_outTrack a_padTrack a_deviceTable a_hasFlip a_registerPlace a_outputPlace a_wireRoot a_wireLevel a_flip a_tableOut => J18 x4 (qf_gates, qf_nodes, qf_joinedSize, qf_cells, qf_chanceState, qf_isBuilt, qf_levels, a_kinds, a_firsts, a_seconds, a_thirds, a_nextOf, a_shownBy, a_left, a_right, a_endOf, a_cutCount, a_cutSize, a_cutLeaf, a_cutDepth, a_depthOf, a_needed, a_tableOf, a_rows, a_joined, a_tableBits, a_cellSource, a_placeOf, a_cellAt, a_used, a_worn, a_inTree, a_treeFrom, a_farness, a_cameFrom, a_settled, a_trackTaken, a_trackOf, a_switchBits, a_pinTrack, a_outTrack, a_padTrack, a_deviceTable, a_hasFlip, a_registerPlace, a_outputPlace, a_wireRoot, a_wireLevel, a_flip, a_tableOut)) x1 x3 x4 qf_gates qf_nodes qf_joinedSize qf_cells qf_chanceState qf_isBuilt qf_levels qa_kinds qa_firsts qa_seconds qa_thirds qa_nextOf qa_shownBy qa_left qa_right qa_endOf qa_cutCount qa_cutSize qa_cutLeaf qa_cutDepth qa_depthOf qa_needed qa_tableOf qa_rows qa_joined qa_tableBits qa_cellSource qa_placeOf qa_cellAt qa_used qa_worn qa_inTree qa_treeFrom qa_farness qa_cameFrom qa_settled qa_trackTaken qa_trackOf qa_switchBits qa_pinTrack qa_outTrack qa_padTrack qa_deviceTable qa_hasFlip qa_registerPlace qa_outputPlace qa_wireRoot qa_wireLevel qa_flip qa_tableOut
theorem cx_makeCell_46 (post : SX → Prop) (J18 : Int32 → SX → Prop) (x1 : Int32) (x3 : Int32) (x4 : Int32) (u : SX) : kx_makeCell_46 post J18 x1 x3 x4 u = (kx_makeCell_47 post J18 x1 x3 x4 0 u) := rfl
def kx_makeCell_18 (post : SX → Prop) (x1 : Int32) (x3 : Int32) (n : Nat) (x4 : Int32) (u : SX) : Prop := match u with
  | (qf_gates, qf_nodes, qf_joinedSize, qf_cells, qf_chanceState, qf_isBuilt, qf_levels, qa_kinds, qa_firsts, qa_seconds, qa_thirds, qa_nextOf, qa_shownBy, qa_left, qa_right, qa_endOf, qa_cutCount, qa_cutSize, qa_cutLeaf, qa_cutDepth, qa_depthOf, qa_needed, qa_tableOf, qa_rows, qa_joined, qa_tableBits, qa_cellSource, qa_placeOf, qa_cellAt, qa_used, qa_worn, qa_inTree, qa_treeFrom, qa_farness, qa_cameFrom, qa_settled, qa_trackTaken, qa_trackOf, qa_switchBits, qa_pinTrack, qa_outTrack, qa_padTrack, qa_deviceTable, qa_hasFlip, qa_registerPlace, qa_outputPlace, qa_wireRoot, qa_wireLevel, qa_flip, qa_tableOut) => wX_makeCell_18 post x1 x3 qf_gates qf_nodes qf_joinedSize qf_cells qf_chanceState qf_isBuilt qf_levels n x4 qa_kinds qa_firsts qa_seconds qa_thirds qa_nextOf qa_shownBy qa_left qa_right qa_endOf qa_cutCount qa_cutSize qa_cutLeaf qa_cutDepth qa_depthOf qa_needed qa_tableOf qa_rows qa_joined qa_tableBits qa_cellSource qa_placeOf qa_cellAt qa_used qa_worn qa_inTree qa_treeFrom qa_farness qa_cameFrom qa_settled qa_trackTaken qa_trackOf qa_switchBits qa_pinTrack qa_outTrack qa_padTrack qa_deviceTable qa_hasFlip qa_registerPlace qa_outputPlace qa_wireRoot qa_wireLevel qa_flip qa_tableOut
theorem cx_makeCell_18 (post : SX → Prop) (x1 : Int32) (x3 : Int32) (n : Nat) (x4 : Int32) (u : SX) : kx_makeCell_18 post x1 x3 (n + 1) x4 u = (((4 ≤ x4 → (post u)) ∧ (¬ 4 ≤ x4 → (((x3 ≤ 0 → (kx_makeCell_46 post (fun y0 s => kx_makeCell_18 post x1 x3 n y0 s) x1 x3 x4 u)) ∧ (¬ x3 ≤ 0 → (vp_in (x3 * 6) 1536 ∧ (((((ao u 17) (x3 * 6).toNatClampNeg) ≤ x4 → (kx_makeCell_46 post (fun y0 s => kx_makeCell_18 post x1 x3 n y0 s) x1 x3 x4 u)) ∧ (¬ ((ao u 17) (x3 * 6).toNatClampNeg) ≤ x4 → (kx_makeCell_47 post (fun y0 s => kx_makeCell_18 post x1 x3 n y0 s) x1 x3 x4 1 u))))))))))) := rfl
theorem cx_makeCell (post : SX → Prop) (u : SX) (p0 : Int32) (p1 : Int32) : wpX_makeCell post u p0 p1 = (∀ x3_1 : Int32, x3_1 = p1 >>> ((1 : Int32) &&& 31) → (wpX_tableFor (fun r_2 u1 => (vp_in p0 64 ∧ ∀ a_tableBits_54 : Nat → Int32, a_tableBits_54 = upd (ao u1 25) p0.toNatClampNeg r_2 → (∃ n18 : Nat, kx_makeCell_18 post p0 x3_1 n18 0 (sa u1 25 a_tableBits_54)))) u p1)) := rfl
/-- the best cut of each node -/
def Bz (N : Nat) (L R : Nat → Nat) (u : SX) (z : Nat → Nat) (lf : Nat → Nat → Nat) : Prop := ∀ m, m < N → Ct u (6 * m) (z m) (lf m) ∧
  (13 ≤ m → (∀ i, i < z m → 1 ≤ lf m i ∧ lf m i < m) ∧ Cov N L R (fun x => ∃ i, i < z m ∧ lf m i = x) m) ∧ (m < 13 → z m = 1 ∧ lf m 0 = m)
theorem Bz_ex {N : Nat} {L R : Nat → Nat} {u : SX} (h : ∀ m, m < N → Nf N L R u m) : ∃ z lf, Bz N L R u z lf := by
  have H : ∀ m, ∃ p : Nat × (Nat → Nat), m < N → Ct u (6 * m) p.1 p.2 ∧ (13 ≤ m → (∀ i, i < p.1 → 1 ≤ p.2 i ∧ p.2 i < m) ∧ Cov N L R (fun x => ∃ i, i < p.1 ∧ p.2 i = x) m) ∧ (m < 13 → p.1 = 1 ∧ p.2 0 = m) := by
    intro m
    by_cases hm : m < N
    · by_cases h13 : 13 ≤ m
      · obtain ⟨z, l, a, b, c⟩ := (h m hm).2.1 h13
        exact ⟨(z, l), fun _ => ⟨a, fun _ => ⟨b, c⟩, fun h => absurd h (by omega)⟩⟩
      · exact ⟨(1, fun _ => m), fun _ => ⟨(h m hm).2.2 (by omega), fun h => absurd h h13, fun _ => ⟨rfl, rfl⟩⟩⟩
    · exact ⟨(0, fun _ => 0), fun h => absurd h hm⟩
  obtain ⟨f, hf⟩ := Classical.axiomOfChoice H
  exact ⟨fun m => (f m).1, fun m => (f m).2, fun m hm => hf m hm⟩
theorem Bz_fr {M : List Nat} {N : Nat} {L R : Nat → Nat} {u v : SX} {z : Nat → Nat} {lf : Nat → Nat → Nat} (h : Bz N L R u z lf) (hf : fr M u v) (h1 : 17 ∉ M := by decide) (h2 : 18 ∉ M := by decide) : Bz N L R v z lf :=
  fun m hm => ⟨Ct_fr hf (h m hm).1 h1 h2, (h m hm).2⟩
theorem Gq_fr {M : List Nat} {N : Nat} {L R : Nat → Nat} {u v : SX} (h : Gq u N L R) (hf : fr M u v) (h0 : 1 ∉ M := by decide) (h1 : 13 ∉ M := by decide) (h2 : 14 ∉ M := by decide) : Gq v N L R :=
  ⟨by rw [fr_fo hf 1 h0]; exact h.1, h.2.1, fun n a b => by rw [fr_ao hf 13 h1, fr_ao hf 14 h2]; exact h.2.2 n a b⟩
/-! rows -/
theorem m24b (n i : Nat) : nI (6 * n) * 4 + nI i = nI (24 * n + i) := by
  rw [m4]
  exact congrArg nI (by omega)
def rE (r : Nat → Int32) (E : Nat) : Int32 := if E % 2 = 0 then r (E / 2) else (r (E / 2) ^^^ (-1)) &&& 65535
theorem rE_b (r : Nat → Int32) (E : Nat) {ρ : Nat} (h : ρ < 16) : bt (rE r E) ρ = ev (fun m => bt (r m) ρ) E := by
  unfold rE ev
  dsimp only
  rcases Nat.mod_two_eq_zero_or_one E with e | e
  · rw [if_pos e, e]; cases bt (r (E / 2)) ρ <;> rfl
  · rw [if_neg (by omega), b_and, b_xor, b_65535, b_m1 ρ (by omega), e, decide_eq_true h]
    cases bt (r (E / 2)) ρ <;> rfl
theorem and1 {m : Nat} (h : m < 2 ^ 31) : nI m &&& 1 = nI (m % 2) := pk_andN (by omega) 1 (by decide)
theorem hx_rowsOfEnd {post : Int32 → Prop} {u : SX} {E : Nat} (hE : E < 512) (K : post (rE (ao u 23) E)) : wpX_rowsOfEnd post u (nI E) := by
  rw [cx_rowsOfEnd]
  simp only [sh1 (show E < 2 ^ 31 by omega), and1 (show E < 2 ^ 31 by omega), clI (show E / 2 < 2 ^ 31 by omega)]
  unfold rE at K
  refine ⟨pk_in (E / 2) 256 (by omega), nm_e (pk_eq (E % 2) 0 (fun h => ?_) (fun h => ?_))⟩
  · rw [if_pos h] at K; exact K
  · rw [if_neg h] at K; exact K
def ri (i : Nat) : Int32 := if i = 0 then 43690 else if i = 1 then 52428 else if i = 2 then 61680 else 65280
theorem ri_b : ∀ i, i < 4 → ∀ ρ, ρ < 16 → bt (ri i) ρ = ρ.testBit i := by decide +kernel
theorem hx_rowsOfInput {post : Int32 → Prop} {i : Nat} (hi : i < 4) (K : post (ri i)) : wpX_rowsOfInput post (nI i) := by
  unfold wpX_rowsOfInput
  have : i = 0 ∨ i = 1 ∨ i = 2 ∨ i = 3 := by omega
  rcases this with rfl | rfl | rfl | rfl
  · exact br_t (by decide) K
  · exact br_f (by decide) (br_t (by decide) K)
  · exact br_f (by decide) (br_f (by decide) (br_t (by decide) K))
  · exact br_f (by decide) (br_f (by decide) (br_f (by decide) K))
def ro (f : Nat → Bool) : Nat := (f 0).toNat + 2 * (f 1).toNat + 4 * (f 2).toNat + 8 * (f 3).toNat
theorem ro_lt (f : Nat → Bool) : ro f < 16 := by
  unfold ro
  have := Bool.toNat_le (f 0); have := Bool.toNat_le (f 1); have := Bool.toNat_le (f 2); have := Bool.toNat_le (f 3)
  omega
theorem ro_aux : ∀ a b c d : Bool, (a.toNat + 2 * b.toNat + 4 * c.toNat + 8 * d.toNat).testBit 0 = a ∧ (a.toNat + 2 * b.toNat + 4 * c.toNat + 8 * d.toNat).testBit 1 = b ∧ (a.toNat + 2 * b.toNat + 4 * c.toNat + 8 * d.toNat).testBit 2 = c ∧ (a.toNat + 2 * b.toNat + 4 * c.toNat + 8 * d.toNat).testBit 3 = d := by decide +kernel
theorem ro_b (f : Nat → Bool) {i : Nat} (hi : i < 4) : (ro f).testBit i = f i := by
  have h := ro_aux (f 0) (f 1) (f 2) (f 3)
  have : i = 0 ∨ i = 1 ∨ i = 2 ∨ i = 3 := by omega
  rcases this with rfl | rfl | rfl | rfl
  · exact h.1
  · exact h.2.1
  · exact h.2.2.1
  · exact h.2.2.2
theorem ro_cg {f g : Nat → Bool} (h : ∀ i, i < 4 → f i = g i) : ro f = ro g := by
  unfold ro
  rw [h 0 (by omega), h 1 (by omega), h 2 (by omega), h 3 (by omega)]
/-- one row of the table of node n is worked out -/
def Rk (L R : Nat → Nat) (k : Nat) (l : Nat → Nat) (r : Nat → Int32) (m : Nat) : Prop := (∃ i, i < k ∧ l i = m ∧ 0 < m ∧ r m = ri i) ∨
  (((∀ i, i < k → l i ≠ m) ∨ m = 0) ∧ r m = if m < 13 then 0 else rE r (L m) &&& rE r (R m))
def TT (N : Nat) (L R : Nat → Nat) (z : Nat → Nat) (lf : Nat → Nat → Nat) (t : Int32) (E : Nat) : Prop := ∀ v : Nat → Bool, v 0 = false → (∀ m, 13 ≤ m → m < N → v m = (ev v (L m) && ev v (R m))) →
  bt t (ro (fun i => decide (0 < E / 2 ∧ i < z (E / 2)) && v (lf (E / 2) i))) = ev v E
theorem TT_of {N : Nat} {L R : Nat → Nat} {u : SX} {z : Nat → Nat} {lf : Nat → Nat → Nat} (hq : Gq u N L R) (hb : Bz N L R u z lf) {r : Nat → Int32} {E : Nat} (hE : E / 2 < N) (h : ∀ m, m ≤ E / 2 → Rk L R (z (E / 2)) (lf (E / 2)) r m) : TT N L R z lf (rE r E) E := by
  intro v v0 vA
  generalize hn : E / 2 = n at *
  have hro := ro_lt (fun i => decide (0 < n ∧ i < z n) && v (lf n i))
  generalize hρ : ro (fun i => decide (0 < n ∧ i < z n) && v (lf n i)) = ρ at *
  have hz := (hb n hE).1.2.1
  have tb : 0 < n → ∀ i, i < z n → ρ.testBit i = v (lf n i) := by
    intro h0 i hi
    rw [← hρ, ro_b _ (by omega), decide_eq_true ⟨h0, hi⟩, Bool.true_and]
  have leaf : 0 < n → ∀ m, m ≤ n → (∃ i, i < z n ∧ lf n i = m) → 0 < m → bt (r m) ρ = v m := by
    rintro h0 m hm ⟨i, hi, rfl⟩ hm0
    rcases h _ hm with ⟨j, hj, e1, _, e3⟩ | ⟨h1, _⟩
    · rw [e3, ri_b j (by omega) ρ hro, tb h0 j hj, e1]
    · rcases h1 with h1 | h1
      · exact absurd rfl (h1 i hi)
      · omega
  have key : bt (r n) ρ = v n := by
    by_cases h0 : n = 0
    · subst h0
      rcases h 0 (Nat.le_refl _) with ⟨j, _, _, e, _⟩ | ⟨_, e⟩
      · omega
      · rw [e, if_pos (by omega), v0, b_0]
    · by_cases h13 : n < 13
      · have := (hb n hE).2.2 h13
        exact leaf (by omega) n (Nat.le_refl _) ⟨0, by omega, this.2⟩ (by omega)
      · have hc := (hb n hE).2.1 (by omega)
        refine hc.2 (fun m => m ≤ n → bt (r m) ρ = v m) ?_ ?_ (Nat.le_refl _)
        · rintro l ⟨i, hi, rfl⟩ hl
          exact leaf (by omega) _ hl ⟨i, hi, rfl⟩ (hc.1 i hi).1
        · intro m hm hmN hL hR hmn
          have hq' := hq.2.2 m hm hmN
          rcases h m hmn with ⟨j, hj, e1, e2, e3⟩ | ⟨_, e⟩
          · exact leaf (by omega) m hmn ⟨j, hj, e1⟩ (by omega)
          · have e1 := hL (by omega)
            have e2 := hR (by omega)
            rw [e, if_neg (by omega), b_and, rE_b _ _ hro, rE_b _ _ hro, vA m hm hmN]
            unfold ev
            dsimp only
            rw [e1, e2]
  rw [rE_b _ _ hro]
  unfold ev
  dsimp only
  rw [hn, key]
theorem hx_tf51 {post : Int32 → SX → Prop} {J : Int32 → SX → Prop} {x1 : Int32} {u : SX} {n m k : Nat} {l : Nat → Nat} (hc : Ct u (6 * n) k l) (hn : n < 133) (hm : m < 133)
    (K : ∀ u', fr [23] u u' → (∀ j, j ≠ m → ao u' 23 j = ao u 23 j) → ((∃ i, i < k ∧ l i = m ∧ 0 < m ∧ ao u' 23 m = ri i) ∨ (((∀ i, i < k → l i ≠ m) ∨ m = 0) ∧ ao u' 23 m = ao u 23 m)) → (∀ i, i < k → l i < 256) → J (nI (m + 1)) u') (hl : ∀ i, i < k → l i < 256) :
    ∃ a, kx_tableFor_51 post J x1 (nI n) (nI m) a 0 u := by
  have k4 := hc.2.1
  refine pk_loop (fun a i s => kx_tableFor_51 post J x1 (nI n) (nI m) a (nI i) s) (fun i s => fr [23] u s ∧ (∀ j, j ≠ m → ao s 23 j = ao u 23 j) ∧ ((∃ i', i' < i ∧ l i' = m ∧ 0 < m ∧ ao s 23 m = ri i') ∨ (((∀ i', i' < i → l i' ≠ m) ∨ m = 0) ∧ ao s 23 m = ao u 23 m))) k 0 u (Nat.zero_le _)
    ⟨fr_rf, fun _ _ => rfl, Or.inr ⟨Or.inl (fun i hi => by omega), rfl⟩⟩ ?_ ?_
  · rintro a s ⟨h1, h2, h3⟩
    show kx_tableFor_51 _ _ _ _ _ _ _ _
    rw [cx_tableFor_51]
    simp only [m60, clI (show 6 * n < 2 ^ 31 by omega), (Ct_fr h1 hc).1]
    exact ⟨pk_in (6 * n) 1536 (by omega), pk_le k k (fun _ => nm_r (nI_1 m) (K s h1 h2 h3 hl)) (fun h => absurd h (by omega))⟩
  · rintro a i s hi ⟨h1, h2, h3⟩ hr
    have hc' := Ct_fr h1 hc
    have hli := hl i hi
    have e24 : ao s 18 (24 * n + i) = nI (l i) := by
      have := hc'.2.2 i hi
      rw [show 4 * (6 * n) + i = 24 * n + i from by omega] at this
      exact this
    show kx_tableFor_51 _ _ _ _ _ _ _ _
    rw [cx_tableFor_51]
    simp only [m24b, m60, clI (show 6 * n < 2 ^ 31 by omega), clI (show 24 * n + i < 2 ^ 31 by omega), clI (show m < 2 ^ 31 by omega), hc'.1, e24]
    have same : ∀ j, upd (ao s 23) m (ao s 23 m) j = ao s 23 j := fun j => by
      by_cases e : j = m
      · rw [e, u_s]
      · rw [u_n e]
    have keep : (l i ≠ m ∨ m = 0) → ∀ y, y = nI (i + 1) → kx_tableFor_51 post J x1 (nI n) (nI m) a y (sa s 23 (upd (ao s 23) m (ao s 23 m))) := by
      intro hne y ey
      rw [ey]
      refine hr _ ⟨fr_a h1 (by decide), fun j hj => ?_, ?_⟩
      · show upd (ao s 23) m (ao s 23 m) j = _
        rw [same]; exact h2 j hj
      · rcases h3 with ⟨i', p1, p2, p3, p4⟩ | ⟨p1, p2⟩
        · exact Or.inl ⟨i', by omega, p2, p3, (same m).trans p4⟩
        · refine Or.inr ⟨?_, (same m).trans p2⟩
          rcases hne with hne | hne
          · rcases p1 with p1 | p1
            · refine Or.inl (fun i' hi' => ?_)
              by_cases e : i' = i
              · rw [e]; exact hne
              · exact p1 i' (by omega)
            · exact Or.inr p1
          · exact Or.inr hne
    refine ⟨pk_in (6 * n) 1536 (by omega), pk_le k i (fun h => absurd h (by omega)) (fun _ => ⟨pk_in (24 * n + i) 6144 (by omega), pk_eq (l i) m (fun h => ?_) (fun h => ?_)⟩)⟩
    · refine pk_le m 0 (fun h0 => ⟨pk_in m 256 (by omega), pk_in m 256 (by omega), nm_e (nm_r (nI_1 i) (keep (Or.inr (by omega)) _ rfl))⟩) (fun h0 => ?_)
      refine hx_rowsOfInput (by omega) ⟨pk_in m 256 (by omega), nm_e (nm_r (nI_1 i) (hr _ ⟨fr_a h1 (by decide), fun j hj => ?_, Or.inl ⟨i, by omega, h, h0, ?_⟩⟩))⟩
      · show upd (ao s 23) m _ j = _
        rw [u_n hj]; exact h2 j hj
      · exact u_s
    · exact ⟨pk_in m 256 (by omega), pk_in m 256 (by omega), nm_e (nm_r (nI_1 i) (keep (Or.inl h) _ rfl))⟩
theorem rE_cg {r s : Nat → Int32} {E : Nat} (h : r (E / 2) = s (E / 2)) : rE r E = rE s E := by unfold rE; rw [h]
theorem Rk_cg {N : Nat} {u : SX} {L R : Nat → Nat} (hq : Gq u N L R) {k : Nat} {l : Nat → Nat} {r s : Nat → Int32} {m : Nat} (hm : m < N) (h : Rk L R k l r m) (hrs : ∀ j, j ≤ m → s j = r j) : Rk L R k l s m := by
  rcases h with ⟨i, h1, h2, h3, h4⟩ | ⟨h1, h2⟩
  · exact Or.inl ⟨i, h1, h2, h3, (hrs m (Nat.le_refl _)).trans h4⟩
  · refine Or.inr ⟨h1, (hrs m (Nat.le_refl _)).trans (h2.trans ?_)⟩
    by_cases e : m < 13
    · rw [if_pos e, if_pos e]
    · have := hq.2.2 m (by omega) hm
      rw [if_neg e, if_neg e, rE_cg (hrs (L m / 2) (by omega)).symm, rE_cg (hrs (R m / 2) (by omega)).symm]
theorem hx_tableFor {post : Int32 → SX → Prop} {N : Nat} {L R : Nat → Nat} {u : SX} {z : Nat → Nat} {lf : Nat → Nat → Nat} (hq : Gq u N L R) (hN : N ≤ 133) (hb : Bz N L R u z lf) {E : Nat} (hE : E < 2 * N)
    (K : ∀ u' t, fr [23] u u' → TT N L R z lf t E → post t u') : wpX_tableFor post u (nI E) := by
  rw [cx_tableFor, sh1 (by omega)]
  refine nm_e ?_
  have hn : E / 2 < N := by omega
  have hl : ∀ i, i < z (E / 2) → lf (E / 2) i < 256 := by
    intro i hi
    by_cases h : 13 ≤ E / 2
    · have := ((hb _ hn).2.1 h).1 i hi; omega
    · have := (hb _ hn).2.2 (by omega)
      rw [show i = 0 from by omega]; omega
  refine pk_loop (fun a m s => kx_tableFor_6 post (nI E) (nI (E / 2)) a (nI m) s) (fun m s => fr [23] u s ∧ ∀ m', m' < m → Rk L R (z (E / 2)) (lf (E / 2)) (ao s 23) m') (E / 2 + 1) 0 u (Nat.zero_le _) ⟨fr_rf, fun m hm => by omega⟩ ?_ ?_
  · rintro a s ⟨h1, h2⟩
    show kx_tableFor_6 _ _ _ _ _ _
    rw [cx_tableFor_6]
    refine pk_lt (E / 2) (E / 2 + 1) (fun _ => ?_) (fun h => absurd h (by omega))
    exact hx_rowsOfEnd (by omega) (K s _ h1 (TT_of hq hb hn (fun m hm => h2 m (by omega))))
  · rintro a m s hm ⟨h1, h2⟩ hr
    have hc := Ct_fr h1 (hb _ hn).1
    have next : ∀ x : Int32, (x = if m < 13 then 0 else rE (ao s 23) (L m) &&& rE (ao s 23) (R m)) → ∃ n51, kx_tableFor_51 post (fun y0 s => kx_tableFor_6 post (nI E) (nI (E / 2)) a y0 s) (nI E) (nI (E / 2)) (nI m) n51 0 (sa s 23 (upd (ao s 23) m x)) := by
      intro x hx
      refine hx_tf51 (k := z (E / 2)) (l := lf (E / 2)) (Ct_fr (fr_a fr_rf (by decide) : fr [23] s _) hc) (by omega) (by omega) (fun u' f1 f2 f3 _ => ?_) hl
      have lo : ∀ j, j < m → ao u' 23 j = ao s 23 j := fun j hj => (f2 j (by omega)).trans (u_n (by omega))
      refine hr u' ⟨fr_tr (fr_a h1 (by decide)) f1, fun m' hm' => ?_⟩
      by_cases e : m' = m
      · subst e
        rcases f3 with ⟨i, p1, p2, p3, p4⟩ | ⟨p1, p2⟩
        · exact Or.inl ⟨i, p1, p2, p3, p4⟩
        · refine Or.inr ⟨p1, p2.trans (u_s.trans (hx.trans ?_))⟩
          by_cases e : m' < 13
          · rw [if_pos e, if_pos e]
          · have := hq.2.2 m' (by omega) (by omega)
            rw [if_neg e, if_neg e, rE_cg (lo (L m' / 2) (by omega)).symm, rE_cg (lo (R m' / 2) (by omega)).symm]
      · exact Rk_cg hq (by omega) (h2 m' (by omega)) (fun j hj => lo j (by omega))
    show kx_tableFor_6 _ _ _ _ _ _
    rw [cx_tableFor_6]
    simp only [clI (show m < 2 ^ 31 by omega)]
    refine pk_lt (E / 2) m (fun h => absurd h (by omega)) (fun _ => pk_le 13 m (fun h13 => ?_) (fun h13 => ?_))
    · have hm' := (Gq_fr hq h1).2.2 m h13 (by omega)
      rw [hm'.1, hm'.2.1]
      refine ⟨pk_in m 256 (by omega), hx_rowsOfEnd (by omega) ⟨pk_in m 256 (by omega), hx_rowsOfEnd (by omega) ⟨pk_in m 256 (by omega), nm_e (next _ (by rw [if_neg (by omega)]))⟩⟩⟩
    · exact ⟨pk_in m 256 (by omega), nm_e (next _ (by rw [if_pos h13]))⟩
end
section
/-- the ends of the ten roots -/
def Rq (u : SX) (N : Nat) (rt : Nat → Nat) : Prop := (∀ c, c < 6 → ∃ s, ao u 11 c = nI s ∧ s < 32 ∧ ao u 15 s = nI (rt c)) ∧ (∀ o, o < 4 → ∃ s, ao u 12 o = nI s ∧ s < 32 ∧ ao u 15 s = nI (rt (6 + o))) ∧ ∀ c, c < 10 → rt c < 2 * N
theorem Rq_fr {M : List Nat} {N : Nat} {rt : Nat → Nat} {u v : SX} (h : Rq u N rt) (hf : fr M u v) (h0 : 11 ∉ M := by decide) (h1 : 12 ∉ M := by decide) (h2 : 15 ∉ M := by decide) : Rq v N rt := by
  unfold Rq
  rw [fr_ao hf 11 h0, fr_ao hf 12 h1, fr_ao hf 15 h2]
  exact h
theorem hx_rootOf {post : Int32 → Prop} {u : SX} {N : Nat} {rt : Nat → Nat} (h : Rq u N rt) {c : Nat} (hc : c < 10) (K : post (nI (rt c))) : wpX_rootOf post u (nI c) := by
  rw [cx_rootOf]
  refine pk_le 6 c (fun h6 => ?_) (fun h6 => ?_)
  · obtain ⟨o, rfl⟩ : ∃ o, c = 6 + o := ⟨c - 6, by omega⟩
    obtain ⟨s, h1, h2, h3⟩ := h.2.1 o (by omega)
    have e : nI (6 + o) - 6 = nI o := by
      show nI (6 + o) - nI 6 = _
      rw [pk_sub (by omega)]
      exact congrArg nI (by omega)
    simp only [e, clI (show o < 2 ^ 31 by omega), h1, clI (show s < 2 ^ 31 by omega), h3]
    exact ⟨pk_in o 4 (by omega), pk_in s 32 h2, K⟩
  · obtain ⟨s, h1, h2, h3⟩ := h.1 c (by omega)
    simp only [clI (show c < 2 ^ 31 by omega), h1, clI (show s < 2 ^ 31 by omega), h3]
    exact ⟨pk_in c 6 (by omega), pk_in s 32 h2, K⟩
def Nn (u : SX) (N : Nat) (nd : Nat → Bool) : Prop := ∀ m, m < N → ao u 21 m = bI (nd m)
theorem hx_needLeaves {post : SX → Prop} {N : Nat} {L R : Nat → Nat} {u : SX} {z : Nat → Nat} {lf : Nat → Nat → Nat} (hN : N ≤ 133) (hb : Bz N L R u z lf) {nd : Nat → Bool} (hd : Nn u N nd) {n : Nat} (hn : n < N)
    (K : ∀ u' nd', fr [21] u u' → Nn u' N nd' → (∀ m, nd m = true → nd' m = true) → (13 ≤ n → ∀ i, i < z n → nd' (lf n i) = true) → (∀ m, n ≤ m → nd' m = nd m) → post u') : wpX_needLeaves post u (nI n) := by
  rw [cx_needLeaves]
  have z4 := (hb n hn).1.2.1
  refine pk_loop (fun a i s => kx_needLeaves_2 post (nI n) a (nI i) s) (fun i s => fr [21] u s ∧ ∃ nd', Nn s N nd' ∧ (∀ m, nd m = true → nd' m = true) ∧ (13 ≤ n → ∀ i', i' < i → nd' (lf n i') = true) ∧ ∀ m, n ≤ m → nd' m = nd m) (z n) 0 u (Nat.zero_le _) ⟨fr_rf, nd, hd, fun _ h => h, fun _ i hi => by omega, fun _ _ => rfl⟩ ?_ ?_
  · rintro a s ⟨h1, nd', h2, h3, h4, h5⟩
    show kx_needLeaves_2 _ _ _ _ _
    rw [cx_needLeaves_2]
    simp only [m60, clI (show 6 * n < 2 ^ 31 by omega), (Ct_fr h1 (hb n hn).1).1]
    exact ⟨pk_in (6 * n) 1536 (by omega), pk_le (z n) (z n) (fun _ => K s nd' h1 h2 h3 h4 h5) (fun h => absurd h (by omega))⟩
  · rintro a i s hi ⟨h1, nd', h2, h3, h4, h5⟩ hr
    have hc := Ct_fr h1 (hb n hn).1
    have e24 : ao s 18 (24 * n + i) = nI (lf n i) := by
      have := hc.2.2 i hi
      rw [show 4 * (6 * n) + i = 24 * n + i from by omega] at this
      exact this
    show kx_needLeaves_2 _ _ _ _ _
    rw [cx_needLeaves_2]
    simp only [m24b, m60, clI (show 6 * n < 2 ^ 31 by omega), clI (show 24 * n + i < 2 ^ 31 by omega), hc.1, e24]
    refine ⟨pk_in (6 * n) 1536 (by omega), pk_le (z n) i (fun h => absurd h (by omega)) (fun _ => pk_lt n 13 (fun h => K s nd' h1 h2 h3 (fun h' => absurd h' (by omega)) h5) (fun h13 => ?_))⟩
    have hl := ((hb n hn).2.1 h13).1 i hi
    simp only [clI (show lf n i < 2 ^ 31 by omega)]
    refine ⟨pk_in (24 * n + i) 6144 (by omega), pk_in (lf n i) 256 (by omega), nm_e (nm_r (nI_1 i) (hr _ ⟨fr_a h1 (by decide), fun m => if m = lf n i then true else nd' m, fun m hm => ?_, fun m hm => ?_, fun _ i' hi' => ?_, fun m hm => ?_⟩))⟩
    · show upd (ao s 21) (lf n i) _ m = bI (if m = lf n i then true else nd' m)
      by_cases e : m = lf n i
      · rw [e, u_s, if_pos rfl]; rfl
      · rw [u_n e, if_neg e]; exact h2 m hm
    · show (if m = lf n i then true else nd' m) = true
      split
      · rfl
      · exact h3 m hm
    · show (if lf n i' = lf n i then true else nd' (lf n i')) = true
      split
      · rfl
      · next e =>
        refine h4 h13 i' ?_
        have : i' ≠ i := fun e' => e (by rw [e'])
        omega
    · show (if m = lf n i then true else nd' m) = nd m
      rw [if_neg (by omega)]; exact h5 m hm
/-- all needed: closed under best cuts, from the roots on -/
def Nc (N : Nat) (z : Nat → Nat) (lf : Nat → Nat → Nat) (rt : Nat → Nat) (nd : Nat → Bool) : Prop := (∀ m, 13 ≤ m → m < N → nd m = true → ∀ i, i < z m → nd (lf m i) = true) ∧ ∀ c, c < 10 → 13 ≤ rt c / 2 → ∀ i, i < z (rt c / 2) → nd (lf (rt c / 2) i) = true
theorem hx_fn57 {post : SX → Prop} {N : Nat} {L R : Nat → Nat} {u u0 : SX} {z : Nat → Nat} {lf : Nat → Nat → Nat} {rt : Nat → Nat} (hN : N ≤ 133) (hN13 : 13 ≤ N) (hb : Bz N L R u z lf) (hf : fr [21] u u0) {nd : Nat → Bool} (hd : Nn u0 N nd)
    (hr0 : ∀ c, c < 10 → 13 ≤ rt c / 2 → ∀ i, i < z (rt c / 2) → nd (lf (rt c / 2) i) = true)
    (K : ∀ u' nd', fr [21] u u' → Nn u' N nd' → Nc N z lf rt nd' → post u') : ∃ a, kx_findNeeded_57 post a (nI (N - 1)) u0 := by
  refine lp2 (fun a (i : Nat) (s : SX) => kx_findNeeded_57 post a (nI i) s) (fun i s => 12 ≤ i ∧ i < N ∧ fr [21] u s ∧ ∃ nd, Nn s N nd ∧ (∀ c, c < 10 → 13 ≤ rt c / 2 → ∀ i, i < z (rt c / 2) → nd (lf (rt c / 2) i) = true) ∧ ∀ m, i < m → m < N → nd m = true → ∀ j, j < z m → nd (lf m j) = true) (fun i _ => i) ?_ (N - 1) u0 ⟨by omega, by omega, hf, nd, hd, hr0, fun m h1 h2 => by omega⟩
  rintro a i s ⟨h12, hi, h1, nd, h2, h3, h4⟩ hr
  show kx_findNeeded_57 _ _ _ _
  rw [cx_findNeeded_57]
  refine pk_lt i 13 (fun h => K s nd h1 h2 ⟨fun m h5 h6 => h4 m (by omega) h6, h3⟩) (fun h => ?_)
  obtain ⟨i, rfl⟩ : ∃ i', i = i' + 1 := ⟨i - 1, by omega⟩
  simp only [clI (show i + 1 < 2 ^ 31 by omega)]
  refine ⟨pk_in (i + 1) 256 (by omega), br_b (h2 (i + 1) hi) (fun e => nm_r (pk_m1 i) (hr i s ⟨by omega, by omega, h1, nd, h2, h3, fun m h5 h6 h7 => ?_⟩ (by omega))) (fun e => ?_)⟩
  · by_cases e' : m = i + 1
    · rw [e', e] at h7; exact absurd h7 (by decide)
    · exact h4 m (by omega) h6 h7
  · refine hx_needLeaves hN (Bz_fr hb h1) h2 hi (fun u' nd' f1 f2 f3 f4 f5 => ?_)
    refine nm_r (pk_m1 i) (hr i u' ⟨by omega, by omega, fr_tr h1 f1, nd', f2, fun c hc h13 j hj => f3 _ (h3 c hc h13 j hj), fun m h5 h6 h7 j hj => ?_⟩ (by omega))
    by_cases e' : m = i + 1
    · subst e'; exact f4 h j hj
    · rw [f5 m (by omega)] at h7
      exact f3 _ (h4 m (by omega) h6 h7 j hj)
theorem hx_findNeeded {post : SX → Prop} {N : Nat} {L R : Nat → Nat} {u : SX} {z : Nat → Nat} {lf : Nat → Nat → Nat} {rt : Nat → Nat} (hN : N ≤ 133) (hq : Gq u N L R) (hb : Bz N L R u z lf) (hR : Rq u N rt)
    (K : ∀ u' nd', fr [21] u u' → Nn u' N nd' → Nc N z lf rt nd' → post u') : wpX_findNeeded post u := by
  have h13 := hq.2.1
  rw [cx_findNeeded]
  refine pk_loop (fun a i s => kx_findNeeded_2 post a (nI i) s) (fun i s => fr [21] u s ∧ ∀ m, m < i → ao s 21 m = bI false) N 0 u (Nat.zero_le _) ⟨fr_rf, fun m hm => by omega⟩ ?_ ?_
  · rintro a s ⟨h1, h2⟩
    show kx_findNeeded_2 _ _ _ _
    rw [cx_findNeeded_2, fr_fo h1 1, hq.1]
    refine pk_le N N (fun _ => ?_) (fun h => absurd h (by omega))
    refine pk_loop (fun a i s => kx_findNeeded_25 post a (nI i) s) (fun i s => fr [21] u s ∧ ∃ nd, Nn s N nd ∧ ∀ c, c < i → 13 ≤ rt c / 2 → ∀ j, j < z (rt c / 2) → nd (lf (rt c / 2) j) = true) 10 0 s (Nat.zero_le _) ⟨h1, fun _ => false, h2, fun c hc => by omega⟩ ?_ ?_
    · rintro a s ⟨h1, nd, h2, h3⟩
      show kx_findNeeded_25 _ _ _ _
      rw [cx_findNeeded_25, fr_fo h1 1, hq.1]
      refine pk_le 10 10 (fun _ => nm_r (e' := nI (N - 1)) ?_ ?_) (fun h => absurd h (by omega))
      · show nI N - nI 1 = _
        exact pk_sub (by omega)
      · exact hx_fn57 hN h13 hb h1 h2 h3 K
    · rintro a c s hc ⟨h1, nd, h2, h3⟩ hr
      have hrc := hR.2.2 c hc
      show kx_findNeeded_25 _ _ _ _
      rw [cx_findNeeded_25]
      refine pk_le 10 c (fun h => absurd h (by omega)) (fun _ => hx_rootOf (Rq_fr hR h1) hc ?_)
      rw [sh1 (by omega)]
      refine hx_needLeaves hN (Bz_fr hb h1) h2 (by omega) (fun u' nd' f1 f2 f3 f4 _ => ?_)
      refine nm_r (nI_1 c) (hr u' ⟨fr_tr h1 f1, nd', f2, fun c' hc' h5 j hj => ?_⟩)
      by_cases e : c' = c
      · subst e; exact f4 h5 j hj
      · exact f3 _ (h3 c' (by omega) h5 j hj)
  · rintro a i s hi ⟨h1, h2⟩ hr
    show kx_findNeeded_2 _ _ _ _
    rw [cx_findNeeded_2]
    simp only [fr_fo h1 1, hq.1, clI (show i < 2 ^ 31 by omega)]
    refine pk_le N i (fun h => absurd h (by omega)) (fun _ => ⟨pk_in i 256 (by omega), nm_e (nm_r (nI_1 i) (hr _ ⟨fr_a h1 (by decide), fun m hm => ?_⟩))⟩)
    show upd (ao s 21) i _ m = _
    by_cases e : m = i
    · rw [e, u_s]; rfl
    · rw [u_n e]; exact h2 m (by omega)
/-! one cell -/
/-- the source of a leaf -/
def so (ct : Nat → Nat) (l : Nat) : Nat := if l < 13 then l - 1 else ct l + 2
def pz (z : Nat → Nat) (lf : Nat → Nat → Nat) (ct : Nat → Nat) (n i : Nat) : Nat := if 0 < n ∧ i < z n then so ct (lf n i) + 1 else 0
theorem hx_sourceOf {post : Int32 → Prop} {u : SX} {ct : Nat → Nat} {l : Nat} (hl : 1 ≤ l) (hl' : l < 256) (ht : 13 ≤ l → ao u 22 l = nI (ct l)) (hc : 13 ≤ l → ct l < 64) (K : post (nI (so ct l))) : wpX_sourceOf post u (nI l) := by
  rw [cx_sourceOf]
  unfold so at K
  refine pk_le 13 l (fun h => ?_) (fun h => ?_)
  · have := hc h
    rw [clI (by omega), ht h]
    rw [if_neg (by omega)] at K
    have e : (12 : Int32) + nI (ct l) - 10 = nI (ct l + 2) := by
      show nI 12 + nI (ct l) - nI 10 = _
      rw [nI_add, pk_sub (by omega)]
      exact congrArg nI (by omega)
    rw [e]
    exact ⟨pk_in l 256 hl', K⟩
  · rw [if_pos h] at K
    have e : nI l - 1 = nI (l - 1) := pk_sub (b := 1) hl
    rw [e]; exact K
theorem hx_makeCell {post : SX → Prop} {N : Nat} {L R : Nat → Nat} {u : SX} {z : Nat → Nat} {lf : Nat → Nat → Nat} {ct : Nat → Nat} (hq : Gq u N L R) (hN : N ≤ 133) (hb : Bz N L R u z lf) {c E : Nat} (hc : c < 64) (hE : E < 2 * N)
    (ht : 0 < E / 2 → ∀ i, i < z (E / 2) → 13 ≤ lf (E / 2) i → ao u 22 (lf (E / 2) i) = nI (ct (lf (E / 2) i)) ∧ ct (lf (E / 2) i) < 64)
    (K : ∀ u', fr [23, 25, 26] u u' → (∀ j, j ≠ c → ao u' 25 j = ao u 25 j) → TT N L R z lf (ao u' 25 c) E → (∀ j, (j < 4 * c ∨ 4 * c + 4 ≤ j) → ao u' 26 j = ao u 26 j) →
      (∀ i, i < 4 → ao u' 26 (4 * c + i) = pI (pz z lf ct (E / 2) i)) → post u') : wpX_makeCell post u (nI c) (nI E) := by
  rw [cx_makeCell, sh1 (by omega)]
  refine nm_e (hx_tableFor hq hN hb hE (fun u1 t f1 hT => ?_))
  simp only [clI (show c < 2 ^ 31 by omega)]
  refine ⟨pk_in c 64 hc, nm_e ?_⟩
  have hn : E / 2 < N := by omega
  generalize en : E / 2 = n at *
  refine pk_loop (fun a i s => kx_makeCell_18 post (nI c) (nI n) a (nI i) s) (fun i s => fr [23, 25, 26] u s ∧ (∀ j, j ≠ c → ao s 25 j = ao u 25 j) ∧ ao s 25 c = t ∧ (∀ j, (j < 4 * c ∨ 4 * c + i ≤ j) → ao s 26 j = ao u 26 j) ∧ ∀ j, j < i → ao s 26 (4 * c + j) = pI (pz z lf ct n j)) 4 0 _ (Nat.zero_le _)
    ⟨fr_a (fr_mn f1 (by decide)) (by decide), fun j hj => (u_n hj).trans (by rw [fr_ao f1 25]), u_s, fun j _ => by show ao u1 26 j = _; rw [fr_ao f1 26], fun j hj => by omega⟩ ?_ ?_
  · rintro a s ⟨h1, h2, h3, h4, h5⟩
    show kx_makeCell_18 _ _ _ _ _ _
    rw [cx_makeCell_18]
    exact pk_le 4 4 (fun _ => K s h1 h2 (by rw [h3]; exact hT) h4 h5) (fun h => absurd h (by omega))
  · rintro a i s hi ⟨h1, h2, h3, h4, h5⟩ hr
    have hc' := Ct_fr h1 (hb n hn).1
    have z4 := hc'.2.1
    have put : ∀ x : Int32, x = pI (pz z lf ct n i) → ∀ y, y = nI (i + 1) → kx_makeCell_18 post (nI c) (nI n) a y (sa s 26 (upd (ao s 26) (4 * c + i) x)) := by
      intro x hx y ey
      rw [ey]
      refine hr _ ⟨fr_a h1 (by decide), h2, h3, fun j hj => ?_, fun j hj => ?_⟩
      · show upd (ao s 26) (4 * c + i) _ j = _
        rw [u_n (by omega)]; exact h4 j (by omega)
      · show upd (ao s 26) (4 * c + i) _ (4 * c + j) = _
        by_cases e : j = i
        · rw [e, u_s]; exact hx
        · rw [u_n (by omega)]; exact h5 j (by omega)
    have H46 : ¬ (0 < n ∧ i < z n) → kx_makeCell_46 post (fun y0 s => kx_makeCell_18 post (nI c) (nI n) a y0 s) (nI c) (nI n) (nI i) s := by
      intro hno
      rw [cx_makeCell_46, cx_makeCell_47]
      simp only [m4, clI (show 4 * c + i < 2 ^ 31 by omega)]
      refine br_t (by trivial) ⟨pk_in (4 * c + i) 256 (by omega), nm_e (nm_r (nI_1 i) (put _ ?_ _ rfl))⟩
      unfold pz
      rw [if_neg hno]; exact vb_m'
    show kx_makeCell_18 _ _ _ _ _ _
    rw [cx_makeCell_18]
    simp only [m60, clI (show 6 * n < 2 ^ 31 by omega), hc'.1]
    refine pk_le 4 i (fun h => absurd h (by omega)) (fun _ => pk_le n 0 (fun h0 => H46 (by omega)) (fun h0 => ⟨pk_in (6 * n) 1536 (by omega), pk_le (z n) i (fun hz => H46 (by omega)) (fun hz => ?_)⟩))
    have e24 : ao s 18 (24 * n + i) = nI (lf n i) := by
      have := hc'.2.2 i hz
      rw [show 4 * (6 * n) + i = 24 * n + i from by omega] at this
      exact this
    have hl : 1 ≤ lf n i ∧ lf n i < 133 := by
      by_cases h : 13 ≤ n
      · have := ((hb n hn).2.1 h).1 i hz; omega
      · have := (hb n hn).2.2 (by omega)
        rw [show i = 0 from by omega]; omega
    have hso : so ct (lf n i) < 66 := by
      unfold so
      split
      · omega
      · next h => have := (ht h0 i hz (by omega)).2; omega
    rw [cx_makeCell_47]
    simp only [m24, m4, clI (show 24 * n + i < 2 ^ 31 by omega), clI (show 4 * c + i < 2 ^ 31 by omega), e24]
    refine br_f (by decide) ⟨pk_in (24 * n + i) 6144 (by omega), hx_sourceOf (ct := ct) hl.1 (by omega) (fun h => ?_) (fun h => (ht h0 i hz h).2) ⟨pk_in (4 * c + i) 256 (by omega), nm_e (nm_r (nI_1 i) (put _ ?_ _ rfl))⟩⟩
    · rw [fr_ao h1 22]; exact (ht h0 i hz h).1
    · unfold pz
      rw [if_pos ⟨h0, hz⟩, pI_s]; exact vby (by omega)
end
section
/-! ===== C: cells ===== -/
theorem cx_makeSimpleCell (post : SX → Prop) (u : SX) (p0 : Int32) (p1 : Int32) (p2 : Int32) (p3 : Int32) (p4 : Int32) : wpX_makeSimpleCell post u p0 p1 p2 p3 p4 = (vp_in p0 64 ∧ ∀ a_tableBits_2 : Nat → Int32, a_tableBits_2 = upd (ao u 25) p0.toNatClampNeg p1 → (vp_in (p0 * 4) 256 ∧ ∀ a_cellSource_4 : Nat → Int32, a_cellSource_4 = upd (ao u 26) (p0 * 4).toNatClampNeg (vp_nar .byte p2.toInt8.toInt32) → (vp_in ((p0 * 4) + 1) 256 ∧ ∀ a_cellSource_6 : Nat → Int32, a_cellSource_6 = upd a_cellSource_4 ((p0 * 4) + 1).toNatClampNeg (vp_nar .byte p3.toInt8.toInt32) → (vp_in ((p0 * 4) + 2) 256 ∧ ∀ a_cellSource_8 : Nat → Int32, a_cellSource_8 = upd a_cellSource_6 ((p0 * 4) + 2).toNatClampNeg (vp_nar .byte p4.toInt8.toInt32) → (vp_in ((p0 * 4) + 3) 256 ∧ ∀ a_cellSource_10 : Nat → Int32, a_cellSource_10 = upd a_cellSource_8 ((p0 * 4) + 3).toNatClampNeg (vp_nar .byte (- 1)) → (post (sa (sa u 25 a_tableBits_2) 26 a_cellSource_10))))))) := by simp only [n_ffx, n_afx, n_aax, n_fmx, n_amx]; rfl
def kx_makeCellsOfGates_105 (post : SX → Prop) (J66 : Int32 → SX → Prop) (x2 : Int32) (x3 : Int32) (z0 : Int32) (u : SX) : Prop := match u with
  | (qf_gates, qf_nodes, qf_joinedSize, qf_cells, qf_chanceState, qf_isBuilt, qf_levels, qa_kinds, qa_firsts, qa_seconds, qa_thirds, qa_nextOf, qa_shownBy, qa_left, qa_right, qa_endOf, qa_cutCount, qa_cutSize, qa_cutLeaf, qa_cutDepth, qa_depthOf, qa_needed, qa_tableOf, qa_rows, qa_joined, qa_tableBits, qa_cellSource, qa_placeOf, qa_cellAt, qa_used, qa_worn, qa_inTree, qa_treeFrom, qa_farness, qa_cameFrom, qa_settled, qa_trackTaken, qa_trackOf, qa_switchBits, qa_pinTrack, qa_outTrack, qa_padTrack, qa_deviceTable, qa_hasFlip, qa_registerPlace, qa_outputPlace, qa_wireRoot, qa_wireLevel, qa_flip, qa_tableOut) => wX_makeCellsOfGates_105 post (fun x2 f_gates f_nodes f_joinedSize f_cells f_chanceState f_isBuilt f_levels a_kinds a_firsts a_seconds a_thirds a_nextOf a_shownBy a_left a_right a_endOf a_cutCount a_cutSize a_cutLeaf a_cutDepth a_depthOf a_needed a_tableOf a_rows a_joined a_tableBits a_cellSource a_placeOf a_cellAt a_used a_worn a_inTree a_treeFrom a_farness a_cameFrom a_settled a_trackTaken a_trackOf a_switchBits a_pinTrack a_outTrack a_padTrack a_deviceTable a_hasFlip a_registerPlace a_outputPlace a_wireRoot a_wireLevel a_flip a_tableOut => J66 x2 (f_gates, f_nodes, f_joinedSize, f_cells, f_chanceState, f_isBuilt, f_levels, a_kinds, a_firsts, a_seconds, a_thirds, a_nextOf, a_shownBy, a_left, a_right, a_endOf, a_cutCount, a_cutSize, a_cutLeaf, a_cutDepth, a_depthOf, a_needed, a_tableOf, a_rows, a_joined, a_tableBits, a_cellSource, a_placeOf, a_cellAt, a_used, a_worn, a_inTree, a_treeFrom, a_farness, a_cameFrom, a_settled, a_trackTaken, a_trackOf, a_switchBits, a_pinTrack, a_outTrack, a_padTrack, a_deviceTable, a_hasFlip, a_registerPlace, a_outputPlace, a_wireRoot, a_wireLevel, a_flip, a_tableOut)) x2 x3 z0 qf_gates qf_nodes qf_joinedSize qf_cells qf_chanceState qf_isBuilt qf_levels qa_kinds qa_firsts qa_seconds qa_thirds qa_nextOf qa_shownBy qa_left qa_right qa_endOf qa_cutCount qa_cutSize qa_cutLeaf qa_cutDepth qa_depthOf qa_needed qa_tableOf qa_rows qa_joined qa_tableBits qa_cellSource qa_placeOf qa_cellAt qa_used qa_worn qa_inTree qa_treeFrom qa_farness qa_cameFrom qa_settled qa_trackTaken qa_trackOf qa_switchBits qa_pinTrack qa_outTrack qa_padTrack qa_deviceTable qa_hasFlip qa_registerPlace qa_outputPlace qa_wireRoot qa_wireLevel qa_flip qa_tableOut
theorem cx_makeCellsOfGates_105 (post : SX → Prop) (J66 : Int32 → SX → Prop) (x2 : Int32) (x3 : Int32) (z0 : Int32) (u : SX) : kx_makeCellsOfGates_105 post J66 x2 x3 z0 u = (vp_in x2 20 ∧ (vp_in x2 20 ∧ (wpX_makeSimpleCell (fun u1 => (∀ x2_62 : Int32, x2_62 = x2 + 1 → (J66 x2_62 u1))) u (10 + x2) x3 ((ao u 8) x2.toNatClampNeg) ((ao u 9) x2.toNatClampNeg) z0))) := rfl
def kx_makeCellsOfGates_66 (post : SX → Prop) (n : Nat) (x2 : Int32) (u : SX) : Prop := match u with
  | (qf_gates, qf_nodes, qf_joinedSize, qf_cells, qf_chanceState, qf_isBuilt, qf_levels, qa_kinds, qa_firsts, qa_seconds, qa_thirds, qa_nextOf, qa_shownBy, qa_left, qa_right, qa_endOf, qa_cutCount, qa_cutSize, qa_cutLeaf, qa_cutDepth, qa_depthOf, qa_needed, qa_tableOf, qa_rows, qa_joined, qa_tableBits, qa_cellSource, qa_placeOf, qa_cellAt, qa_used, qa_worn, qa_inTree, qa_treeFrom, qa_farness, qa_cameFrom, qa_settled, qa_trackTaken, qa_trackOf, qa_switchBits, qa_pinTrack, qa_outTrack, qa_padTrack, qa_deviceTable, qa_hasFlip, qa_registerPlace, qa_outputPlace, qa_wireRoot, qa_wireLevel, qa_flip, qa_tableOut) => wX_makeCellsOfGates_66 post n x2 qf_gates qf_nodes qf_joinedSize qf_cells qf_chanceState qf_isBuilt qf_levels qa_kinds qa_firsts qa_seconds qa_thirds qa_nextOf qa_shownBy qa_left qa_right qa_endOf qa_cutCount qa_cutSize qa_cutLeaf qa_cutDepth qa_depthOf qa_needed qa_tableOf qa_rows qa_joined qa_tableBits qa_cellSource qa_placeOf qa_cellAt qa_used qa_worn qa_inTree qa_treeFrom qa_farness qa_cameFrom qa_settled qa_trackTaken qa_trackOf qa_switchBits qa_pinTrack qa_outTrack qa_padTrack qa_deviceTable qa_hasFlip qa_registerPlace qa_outputPlace qa_wireRoot qa_wireLevel qa_flip qa_tableOut
theorem cx_makeCellsOfGates_66 (post : SX → Prop) (n : Nat) (x2 : Int32) (u : SX) : kx_makeCellsOfGates_66 post (n + 1) x2 u = ((((fo u 0) ≤ x2 → (post u)) ∧ (¬ (fo u 0) ≤ x2 → (vp_in x2 20 ∧ (wpX_tableOfKind (fun r_6 => (vp_in x2 20 ∧ (((((ao u 7) x2.toNatClampNeg) < 7 → (kx_makeCellsOfGates_105 post (fun y0 s => kx_makeCellsOfGates_66 post n y0 s) x2 r_6 (- 1) u)) ∧ (¬ ((ao u 7) x2.toNatClampNeg) < 7 → (vp_in x2 20 ∧ (kx_makeCellsOfGates_105 post (fun y0 s => kx_makeCellsOfGates_66 post n y0 s) x2 r_6 ((ao u 10) x2.toNatClampNeg) u))))))) ((ao u 7) x2.toNatClampNeg)))))) := rfl
def kx_makeCellsOfGates_48 (post : SX → Prop) (J18 : Int32 → SX → Prop) (x1 : Int32) (x2 : Int32) (z0 : Int32) (u : SX) : Prop := match u with
  | (qf_gates, qf_nodes, qf_joinedSize, qf_cells, qf_chanceState, qf_isBuilt, qf_levels, qa_kinds, qa_firsts, qa_seconds, qa_thirds, qa_nextOf, qa_shownBy, qa_left, qa_right, qa_endOf, qa_cutCount, qa_cutSize, qa_cutLeaf, qa_cutDepth, qa_depthOf, qa_needed, qa_tableOf, qa_rows, qa_joined, qa_tableBits, qa_cellSource, qa_placeOf, qa_cellAt, qa_used, qa_worn, qa_inTree, qa_treeFrom, qa_farness, qa_cameFrom, qa_settled, qa_trackTaken, qa_trackOf, qa_switchBits, qa_pinTrack, qa_outTrack, qa_padTrack, qa_deviceTable, qa_hasFlip, qa_registerPlace, qa_outputPlace, qa_wireRoot, qa_wireLevel, qa_flip, qa_tableOut) => wX_makeCellsOfGates_48 post (fun x2 f_gates f_nodes f_joinedSize f_cells f_chanceState f_isBuilt f_levels a_kinds a_firsts a_seconds a_thirds a_nextOf a_shownBy a_left a_right a_endOf a_cutCount a_cutSize a_cutLeaf a_cutDepth a_depthOf a_needed a_tableOf a_rows a_joined a_tableBits a_cellSource a_placeOf a_cellAt a_used a_worn a_inTree a_treeFrom a_farness a_cameFrom a_settled a_trackTaken a_trackOf a_switchBits a_pinTrack a_outTrack a_padTrack a_deviceTable a_hasFlip a_registerPlace a_outputPlace a_wireRoot a_wireLevel a_flip a_tableOut => J18 x2 (f_gates, f_nodes, f_joinedSize, f_cells, f_chanceState, f_isBuilt, f_levels, a_kinds, a_firsts, a_seconds, a_thirds, a_nextOf, a_shownBy, a_left, a_right, a_endOf, a_cutCount, a_cutSize, a_cutLeaf, a_cutDepth, a_depthOf, a_needed, a_tableOf, a_rows, a_joined, a_tableBits, a_cellSource, a_placeOf, a_cellAt, a_used, a_worn, a_inTree, a_treeFrom, a_farness, a_cameFrom, a_settled, a_trackTaken, a_trackOf, a_switchBits, a_pinTrack, a_outTrack, a_padTrack, a_deviceTable, a_hasFlip, a_registerPlace, a_outputPlace, a_wireRoot, a_wireLevel, a_flip, a_tableOut)) x1 x2 z0 qf_gates qf_nodes qf_joinedSize qf_cells qf_chanceState qf_isBuilt qf_levels qa_kinds qa_firsts qa_seconds qa_thirds qa_nextOf qa_shownBy qa_left qa_right qa_endOf qa_cutCount qa_cutSize qa_cutLeaf qa_cutDepth qa_depthOf qa_needed qa_tableOf qa_rows qa_joined qa_tableBits qa_cellSource qa_placeOf qa_cellAt qa_used qa_worn qa_inTree qa_treeFrom qa_farness qa_cameFrom qa_settled qa_trackTaken qa_trackOf qa_switchBits qa_pinTrack qa_outTrack qa_padTrack qa_deviceTable qa_hasFlip qa_registerPlace qa_outputPlace qa_wireRoot qa_wireLevel qa_flip qa_tableOut
theorem cx_makeCellsOfGates_48 (post : SX → Prop) (J18 : Int32 → SX → Prop) (x1 : Int32) (x2 : Int32) (z0 : Int32) (u : SX) : kx_makeCellsOfGates_48 post J18 x1 x2 z0 u = (wpX_makeSimpleCell (fun u1 => (∀ x2_117 : Int32, x2_117 = x2 + 1 → (J18 x2_117 u1))) u x2 x1 z0 (- 1) (- 1)) := rfl
def kx_makeCellsOfGates_18 (post : SX → Prop) (x1 : Int32) (n : Nat) (x2 : Int32) (u : SX) : Prop := match u with
  | (qf_gates, qf_nodes, qf_joinedSize, qf_cells, qf_chanceState, qf_isBuilt, qf_levels, qa_kinds, qa_firsts, qa_seconds, qa_thirds, qa_nextOf, qa_shownBy, qa_left, qa_right, qa_endOf, qa_cutCount, qa_cutSize, qa_cutLeaf, qa_cutDepth, qa_depthOf, qa_needed, qa_tableOf, qa_rows, qa_joined, qa_tableBits, qa_cellSource, qa_placeOf, qa_cellAt, qa_used, qa_worn, qa_inTree, qa_treeFrom, qa_farness, qa_cameFrom, qa_settled, qa_trackTaken, qa_trackOf, qa_switchBits, qa_pinTrack, qa_outTrack, qa_padTrack, qa_deviceTable, qa_hasFlip, qa_registerPlace, qa_outputPlace, qa_wireRoot, qa_wireLevel, qa_flip, qa_tableOut) => wX_makeCellsOfGates_18 post x1 n x2 qf_gates qf_nodes qf_joinedSize qf_cells qf_chanceState qf_isBuilt qf_levels qa_kinds qa_firsts qa_seconds qa_thirds qa_nextOf qa_shownBy qa_left qa_right qa_endOf qa_cutCount qa_cutSize qa_cutLeaf qa_cutDepth qa_depthOf qa_needed qa_tableOf qa_rows qa_joined qa_tableBits qa_cellSource qa_placeOf qa_cellAt qa_used qa_worn qa_inTree qa_treeFrom qa_farness qa_cameFrom qa_settled qa_trackTaken qa_trackOf qa_switchBits qa_pinTrack qa_outTrack qa_padTrack qa_deviceTable qa_hasFlip qa_registerPlace qa_outputPlace qa_wireRoot qa_wireLevel qa_flip qa_tableOut
theorem cx_makeCellsOfGates_18 (post : SX → Prop) (x1 : Int32) (n : Nat) (x2 : Int32) (u : SX) : kx_makeCellsOfGates_18 post x1 (n + 1) x2 u = (((10 ≤ x2 → (∃ n66 : Nat, kx_makeCellsOfGates_66 post n66 0 u)) ∧ (¬ 10 ≤ x2 → (((6 ≤ x2 → (vp_in (x2 - 6) 4 ∧ (kx_makeCellsOfGates_48 post (fun y0 s => kx_makeCellsOfGates_18 post x1 n y0 s) x1 x2 ((ao u 12) (x2 - 6).toNatClampNeg) u))) ∧ (¬ 6 ≤ x2 → (vp_in x2 6 ∧ (kx_makeCellsOfGates_48 post (fun y0 s => kx_makeCellsOfGates_18 post x1 n y0 s) x1 x2 ((ao u 11) x2.toNatClampNeg) u)))))))) := rfl
theorem cx_makeCellsOfGates (post : SX → Prop) (u : SX) : wpX_makeCellsOfGates post u = (∀ f_cells_1 : Int32, f_cells_1 = 10 + (fo u 0) → (wpX_rowsOfInput (fun r_2 => (∃ n18 : Nat, kx_makeCellsOfGates_18 post r_2 n18 0 (sf u 3 f_cells_1))) 0)) := rfl
def kx_makeCells_114 (post : SX → Prop) (n : Nat) (x1 : Int32) (u : SX) : Prop := match u with
  | (qf_gates, qf_nodes, qf_joinedSize, qf_cells, qf_chanceState, qf_isBuilt, qf_levels, qa_kinds, qa_firsts, qa_seconds, qa_thirds, qa_nextOf, qa_shownBy, qa_left, qa_right, qa_endOf, qa_cutCount, qa_cutSize, qa_cutLeaf, qa_cutDepth, qa_depthOf, qa_needed, qa_tableOf, qa_rows, qa_joined, qa_tableBits, qa_cellSource, qa_placeOf, qa_cellAt, qa_used, qa_worn, qa_inTree, qa_treeFrom, qa_farness, qa_cameFrom, qa_settled, qa_trackTaken, qa_trackOf, qa_switchBits, qa_pinTrack, qa_outTrack, qa_padTrack, qa_deviceTable, qa_hasFlip, qa_registerPlace, qa_outputPlace, qa_wireRoot, qa_wireLevel, qa_flip, qa_tableOut) => wX_makeCells_114 post n x1 qf_gates qf_nodes qf_joinedSize qf_cells qf_chanceState qf_isBuilt qf_levels qa_kinds qa_firsts qa_seconds qa_thirds qa_nextOf qa_shownBy qa_left qa_right qa_endOf qa_cutCount qa_cutSize qa_cutLeaf qa_cutDepth qa_depthOf qa_needed qa_tableOf qa_rows qa_joined qa_tableBits qa_cellSource qa_placeOf qa_cellAt qa_used qa_worn qa_inTree qa_treeFrom qa_farness qa_cameFrom qa_settled qa_trackTaken qa_trackOf qa_switchBits qa_pinTrack qa_outTrack qa_padTrack qa_deviceTable qa_hasFlip qa_registerPlace qa_outputPlace qa_wireRoot qa_wireLevel qa_flip qa_tableOut
theorem cx_makeCells_114 (post : SX → Prop) (n : Nat) (x1 : Int32) (u : SX) : kx_makeCells_114 post (n + 1) x1 u = ((((fo u 1) ≤ x1 → (post u)) ∧ (¬ (fo u 1) ≤ x1 → (vp_in x1 256 ∧ (((((ao u 21) x1.toNatClampNeg) = 0 → (∀ x1_58 : Int32, x1_58 = x1 + 1 → (kx_makeCells_114 post n x1_58 u))) ∧ (¬ ((ao u 21) x1.toNatClampNeg) = 0 → (vp_in x1 256 ∧ (wpX_makeCell (fun u1 => (∀ x1_111 : Int32, x1_111 = x1 + 1 → (kx_makeCells_114 post n x1_111 u1))) u ((ao u 22) x1.toNatClampNeg) (2 * x1)))))))))) := rfl
def kx_makeCells_87 (post : SX → Prop) (n : Nat) (x1 : Int32) (u : SX) : Prop := match u with
  | (qf_gates, qf_nodes, qf_joinedSize, qf_cells, qf_chanceState, qf_isBuilt, qf_levels, qa_kinds, qa_firsts, qa_seconds, qa_thirds, qa_nextOf, qa_shownBy, qa_left, qa_right, qa_endOf, qa_cutCount, qa_cutSize, qa_cutLeaf, qa_cutDepth, qa_depthOf, qa_needed, qa_tableOf, qa_rows, qa_joined, qa_tableBits, qa_cellSource, qa_placeOf, qa_cellAt, qa_used, qa_worn, qa_inTree, qa_treeFrom, qa_farness, qa_cameFrom, qa_settled, qa_trackTaken, qa_trackOf, qa_switchBits, qa_pinTrack, qa_outTrack, qa_padTrack, qa_deviceTable, qa_hasFlip, qa_registerPlace, qa_outputPlace, qa_wireRoot, qa_wireLevel, qa_flip, qa_tableOut) => wX_makeCells_87 post n x1 qf_gates qf_nodes qf_joinedSize qf_cells qf_chanceState qf_isBuilt qf_levels qa_kinds qa_firsts qa_seconds qa_thirds qa_nextOf qa_shownBy qa_left qa_right qa_endOf qa_cutCount qa_cutSize qa_cutLeaf qa_cutDepth qa_depthOf qa_needed qa_tableOf qa_rows qa_joined qa_tableBits qa_cellSource qa_placeOf qa_cellAt qa_used qa_worn qa_inTree qa_treeFrom qa_farness qa_cameFrom qa_settled qa_trackTaken qa_trackOf qa_switchBits qa_pinTrack qa_outTrack qa_padTrack qa_deviceTable qa_hasFlip qa_registerPlace qa_outputPlace qa_wireRoot qa_wireLevel qa_flip qa_tableOut
theorem cx_makeCells_87 (post : SX → Prop) (n : Nat) (x1 : Int32) (u : SX) : kx_makeCells_87 post (n + 1) x1 u = (((10 ≤ x1 → (∃ n114 : Nat, kx_makeCells_114 post n114 13 u)) ∧ (¬ 10 ≤ x1 → (wpX_rootOf (fun r_112 => (wpX_makeCell (fun u1 => (∀ x1_214 : Int32, x1_214 = x1 + 1 → (kx_makeCells_87 post n x1_214 u1))) u x1 r_112)) u x1)))) := rfl
def kx_makeCells_53 (post : SX → Prop) (J13 : Int32 → SX → Prop) (x1 : Int32) (z0 : Int32) (z1 : Int32) (u : SX) : Prop := match u with
  | (qf_gates, qf_nodes, qf_joinedSize, qf_cells, qf_chanceState, qf_isBuilt, qf_levels, qa_kinds, qa_firsts, qa_seconds, qa_thirds, qa_nextOf, qa_shownBy, qa_left, qa_right, qa_endOf, qa_cutCount, qa_cutSize, qa_cutLeaf, qa_cutDepth, qa_depthOf, qa_needed, qa_tableOf, qa_rows, qa_joined, qa_tableBits, qa_cellSource, qa_placeOf, qa_cellAt, qa_used, qa_worn, qa_inTree, qa_treeFrom, qa_farness, qa_cameFrom, qa_settled, qa_trackTaken, qa_trackOf, qa_switchBits, qa_pinTrack, qa_outTrack, qa_padTrack, qa_deviceTable, qa_hasFlip, qa_registerPlace, qa_outputPlace, qa_wireRoot, qa_wireLevel, qa_flip, qa_tableOut) => wX_makeCells_53 post (fun x1 f_cells a_kinds a_firsts a_seconds a_thirds a_nextOf a_shownBy a_left a_right a_endOf a_cutCount a_cutSize a_cutLeaf a_cutDepth a_depthOf a_needed a_tableOf a_rows a_joined a_tableBits a_cellSource a_placeOf a_cellAt a_used a_worn a_inTree a_treeFrom a_farness a_cameFrom a_settled a_trackTaken a_trackOf a_switchBits a_pinTrack a_outTrack a_padTrack a_deviceTable a_hasFlip a_registerPlace a_outputPlace a_wireRoot a_wireLevel a_flip a_tableOut => J13 x1 (qf_gates, qf_nodes, qf_joinedSize, f_cells, qf_chanceState, qf_isBuilt, qf_levels, a_kinds, a_firsts, a_seconds, a_thirds, a_nextOf, a_shownBy, a_left, a_right, a_endOf, a_cutCount, a_cutSize, a_cutLeaf, a_cutDepth, a_depthOf, a_needed, a_tableOf, a_rows, a_joined, a_tableBits, a_cellSource, a_placeOf, a_cellAt, a_used, a_worn, a_inTree, a_treeFrom, a_farness, a_cameFrom, a_settled, a_trackTaken, a_trackOf, a_switchBits, a_pinTrack, a_outTrack, a_padTrack, a_deviceTable, a_hasFlip, a_registerPlace, a_outputPlace, a_wireRoot, a_wireLevel, a_flip, a_tableOut)) x1 z0 z1 qf_gates qf_nodes qf_joinedSize qf_cells qf_chanceState qf_isBuilt qf_levels qa_kinds qa_firsts qa_seconds qa_thirds qa_nextOf qa_shownBy qa_left qa_right qa_endOf qa_cutCount qa_cutSize qa_cutLeaf qa_cutDepth qa_depthOf qa_needed qa_tableOf qa_rows qa_joined qa_tableBits qa_cellSource qa_placeOf qa_cellAt qa_used qa_worn qa_inTree qa_treeFrom qa_farness qa_cameFrom qa_settled qa_trackTaken qa_trackOf qa_switchBits qa_pinTrack qa_outTrack qa_padTrack qa_deviceTable qa_hasFlip qa_registerPlace qa_outputPlace qa_wireRoot qa_wireLevel qa_flip qa_tableOut
theorem cx_makeCells_53 (post : SX → Prop) (J13 : Int32 → SX → Prop) (x1 : Int32) (z0 : Int32) (z1 : Int32) (u : SX) : kx_makeCells_53 post J13 x1 z0 z1 u = (vp_in z1 256 ∧ ∀ a_tableOf_271 : Nat → Int32, a_tableOf_271 = upd (ao u 22) z1.toNatClampNeg (vp_nar .byte z0.toInt8.toInt32) → (∀ f_cells_272 : Int32, f_cells_272 = (fo u 3) + 1 → (∀ x1_273 : Int32, x1_273 = x1 + 1 → (J13 x1_273 (sa (sf u 3 f_cells_272) 22 a_tableOf_271))))) := by simp only [n_ffx, n_afx, n_aax, n_fmx, n_amx]; rfl
def kx_makeCells_13 (post : SX → Prop) (n : Nat) (x1 : Int32) (u : SX) : Prop := match u with
  | (qf_gates, qf_nodes, qf_joinedSize, qf_cells, qf_chanceState, qf_isBuilt, qf_levels, qa_kinds, qa_firsts, qa_seconds, qa_thirds, qa_nextOf, qa_shownBy, qa_left, qa_right, qa_endOf, qa_cutCount, qa_cutSize, qa_cutLeaf, qa_cutDepth, qa_depthOf, qa_needed, qa_tableOf, qa_rows, qa_joined, qa_tableBits, qa_cellSource, qa_placeOf, qa_cellAt, qa_used, qa_worn, qa_inTree, qa_treeFrom, qa_farness, qa_cameFrom, qa_settled, qa_trackTaken, qa_trackOf, qa_switchBits, qa_pinTrack, qa_outTrack, qa_padTrack, qa_deviceTable, qa_hasFlip, qa_registerPlace, qa_outputPlace, qa_wireRoot, qa_wireLevel, qa_flip, qa_tableOut) => wX_makeCells_13 post qf_gates qf_nodes qf_joinedSize qf_chanceState qf_isBuilt qf_levels n x1 qf_cells qa_kinds qa_firsts qa_seconds qa_thirds qa_nextOf qa_shownBy qa_left qa_right qa_endOf qa_cutCount qa_cutSize qa_cutLeaf qa_cutDepth qa_depthOf qa_needed qa_tableOf qa_rows qa_joined qa_tableBits qa_cellSource qa_placeOf qa_cellAt qa_used qa_worn qa_inTree qa_treeFrom qa_farness qa_cameFrom qa_settled qa_trackTaken qa_trackOf qa_switchBits qa_pinTrack qa_outTrack qa_padTrack qa_deviceTable qa_hasFlip qa_registerPlace qa_outputPlace qa_wireRoot qa_wireLevel qa_flip qa_tableOut
theorem cx_makeCells_13 (post : SX → Prop) (n : Nat) (x1 : Int32) (u : SX) : kx_makeCells_13 post (n + 1) x1 u = ((((fo u 1) ≤ x1 → ((((fo u 3) ≤ 36 → (∃ n87 : Nat, kx_makeCells_87 post n87 0 u)) ∧ (¬ (fo u 3) ≤ 36 → (wpX_makeCellsOfGates (fun u1 => (post u1)) u))))) ∧ (¬ (fo u 1) ≤ x1 → (vp_in x1 256 ∧ (((((ao u 21) x1.toNatClampNeg) = 0 → (∀ x1_268 : Int32, x1_268 = x1 + 1 → (kx_makeCells_13 post n x1_268 u))) ∧ (¬ ((ao u 21) x1.toNatClampNeg) = 0 → (((64 ≤ (fo u 3) → (kx_makeCells_53 post (fun y0 s => kx_makeCells_13 post n y0 s) x1 63 x1 u)) ∧ (¬ 64 ≤ (fo u 3) → (kx_makeCells_53 post (fun y0 s => kx_makeCells_13 post n y0 s) x1 (fo u 3) x1 u))))))))))) := rfl
theorem cx_makeCells (post : SX → Prop) (u : SX) : wpX_makeCells post u = (wpX_findNeeded (fun u1 => (∃ n13 : Nat, kx_makeCells_13 post n13 13 (sf u1 3 10))) u) := rfl
theorem cn_mono (f : Nat → Bool) {a : Nat} : ∀ {b}, a ≤ b → cn f a ≤ cn f b
  | 0, h => by rw [show a = 0 from by omega]; exact Nat.le_refl _
  | b + 1, h => by
    by_cases e : a = b + 1
    · rw [e]; exact Nat.le_refl _
    · have := cn_mono f (a := a) (b := b) (by omega)
      simp only [cn]; omega
theorem cn_sur (f : Nat → Bool) : ∀ k j, j < cn f k → ∃ m, m < k ∧ f m = true ∧ cn f m = j
  | 0, j, h => absurd h (Nat.not_lt_zero _)
  | k + 1, j, h => by
    by_cases e : j < cn f k
    · obtain ⟨m, a, b⟩ := cn_sur f k j e
      exact ⟨m, by omega, b⟩
    · cases hf : f k with
      | false => simp only [cn, hf] at h; simp at h; omega
      | true => simp only [cn, hf, if_true] at h; exact ⟨k, by omega, hf, by omega⟩
theorem cn_s (f : Nat → Bool) (m : Nat) (h : f m = true) : cn f (m + 1) = cn f m + 1 := by simp only [cn, h, if_true]
theorem cn_f (f : Nat → Bool) (m : Nat) (h : f m = false) : cn f (m + 1) = cn f m := by simp only [cn, h]; simp
def nf (nd : Nat → Bool) (m : Nat) : Bool := decide (13 ≤ m) && nd m
def ctf (nd : Nat → Bool) (i : Nat) : Nat := 10 + cn (nf nd) i
theorem nf_t {nd : Nat → Bool} {m : Nat} (h : 13 ≤ m) (hd : nd m = true) : nf nd m = true := by unfold nf; rw [decide_eq_true h, hd]; rfl
theorem nf_i {nd : Nat → Bool} {m : Nat} (h : nf nd m = true) : 13 ≤ m ∧ nd m = true := by
  unfold nf at h
  rw [Bool.and_eq_true] at h
  exact ⟨of_decide_eq_true h.1, h.2⟩
theorem ctf_lt {nd : Nat → Bool} {m k : Nat} (h : 13 ≤ m) (hd : nd m = true) (hk : m < k) : ctf nd m < ctf nd k := by
  unfold ctf
  have h1 := cn_s _ m (nf_t h hd)
  have h2 := cn_mono (nf nd) (a := m + 1) (b := k) (by omega)
  omega
theorem ctf_inj {nd : Nat → Bool} {m k : Nat} (h : 13 ≤ m) (hd : nd m = true) (h' : 13 ≤ k) (hd' : nd k = true) (he : ctf nd m = ctf nd k) : m = k := by
  rcases Nat.lt_trichotomy m k with hl | hl | hl
  · have := ctf_lt h hd hl; omega
  · exact hl
  · have := ctf_lt h' hd' hl; omega
theorem ctf_13 (nd : Nat → Bool) : ctf nd 13 = 10 := by
  unfold ctf
  rw [cn_0 (fun i hi => ?_)]
  unfold nf
  rw [decide_eq_false (by omega)]; rfl
theorem ctf_b (nd : Nat → Bool) (i : Nat) : 10 ≤ ctf nd i ∧ ctf nd i ≤ 10 + i := by
  unfold ctf
  have := cn_le (nf nd) i
  omega
/-- the source's value at a pin -/
def rS (p : Nat → Nat) (sv : Nat → Bool) : Nat := ro (fun i => decide (p i ≠ 0) && sv (p i - 1))
/-- the netlist -/
def NL (u : SX) (C : Nat) (P : Nat → Nat → Nat) (root : (Nat → Bool) → Nat → Bool) : Prop := fo u 3 = nI C ∧ 10 ≤ C ∧ C ≤ 36 ∧
  (∀ c i, c < C → i < 4 → ao u 26 (4 * c + i) = pI (P c i) ∧ P c i ≤ C + 2 ∧ (10 ≤ c → P c i ≤ c + 2)) ∧
  ∀ e, ∃ sv : Nat → Bool, (∀ s, s < 12 → sv s = e s) ∧ (∀ c, 10 ≤ c → c < C → sv (c + 2) = bt (ao u 25 c) (rS (P c) sv)) ∧ ∀ c, c < 10 → root e c = bt (ao u 25 c) (rS (P c) sv)
def Cd (N : Nat) (L R : Nat → Nat) (z : Nat → Nat) (lf : Nat → Nat → Nat) (ct : Nat → Nat) (s : SX) (c E : Nat) : Prop := TT N L R z lf (ao s 25 c) E ∧ ∀ i, i < 4 → ao s 26 (4 * c + i) = pI (pz z lf ct (E / 2) i)
theorem Cd_k {N : Nat} {L R : Nat → Nat} {z : Nat → Nat} {lf : Nat → Nat → Nat} {ct : Nat → Nat} {s s' : SX} {c c' E : Nat} (h : Cd N L R z lf ct s c E) (hc : c ≠ c') (h1 : ∀ j, j ≠ c' → ao s' 25 j = ao s 25 j)
    (h2 : ∀ j, (j < 4 * c' ∨ 4 * c' + 4 ≤ j) → ao s' 26 j = ao s 26 j) : Cd N L R z lf ct s' c E :=
  ⟨by rw [h1 c hc]; exact h.1, fun i hi => (h2 _ (by omega)).trans (h.2 i hi)⟩
theorem NL_of {N : Nat} {L R : Nat → Nat} {u : SX} {z : Nat → Nat} {lf : Nat → Nat → Nat} {V : (Nat → Bool) → Nat → Bool} {rt : Nat → Nat} {nd : Nat → Bool} {root : (Nat → Bool) → Nat → Bool} (hb : Bz N L R u z lf) (hv : Gv N L R V) (hNc : Nc N z lf rt nd) (hrt : ∀ c, c < 10 → rt c < 2 * N)
    (hroot : ∀ e c, c < 10 → root e c = ev (V e) (rt c)) (hC : fo u 3 = nI (ctf nd N)) (hC36 : ctf nd N ≤ 36) (h1 : ∀ c, c < 10 → Cd N L R z lf (ctf nd) u c (rt c)) (h2 : ∀ m, 13 ≤ m → m < N → nd m = true → Cd N L R z lf (ctf nd) u (ctf nd m) (2 * m)) :
    ∃ P, NL u (ctf nd N) P root := by
  have hct := ctf_b nd N
  have sur : ∀ c, 10 ≤ c → c < ctf nd N → ∃ m, 13 ≤ m ∧ m < N ∧ nd m = true ∧ ctf nd m = c := by
    intro c hc hcN
    obtain ⟨m, a, b, d⟩ := cn_sur (nf nd) N (c - 10) (by unfold ctf at hcN; omega)
    exact ⟨m, (nf_i b).1, a, (nf_i b).2, by unfold ctf; omega⟩
  obtain ⟨no, hno⟩ := Classical.axiomOfChoice (r := fun (c m : Nat) => (10 ≤ c → c < ctf nd N → 13 ≤ m ∧ m < N ∧ nd m = true ∧ ctf nd m = c)) (fun c => by
    by_cases h : 10 ≤ c ∧ c < ctf nd N
    · obtain ⟨m, hm⟩ := sur c h.1 h.2
      exact ⟨m, fun _ _ => hm⟩
    · exact ⟨0, fun a b => absurd ⟨a, b⟩ h⟩)
  have hno' : ∀ m, 13 ≤ m → m < N → nd m = true → no (ctf nd m) = m := by
    intro m a b d
    have h := hno (ctf nd m) (ctf_b nd m).1 (ctf_lt a d b)
    exact ctf_inj h.1 h.2.2.1 a d h.2.2.2
  -- the end of each cell
  let ed : Nat → Nat := fun c => if c < 10 then rt c else 2 * no c
  have hed : ∀ c, c < ctf nd N → Cd N L R z lf (ctf nd) u c (ed c) ∧ ed c < 2 * N := by
    intro c hc
    show Cd N L R z lf (ctf nd) u c (if c < 10 then rt c else 2 * no c) ∧ (if c < 10 then rt c else 2 * no c) < 2 * N
    by_cases h : c < 10
    · rw [if_pos h]; exact ⟨h1 c h, hrt c h⟩
    · have k := hno c (by omega) hc
      rw [if_neg h]
      have := h2 (no c) k.1 k.2.1 k.2.2.1
      rw [k.2.2.2] at this
      exact ⟨this, by omega⟩
  -- leaves of a cell's node
  have hlf : ∀ c, c < ctf nd N → 0 < ed c / 2 → ∀ i, i < z (ed c / 2) → 1 ≤ lf (ed c / 2) i ∧ lf (ed c / 2) i < N ∧ (13 ≤ lf (ed c / 2) i → nd (lf (ed c / 2) i) = true) ∧ (10 ≤ c → lf (ed c / 2) i < no c) := by
    intro c hc h0 i hi
    have hlt := (hed c hc).2
    have hbz := hb (ed c / 2) (by omega)
    by_cases h13 : 13 ≤ ed c / 2
    · have hl := (hbz.2.1 h13).1 i hi
      by_cases h : c < 10
      · have e : ed c = rt c := if_pos h
        rw [e] at h13 hi hl ⊢
        exact ⟨hl.1, by omega, fun _ => hNc.2 c h h13 i hi, fun h' => by omega⟩
      · have k := hno c (by omega) hc
        have e : ed c / 2 = no c := by
          have : ed c = 2 * no c := if_neg h
          omega
        rw [e] at h13 hi hl ⊢
        exact ⟨hl.1, by omega, fun _ => hNc.1 (no c) h13 k.2.1 k.2.2.1 i hi, fun _ => hl.2⟩
    · have hl := hbz.2.2 (by omega)
      have e0 : i = 0 := by omega
      subst e0
      rw [hl.2]
      refine ⟨h0, by omega, fun h => absurd h h13, fun h => ?_⟩
      have k := hno c h hc
      have : ed c = 2 * no c := if_neg (by omega)
      omega
  refine ⟨fun c i => pz z lf (ctf nd) (ed c / 2) i, hC, hct.1, hC36, fun c i hc hi => ⟨(hed c hc).1.2 i hi, ?_, fun h10 => ?_⟩, fun e => ?_⟩
  · show pz z lf (ctf nd) (ed c / 2) i ≤ _
    unfold pz
    by_cases h : 0 < ed c / 2 ∧ i < z (ed c / 2)
    · rw [if_pos h]
      have hl := hlf c hc h.1 i h.2
      unfold so
      by_cases h13 : lf (ed c / 2) i < 13
      · rw [if_pos h13]; omega
      · rw [if_neg h13]
        have := ctf_lt (by omega) (hl.2.2.1 (by omega)) hl.2.1
        omega
    · rw [if_neg h]; omega
  · show pz z lf (ctf nd) (ed c / 2) i ≤ _
    unfold pz
    by_cases h : 0 < ed c / 2 ∧ i < z (ed c / 2)
    · rw [if_pos h]
      have hl := hlf c hc h.1 i h.2
      unfold so
      by_cases h13 : lf (ed c / 2) i < 13
      · rw [if_pos h13]; omega
      · rw [if_neg h13]
        have := ctf_lt (by omega) (hl.2.2.1 (by omega)) (hl.2.2.2 h10)
        have k := hno c h10 hc
        omega
    · rw [if_neg h]; omega
  · -- values
    have hve := hv e
    let sv : Nat → Bool := fun s => if s < 12 then e s else V e (no (s - 2))
    have hrow : ∀ c, c < ctf nd N → rS (fun i => pz z lf (ctf nd) (ed c / 2) i) sv = ro (fun i => decide (0 < ed c / 2 ∧ i < z (ed c / 2)) && V e (lf (ed c / 2) i)) := by
      intro c hc
      refine ro_cg (fun i hi => ?_)
      show (decide (pz z lf (ctf nd) (ed c / 2) i ≠ 0) && sv (pz z lf (ctf nd) (ed c / 2) i - 1)) = _
      unfold pz
      by_cases h : 0 < ed c / 2 ∧ i < z (ed c / 2)
      · have hl := hlf c hc h.1 i h.2
        rw [if_pos h, decide_eq_true h, decide_eq_true (by omega), Bool.true_and, Bool.true_and, Nat.add_sub_cancel]
        unfold so
        by_cases h13 : lf (ed c / 2) i < 13
        · rw [if_pos h13]
          show (if lf (ed c / 2) i - 1 < 12 then e (lf (ed c / 2) i - 1) else _) = _
          rw [if_pos (by omega), ← hve.2.1 _ (show lf (ed c / 2) i - 1 < 12 by omega), Nat.sub_add_cancel hl.1]
        · have hc10 := (ctf_b nd (lf (ed c / 2) i)).1
          rw [if_neg h13]
          show (if ctf nd (lf (ed c / 2) i) + 2 < 12 then _ else V e (no (ctf nd (lf (ed c / 2) i) + 2 - 2))) = _
          rw [if_neg (by omega), Nat.add_sub_cancel, hno' _ (by omega) hl.2.1 (hl.2.2.1 (by omega))]
      · rw [if_neg h, decide_eq_false h]; rfl
    have hval : ∀ c, c < ctf nd N → bt (ao u 25 c) (rS (fun i => pz z lf (ctf nd) (ed c / 2) i) sv) = ev (V e) (ed c) := by
      intro c hc
      rw [hrow c hc]
      exact (hed c hc).1.1 (V e) hve.1 hve.2.2
    refine ⟨sv, fun s hs => if_pos hs, fun c h10 hc => ?_, fun c hc => ?_⟩
    · rw [hval c hc]
      show (if c + 2 < 12 then _ else V e (no (c + 2 - 2))) = ev (V e) (if c < 10 then rt c else 2 * no c)
      rw [if_neg (by omega), if_neg (by omega), Nat.add_sub_cancel, ev_2]
    · rw [hval c (by omega), hroot e c hc]
      show _ = ev (V e) (if c < 10 then rt c else 2 * no c)
      rw [if_pos hc]
theorem hx_mc114 {post : SX → Prop} {N : Nat} {L R : Nat → Nat} {u u0 : SX} {z : Nat → Nat} {lf : Nat → Nat → Nat} {rt : Nat → Nat} {nd : Nat → Bool} (hN : N ≤ 133) (hq : Gq u N L R) (hb : Bz N L R u z lf) (hNn : Nn u N nd) (hNc : Nc N z lf rt nd)
    (ht : ∀ m, 13 ≤ m → m < N → nd m = true → ao u 22 m = nI (ctf nd m) ∧ ctf nd m < 64) (hf : fr [23, 25, 26] u u0) (h0 : ∀ c, c < 10 → Cd N L R z lf (ctf nd) u0 c (rt c))
    (K : ∀ u', fr [23, 25, 26] u u' → (∀ c, c < 10 → Cd N L R z lf (ctf nd) u' c (rt c)) → (∀ m, 13 ≤ m → m < N → nd m = true → Cd N L R z lf (ctf nd) u' (ctf nd m) (2 * m)) → post u') : ∃ a, kx_makeCells_114 post a 13 u0 := by
  refine pk_loop (fun a i s => kx_makeCells_114 post a (nI i) s) (fun i s => 13 ≤ i ∧ fr [23, 25, 26] u s ∧ (∀ c, c < 10 → Cd N L R z lf (ctf nd) s c (rt c)) ∧ ∀ m, 13 ≤ m → m < i → nd m = true → Cd N L R z lf (ctf nd) s (ctf nd m) (2 * m)) N 13 u0 hq.2.1 ⟨Nat.le_refl _, hf, h0, fun m a b => by omega⟩ ?_ ?_
  · rintro a s ⟨_, h1, h2, h3⟩
    show kx_makeCells_114 _ _ _ _
    rw [cx_makeCells_114, fr_fo h1 1, hq.1]
    exact pk_le N N (fun _ => K s h1 h2 h3) (fun h => absurd h (by omega))
  · rintro a i s hi ⟨h13, h1, h2, h3⟩ hr
    show kx_makeCells_114 _ _ _ _
    rw [cx_makeCells_114]
    simp only [fr_fo h1 1, hq.1, clI (show i < 2 ^ 31 by omega), fr_ao h1 21, fr_ao h1 22]
    refine pk_le N i (fun h => absurd h (by omega)) (fun _ => ⟨pk_in i 256 (by omega), br_b (hNn i hi) (fun e => nm_r (nI_1 i) (hr s ⟨by omega, h1, h2, fun m p q w => ?_⟩)) (fun e => ⟨pk_in i 256 (by omega), ?_⟩)⟩)
    · by_cases em : m = i
      · rw [em, e] at w; exact absurd w (by decide)
      · exact h3 m p (by omega) w
    · have hti := ht i h13 hi e
      rw [hti.1, show (2 : Int32) * nI i = nI (2 * i) from pk_mul 2 i]
      refine hx_makeCell (ct := ctf nd) (Gq_fr hq h1) hN (Bz_fr hb h1) (c := ctf nd i) (E := 2 * i) hti.2 (by omega) ?_ (fun u' f1 f2 f3 f4 f5 => ?_)
      · rw [show 2 * i / 2 = i from by omega]
        intro _ j hj hl
        have := ((hb i hi).2.1 h13).1 j hj
        rw [fr_ao h1 22]
        exact ht _ hl (by omega) (hNc.1 i h13 hi e j hj)
      · refine nm_r (nI_1 i) (hr u' ⟨by omega, fr_tr h1 f1, fun c hc => Cd_k (h2 c hc) (by have := (ctf_b nd i).1; omega) f2 f4, fun m p q w => ?_⟩)
        by_cases em : m = i
        · subst em; exact ⟨f3, f5⟩
        · exact Cd_k (h3 m p (by omega) w) (fun e' => em (ctf_inj p w h13 e e')) f2 f4
theorem hx_mc87 {post : SX → Prop} {N : Nat} {L R : Nat → Nat} {u : SX} {z : Nat → Nat} {lf : Nat → Nat → Nat} {rt : Nat → Nat} {nd : Nat → Bool} (hN : N ≤ 133) (hq : Gq u N L R) (hb : Bz N L R u z lf) (hR : Rq u N rt) (hNn : Nn u N nd) (hNc : Nc N z lf rt nd)
    (ht : ∀ m, 13 ≤ m → m < N → nd m = true → ao u 22 m = nI (ctf nd m) ∧ ctf nd m < 64)
    (K : ∀ u', fr [23, 25, 26] u u' → (∀ c, c < 10 → Cd N L R z lf (ctf nd) u' c (rt c)) → (∀ m, 13 ≤ m → m < N → nd m = true → Cd N L R z lf (ctf nd) u' (ctf nd m) (2 * m)) → post u') : ∃ a, kx_makeCells_87 post a 0 u := by
  refine pk_loop (fun a i s => kx_makeCells_87 post a (nI i) s) (fun i s => fr [23, 25, 26] u s ∧ ∀ c, c < i → Cd N L R z lf (ctf nd) s c (rt c)) 10 0 u (Nat.zero_le _) ⟨fr_rf, fun c hc => by omega⟩ ?_ ?_
  · rintro a s ⟨h1, h2⟩
    show kx_makeCells_87 _ _ _ _
    rw [cx_makeCells_87]
    exact pk_le 10 10 (fun _ => hx_mc114 hN hq hb hNn hNc ht h1 h2 K) (fun h => absurd h (by omega))
  · rintro a c s hc ⟨h1, h2⟩ hr
    have hrc := hR.2.2 c hc
    show kx_makeCells_87 _ _ _ _
    rw [cx_makeCells_87]
    refine pk_le 10 c (fun h => absurd h (by omega)) (fun _ => hx_rootOf (Rq_fr hR h1) hc ?_)
    refine hx_makeCell (ct := ctf nd) (Gq_fr hq h1) hN (Bz_fr hb h1) (c := c) (E := rt c) (by omega) hrc ?_ (fun u' f1 f2 f3 f4 f5 => ?_)
    · intro h0 j hj hl
      rw [fr_ao h1 22]
      by_cases h13 : 13 ≤ rt c / 2
      · have := ((hb _ (by omega)).2.1 h13).1 j hj
        exact ht _ hl (by omega) (hNc.2 c hc h13 j hj)
      · have := (hb (rt c / 2) (by omega)).2.2 (by omega)
        rw [show j = 0 from by omega] at hl
        omega
    · refine nm_r (nI_1 c) (hr u' ⟨fr_tr h1 f1, fun c' hc' => ?_⟩)
      by_cases e : c' = c
      · subst e; exact ⟨f3, f5⟩
      · exact Cd_k (h2 c' (by omega)) e f2 f4
end
section
theorem hx_makeSimpleCell {post : SX → Prop} {u : SX} {c a b d : Nat} {t : Int32} (hc : c < 64) (ha : a < 128) (hb : b < 128) (hd : d < 128)
    (K : ∀ u', fr [25, 26] u u' → (∀ j, j ≠ c → ao u' 25 j = ao u 25 j) → ao u' 25 c = t → (∀ j, (j < 4 * c ∨ 4 * c + 4 ≤ j) → ao u' 26 j = ao u 26 j) →
      ao u' 26 (4 * c) = pI a → ao u' 26 (4 * c + 1) = pI b → ao u' 26 (4 * c + 2) = pI d → ao u' 26 (4 * c + 3) = pI 0 → post u') : wpX_makeSimpleCell post u (nI c) t (pI a) (pI b) (pI d) := by
  rw [cx_makeSimpleCell]
  have e1 : nI (4 * c) + 1 = nI (4 * c + 1) := nI_add (4 * c) 1
  have e2 : nI (4 * c) + 2 = nI (4 * c + 2) := nI_add (4 * c) 2
  have e3 : nI (4 * c) + 3 = nI (4 * c + 3) := nI_add (4 * c) 3
  simp only [m40, e1, e2, e3, clI (show c < 2 ^ 31 by omega), clI (show 4 * c < 2 ^ 31 by omega), clI (show 4 * c + 1 < 2 ^ 31 by omega), clI (show 4 * c + 2 < 2 ^ 31 by omega), clI (show 4 * c + 3 < 2 ^ 31 by omega), vbp ha, vbp hb, vbp hd, vb_m]
  refine ⟨pk_in c 64 hc, nm_e ⟨pk_in (4 * c) 256 (by omega), nm_e ⟨pk_in (4 * c + 1) 256 (by omega), nm_e ⟨pk_in (4 * c + 2) 256 (by omega), nm_e ⟨pk_in (4 * c + 3) 256 (by omega), nm_e ?_⟩⟩⟩⟩⟩
  refine K _ (fr_a (fr_a fr_rf (by decide)) (by decide)) (fun j hj => u_n hj) u_s (fun j hj => ?_) ?_ ?_ ?_ ?_
  · show upd (upd (upd (upd (ao u 26) (4 * c) _) (4 * c + 1) _) (4 * c + 2) _) (4 * c + 3) _ j = _
    rw [u_n (by omega), u_n (by omega), u_n (by omega), u_n (by omega)]
  · show upd (upd (upd (upd (ao u 26) (4 * c) _) (4 * c + 1) _) (4 * c + 2) _) (4 * c + 3) _ (4 * c) = _
    rw [u_n (by omega), u_n (by omega), u_n (by omega), u_s]
  · show upd (upd (upd (upd (ao u 26) (4 * c) _) (4 * c + 1) _) (4 * c + 2) _) (4 * c + 3) _ (4 * c + 1) = _
    rw [u_n (by omega), u_n (by omega), u_s]
  · show upd (upd (upd (upd (ao u 26) (4 * c) _) (4 * c + 1) _) (4 * c + 2) _) (4 * c + 3) _ (4 * c + 2) = _
    rw [u_n (by omega), u_s]
  · exact u_s
def tk (k : Nat) : Int32 := match k with
  | 0 => ri 0 &&& ri 1
  | 1 => ri 0 ||| ri 1
  | 2 => ri 0 ^^^ ri 1
  | 3 => ((ri 0 &&& ri 1) ^^^ (-1)) &&& 65535
  | 4 => ((ri 0 ||| ri 1) ^^^ (-1)) &&& 65535
  | 5 => ((ri 0 ^^^ ri 1) ^^^ (-1)) &&& 65535
  | 6 => ((ri 0 ^^^ (-1)) ||| ri 1) &&& 65535
  | 7 => (ri 0 &&& ri 1) ||| (((ri 0 ^^^ (-1)) &&& ri 2) &&& 65535)
  | 8 => ((ri 0 &&& ri 1) ||| (ri 0 &&& ri 2)) ||| (ri 1 &&& ri 2)
  | _ => (ri 0 ^^^ ri 1) ^^^ ri 2
theorem tk_b : ∀ k, k ≤ 9 → ∀ ρ, ρ < 16 → bt (tk k) ρ = gv k (ρ.testBit 0) (ρ.testBit 1) (ρ.testBit 2) := by decide +kernel
theorem hx_tableOfKind {post : Int32 → Prop} {k : Nat} (hk : k ≤ 9) (K : post (tk k)) : wpX_tableOfKind post (nI k) := by
  unfold wpX_tableOfKind
  refine hx_rowsOfInput (i := 0) (by omega) (hx_rowsOfInput (i := 1) (by omega) (hx_rowsOfInput (i := 2) (by omega) ?_))
  have hk' : k = 0 ∨ k = 1 ∨ k = 2 ∨ k = 3 ∨ k = 4 ∨ k = 5 ∨ k = 6 ∨ k = 7 ∨ k = 8 ∨ k = 9 := by omega
  rcases hk' with rfl | rfl | rfl | rfl | rfl | rfl | rfl | rfl | rfl | rfl
  · exact br_f (by decide) (br_f (by decide) (br_t (by decide) K))
  · exact br_f (by decide) (br_f (by decide) (br_f (by decide) (br_t (by decide) K)))
  · exact br_f (by decide) (br_f (by decide) (br_f (by decide) (br_f (by decide) (br_t (by decide) K))))
  · exact br_f (by decide) (br_f (by decide) (br_f (by decide) (br_f (by decide) (br_f (by decide) (br_t (by decide) K)))))
  · exact br_f (by decide) (br_f (by decide) (br_f (by decide) (br_f (by decide) (br_f (by decide) (br_f (by decide) (br_t (by decide) K))))))
  · exact br_f (by decide) (br_f (by decide) (br_f (by decide) (br_f (by decide) (br_f (by decide) (br_f (by decide) (br_f (by decide) (br_t (by decide) K)))))))
  · exact br_f (by decide) (br_f (by decide) (br_f (by decide) (br_f (by decide) (br_f (by decide) (br_f (by decide) (br_f (by decide) (br_f (by decide) (br_t (by decide) K))))))))
  · exact br_f (by decide) (br_f (by decide) (br_f (by decide) (br_f (by decide) (br_f (by decide) (br_f (by decide) (br_f (by decide) (br_f (by decide) (br_f (by decide) (br_t (by decide) K)))))))))
  · exact br_f (by decide) (br_f (by decide) (br_f (by decide) (br_f (by decide) (br_f (by decide) (br_f (by decide) (br_f (by decide) (br_f (by decide) (br_f (by decide) (br_f (by decide) (br_t (by decide) K))))))))))
  · exact br_f (by decide) (br_t (by decide) K)
theorem gv_7 {k : Nat} (h : k < 7) (a b c d : Bool) : gv k a b c = gv k a b d := by
  have hk' : k = 0 ∨ k = 1 ∨ k = 2 ∨ k = 3 ∨ k = 4 ∨ k = 5 ∨ k = 6 := by omega
  rcases hk' with rfl | rfl | rfl | rfl | rfl | rfl | rfl <;> rfl
theorem cv_st {kd fi se th : Nat → Nat} {e : Nat → Bool} {g s : Nat} (hs : s < 12 + g) : ∀ {g'}, g ≤ g' → cv kd fi se th e g' s = cv kd fi se th e g s
  | 0, h => by rw [show g = 0 from by omega]
  | g' + 1, h => by
    by_cases e' : g = g' + 1
    · rw [e']
    · rw [← cv_st hs (show g ≤ g' by omega)]
      show (if s = 12 + g' then _ else cv kd fi se th e g' s) = _
      rw [if_neg (by omega)]
theorem cv_g {kd fi se th : Nat → Nat} {e : Nat → Bool} {g G : Nat} (hg : g < G) (h1 : fi g < 12 + g) (h2 : se g < 12 + g) (h3 : th g < 12 + g) : cv kd fi se th e G (12 + g) = gv (kd g) (cv kd fi se th e G (fi g)) (cv kd fi se th e G (se g)) (cv kd fi se th e G (th g)) := by
  rw [cv_st (g := g + 1) (by omega) (by omega), cv_st (g := g) h1 (by omega), cv_st (g := g) h2 (by omega), cv_st (g := g) h3 (by omega)]
  exact if_pos rfl
/-- the roots' signals -/
def sgx (nx sh : Nat → Nat) (c : Nat) : Nat := if c < 6 then nx c else sh (c - 6)
def pg (kd fi se th nx sh : Nat → Nat) (c i : Nat) : Nat := if c < 10 then (if i = 0 then sgx nx sh c + 1 else 0) else
  if i = 0 then fi (c - 10) + 1 else if i = 1 then se (c - 10) + 1 else if i = 2 then (if kd (c - 10) < 7 then 0 else th (c - 10) + 1) else 0
def tg (kd : Nat → Nat) (c : Nat) : Int32 := if c < 10 then ri 0 else tk (kd (c - 10))
def Sd (kd fi se th nx sh : Nat → Nat) (s : SX) (c : Nat) : Prop := ao s 25 c = tg kd c ∧ ∀ i, i < 4 → ao s 26 (4 * c + i) = pI (pg kd fi se th nx sh c i)
theorem Sd_k {kd fi se th nx sh : Nat → Nat} {s s' : SX} {c c' : Nat} (h : Sd kd fi se th nx sh s c) (hc : c ≠ c') (h1 : ∀ j, j ≠ c' → ao s' 25 j = ao s 25 j)
    (h2 : ∀ j, (j < 4 * c' ∨ 4 * c' + 4 ≤ j) → ao s' 26 j = ao s 26 j) : Sd kd fi se th nx sh s' c :=
  ⟨(h1 c hc).trans h.1, fun i hi => (h2 _ (by omega)).trans (h.2 i hi)⟩
theorem Sd_mk {kd fi se th nx sh : Nat → Nat} {s : SX} {c : Nat} (h : ao s 25 c = tg kd c) (h0 : ao s 26 (4 * c) = pI (pg kd fi se th nx sh c 0)) (h1 : ao s 26 (4 * c + 1) = pI (pg kd fi se th nx sh c 1))
    (h2 : ao s 26 (4 * c + 2) = pI (pg kd fi se th nx sh c 2)) (h3 : ao s 26 (4 * c + 3) = pI (pg kd fi se th nx sh c 3)) : Sd kd fi se th nx sh s c := by
  refine ⟨h, fun i hi => ?_⟩
  have : i = 0 ∨ i = 1 ∨ i = 2 ∨ i = 3 := by omega
  rcases this with rfl | rfl | rfl | rfl
  · exact h0
  · exact h1
  · exact h2
  · exact h3
theorem NL_gates {u : SX} {G : Nat} {kd fi se th nx sh : Nat → Nat} {v : SX} (hC : Cq v G kd fi se th nx sh) (hc : fo u 3 = nI (10 + G)) (h : ∀ c, c < 10 + G → Sd kd fi se th nx sh u c) : NL u (10 + G) (pg kd fi se th nx sh) (fun e c => cv kd fi se th e G (sgx nx sh c)) := by
  have hG := hC.2.1
  have hs : ∀ c, c < 10 → sgx nx sh c < 12 + G := by
    intro c hc
    unfold sgx
    split
    · next h6 => exact (hC.2.2.2.1 c h6).2
    · exact (hC.2.2.2.2 (c - 6) (by omega)).2
  refine ⟨hc, by omega, by omega, fun c i hc' hi => ⟨(h c hc').2 i hi, ?_, fun h10 => ?_⟩, fun e => ?_⟩
  · unfold pg
    by_cases h10 : c < 10
    · rw [if_pos h10]
      have := hs c h10
      split <;> omega
    · have := hC.2.2.1 (c - 10) (by omega)
      rw [if_neg h10]
      split
      · omega
      · split
        · omega
        · split
          · split <;> omega
          · omega
  · have := hC.2.2.1 (c - 10) (by omega)
    unfold pg
    rw [if_neg (by omega)]
    split
    · omega
    · split
      · omega
      · split
        · split <;> omega
        · omega
  · refine ⟨cv kd fi se th e G, fun s hs => cv_st (g := 0) hs (Nat.zero_le _), fun c h10 hc' => ?_, fun c hc' => ?_⟩
    · obtain ⟨g, rfl⟩ : ∃ g, c = 10 + g := ⟨c - 10, by omega⟩
      have hg := hC.2.2.1 g (by omega)
      have e1 : tg kd (10 + g) = tk (kd g) := by
        unfold tg
        rw [if_neg (by omega), Nat.add_sub_cancel_left]
      unfold rS
      rw [(h (10 + g) hc').1, e1, tk_b (kd g) hg.2.1 _ (ro_lt _), show 10 + g + 2 = 12 + g from by omega, cv_g (by omega) hg.2.2.2.1 hg.2.2.2.2.2.1 hg.2.2.2.2.2.2.2]
      rw [ro_b _ (by omega), ro_b _ (by omega), ro_b _ (by omega)]
      have p0 : pg kd fi se th nx sh (10 + g) 0 = fi g + 1 := by
        unfold pg
        rw [if_neg (by omega), if_pos rfl, Nat.add_sub_cancel_left]
      have p1 : pg kd fi se th nx sh (10 + g) 1 = se g + 1 := by
        unfold pg
        rw [if_neg (by omega), if_neg (by omega), if_pos rfl, Nat.add_sub_cancel_left]
      have p2 : pg kd fi se th nx sh (10 + g) 2 = if kd g < 7 then 0 else th g + 1 := by
        unfold pg
        rw [if_neg (by omega), if_neg (by omega), if_neg (by omega), if_pos rfl, Nat.add_sub_cancel_left]
      rw [p0, p1, p2, decide_eq_true (by omega), decide_eq_true (by omega), Bool.true_and, Bool.true_and, Nat.add_sub_cancel, Nat.add_sub_cancel]
      by_cases h7 : kd g < 7
      · exact gv_7 h7 _ _ _ _
      · rw [if_neg h7, decide_eq_true (by omega), Bool.true_and, Nat.add_sub_cancel]
    · have e1 : tg kd c = ri 0 := by
        unfold tg
        rw [if_pos hc']
      have p0 : pg kd fi se th nx sh c 0 = sgx nx sh c + 1 := by
        unfold pg
        rw [if_pos hc', if_pos rfl]
      unfold rS
      dsimp only
      rw [(h c (by omega)).1, e1, ri_b 0 (by omega) _ (ro_lt _)]
      rw [ro_b _ (by omega), p0, decide_eq_true (by omega), Bool.true_and, Nat.add_sub_cancel]
theorem hx_mg66 {post : SX → Prop} {G : Nat} {kd fi se th nx sh : Nat → Nat} {u u0 : SX} (hC : Cq u G kd fi se th nx sh) (hf : fr [3, 25, 26] u u0) (hc : fo u0 3 = nI (10 + G)) (h0 : ∀ c, c < 10 → Sd kd fi se th nx sh u0 c)
    (K : ∀ u', fr [3, 25, 26] u u' → NL u' (10 + G) (pg kd fi se th nx sh) (fun e c => cv kd fi se th e G (sgx nx sh c)) → post u') : ∃ a, kx_makeCellsOfGates_66 post a 0 u0 := by
  have hG := hC.2.1
  refine pk_loop (fun a i s => kx_makeCellsOfGates_66 post a (nI i) s) (fun i s => fr [3, 25, 26] u s ∧ fo s 3 = nI (10 + G) ∧ ∀ c, c < 10 + i → Sd kd fi se th nx sh s c) G 0 u0 (Nat.zero_le _) ⟨hf, hc, h0⟩ ?_ ?_
  · rintro a s ⟨h1, h2, h3⟩
    show kx_makeCellsOfGates_66 _ _ _ _
    rw [cx_makeCellsOfGates_66, fr_fo h1 0, hC.1]
    exact pk_le G G (fun _ => K s h1 (NL_gates hC h2 h3)) (fun h => absurd h (by omega))
  · rintro a g s hg ⟨h1, h2, h3⟩ hr
    obtain ⟨c1, c2, c3, c4, c5, c6, c7, c8⟩ := hC.2.2.1 g hg
    have e10 : (10 : Int32) + nI g = nI (10 + g) := nI_add 10 g
    have t10 : tg kd (10 + g) = tk (kd g) := by
      unfold tg
      rw [if_neg (by omega), Nat.add_sub_cancel_left]
    have p0 : pg kd fi se th nx sh (10 + g) 0 = fi g + 1 := by
      unfold pg
      rw [if_neg (by omega), if_pos rfl, Nat.add_sub_cancel_left]
    have p1 : pg kd fi se th nx sh (10 + g) 1 = se g + 1 := by
      unfold pg
      rw [if_neg (by omega), if_neg (by omega), if_pos rfl, Nat.add_sub_cancel_left]
    have p2 : pg kd fi se th nx sh (10 + g) 2 = if kd g < 7 then 0 else th g + 1 := by
      unfold pg
      rw [if_neg (by omega), if_neg (by omega), if_neg (by omega), if_pos rfl, Nat.add_sub_cancel_left]
    have p3 : pg kd fi se th nx sh (10 + g) 3 = 0 := by
      unfold pg
      rw [if_neg (by omega), if_neg (by omega), if_neg (by omega), if_neg (by omega)]
    have H105 : ∀ x : Int32, x = pI (if kd g < 7 then 0 else th g + 1) → kx_makeCellsOfGates_105 post (fun y0 s => kx_makeCellsOfGates_66 post a y0 s) (nI g) (tk (kd g)) x s := by
      intro x hx
      rw [cx_makeCellsOfGates_105, hx]
      simp only [clI (show g < 2 ^ 31 by omega), fr_ao h1 8, fr_ao h1 9, c3, c5, e10]
      rw [← pI_s (fi g), ← pI_s (se g)]
      refine ⟨pk_in g 20 (by omega), pk_in g 20 (by omega), hx_makeSimpleCell (by omega) (by omega) (by omega) (by split <;> omega) (fun u' f1 f2 f3 f4 f5 f6 f7 f8 => ?_)⟩
      refine nm_r (nI_1 g) (hr u' ⟨fr_tr h1 (fr_mn f1 (by decide)), by rw [fr_fo f1 3]; exact h2, fun c hc => ?_⟩)
      by_cases e : c = 10 + g
      · subst e
        exact Sd_mk (by rw [f3, t10]) (by rw [f5, p0]) (by rw [f6, p1]) (by rw [f7, p2]) (by rw [f8, p3])
      · exact Sd_k (h3 c (by omega)) e f2 f4
    show kx_makeCellsOfGates_66 _ _ _ _
    rw [cx_makeCellsOfGates_66]
    simp only [fr_fo h1 0, hC.1, clI (show g < 2 ^ 31 by omega), fr_ao h1 7, fr_ao h1 10, c1, c7]
    refine pk_le G g (fun h => absurd h (by omega)) (fun _ => ⟨pk_in g 20 (by omega), hx_tableOfKind c2 ⟨pk_in g 20 (by omega), pk_lt (kd g) 7 (fun h7 => H105 _ (by rw [if_pos h7]; rfl)) (fun h7 => ⟨pk_in g 20 (by omega), H105 _ (by rw [if_neg (by omega), pI_s])⟩)⟩⟩)
theorem hx_makeCellsOfGates {post : SX → Prop} {G : Nat} {kd fi se th nx sh : Nat → Nat} {u : SX} (hC : Cq u G kd fi se th nx sh)
    (K : ∀ u', fr [3, 25, 26] u u' → NL u' (10 + G) (pg kd fi se th nx sh) (fun e c => cv kd fi se th e G (sgx nx sh c)) → post u') : wpX_makeCellsOfGates post u := by
  have hG := hC.2.1
  rw [cx_makeCellsOfGates, hC.1, show (10 : Int32) + nI G = nI (10 + G) from nI_add 10 G]
  refine nm_e (hx_rowsOfInput (i := 0) (by omega) ?_)
  refine pk_loop (fun a i s => kx_makeCellsOfGates_18 post (ri 0) a (nI i) s) (fun i s => fr [3, 25, 26] u s ∧ fo s 3 = nI (10 + G) ∧ ∀ c, c < i → Sd kd fi se th nx sh s c) 10 0 _ (Nat.zero_le _) ⟨fr_f fr_rf (by decide), rfl, fun c hc => by omega⟩ ?_ ?_
  · rintro a s ⟨h1, h2, h3⟩
    show kx_makeCellsOfGates_18 _ _ _ _ _
    rw [cx_makeCellsOfGates_18]
    exact pk_le 10 10 (fun _ => hx_mg66 hC h1 h2 h3 K) (fun h => absurd h (by omega))
  · rintro a c s hc ⟨h1, h2, h3⟩ hr
    have H48 : ∀ x : Int32, x = nI (sgx nx sh c) → sgx nx sh c < 32 → kx_makeCellsOfGates_48 post (fun y0 s => kx_makeCellsOfGates_18 post (ri 0) a y0 s) (ri 0) (nI c) x s := by
      intro x hx hl
      rw [cx_makeCellsOfGates_48, hx, ← pI_s (sgx nx sh c)]
      refine hx_makeSimpleCell (c := c) (b := 0) (d := 0) (by omega) (by omega) (by omega) (by omega) (fun u' f1 f2 f3 f4 f5 f6 f7 f8 => ?_)
      refine nm_r (nI_1 c) (hr u' ⟨fr_tr h1 (fr_mn f1 (by decide)), by rw [fr_fo f1 3]; exact h2, fun c' hc' => ?_⟩)
      by_cases e : c' = c
      · subst e
        refine Sd_mk ?_ ?_ ?_ ?_ ?_
        · rw [f3]; unfold tg; rw [if_pos hc]
        · rw [f5]; unfold pg; rw [if_pos hc, if_pos rfl]
        · rw [f6]; unfold pg; rw [if_pos hc, if_neg (by omega)]
        · rw [f7]; unfold pg; rw [if_pos hc, if_neg (by omega)]
        · rw [f8]; unfold pg; rw [if_pos hc, if_neg (by omega)]
      · exact Sd_k (h3 c' (by omega)) e f2 f4
    show kx_makeCellsOfGates_18 _ _ _ _ _
    rw [cx_makeCellsOfGates_18]
    refine pk_le 10 c (fun h => absurd h (by omega)) (fun _ => pk_le 6 c (fun h6 => ?_) (fun h6 => ?_))
    · obtain ⟨o, rfl⟩ : ∃ o, c = 6 + o := ⟨c - 6, by omega⟩
      have hS := hC.2.2.2.2 o (by omega)
      have e : nI (6 + o) - 6 = nI o := by
        show nI (6 + o) - nI 6 = _
        rw [pk_sub (by omega)]
        exact congrArg nI (by omega)
      have es : sgx nx sh (6 + o) = sh o := by unfold sgx; rw [if_neg (by omega), Nat.add_sub_cancel_left]
      rw [e, clI (by omega), fr_ao h1 12, hS.1]
      exact ⟨pk_in o 4 (by omega), H48 _ (by rw [es]) (by rw [es]; omega)⟩
    · have hS := hC.2.2.2.1 c (by omega)
      have es : sgx nx sh c = nx c := by unfold sgx; rw [if_pos (by omega)]
      rw [clI (by omega), fr_ao h1 11, hS.1]
      exact ⟨pk_in c 6 (by omega), H48 _ (by rw [es]) (by rw [es]; omega)⟩
theorem hx_makeCells {post : SX → Prop} {N : Nat} {L R : Nat → Nat} {V : (Nat → Bool) → Nat → Bool} {u : SX} {G : Nat} {kd fi se th nx sh : Nat → Nat} (hC : Cq u G kd fi se th nx sh) (hN : N ≤ 133) (hq : Gq u N L R) (hv : Gv N L R V) (hF : ∀ m, m < N → Nf N L R u m)
    (hE : Eq_ u N V (12 + G) (fun e => cv kd fi se th e G))
    (K : ∀ u' C P, fr [3, 21, 22, 23, 25, 26] u u' → NL u' C P (fun e c => cv kd fi se th e G (sgx nx sh c)) → post u') : wpX_makeCells post u := by
  obtain ⟨z, lf, hb⟩ := Bz_ex hF
  have hG := hC.2.1
  have hs : ∀ c, c < 10 → sgx nx sh c < 12 + G := by
    intro c hc
    unfold sgx
    split
    · next h6 => exact (hC.2.2.2.1 c h6).2
    · exact (hC.2.2.2.2 (c - 6) (by omega)).2
  obtain ⟨rt, hrt⟩ := Classical.axiomOfChoice (r := fun (c E : Nat) => c < 10 → ao u 15 (sgx nx sh c) = nI E ∧ E < 2 * N ∧ ∀ e, ev (V e) E = cv kd fi se th e G (sgx nx sh c)) (fun c => by
    by_cases h : c < 10
    · obtain ⟨E, hE'⟩ := hE _ (hs c h)
      exact ⟨E, fun _ => hE'⟩
    · exact ⟨0, fun h' => absurd h' h⟩)
  have hR : Rq u N rt := by
    refine ⟨fun c hc => ⟨nx c, (hC.2.2.2.1 c hc).1, by have := (hC.2.2.2.1 c hc).2; omega, ?_⟩, fun o ho => ⟨sh o, (hC.2.2.2.2 o ho).1, by have := (hC.2.2.2.2 o ho).2; omega, ?_⟩, fun c hc => (hrt c hc).2.1⟩
    · have := (hrt c (by omega)).1
      unfold sgx at this
      rw [if_pos hc] at this
      exact this
    · have := (hrt (6 + o) (by omega)).1
      unfold sgx at this
      rw [if_neg (by omega), Nat.add_sub_cancel_left] at this
      exact this
  rw [cx_makeCells]
  refine hx_findNeeded hN hq hb hR (fun u1 nd f1 hNn hNc => ?_)
  have hq1 := Gq_fr hq f1
  have hb1 := Bz_fr hb f1
  refine pk_loop (fun a i s => kx_makeCells_13 post a (nI i) s) (fun i s => 13 ≤ i ∧ fr [3, 22] u1 s ∧ fo s 3 = nI (ctf nd i) ∧ ∀ m, 13 ≤ m → m < i → nd m = true → ctf nd m < 64 → ao s 22 m = nI (ctf nd m)) N 13 _ hq.2.1 ⟨Nat.le_refl _, fr_f fr_rf (by decide), by rw [ctf_13]; rfl, fun m a b => by omega⟩ ?_ ?_
  · rintro a s ⟨_, h1, h2, h3⟩
    have hcb := ctf_b nd N
    have hqs := Gq_fr hq1 h1
    show kx_makeCells_13 _ _ _ _
    rw [cx_makeCells_13]
    simp only [hqs.1, h2]
    refine pk_le N N (fun _ => pk_le (ctf nd N) 36 (fun h36 => ?_) (fun h36 => ?_)) (fun h => absurd h (by omega))
    · have hNs : Nn s N nd := fun m hm => by rw [fr_ao h1 21]; exact hNn m hm
      refine hx_mc87 hN hqs (Bz_fr hb1 h1) (Rq_fr (Rq_fr hR f1) h1) hNs hNc (fun m a b c => ?_) (fun u' f2 k1 k2 => ?_)
      · have := ctf_lt a c b
        exact ⟨h3 m a b c (by omega), by omega⟩
      · have hC' : fo u' 3 = nI (ctf nd N) := by rw [fr_fo f2 3]; exact h2
        obtain ⟨P, hP⟩ := NL_of (root := fun e c => cv kd fi se th e G (sgx nx sh c)) (Bz_fr (Bz_fr hb1 h1) f2) hv hNc hR.2.2 (fun e c hc => ((hrt c hc).2.2 e).symm) hC' h36 k1 k2
        exact K u' _ P (fr_tr (fr_mn f1 (by decide)) (fr_tr (fr_mn h1 (by decide)) (fr_mn f2 (by decide)))) hP
    · refine hx_makeCellsOfGates (G := G) (kd := kd) (fi := fi) (se := se) (th := th) (nx := nx) (sh := sh) ?_ (fun u' f2 k => K u' _ _ (fr_tr (fr_mn f1 (by decide)) (fr_tr (fr_mn h1 (by decide)) (fr_mn f2 (by decide)))) k)
      unfold Cq
      rw [fr_fo h1 0, fr_ao h1 7, fr_ao h1 8, fr_ao h1 9, fr_ao h1 10, fr_ao h1 11, fr_ao h1 12, fr_fo f1 0, fr_ao f1 7, fr_ao f1 8, fr_ao f1 9, fr_ao f1 10, fr_ao f1 11, fr_ao f1 12]
      exact hC
  · rintro a i s hi ⟨h13, h1, h2, h3⟩ hr
    have hcb := ctf_b nd i
    have hqs := Gq_fr hq1 h1
    have H53 : ∀ x : Int32, nd i = true → (ctf nd i < 64 → x = nI (ctf nd i)) → kx_makeCells_53 post (fun y0 s => kx_makeCells_13 post a y0 s) (nI i) x (nI i) s := by
      intro x hd hx
      have hct : ctf nd (i + 1) = ctf nd i + 1 := by unfold ctf; rw [cn_s _ i (nf_t h13 hd)]; omega
      rw [cx_makeCells_53]
      simp only [clI (show i < 2 ^ 31 by omega), h2]
      refine ⟨pk_in i 256 (by omega), nm_e (nm_r (nI_1 (ctf nd i)) (nm_r (nI_1 i) (hr _ ⟨by omega, fr_a (fr_f h1 (by decide)) (by decide), by rw [hct]; rfl, fun m p q w c => ?_⟩)))⟩
      show upd (ao s 22) i _ m = _
      by_cases e : m = i
      · subst e
        rw [u_s, hx c]; exact vby (by omega)
      · rw [u_n e]; exact h3 m p (by omega) w c
    show kx_makeCells_13 _ _ _ _
    rw [cx_makeCells_13]
    simp only [hqs.1, h2, clI (show i < 2 ^ 31 by omega), fr_ao h1 21]
    refine pk_le N i (fun h => absurd h (by omega)) (fun _ => ⟨pk_in i 256 (by omega), br_b (hNn i hi) (fun e => nm_r (nI_1 i) (hr s ⟨by omega, h1, ?_, fun m p q w c => ?_⟩)) (fun e => pk_le 64 (ctf nd i) (fun h => H53 _ e (fun h' => absurd h' (by omega))) (fun h => H53 _ e (fun _ => rfl)))⟩)
    · rw [h2]
      unfold ctf
      rw [cn_f _ i (by unfold nf; rw [e, Bool.and_false])]
    · by_cases em : m = i
      · rw [em, e] at w; exact absurd w (by decide)
      · exact h3 m p (by omega) w c
end
section
/-! ===== D: places ===== -/
theorem cx_chance (post : Int32 → SX → Prop) (u : SX) (p0 : Int32) : wpX_chance post u p0 = (∀ f_chanceState_1 : Int32, f_chanceState_1 = ((fo u 4) * 1103515245) + 12345 → (¬ p0 = 0 ∧ (post (((f_chanceState_1.toUInt32 >>> ((16 : Int32).toUInt32 &&& Int32.toUInt32 31)).toInt32) - ((f_chanceState_1.toUInt32 >>> ((16 : Int32).toUInt32 &&& Int32.toUInt32 31)).toInt32) / p0 * p0) (sf u 4 f_chanceState_1)))) := rfl
def kx_columnOf_28 (post : Int32 → Prop) (z0 : Int32) (u : SX) : Prop := match u with
  | (qf_gates, qf_nodes, qf_joinedSize, qf_cells, qf_chanceState, qf_isBuilt, qf_levels, qa_kinds, qa_firsts, qa_seconds, qa_thirds, qa_nextOf, qa_shownBy, qa_left, qa_right, qa_endOf, qa_cutCount, qa_cutSize, qa_cutLeaf, qa_cutDepth, qa_depthOf, qa_needed, qa_tableOf, qa_rows, qa_joined, qa_tableBits, qa_cellSource, qa_placeOf, qa_cellAt, qa_used, qa_worn, qa_inTree, qa_treeFrom, qa_farness, qa_cameFrom, qa_settled, qa_trackTaken, qa_trackOf, qa_switchBits, qa_pinTrack, qa_outTrack, qa_padTrack, qa_deviceTable, qa_hasFlip, qa_registerPlace, qa_outputPlace, qa_wireRoot, qa_wireLevel, qa_flip, qa_tableOut) => wX_columnOf_28 post z0 qf_gates qf_nodes qf_joinedSize qf_cells qf_chanceState qf_isBuilt qf_levels qa_kinds qa_firsts qa_seconds qa_thirds qa_nextOf qa_shownBy qa_left qa_right qa_endOf qa_cutCount qa_cutSize qa_cutLeaf qa_cutDepth qa_depthOf qa_needed qa_tableOf qa_rows qa_joined qa_tableBits qa_cellSource qa_placeOf qa_cellAt qa_used qa_worn qa_inTree qa_treeFrom qa_farness qa_cameFrom qa_settled qa_trackTaken qa_trackOf qa_switchBits qa_pinTrack qa_outTrack qa_padTrack qa_deviceTable qa_hasFlip qa_registerPlace qa_outputPlace qa_wireRoot qa_wireLevel qa_flip qa_tableOut
theorem cx_columnOf_28 (post : Int32 → Prop) (z0 : Int32) (u : SX) : kx_columnOf_28 post z0 u = (vp_in z0 64 ∧ (¬ (6 : Int32) = 0 ∧ (post (((ao u 27) z0.toNatClampNeg) - ((ao u 27) z0.toNatClampNeg) / 6 * 6)))) := rfl
theorem cx_columnOf (post : Int32 → Prop) (u : SX) (p0 : Int32) : wpX_columnOf post u p0 = (((6 ≤ p0 → (((12 ≤ p0 → (kx_columnOf_28 post ((p0 - 12) + 10) u)) ∧ (¬ 12 ≤ p0 → (kx_columnOf_28 post (p0 - 6) u))))) ∧ (¬ 6 ≤ p0 → (post 0)))) := rfl
def kx_lineOf_28 (post : Int32 → Prop) (z0 : Int32) (u : SX) : Prop := match u with
  | (qf_gates, qf_nodes, qf_joinedSize, qf_cells, qf_chanceState, qf_isBuilt, qf_levels, qa_kinds, qa_firsts, qa_seconds, qa_thirds, qa_nextOf, qa_shownBy, qa_left, qa_right, qa_endOf, qa_cutCount, qa_cutSize, qa_cutLeaf, qa_cutDepth, qa_depthOf, qa_needed, qa_tableOf, qa_rows, qa_joined, qa_tableBits, qa_cellSource, qa_placeOf, qa_cellAt, qa_used, qa_worn, qa_inTree, qa_treeFrom, qa_farness, qa_cameFrom, qa_settled, qa_trackTaken, qa_trackOf, qa_switchBits, qa_pinTrack, qa_outTrack, qa_padTrack, qa_deviceTable, qa_hasFlip, qa_registerPlace, qa_outputPlace, qa_wireRoot, qa_wireLevel, qa_flip, qa_tableOut) => wX_lineOf_28 post z0 qf_gates qf_nodes qf_joinedSize qf_cells qf_chanceState qf_isBuilt qf_levels qa_kinds qa_firsts qa_seconds qa_thirds qa_nextOf qa_shownBy qa_left qa_right qa_endOf qa_cutCount qa_cutSize qa_cutLeaf qa_cutDepth qa_depthOf qa_needed qa_tableOf qa_rows qa_joined qa_tableBits qa_cellSource qa_placeOf qa_cellAt qa_used qa_worn qa_inTree qa_treeFrom qa_farness qa_cameFrom qa_settled qa_trackTaken qa_trackOf qa_switchBits qa_pinTrack qa_outTrack qa_padTrack qa_deviceTable qa_hasFlip qa_registerPlace qa_outputPlace qa_wireRoot qa_wireLevel qa_flip qa_tableOut
theorem cx_lineOf_28 (post : Int32 → Prop) (z0 : Int32) (u : SX) : kx_lineOf_28 post z0 u = (vp_in z0 64 ∧ (¬ (6 : Int32) = 0 ∧ (post (((ao u 27) z0.toNatClampNeg) / 6)))) := rfl
theorem cx_lineOf (post : Int32 → Prop) (u : SX) (p0 : Int32) : wpX_lineOf post u p0 = (((6 ≤ p0 → (((12 ≤ p0 → (kx_lineOf_28 post ((p0 - 12) + 10) u)) ∧ (¬ 12 ≤ p0 → (kx_lineOf_28 post (p0 - 6) u))))) ∧ (¬ 6 ≤ p0 → (post p0)))) := rfl
def kx_cost_4 (post : Int32 → Prop) (n : Nat) (x1 : Int32) (x2 : Int32) (u : SX) : Prop := match u with
  | (qf_gates, qf_nodes, qf_joinedSize, qf_cells, qf_chanceState, qf_isBuilt, qf_levels, qa_kinds, qa_firsts, qa_seconds, qa_thirds, qa_nextOf, qa_shownBy, qa_left, qa_right, qa_endOf, qa_cutCount, qa_cutSize, qa_cutLeaf, qa_cutDepth, qa_depthOf, qa_needed, qa_tableOf, qa_rows, qa_joined, qa_tableBits, qa_cellSource, qa_placeOf, qa_cellAt, qa_used, qa_worn, qa_inTree, qa_treeFrom, qa_farness, qa_cameFrom, qa_settled, qa_trackTaken, qa_trackOf, qa_switchBits, qa_pinTrack, qa_outTrack, qa_padTrack, qa_deviceTable, qa_hasFlip, qa_registerPlace, qa_outputPlace, qa_wireRoot, qa_wireLevel, qa_flip, qa_tableOut) => wX_cost_4 post qf_gates qf_nodes qf_joinedSize qf_cells qf_chanceState qf_isBuilt qf_levels qa_kinds qa_firsts qa_seconds qa_thirds qa_nextOf qa_shownBy qa_left qa_right qa_endOf qa_cutCount qa_cutSize qa_cutLeaf qa_cutDepth qa_depthOf qa_needed qa_tableOf qa_rows qa_joined qa_tableBits qa_cellSource qa_placeOf qa_cellAt qa_used qa_worn qa_inTree qa_treeFrom qa_farness qa_cameFrom qa_settled qa_trackTaken qa_trackOf qa_switchBits qa_pinTrack qa_outTrack qa_padTrack qa_deviceTable qa_hasFlip qa_registerPlace qa_outputPlace qa_wireRoot qa_wireLevel qa_flip qa_tableOut n x1 x2
theorem cx_cost_4 (post : Int32 → Prop) (n : Nat) (x1 : Int32) (x2 : Int32) (u : SX) : kx_cost_4 post (n + 1) x1 x2 u = (((((fo u 3) * 4) ≤ x2 → (post x1)) ∧ (¬ ((fo u 3) * 4) ≤ x2 → (vp_in x2 256 ∧ (∀ x3_3 : Int32, x3_3 = (ao u 26) x2.toNatClampNeg → (((x3_3 < 0 → (∀ x2_5 : Int32, x2_5 = x2 + 1 → (kx_cost_4 post n x1 x2_5 u))) ∧ (¬ x3_3 < 0 → (¬ (4 : Int32) = 0 ∧ (∀ x4_7 : Int32, x4_7 = x2 / 4 → (wpX_columnOf (fun r_8 => (wpX_lineOf (fun r_59 => (vp_in x4_7 64 ∧ (¬ (6 : Int32) = 0 ∧ (wpX_apart (fun r_112 => (vp_in x4_7 64 ∧ (¬ (6 : Int32) = 0 ∧ (wpX_apart (fun r_115 => (∀ x1_116 : Int32, x1_116 = x1 + (r_112 + r_115) → (∀ x2_117 : Int32, x2_117 = x2 + 1 → (kx_cost_4 post n x1_116 x2_117 u)))) (((ao u 27) x4_7.toNatClampNeg) / 6) r_59)))) (((ao u 27) x4_7.toNatClampNeg) - ((ao u 27) x4_7.toNatClampNeg) / 6 * 6) r_8)))) u x3_3)) u x3_3))))))))))) := rfl
theorem cx_cost (post : Int32 → Prop) (u : SX) : wpX_cost post u = (∃ n4 : Nat, kx_cost_4 post n4 0 0 u) := rfl
def kx_exchangePlaces_42 (post : SX → Prop) (x1 : Int32) (x4 : Int32) (u : SX) : Prop := match u with
  | (qf_gates, qf_nodes, qf_joinedSize, qf_cells, qf_chanceState, qf_isBuilt, qf_levels, qa_kinds, qa_firsts, qa_seconds, qa_thirds, qa_nextOf, qa_shownBy, qa_left, qa_right, qa_endOf, qa_cutCount, qa_cutSize, qa_cutLeaf, qa_cutDepth, qa_depthOf, qa_needed, qa_tableOf, qa_rows, qa_joined, qa_tableBits, qa_cellSource, qa_placeOf, qa_cellAt, qa_used, qa_worn, qa_inTree, qa_treeFrom, qa_farness, qa_cameFrom, qa_settled, qa_trackTaken, qa_trackOf, qa_switchBits, qa_pinTrack, qa_outTrack, qa_padTrack, qa_deviceTable, qa_hasFlip, qa_registerPlace, qa_outputPlace, qa_wireRoot, qa_wireLevel, qa_flip, qa_tableOut) => wX_exchangePlaces_42 post x1 x4 qf_gates qf_nodes qf_joinedSize qf_cells qf_chanceState qf_isBuilt qf_levels qa_kinds qa_firsts qa_seconds qa_thirds qa_nextOf qa_shownBy qa_left qa_right qa_endOf qa_cutCount qa_cutSize qa_cutLeaf qa_cutDepth qa_depthOf qa_needed qa_tableOf qa_rows qa_joined qa_tableBits qa_cellSource qa_placeOf qa_cellAt qa_used qa_worn qa_inTree qa_treeFrom qa_farness qa_cameFrom qa_settled qa_trackTaken qa_trackOf qa_switchBits qa_pinTrack qa_outTrack qa_padTrack qa_deviceTable qa_hasFlip qa_registerPlace qa_outputPlace qa_wireRoot qa_wireLevel qa_flip qa_tableOut
theorem cx_exchangePlaces_42 (post : SX → Prop) (x1 : Int32) (x4 : Int32) (u : SX) : kx_exchangePlaces_42 post x1 x4 u = (((x4 < 0 → (post u)) ∧ (¬ x4 < 0 → (vp_in x4 64 ∧ ∀ a_placeOf_12 : Nat → Int32, a_placeOf_12 = upd (ao u 27) x4.toNatClampNeg (vp_nar .byte x1.toInt8.toInt32) → (post (sa u 27 a_placeOf_12)))))) := rfl
theorem cx_exchangePlaces (post : SX → Prop) (u : SX) (p0 : Int32) (p1 : Int32) : wpX_exchangePlaces post u p0 p1 = (vp_in p0 36 ∧ (∀ x3_2 : Int32, x3_2 = (ao u 28) p0.toNatClampNeg → (vp_in p1 36 ∧ (∀ x4_4 : Int32, x4_4 = (ao u 28) p1.toNatClampNeg → (vp_in p0 36 ∧ ∀ a_cellAt_6 : Nat → Int32, a_cellAt_6 = upd (ao u 28) p0.toNatClampNeg (vp_nar .byte x4_4) → (vp_in p1 36 ∧ ∀ a_cellAt_8 : Nat → Int32, a_cellAt_8 = upd a_cellAt_6 p1.toNatClampNeg (vp_nar .byte x3_2) → (((x3_2 < 0 → (kx_exchangePlaces_42 post p0 x4_4 (sa u 28 a_cellAt_8))) ∧ (¬ x3_2 < 0 → (vp_in x3_2 64 ∧ ∀ a_placeOf_14 : Nat → Int32, a_placeOf_14 = upd (ao u 27) x3_2.toNatClampNeg (vp_nar .byte p1.toInt8.toInt32) → (kx_exchangePlaces_42 post p0 x4_4 (sa (sa u 27 a_placeOf_14) 28 a_cellAt_8)))))))))))) := by simp only [n_ffx, n_afx, n_aax, n_fmx, n_amx]; rfl
def kx_placeCells_92 (post : SX → Prop) (n : Nat) (x2 : Int32) (x3 : Int32) (u : SX) : Prop := match u with
  | (qf_gates, qf_nodes, qf_joinedSize, qf_cells, qf_chanceState, qf_isBuilt, qf_levels, qa_kinds, qa_firsts, qa_seconds, qa_thirds, qa_nextOf, qa_shownBy, qa_left, qa_right, qa_endOf, qa_cutCount, qa_cutSize, qa_cutLeaf, qa_cutDepth, qa_depthOf, qa_needed, qa_tableOf, qa_rows, qa_joined, qa_tableBits, qa_cellSource, qa_placeOf, qa_cellAt, qa_used, qa_worn, qa_inTree, qa_treeFrom, qa_farness, qa_cameFrom, qa_settled, qa_trackTaken, qa_trackOf, qa_switchBits, qa_pinTrack, qa_outTrack, qa_padTrack, qa_deviceTable, qa_hasFlip, qa_registerPlace, qa_outputPlace, qa_wireRoot, qa_wireLevel, qa_flip, qa_tableOut) => wX_placeCells_92 post n x2 x3 qf_gates qf_nodes qf_joinedSize qf_cells qf_chanceState qf_isBuilt qf_levels qa_kinds qa_firsts qa_seconds qa_thirds qa_nextOf qa_shownBy qa_left qa_right qa_endOf qa_cutCount qa_cutSize qa_cutLeaf qa_cutDepth qa_depthOf qa_needed qa_tableOf qa_rows qa_joined qa_tableBits qa_cellSource qa_placeOf qa_cellAt qa_used qa_worn qa_inTree qa_treeFrom qa_farness qa_cameFrom qa_settled qa_trackTaken qa_trackOf qa_switchBits qa_pinTrack qa_outTrack qa_padTrack qa_deviceTable qa_hasFlip qa_registerPlace qa_outputPlace qa_wireRoot qa_wireLevel qa_flip qa_tableOut
theorem cx_placeCells_92 (post : SX → Prop) (n : Nat) (x2 : Int32) (x3 : Int32) (u : SX) : kx_placeCells_92 post (n + 1) x2 x3 u = (((400 ≤ x3 → (post u)) ∧ (¬ 400 ≤ x3 → (wpX_chance (fun r_56 u1 => (wpX_chance (fun r_107 u2 => (wpX_exchangePlaces (fun u3 => (wpX_cost (fun r_209 => (¬ (100 : Int32) = 0 ∧ ((((x2 + ((400 - x3) / 100)) < r_209 → (wpX_exchangePlaces (fun u4 => (∀ x3_313 : Int32, x3_313 = x3 + 1 → (kx_placeCells_92 post n x2 x3_313 u4))) u3 r_56 r_107)) ∧ (¬ (x2 + ((400 - x3) / 100)) < r_209 → (∀ x3_314 : Int32, x3_314 = x3 + 1 → (kx_placeCells_92 post n r_209 x3_314 u3))))))) u3)) u2 r_56 r_107)) u1 36)) u 36)))) := rfl
def kx_placeCells_60 (post : SX → Prop) (n : Nat) (x2 : Int32) (u : SX) : Prop := match u with
  | (qf_gates, qf_nodes, qf_joinedSize, qf_cells, qf_chanceState, qf_isBuilt, qf_levels, qa_kinds, qa_firsts, qa_seconds, qa_thirds, qa_nextOf, qa_shownBy, qa_left, qa_right, qa_endOf, qa_cutCount, qa_cutSize, qa_cutLeaf, qa_cutDepth, qa_depthOf, qa_needed, qa_tableOf, qa_rows, qa_joined, qa_tableBits, qa_cellSource, qa_placeOf, qa_cellAt, qa_used, qa_worn, qa_inTree, qa_treeFrom, qa_farness, qa_cameFrom, qa_settled, qa_trackTaken, qa_trackOf, qa_switchBits, qa_pinTrack, qa_outTrack, qa_padTrack, qa_deviceTable, qa_hasFlip, qa_registerPlace, qa_outputPlace, qa_wireRoot, qa_wireLevel, qa_flip, qa_tableOut) => wX_placeCells_60 post n x2 qf_gates qf_nodes qf_joinedSize qf_cells qf_chanceState qf_isBuilt qf_levels qa_kinds qa_firsts qa_seconds qa_thirds qa_nextOf qa_shownBy qa_left qa_right qa_endOf qa_cutCount qa_cutSize qa_cutLeaf qa_cutDepth qa_depthOf qa_needed qa_tableOf qa_rows qa_joined qa_tableBits qa_cellSource qa_placeOf qa_cellAt qa_used qa_worn qa_inTree qa_treeFrom qa_farness qa_cameFrom qa_settled qa_trackTaken qa_trackOf qa_switchBits qa_pinTrack qa_outTrack qa_padTrack qa_deviceTable qa_hasFlip qa_registerPlace qa_outputPlace qa_wireRoot qa_wireLevel qa_flip qa_tableOut
theorem cx_placeCells_60 (post : SX → Prop) (n : Nat) (x2 : Int32) (u : SX) : kx_placeCells_60 post (n + 1) x2 u = (((36 ≤ x2 → (wpX_cost (fun r_4 => (∃ n92 : Nat, kx_placeCells_92 post n92 r_4 0 u)) u)) ∧ (¬ 36 ≤ x2 → (wpX_chance (fun r_315 u1 => (wpX_exchangePlaces (fun u2 => (∀ x2_417 : Int32, x2_417 = x2 + 1 → (kx_placeCells_60 post n x2_417 u2))) u1 x2 r_315)) u 36)))) := rfl
def kx_placeCells_34 (post : SX → Prop) (J10 : Int32 → SX → Prop) (x2 : Int32) (z0 : Int32) (z1 : Int32) (u : SX) : Prop := match u with
  | (qf_gates, qf_nodes, qf_joinedSize, qf_cells, qf_chanceState, qf_isBuilt, qf_levels, qa_kinds, qa_firsts, qa_seconds, qa_thirds, qa_nextOf, qa_shownBy, qa_left, qa_right, qa_endOf, qa_cutCount, qa_cutSize, qa_cutLeaf, qa_cutDepth, qa_depthOf, qa_needed, qa_tableOf, qa_rows, qa_joined, qa_tableBits, qa_cellSource, qa_placeOf, qa_cellAt, qa_used, qa_worn, qa_inTree, qa_treeFrom, qa_farness, qa_cameFrom, qa_settled, qa_trackTaken, qa_trackOf, qa_switchBits, qa_pinTrack, qa_outTrack, qa_padTrack, qa_deviceTable, qa_hasFlip, qa_registerPlace, qa_outputPlace, qa_wireRoot, qa_wireLevel, qa_flip, qa_tableOut) => wX_placeCells_34 post (fun x2 a_kinds a_firsts a_seconds a_thirds a_nextOf a_shownBy a_left a_right a_endOf a_cutCount a_cutSize a_cutLeaf a_cutDepth a_depthOf a_needed a_tableOf a_rows a_joined a_tableBits a_cellSource a_placeOf a_cellAt a_used a_worn a_inTree a_treeFrom a_farness a_cameFrom a_settled a_trackTaken a_trackOf a_switchBits a_pinTrack a_outTrack a_padTrack a_deviceTable a_hasFlip a_registerPlace a_outputPlace a_wireRoot a_wireLevel a_flip a_tableOut => J10 x2 (qf_gates, qf_nodes, qf_joinedSize, qf_cells, qf_chanceState, qf_isBuilt, qf_levels, a_kinds, a_firsts, a_seconds, a_thirds, a_nextOf, a_shownBy, a_left, a_right, a_endOf, a_cutCount, a_cutSize, a_cutLeaf, a_cutDepth, a_depthOf, a_needed, a_tableOf, a_rows, a_joined, a_tableBits, a_cellSource, a_placeOf, a_cellAt, a_used, a_worn, a_inTree, a_treeFrom, a_farness, a_cameFrom, a_settled, a_trackTaken, a_trackOf, a_switchBits, a_pinTrack, a_outTrack, a_padTrack, a_deviceTable, a_hasFlip, a_registerPlace, a_outputPlace, a_wireRoot, a_wireLevel, a_flip, a_tableOut)) x2 z0 z1 qf_gates qf_nodes qf_joinedSize qf_cells qf_chanceState qf_isBuilt qf_levels qa_kinds qa_firsts qa_seconds qa_thirds qa_nextOf qa_shownBy qa_left qa_right qa_endOf qa_cutCount qa_cutSize qa_cutLeaf qa_cutDepth qa_depthOf qa_needed qa_tableOf qa_rows qa_joined qa_tableBits qa_cellSource qa_placeOf qa_cellAt qa_used qa_worn qa_inTree qa_treeFrom qa_farness qa_cameFrom qa_settled qa_trackTaken qa_trackOf qa_switchBits qa_pinTrack qa_outTrack qa_padTrack qa_deviceTable qa_hasFlip qa_registerPlace qa_outputPlace qa_wireRoot qa_wireLevel qa_flip qa_tableOut
theorem cx_placeCells_34 (post : SX → Prop) (J10 : Int32 → SX → Prop) (x2 : Int32) (z0 : Int32) (z1 : Int32) (u : SX) : kx_placeCells_34 post J10 x2 z0 z1 u = (vp_in z1 36 ∧ ∀ a_cellAt_420 : Nat → Int32, a_cellAt_420 = upd (ao u 28) z1.toNatClampNeg (vp_nar .byte z0.toInt8.toInt32) → ((((fo u 3) ≤ x2 → (∀ x2_422 : Int32, x2_422 = x2 + 1 → (J10 x2_422 (sa u 28 a_cellAt_420)))) ∧ (¬ (fo u 3) ≤ x2 → (vp_in x2 64 ∧ ∀ a_placeOf_424 : Nat → Int32, a_placeOf_424 = upd (ao u 27) x2.toNatClampNeg (vp_nar .byte x2.toInt8.toInt32) → (∀ x2_425 : Int32, x2_425 = x2 + 1 → (J10 x2_425 (sa (sa u 27 a_placeOf_424) 28 a_cellAt_420)))))))) := by simp only [n_ffx, n_afx, n_aax, n_fmx, n_amx]; rfl
def kx_placeCells_10 (post : SX → Prop) (n : Nat) (x2 : Int32) (u : SX) : Prop := match u with
  | (qf_gates, qf_nodes, qf_joinedSize, qf_cells, qf_chanceState, qf_isBuilt, qf_levels, qa_kinds, qa_firsts, qa_seconds, qa_thirds, qa_nextOf, qa_shownBy, qa_left, qa_right, qa_endOf, qa_cutCount, qa_cutSize, qa_cutLeaf, qa_cutDepth, qa_depthOf, qa_needed, qa_tableOf, qa_rows, qa_joined, qa_tableBits, qa_cellSource, qa_placeOf, qa_cellAt, qa_used, qa_worn, qa_inTree, qa_treeFrom, qa_farness, qa_cameFrom, qa_settled, qa_trackTaken, qa_trackOf, qa_switchBits, qa_pinTrack, qa_outTrack, qa_padTrack, qa_deviceTable, qa_hasFlip, qa_registerPlace, qa_outputPlace, qa_wireRoot, qa_wireLevel, qa_flip, qa_tableOut) => wX_placeCells_10 post qf_gates qf_nodes qf_joinedSize qf_cells qf_chanceState qf_isBuilt qf_levels n x2 qa_kinds qa_firsts qa_seconds qa_thirds qa_nextOf qa_shownBy qa_left qa_right qa_endOf qa_cutCount qa_cutSize qa_cutLeaf qa_cutDepth qa_depthOf qa_needed qa_tableOf qa_rows qa_joined qa_tableBits qa_cellSource qa_placeOf qa_cellAt qa_used qa_worn qa_inTree qa_treeFrom qa_farness qa_cameFrom qa_settled qa_trackTaken qa_trackOf qa_switchBits qa_pinTrack qa_outTrack qa_padTrack qa_deviceTable qa_hasFlip qa_registerPlace qa_outputPlace qa_wireRoot qa_wireLevel qa_flip qa_tableOut
theorem cx_placeCells_10 (post : SX → Prop) (n : Nat) (x2 : Int32) (u : SX) : kx_placeCells_10 post (n + 1) x2 u = (((36 ≤ x2 → (∃ n60 : Nat, kx_placeCells_60 post n60 0 u)) ∧ (¬ 36 ≤ x2 → ((((fo u 3) ≤ x2 → (kx_placeCells_34 post (fun y0 s => kx_placeCells_10 post n y0 s) x2 (- 1) x2 u)) ∧ (¬ (fo u 3) ≤ x2 → (kx_placeCells_34 post (fun y0 s => kx_placeCells_10 post n y0 s) x2 x2 x2 u))))))) := rfl
theorem cx_placeCells (post : SX → Prop) (u : SX) (p0 : Int32) : wpX_placeCells post u p0 = (∀ f_chanceState_1 : Int32, f_chanceState_1 = p0 + 7 → (∃ n10 : Nat, kx_placeCells_10 post n10 0 (sf u 4 f_chanceState_1))) := rfl
theorem ofN (x : Int32) : x = nI x.toBitVec.toNat := by
  apply Int32.toBitVec_inj.1
  show x.toBitVec = BitVec.ofNat 32 x.toBitVec.toNat
  simp
theorem hx_chance {post : Int32 → SX → Prop} {u : SX} (K : ∀ r x, r < 36 → post (nI r) (sf u 4 x)) : wpX_chance post u 36 := by
  rw [cx_chance]
  refine nm_e ⟨by decide, ?_⟩
  generalize (fo u 4 * 1103515245 + 12345) = x
  have hx := x.toBitVec.isLt
  have e : (x.toUInt32 >>> ((16 : Int32).toUInt32 &&& Int32.toUInt32 31)).toInt32 = nI (x.toBitVec.toNat / 2 ^ 16) := by
    rw [ofN x, pk_tn hx]
    exact pk_ushrN hx 16 16 (by decide)
  rw [e, show (36 : Int32) = nI 36 from rfl, pk_rem (by omega) (by omega) (by omega)]
  exact K _ x (Nat.mod_lt _ (by omega))
def Pc (u : SX) (C : Nat) (pl ca : Nat → Nat) : Prop := (∀ p, p < 36 → ao u 28 p = pI (ca p) ∧ ca p ≤ C) ∧ (∀ c, c < C → ao u 27 c = nI (pl c) ∧ pl c < 36 ∧ ca (pl c) = c + 1) ∧ ∀ p, p < 36 → ∀ c, ca p = c + 1 → pl c = p
theorem Pc_ex {u : SX} {C : Nat} {pl ca : Nat → Nat} (h : Pc u C pl ca) {p q : Nat} (hp : p < 36) (hq : q < 36) {v : SX} (h1 : ∀ x, ao v 28 x = if x = q then pI (ca p) else if x = p then pI (ca q) else ao u 28 x)
    (h2 : ∀ c, c < C → ao v 27 c = if ca q = c + 1 then nI p else if ca p = c + 1 then nI q else ao u 27 c) :
    Pc v C (fun c => if ca q = c + 1 then p else if ca p = c + 1 then q else pl c) (fun x => if x = q then ca p else if x = p then ca q else ca x) := by
  refine ⟨fun x hx => ?_, fun c hc => ?_, fun x hx c hc => ?_⟩
  · try dsimp only
    rw [h1 x]
    by_cases e1 : x = q
    · rw [if_pos e1, if_pos e1]; exact ⟨rfl, (h.1 p hp).2⟩
    · rw [if_neg e1, if_neg e1]
      by_cases e2 : x = p
      · rw [if_pos e2, if_pos e2]; exact ⟨rfl, (h.1 q hq).2⟩
      · rw [if_neg e2, if_neg e2]; exact h.1 x hx
  · try dsimp only
    rw [h2 c hc]
    have hc' := h.2.1 c hc
    by_cases e1 : ca q = c + 1
    · rw [if_pos e1, if_pos e1]
      refine ⟨rfl, hp, ?_⟩
      by_cases e : p = q
      · rw [if_pos e, e]; exact e1
      · rw [if_neg e, if_pos rfl]; exact e1
    · rw [if_neg e1, if_neg e1]
      by_cases e2 : ca p = c + 1
      · rw [if_pos e2, if_pos e2]
        refine ⟨rfl, hq, ?_⟩
        rw [if_pos rfl]; exact e2
      · rw [if_neg e2, if_neg e2]
        refine ⟨hc'.1, hc'.2.1, ?_⟩
        have n1 : pl c ≠ q := fun e => e1 (by rw [← e]; exact hc'.2.2)
        have n2 : pl c ≠ p := fun e => e2 (by rw [← e]; exact hc'.2.2)
        rw [if_neg n1, if_neg n2]; exact hc'.2.2
  · dsimp only at hc ⊢
    by_cases e1 : x = q
    · rw [if_pos e1] at hc
      by_cases e2 : ca q = c + 1
      · rw [if_pos e2, ← h.2.2 p hp c hc, h.2.2 q hq c e2, e1]
      · rw [if_neg e2, if_pos hc, e1]
    · rw [if_neg e1] at hc
      by_cases e2 : x = p
      · rw [if_pos e2] at hc
        rw [if_pos hc, e2]
      · rw [if_neg e2] at hc
        have hx' := h.2.2 x hx c hc
        have n1 : ca q ≠ c + 1 := fun e => e1 (by rw [← hx', h.2.2 q hq c e])
        have n2 : ca p ≠ c + 1 := fun e => e2 (by rw [← hx', h.2.2 p hp c e])
        rw [if_neg n1, if_neg n2]; exact hx'
theorem hx_exchange {post : SX → Prop} {u : SX} {C : Nat} {pl ca : Nat → Nat} (hC : C ≤ 36) (h : Pc u C pl ca) {p q : Nat} (hp : p < 36) (hq : q < 36)
    (K : ∀ u' pl' ca', fr [27, 28] u u' → Pc u' C pl' ca' → post u') : wpX_exchangePlaces post u (nI p) (nI q) := by
  have h1 := h.1 p hp
  have h2 := h.1 q hq
  have done : ∀ (a : Nat → Int32) (v : SX), fr [27, 28] u v → ao v 28 = upd (upd (ao u 28) p (pI (ca q))) q (pI (ca p)) → (∀ c, ao v 27 c = if ca p = c + 1 then nI q else ao u 27 c) → kx_exchangePlaces_42 post (nI p) (pI (ca q)) v := by
    intro _ v f1 f2 f3
    have g1 : ∀ x, ao v 28 x = if x = q then pI (ca p) else if x = p then pI (ca q) else ao u 28 x := by
      intro x
      rw [f2]; rfl
    rw [cx_exchangePlaces_42]
    refine br_p rfl (by omega) (fun e => ?_) (fun m e em => ?_)
    · refine K v _ _ f1 (Pc_ex h hp hq g1 (fun c hc => ?_))
      rw [f3 c, if_neg (show ca q ≠ c + 1 by omega)]
    · rw [em, clI (by omega), vby (by omega)]
      refine ⟨pk_in m 64 (by omega), nm_e (K _ _ _ (fr_a f1 (by decide)) (Pc_ex h hp hq g1 (fun c hc => ?_)))⟩
      show upd (ao v 27) m (nI p) c = _
      by_cases e1 : c = m
      · rw [e1, u_s, if_pos e]
      · rw [u_n e1, f3 c, if_neg (show ca q ≠ c + 1 by omega)]
  rw [cx_exchangePlaces]
  simp only [clI (show p < 2 ^ 31 by omega), clI (show q < 2 ^ 31 by omega), h1.1, h2.1]
  refine ⟨pk_in p 36 hp, nm_e ⟨pk_in q 36 hq, nm_e ⟨pk_in p 36 hp, nm_e ⟨pk_in q 36 hq, nm_e ?_⟩⟩⟩⟩
  rw [vbq (show ca p < 128 by omega), vbq (show ca q < 128 by omega)]
  refine br_p rfl (by omega) (fun e => ?_) (fun m e em => ?_)
  · refine done (fun _ => 0) _ (fr_a fr_rf (by decide)) rfl (fun c => ?_)
    rw [if_neg (show ca p ≠ c + 1 by omega)]; rfl
  · rw [em, clI (by omega), vby (by omega)]
    refine ⟨pk_in m 64 (by omega), nm_e (done (fun _ => 0) _ (fr_a (fr_a fr_rf (by decide)) (by decide)) (by rw [← em]; rfl) (fun c => ?_))⟩
    show upd (ao u 27) m (nI q) c = _
    by_cases e1 : c = m
    · rw [e1, u_s, if_pos e]
    · rw [u_n e1, if_neg (show ca p ≠ c + 1 by omega)]
theorem hx_columnOf {post : Int32 → Prop} {u : SX} {s : Nat} (hs : s < 38) (K : ∀ r, post r) : wpX_columnOf post u (nI s) := by
  rw [cx_columnOf]
  refine pk_le 6 s (fun h6 => pk_le 12 s (fun h12 => ?_) (fun h12 => ?_)) (fun _ => K _)
  · have e : nI s - 12 + 10 = nI (s - 2) := by
      show nI s - nI 12 + nI 10 = _
      rw [pk_sub h12, nI_add]
      exact congrArg nI (by omega)
    rw [e, cx_columnOf_28]
    exact ⟨pk_in (s - 2) 64 (by omega), by decide, K _⟩
  · have e : nI s - 6 = nI (s - 6) := pk_sub (b := 6) h6
    rw [e, cx_columnOf_28]
    exact ⟨pk_in (s - 6) 64 (by omega), by decide, K _⟩
theorem hx_lineOf {post : Int32 → Prop} {u : SX} {s : Nat} (hs : s < 38) (K : ∀ r, post r) : wpX_lineOf post u (nI s) := by
  rw [cx_lineOf]
  refine pk_le 6 s (fun h6 => pk_le 12 s (fun h12 => ?_) (fun h12 => ?_)) (fun _ => K _)
  · have e : nI s - 12 + 10 = nI (s - 2) := by
      show nI s - nI 12 + nI 10 = _
      rw [pk_sub h12, nI_add]
      exact congrArg nI (by omega)
    rw [e, cx_lineOf_28]
    exact ⟨pk_in (s - 2) 64 (by omega), by decide, K _⟩
  · have e : nI s - 6 = nI (s - 6) := pk_sub (b := 6) h6
    rw [e, cx_lineOf_28]
    exact ⟨pk_in (s - 6) 64 (by omega), by decide, K _⟩
theorem hx_apart {post : Int32 → Prop} {x y : Int32} (K : ∀ r, post r) : wpX_apart post x y := br_c (fun _ => K _) (fun _ => K _)
/-- the pins, wherever they are placed -/
def Pn (u : SX) (C : Nat) (P : Nat → Nat → Nat) : Prop := fo u 3 = nI C ∧ 10 ≤ C ∧ C ≤ 36 ∧ ∀ c i, c < C → i < 4 → ao u 26 (4 * c + i) = pI (P c i) ∧ P c i ≤ C + 2
theorem Pn_j {u : SX} {C : Nat} {P : Nat → Nat → Nat} (h : Pn u C P) {j : Nat} (hj : j < 4 * C) : ao u 26 j = pI (P (j / 4) (j % 4)) ∧ P (j / 4) (j % 4) ≤ C + 2 := by
  have := h.2.2.2 (j / 4) (j % 4) (by omega) (by omega)
  rw [show 4 * (j / 4) + j % 4 = j from by omega] at this
  exact this
theorem Pn_fr {M : List Nat} {u v : SX} {C : Nat} {P : Nat → Nat → Nat} (h : Pn u C P) (hf : fr M u v) (h0 : 3 ∉ M := by decide) (h1 : 26 ∉ M := by decide) : Pn v C P := by
  unfold Pn
  rw [fr_fo hf 3 h0, fr_ao hf 26 h1]
  exact h
theorem div4 {j : Nat} (h : j < 2 ^ 31) : nI j / 4 = nI (j / 4) := pk_div (d := 4) h (by decide) (by decide)
theorem rem4 {j : Nat} (h : j < 2 ^ 31) : nI j - nI j / 4 * 4 = nI (j % 4) := pk_rem (d := 4) h (by decide) (by decide)
theorem hx_cost {post : Int32 → Prop} {u : SX} {C : Nat} {P : Nat → Nat → Nat} (h : Pn u C P) (K : ∀ r, post r) : wpX_cost post u := by
  have hC := h.2.2.1
  rw [cx_cost]
  refine lp2 (fun n (x : Int32) (j : Nat) => kx_cost_4 post n x (nI j) u) (fun _ j => j ≤ 4 * C) (fun _ j => 4 * C - j) ?_ 0 0 (Nat.zero_le _)
  rintro n x j hj hr
  show kx_cost_4 _ _ _ _ _
  rw [cx_cost_4]
  simp only [h.1, m40, clI (show j < 2 ^ 31 by omega), div4 (show j < 2 ^ 31 by omega)]
  refine pk_le (4 * C) j (fun _ => K _) (fun hl => ?_)
  have hp := Pn_j h hl
  refine ⟨pk_in j 256 (by omega), nm_r hp.1 (br_p rfl (by omega) (fun _ => nm_r (nI_1 j) (hr _ _ (by omega) (by omega))) (fun m em e => ⟨by decide, nm_e ?_⟩))⟩
  rw [e]
  refine hx_columnOf (by omega) (fun r1 => hx_lineOf (by omega) (fun r2 => ⟨pk_in (j / 4) 64 (by omega), by decide, hx_apart (fun r3 => ⟨pk_in (j / 4) 64 (by omega), by decide, hx_apart (fun r4 => nm_e (nm_r (nI_1 j) (hr _ _ (by omega) (by omega))))⟩)⟩))
theorem hx_pl92 {post : SX → Prop} {u u0 : SX} {C : Nat} {P : Nat → Nat → Nat} {pl ca : Nat → Nat} {own : Int32} (hP : Pn u C P) (hf : fr [4, 27, 28] u u0) (h : Pc u0 C pl ca)
    (K : ∀ u' pl' ca', fr [4, 27, 28] u u' → Pc u' C pl' ca' → post u') : ∃ n, kx_placeCells_92 post n own 0 u0 := by
  have hC := hP.2.2.1
  refine lp3 (fun n (x : Int32) (k : Nat) (s : SX) => kx_placeCells_92 post n x (nI k) s) (fun _ k s => k ≤ 400 ∧ fr [4, 27, 28] u s ∧ ∃ pl ca, Pc s C pl ca) (fun _ k _ => 400 - k) ?_ own 0 u0 ⟨Nat.zero_le _, hf, pl, ca, h⟩
  rintro n x k s ⟨hk, h1, pl, ca, h2⟩ hr
  show kx_placeCells_92 _ _ _ _ _
  rw [cx_placeCells_92]
  refine pk_le 400 k (fun _ => K s pl ca h1 h2) (fun hlt => hx_chance (fun r1 x1 hr1 => hx_chance (fun r2 x2 hr2 => ?_)))
  have h2' : Pc (sf (sf s 4 x1) 4 x2) C pl ca := h2
  refine hx_exchange hC h2' hr1 hr2 (fun u1 pl1 ca1 f1 p1 => ?_)
  have g1 : fr [4, 27, 28] u u1 := fr_tr (fr_f (fr_f h1 (by decide)) (by decide)) (fr_mn f1 (by decide))
  refine hx_cost (Pn_fr hP g1) (fun r => ⟨by decide, br_c (fun _ => hx_exchange hC p1 hr1 hr2 (fun u2 pl2 ca2 f2 p2 => ?_)) (fun _ => ?_)⟩)
  · exact nm_r (nI_1 k) (hr _ _ _ ⟨by omega, fr_tr g1 (fr_mn f2 (by decide)), pl2, ca2, p2⟩ (by omega))
  · exact nm_r (nI_1 k) (hr _ _ _ ⟨by omega, g1, pl1, ca1, p1⟩ (by omega))
theorem hx_placeCells {post : SX → Prop} {u : SX} {C : Nat} {P : Nat → Nat → Nat} {x : Int32} (hP : Pn u C P)
    (K : ∀ u' (pl : Nat → Nat), fr [4, 27, 28] u u' → (∀ c, c < C → ao u' 27 c = nI (pl c) ∧ pl c < 36) → (∀ c c', c < C → c' < C → pl c = pl c' → c = c') → post u') : wpX_placeCells post u x := by
  have hC := hP.2.2.1
  have fin : ∀ u' pl' ca', fr [4, 27, 28] u u' → Pc u' C pl' ca' → post u' := by
    intro u' pl ca f h
    refine K u' pl f (fun c hc => ⟨(h.2.1 c hc).1, (h.2.1 c hc).2.1⟩) (fun c c' hc hc' e => ?_)
    have a := (h.2.1 c hc).2.2
    have b := (h.2.1 c' hc').2.2
    rw [e, b] at a
    omega
  rw [cx_placeCells]
  refine nm_e ?_
  refine pk_loop (fun n i s => kx_placeCells_10 post n (nI i) s) (fun i s => fr [4, 27, 28] u s ∧ (∀ p, p < i → ao s 28 p = pI (if p < C then p + 1 else 0)) ∧ ∀ c, c < i → c < C → ao s 27 c = nI c) 36 0 _ (Nat.zero_le _) ⟨fr_f fr_rf (by decide), fun p hp => by omega, fun p hp => by omega⟩ ?_ ?_
  · rintro n s ⟨h1, h2, h3⟩
    show kx_placeCells_10 _ _ _ _
    rw [cx_placeCells_10]
    refine pk_le 36 36 (fun _ => ?_) (fun h => absurd h (by omega))
    have hPc : Pc s C (fun c => c) (fun p => if p < C then p + 1 else 0) := by
      refine ⟨fun p hp => ⟨h2 p hp, by dsimp only; split <;> omega⟩, fun c hc => ⟨h3 c (by omega) hc, by dsimp only; omega, if_pos hc⟩, fun p hp c hc => ?_⟩
      dsimp only at hc ⊢
      split at hc
      · omega
      · omega
    refine pk_loop (fun n i s => kx_placeCells_60 post n (nI i) s) (fun i s => fr [4, 27, 28] u s ∧ ∃ pl ca, Pc s C pl ca) 36 0 s (Nat.zero_le _) ⟨h1, _, _, hPc⟩ ?_ ?_
    · rintro n s ⟨h1, pl, ca, h2⟩
      show kx_placeCells_60 _ _ _ _
      rw [cx_placeCells_60]
      exact pk_le 36 36 (fun _ => hx_cost (Pn_fr hP h1) (fun r => hx_pl92 hP h1 h2 fin)) (fun h => absurd h (by omega))
    · rintro n i s hi ⟨h1, pl, ca, h2⟩ hr
      show kx_placeCells_60 _ _ _ _
      rw [cx_placeCells_60]
      refine pk_le 36 i (fun h => absurd h (by omega)) (fun _ => hx_chance (fun r1 x1 hr1 => ?_))
      have h2' : Pc (sf s 4 x1) C pl ca := h2
      exact hx_exchange hC h2' hi hr1 (fun u1 pl1 ca1 f1 p1 => nm_r (nI_1 i) (hr u1 ⟨fr_tr (fr_f h1 (by decide)) (fr_mn f1 (by decide)), pl1, ca1, p1⟩))
  · rintro n i s hi ⟨h1, h2, h3⟩ hr
    have hcs : fo s 3 = nI C := by rw [fr_fo h1 3]; exact hP.1
    have H34 : ∀ x : Int32, x = pI (if i < C then i + 1 else 0) → kx_placeCells_34 post (fun y0 s => kx_placeCells_10 post n y0 s) (nI i) x (nI i) s := by
      intro x hx
      have hlt : (if i < C then i + 1 else 0) < 128 := by split <;> omega
      rw [cx_placeCells_34, hx]
      simp only [clI (show i < 2 ^ 31 by omega), vbp hlt, hcs, vby (show i < 128 by omega)]
      have c1 : ∀ p, p < i + 1 → upd (ao s 28) i (pI (if i < C then i + 1 else 0)) p = pI (if p < C then p + 1 else 0) := by
        intro p hp
        by_cases e : p = i
        · rw [e, u_s]
        · rw [u_n e]; exact h2 p (by omega)
      refine ⟨pk_in i 36 hi, nm_e (pk_le C i (fun h => nm_r (nI_1 i) (hr _ ⟨fr_a h1 (by decide), c1, fun c hc hcC => h3 c (by omega) hcC⟩)) (fun h => ⟨pk_in i 64 (by omega), nm_e (nm_r (nI_1 i) (hr _ ⟨fr_a (fr_a h1 (by decide)) (by decide), c1, fun c hc hcC => ?_⟩))⟩))⟩
      show upd (ao s 27) i (nI i) c = _
      by_cases e : c = i
      · rw [e, u_s]
      · rw [u_n e]; exact h3 c (by omega) hcC
    show kx_placeCells_10 _ _ _ _
    rw [cx_placeCells_10, hcs]
    exact pk_le 36 i (fun h => absurd h (by omega)) (fun _ => pk_le C i (fun h => H34 _ (by rw [if_neg (by omega)]; rfl)) (fun h => H34 _ (by rw [if_pos h, pI_s])))
end
section
/-! ===== the grid ===== -/
def kx_stretchOfSource_32 (post : Int32 → Prop) (z0 : Int32) (u : SX) : Prop := match u with
  | (qf_gates, qf_nodes, qf_joinedSize, qf_cells, qf_chanceState, qf_isBuilt, qf_levels, qa_kinds, qa_firsts, qa_seconds, qa_thirds, qa_nextOf, qa_shownBy, qa_left, qa_right, qa_endOf, qa_cutCount, qa_cutSize, qa_cutLeaf, qa_cutDepth, qa_depthOf, qa_needed, qa_tableOf, qa_rows, qa_joined, qa_tableBits, qa_cellSource, qa_placeOf, qa_cellAt, qa_used, qa_worn, qa_inTree, qa_treeFrom, qa_farness, qa_cameFrom, qa_settled, qa_trackTaken, qa_trackOf, qa_switchBits, qa_pinTrack, qa_outTrack, qa_padTrack, qa_deviceTable, qa_hasFlip, qa_registerPlace, qa_outputPlace, qa_wireRoot, qa_wireLevel, qa_flip, qa_tableOut) => wX_stretchOfSource_32 post z0 qf_gates qf_nodes qf_joinedSize qf_cells qf_chanceState qf_isBuilt qf_levels qa_kinds qa_firsts qa_seconds qa_thirds qa_nextOf qa_shownBy qa_left qa_right qa_endOf qa_cutCount qa_cutSize qa_cutLeaf qa_cutDepth qa_depthOf qa_needed qa_tableOf qa_rows qa_joined qa_tableBits qa_cellSource qa_placeOf qa_cellAt qa_used qa_worn qa_inTree qa_treeFrom qa_farness qa_cameFrom qa_settled qa_trackTaken qa_trackOf qa_switchBits qa_pinTrack qa_outTrack qa_padTrack qa_deviceTable qa_hasFlip qa_registerPlace qa_outputPlace qa_wireRoot qa_wireLevel qa_flip qa_tableOut
theorem cx_stretchOfSource_32 (post : Int32 → Prop) (z0 : Int32) (u : SX) : kx_stretchOfSource_32 post z0 u = (vp_in z0 64 ∧ (wpX_stretchAt (fun r_4 => (post r_4)) ((ao u 27) z0.toNatClampNeg) 0)) := rfl
theorem cx_stretchOfSource (post : Int32 → Prop) (u : SX) (p0 : Int32) : wpX_stretchOfSource post u p0 = (((6 ≤ p0 → (((12 ≤ p0 → (kx_stretchOfSource_32 post ((p0 - 12) + 10) u)) ∧ (¬ 12 ≤ p0 → (kx_stretchOfSource_32 post (p0 - 6) u))))) ∧ (¬ 6 ≤ p0 → (wpX_standing (fun r_5 => (post r_5)) 0 p0)))) := rfl
theorem cx_sources (post : Int32 → Prop) (u : SX) : wpX_sources post u = (post ((12 + (fo u 3)) - 10)) := rfl
def stA (p i : Nat) : Nat := if i = 0 then p / 6 * 6 + p % 6 else if i = 1 then 42 + p / 6 * 7 + (p % 6 + 1) else if i = 2 then (p / 6 + 1) * 6 + p % 6 else 42 + p / 6 * 7 + p % 6
theorem stA_lt : ∀ p, p < 36 → ∀ i, i < 4 → stA p i < 84 := by decide +kernel
def cro (s e : Nat) : Nat := if s < 42 then s / 6 * 7 + s % 6 + e else s - 42 + e * 7
theorem cro_lt : ∀ s, s < 84 → ∀ e, e < 2 → cro s e < 49 := by decide +kernel
/-- the stretch at a side of a crossing: 0 for none -/
def sfr (c d : Nat) : Nat := if d = 0 then (if c % 7 = 0 then 0 else c / 7 * 6 + (c % 7 - 1) + 1) else if d = 1 then (if 6 ≤ c % 7 then 0 else c / 7 * 6 + c % 7 + 1) else
  if d = 2 then (if c / 7 = 0 then 0 else 42 + (c / 7 - 1) * 7 + c % 7 + 1) else if 6 ≤ c / 7 then 0 else 42 + c / 7 * 7 + c % 7 + 1
theorem sfr_lt : ∀ c, c < 49 → ∀ d, d < 4 → sfr c d ≤ 84 := by decide +kernel
def nb (f k : Nat) : Nat := sfr (cro f (k / 4)) (k % 4)
theorem nb_lt {f k : Nat} (hf : f < 84) (hk : k < 8) : nb f k ≤ 84 := sfr_lt _ (cro_lt f hf _ (by omega)) _ (by omega)
def adj (s f : Nat) : Prop := s ≠ f ∧ ∃ k, k < 8 ∧ nb f k = s + 1
theorem lyI (x y : Nat) : nI y * 6 + nI x = nI (y * 6 + x) := by
  show nI y * nI 6 + nI x = _
  rw [pk_mul, nI_add]
theorem stI (x y : Nat) : (42 : Int32) + nI y * 7 + nI x = nI (42 + y * 7 + x) := by
  show nI 42 + nI y * nI 7 + nI x = _
  rw [pk_mul, nI_add, nI_add]
theorem hx_stretchAt {post : Int32 → Prop} {p i : Nat} (hp : p < 36) (hi : i < 4) (K : post (nI (stA p i))) : wpX_stretchAt post (nI p) (nI i) := by
  unfold wpX_stretchAt wpX_lying wpX_standing
  have e1 : nI p / 6 = nI (p / 6) := pk_div (d := 6) (by omega) (by decide) (by decide)
  have e2 : nI p - nI p / 6 * 6 = nI (p % 6) := pk_rem (d := 6) (by omega) (by decide) (by decide)
  unfold stA at K
  refine ⟨by decide, nm_r e2 ⟨by decide, nm_r e1 (pk_eq i 0 (fun h => ?_) (fun h0 => pk_eq i 1 (fun h => ?_) (fun h1 => pk_eq i 2 (fun h => ?_) (fun h2 => ?_))))⟩⟩
  · rw [if_pos h] at K; rw [lyI]; exact K
  · rw [if_neg h0, if_pos h] at K; rw [nI_1, stI]; exact K
  · rw [if_neg h0, if_neg h1, if_pos h] at K; rw [nI_1, lyI]; exact K
  · rw [if_neg h0, if_neg h1, if_neg h2] at K; rw [stI]; exact K
theorem hx_crossingOf {post : Int32 → Prop} {s e : Nat} (hs : s < 84) (he : e < 2) (K : post (nI (cro s e))) : wpX_crossingOf post (nI s) (nI e) := by
  unfold wpX_crossingOf
  unfold cro at K
  refine pk_le 42 s (fun h => ?_) (fun h => ⟨by decide, by decide, ?_⟩)
  · rw [if_neg (by omega)] at K
    have e1 : nI s - 42 + nI e * 7 = nI (s - 42 + e * 7) := by
      show nI s - nI 42 + nI e * nI 7 = _
      rw [pk_sub h, pk_mul, nI_add]
    rw [e1]; exact K
  · rw [if_pos h] at K
    have e1 : nI s / 6 * 7 + (nI s - nI s / 6 * 6) + nI e = nI (s / 6 * 7 + s % 6 + e) := by
      rw [show nI s - nI s / 6 * 6 = nI (s % 6) from pk_rem (d := 6) (by omega) (by decide) (by decide), show nI s / 6 = nI (s / 6) from pk_div (d := 6) (by omega) (by decide) (by decide)]
      show nI (s / 6) * nI 7 + nI (s % 6) + nI e = _
      rw [pk_mul, nI_add, nI_add]
    rw [e1]; exact K
theorem hx_stretchFrom {post : Int32 → Prop} {c d : Nat} (hc : c < 49) (hd : d < 4) (K : post (pI (sfr c d))) : wpX_stretchFrom post (nI c) (nI d) := by
  unfold wpX_stretchFrom wpX_lying wpX_standing
  have e1 : nI c / 7 = nI (c / 7) := pk_div (d := 7) (by omega) (by decide) (by decide)
  have e2 : nI c - nI c / 7 * 7 = nI (c % 7) := pk_rem (d := 7) (by omega) (by decide) (by decide)
  unfold sfr at K
  refine ⟨by decide, nm_r e2 ⟨by decide, nm_r e1 (pk_eq d 0 (fun h => pk_le (c % 7) 0 (fun g => ?_) (fun g => ?_)) (fun h0 => pk_eq d 1 (fun h => pk_le 6 (c % 7) (fun g => ?_) (fun g => ?_)) (fun h1 => pk_eq d 2 (fun h => pk_le (c / 7) 0 (fun g => ?_) (fun g => ?_)) (fun h2 => pk_le 6 (c / 7) (fun g => ?_) (fun g => ?_)))))⟩⟩
  · rw [if_pos h, if_pos (by omega)] at K; exact K
  · rw [if_pos h, if_neg (by omega), pI_s] at K
    rw [show nI (c % 7) - 1 = nI (c % 7 - 1) from pk_sub (b := 1) (by omega), lyI]; exact K
  · rw [if_neg h0, if_pos h, if_pos g] at K; exact K
  · rw [if_neg h0, if_pos h, if_neg (by omega), pI_s] at K
    rw [lyI]; exact K
  · rw [if_neg h0, if_neg h1, if_pos h, if_pos (by omega)] at K; exact K
  · rw [if_neg h0, if_neg h1, if_pos h, if_neg (by omega), pI_s] at K
    rw [show nI (c / 7) - 1 = nI (c / 7 - 1) from pk_sub (b := 1) (by omega), stI]; exact K
  · rw [if_neg h0, if_neg h1, if_neg h2, if_pos g] at K; exact K
  · rw [if_neg h0, if_neg h1, if_neg h2, if_neg (by omega), pI_s] at K
    rw [stI]; exact K
def sd (c s : Nat) : Nat := if sfr c 0 = s + 1 then 0 else if sfr c 1 = s + 1 then 1 else if sfr c 2 = s + 1 then 2 else 3
theorem hx_sideAt {post : Int32 → Prop} {c s : Nat} (hc : c < 49) (hs : s < 84) (K : post (nI (sd c s))) : wpX_sideAt post (nI c) (nI s) := by
  have b0 := sfr_lt c hc 0 (by omega)
  have b1 := sfr_lt c hc 1 (by omega)
  have b2 := sfr_lt c hc 2 (by omega)
  have q : ∀ t, t ≤ 84 → (pI t = nI s ↔ t = s + 1) := fun t ht => by rw [← pI_s]; exact pI_eq (by omega) (by omega)
  unfold sd at K
  refine ⟨4, ?_⟩
  unfold wX_sideAt_2
  refine br_f (by decide) (hx_stretchFrom (d := 0) hc (by omega) (br_c (fun h => ?_) (fun h => nm_r (e' := nI 1) rfl ?_)))
  · rw [if_pos ((q _ b0).mp h)] at K; exact K
  rw [if_neg (fun e => h ((q _ b0).mpr e))] at K
  unfold wX_sideAt_2
  refine br_f (by decide) (hx_stretchFrom (d := 1) hc (by omega) (br_c (fun h => ?_) (fun h => nm_r (e' := nI 2) rfl ?_)))
  · rw [if_pos ((q _ b1).mp h)] at K; exact K
  rw [if_neg (fun e => h ((q _ b1).mpr e))] at K
  unfold wX_sideAt_2
  refine br_f (by decide) (hx_stretchFrom (d := 2) hc (by omega) (br_c (fun h => ?_) (fun h => nm_r (e' := nI 3) rfl ?_)))
  · rw [if_pos ((q _ b2).mp h)] at K; exact K
  rw [if_neg (fun e => h ((q _ b2).mpr e))] at K
  unfold wX_sideAt_2
  exact br_t (by decide) K
def pb (a b : Nat) : Nat := if b ≤ a then (if b = 0 then 2 ^ (a - 1) else if b = 1 then 2 ^ (a + 1) else 32) else (if a = 0 then 2 ^ (b - 1) else if a = 1 then 2 ^ (b + 1) else 32)
theorem pb_f : ∀ h, h < 4 → (1 : Int32) <<< ((nI h + 1) &&& 31) = nI (2 ^ (h + 1)) ∧ (0 < h → (1 : Int32) <<< ((nI h - 1) &&& 31) = nI (2 ^ (h - 1))) := by decide +kernel
theorem hx_pairBit {post : Int32 → Prop} {a b : Nat} (ha : a < 4) (hb : b < 4) (hab : a ≠ b) (K : post (nI (pb a b))) : wpX_pairBit post (nI a) (nI b) := by
  have H : ∀ l h : Nat, l < h → h < 4 → post (nI (if l = 0 then 2 ^ (h - 1) else if l = 1 then 2 ^ (h + 1) else 32)) → wX_pairBit_21 post (nI l) (nI h) := by
    intro l h hl hh K
    unfold wX_pairBit_21
    refine pk_eq l 0 (fun e => ?_) (fun e0 => pk_eq l 1 (fun e => ?_) (fun e1 => ?_))
    · rw [if_pos e] at K; rw [(pb_f h hh).2 (by omega)]; exact K
    · rw [if_neg e0, if_pos e] at K; rw [(pb_f h hh).1]; exact K
    · rw [if_neg e0, if_neg e1] at K; exact K
  unfold pb at K
  unfold wpX_pairBit wX_pairBit_10
  refine pk_le b a (fun h => pk_le b a (fun _ => ?_) (fun h' => absurd h (by omega))) (fun h => pk_le b a (fun h' => absurd h (by omega)) (fun _ => ?_))
  · rw [if_pos h] at K; exact H b a (by omega) ha K
  · rw [if_neg (by omega)] at K; exact H a b h hb K
def ccr (a b : Nat) : Nat := if cro a 0 = cro b 0 ∨ cro a 0 = cro b 1 then cro a 0 else cro a 1
theorem hx_commonCrossing {post : Int32 → Prop} {a b : Nat} (ha : a < 84) (hb : b < 84) (K : post (nI (ccr a b))) : wpX_commonCrossing post (nI a) (nI b) := by
  have c1 := cro_lt a ha 0 (by omega)
  have c2 := cro_lt b hb 0 (by omega)
  have c3 := cro_lt b hb 1 (by omega)
  unfold ccr at K
  unfold wpX_commonCrossing wX_commonCrossing_24 wX_commonCrossing_29
  refine hx_crossingOf (e := 0) ha (by omega) (hx_crossingOf (e := 0) hb (by omega) (pk_eq (cro a 0) (cro b 0) (fun h => br_f (by decide) ?_) (fun h => hx_crossingOf (e := 1) hb (by omega) (pk_eq (cro a 0) (cro b 1) (fun h' => br_f (by decide) ?_) (fun h' => br_t rfl (hx_crossingOf (e := 1) ha (by omega) ?_))))))
  · rw [if_pos (Or.inl h)] at K; exact K
  · rw [if_pos (Or.inr h')] at K; exact K
  · rw [if_neg (by omega)] at K; exact K
/-- what adjacency gives: the common crossing has both, at different sides -/
theorem adj_f : ∀ f, f < 84 → ∀ k, k < 8 → ∀ s, s < 84 → nb f k = s + 1 → s ≠ f → ccr s f < 49 ∧ sd (ccr s f) s < 4 ∧ sd (ccr s f) f < 4 ∧ sd (ccr s f) s ≠ sd (ccr s f) f ∧ sfr (ccr s f) (sd (ccr s f) s) = s + 1 ∧ sfr (ccr s f) (sd (ccr s f) f) = f + 1 := by
  have H : ∀ f, f < 84 → ∀ k, k < 8 → nb f k = 0 ∨ nb f k - 1 = f ∨ (ccr (nb f k - 1) f < 49 ∧ sd (ccr (nb f k - 1) f) (nb f k - 1) < 4 ∧ sd (ccr (nb f k - 1) f) f < 4 ∧ sd (ccr (nb f k - 1) f) (nb f k - 1) ≠ sd (ccr (nb f k - 1) f) f ∧ sfr (ccr (nb f k - 1) f) (sd (ccr (nb f k - 1) f) (nb f k - 1)) = (nb f k - 1) + 1 ∧ sfr (ccr (nb f k - 1) f) (sd (ccr (nb f k - 1) f) f) = f + 1) := by decide +kernel
  intro f hf k hk s hs e hne
  have h := H f hf k hk
  rw [e, Nat.add_sub_cancel] at h
  rcases h with h | h | h
  · omega
  · exact absurd h hne
  · exact h
theorem pb_lt : ∀ a, a < 4 → ∀ b, b < 4 → a ≠ b → pb a b < 64 := by decide +kernel
/-- the cell of a source, its own stretch -/
def ce (n : Nat) : Nat := if n < 12 then n - 6 else n - 2
def ow (pl : Nat → Nat) (n : Nat) : Nat := if n < 6 then 42 + n * 7 else stA (pl (ce n)) 0
def Pl (u : SX) (C : Nat) (pl : Nat → Nat) : Prop := ∀ c, c < C → ao u 27 c = nI (pl c) ∧ pl c < 36
theorem Pl_fr {M : List Nat} {u v : SX} {C : Nat} {pl : Nat → Nat} (h : Pl u C pl) (hf : fr M u v) (h1 : 27 ∉ M := by decide) : Pl v C pl := by
  unfold Pl
  rw [fr_ao hf 27 h1]
  exact h
theorem ow_lt {u : SX} {C : Nat} {pl : Nat → Nat} (h : Pl u C pl) (hC : 10 ≤ C) {n : Nat} (hn : n < C + 2) : ow pl n < 84 := by
  unfold ow
  split
  · omega
  · exact stA_lt _ (h (ce n) (by unfold ce; split <;> omega)).2 0 (by omega)
theorem hx_stretchOfSource {post : Int32 → Prop} {u : SX} {C : Nat} {pl : Nat → Nat} (h : Pl u C pl) (hC : 10 ≤ C) (hC' : C ≤ 36) {n : Nat} (hn : n < C + 2) (K : post (nI (ow pl n))) : wpX_stretchOfSource post u (nI n) := by
  rw [cx_stretchOfSource]
  unfold ow at K
  refine pk_le 6 n (fun h6 => ?_) (fun h6 => ?_)
  · rw [if_neg (by omega)] at K
    have hc : ce n < C := by unfold ce; split <;> omega
    have H32 : kx_stretchOfSource_32 post (nI (ce n)) u := by
      rw [cx_stretchOfSource_32, clI (by omega), (h _ hc).1]
      exact ⟨pk_in (ce n) 64 (by omega), hx_stretchAt (i := 0) (h _ hc).2 (by omega) K⟩
    unfold ce at H32
    refine pk_le 12 n (fun h12 => ?_) (fun h12 => ?_)
    · have e : nI n - 12 + 10 = nI (n - 2) := by
        show nI n - nI 12 + nI 10 = _
        rw [pk_sub h12, nI_add]
        exact congrArg nI (by omega)
      rw [if_neg (by omega)] at H32
      rw [e]; exact H32
    · rw [if_pos h12] at H32
      rw [show nI n - 6 = nI (n - 6) from pk_sub (b := 6) h6]; exact H32
  · rw [if_pos h6] at K
    unfold wpX_standing
    have e : (42 : Int32) + nI n * 7 + 0 = nI (42 + n * 7) := stI 0 n
    rw [e]; exact K
end
section
/-! ===== E: trees ===== -/
def kx_clearTree_36 (post : SX → Prop) (J2 : Int32 → SX → Prop) (x1 : Int32) (x2 : Int32) (x3 : Int32) (z0 : Int32) (z1 : Int32) (z2 : Int32) (u : SX) : Prop := match u with
  | (qf_gates, qf_nodes, qf_joinedSize, qf_cells, qf_chanceState, qf_isBuilt, qf_levels, qa_kinds, qa_firsts, qa_seconds, qa_thirds, qa_nextOf, qa_shownBy, qa_left, qa_right, qa_endOf, qa_cutCount, qa_cutSize, qa_cutLeaf, qa_cutDepth, qa_depthOf, qa_needed, qa_tableOf, qa_rows, qa_joined, qa_tableBits, qa_cellSource, qa_placeOf, qa_cellAt, qa_used, qa_worn, qa_inTree, qa_treeFrom, qa_farness, qa_cameFrom, qa_settled, qa_trackTaken, qa_trackOf, qa_switchBits, qa_pinTrack, qa_outTrack, qa_padTrack, qa_deviceTable, qa_hasFlip, qa_registerPlace, qa_outputPlace, qa_wireRoot, qa_wireLevel, qa_flip, qa_tableOut) => wX_clearTree_36 post (fun x2 a_kinds a_firsts a_seconds a_thirds a_nextOf a_shownBy a_left a_right a_endOf a_cutCount a_cutSize a_cutLeaf a_cutDepth a_depthOf a_needed a_tableOf a_rows a_joined a_tableBits a_cellSource a_placeOf a_cellAt a_used a_worn a_inTree a_treeFrom a_farness a_cameFrom a_settled a_trackTaken a_trackOf a_switchBits a_pinTrack a_outTrack a_padTrack a_deviceTable a_hasFlip a_registerPlace a_outputPlace a_wireRoot a_wireLevel a_flip a_tableOut => J2 x2 (qf_gates, qf_nodes, qf_joinedSize, qf_cells, qf_chanceState, qf_isBuilt, qf_levels, a_kinds, a_firsts, a_seconds, a_thirds, a_nextOf, a_shownBy, a_left, a_right, a_endOf, a_cutCount, a_cutSize, a_cutLeaf, a_cutDepth, a_depthOf, a_needed, a_tableOf, a_rows, a_joined, a_tableBits, a_cellSource, a_placeOf, a_cellAt, a_used, a_worn, a_inTree, a_treeFrom, a_farness, a_cameFrom, a_settled, a_trackTaken, a_trackOf, a_switchBits, a_pinTrack, a_outTrack, a_padTrack, a_deviceTable, a_hasFlip, a_registerPlace, a_outputPlace, a_wireRoot, a_wireLevel, a_flip, a_tableOut)) x1 x2 x3 z0 z1 z2 qf_gates qf_nodes qf_joinedSize qf_cells qf_chanceState qf_isBuilt qf_levels qa_kinds qa_firsts qa_seconds qa_thirds qa_nextOf qa_shownBy qa_left qa_right qa_endOf qa_cutCount qa_cutSize qa_cutLeaf qa_cutDepth qa_depthOf qa_needed qa_tableOf qa_rows qa_joined qa_tableBits qa_cellSource qa_placeOf qa_cellAt qa_used qa_worn qa_inTree qa_treeFrom qa_farness qa_cameFrom qa_settled qa_trackTaken qa_trackOf qa_switchBits qa_pinTrack qa_outTrack qa_padTrack qa_deviceTable qa_hasFlip qa_registerPlace qa_outputPlace qa_wireRoot qa_wireLevel qa_flip qa_tableOut
theorem cx_clearTree_36 (post : SX → Prop) (J2 : Int32 → SX → Prop) (x1 : Int32) (x2 : Int32) (x3 : Int32) (z0 : Int32) (z1 : Int32) (z2 : Int32) (u : SX) : kx_clearTree_36 post J2 x1 x2 x3 z0 z1 z2 u = (vp_in z2 84 ∧ ∀ a_used_7 : Nat → Int32, a_used_7 = upd (ao u 29) z2.toNatClampNeg (z1 - z0) → (vp_in x3 3192 ∧ ∀ a_inTree_9 : Nat → Int32, a_inTree_9 = upd (ao u 31) x3.toNatClampNeg (vp_nar .boolean 0) → (vp_in x3 3192 ∧ ∀ a_treeFrom_11 : Nat → Int32, a_treeFrom_11 = upd (ao u 32) x3.toNatClampNeg (vp_nar .byte (- 1)) → (∀ x2_12 : Int32, x2_12 = x2 + 1 → (J2 x2_12 (sa (sa (sa u 29 a_used_7) 31 a_inTree_9) 32 a_treeFrom_11)))))) := by simp only [n_ffx, n_afx, n_aax, n_fmx, n_amx]; rfl
def kx_clearTree_2 (post : SX → Prop) (x1 : Int32) (n : Nat) (x2 : Int32) (u : SX) : Prop := match u with
  | (qf_gates, qf_nodes, qf_joinedSize, qf_cells, qf_chanceState, qf_isBuilt, qf_levels, qa_kinds, qa_firsts, qa_seconds, qa_thirds, qa_nextOf, qa_shownBy, qa_left, qa_right, qa_endOf, qa_cutCount, qa_cutSize, qa_cutLeaf, qa_cutDepth, qa_depthOf, qa_needed, qa_tableOf, qa_rows, qa_joined, qa_tableBits, qa_cellSource, qa_placeOf, qa_cellAt, qa_used, qa_worn, qa_inTree, qa_treeFrom, qa_farness, qa_cameFrom, qa_settled, qa_trackTaken, qa_trackOf, qa_switchBits, qa_pinTrack, qa_outTrack, qa_padTrack, qa_deviceTable, qa_hasFlip, qa_registerPlace, qa_outputPlace, qa_wireRoot, qa_wireLevel, qa_flip, qa_tableOut) => wX_clearTree_2 post x1 qf_gates qf_nodes qf_joinedSize qf_cells qf_chanceState qf_isBuilt qf_levels n x2 qa_kinds qa_firsts qa_seconds qa_thirds qa_nextOf qa_shownBy qa_left qa_right qa_endOf qa_cutCount qa_cutSize qa_cutLeaf qa_cutDepth qa_depthOf qa_needed qa_tableOf qa_rows qa_joined qa_tableBits qa_cellSource qa_placeOf qa_cellAt qa_used qa_worn qa_inTree qa_treeFrom qa_farness qa_cameFrom qa_settled qa_trackTaken qa_trackOf qa_switchBits qa_pinTrack qa_outTrack qa_padTrack qa_deviceTable qa_hasFlip qa_registerPlace qa_outputPlace qa_wireRoot qa_wireLevel qa_flip qa_tableOut
theorem cx_clearTree_2 (post : SX → Prop) (x1 : Int32) (n : Nat) (x2 : Int32) (u : SX) : kx_clearTree_2 post x1 (n + 1) x2 u = (((84 ≤ x2 → (post u)) ∧ (¬ 84 ≤ x2 → (∀ x3_2 : Int32, x3_2 = (x1 * 84) + x2 → (vp_in x2 84 ∧ (vp_in x3_2 3192 ∧ (((((ao u 31) x3_2.toNatClampNeg) = 0 → (kx_clearTree_36 post (fun y0 s => kx_clearTree_2 post x1 n y0 s) x1 x2 x3_2 0 ((ao u 29) x2.toNatClampNeg) x2 u)) ∧ (¬ ((ao u 31) x3_2.toNatClampNeg) = 0 → (kx_clearTree_36 post (fun y0 s => kx_clearTree_2 post x1 n y0 s) x1 x2 x3_2 1 ((ao u 29) x2.toNatClampNeg) x2 u)))))))))) := rfl
theorem cx_clearTree (post : SX → Prop) (u : SX) (p0 : Int32) : wpX_clearTree post u p0 = (∃ n2 : Nat, kx_clearTree_2 post p0 n2 0 u) := rfl
theorem cx_addToTree (post : SX → Prop) (u : SX) (p0 : Int32) (p1 : Int32) (p2 : Int32) : wpX_addToTree post u p0 p1 p2 = (∀ x4_1 : Int32, x4_1 = (p0 * 84) + p1 → (vp_in x4_1 3192 ∧ ∀ a_inTree_3 : Nat → Int32, a_inTree_3 = upd (ao u 31) x4_1.toNatClampNeg (vp_nar .boolean 1) → (vp_in x4_1 3192 ∧ ∀ a_treeFrom_5 : Nat → Int32, a_treeFrom_5 = upd (ao u 32) x4_1.toNatClampNeg (vp_nar .byte p2.toInt8.toInt32) → (vp_in p1 84 ∧ (vp_in p1 84 ∧ ∀ a_used_8 : Nat → Int32, a_used_8 = upd (ao u 29) p1.toNatClampNeg (((ao u 29) p1.toNatClampNeg) + 1) → (post (sa (sa (sa u 29 a_used_8) 31 a_inTree_3) 32 a_treeFrom_5))))))) := by simp only [n_ffx, n_afx, n_aax, n_fmx, n_amx]; rfl
def pr (s : Nat) : Nat := [0, 0, 1, 2, 3, 4, 42, 43, 44, 45, 46, 47, 49, 50, 51, 52, 53, 54, 56, 57, 58, 59, 60, 61, 63, 64, 65, 66, 67, 68, 70, 71, 72, 73, 74, 75, 77, 78, 79, 80, 81, 82, 0, 0, 1, 2, 3, 4, 5, 42, 43, 44, 45, 46, 47, 48, 49, 50, 51, 52, 53, 54, 55, 56, 57, 58, 59, 60, 61, 62, 63, 64, 65, 66, 67, 68, 69, 70, 71, 72, 73, 74, 75, 76].getD s 0
def ds (s : Nat) : Nat := [0, 1, 2, 3, 4, 5, 2, 2, 3, 4, 5, 6, 3, 3, 4, 5, 6, 7, 4, 4, 5, 6, 7, 8, 5, 5, 6, 7, 8, 9, 6, 6, 7, 8, 9, 10, 7, 7, 8, 9, 10, 11, 1, 1, 2, 3, 4, 5, 6, 2, 2, 3, 4, 5, 6, 7, 3, 3, 4, 5, 6, 7, 8, 4, 4, 5, 6, 7, 8, 9, 5, 5, 6, 7, 8, 9, 10, 6, 6, 7, 8, 9, 10, 11].getD s 0
theorem pr_f : ∀ s, s < 84 → s = 0 ∨ (pr s < 84 ∧ ds (pr s) < ds s ∧ (∃ k, k < 8 ∧ nb s k = pr s + 1) ∧ ∃ k, k < 8 ∧ nb (pr s) k = s + 1) := by decide +kernel
/-- the stretches hang together -/
theorem grid {P : Nat → Prop} (hP : ∀ f, f < 84 → P f → ∀ k, k < 8 → ∀ o, nb f k = o + 1 → P o) {x : Nat} (hx : x < 84) (h : P x) : ∀ y, y < 84 → P y := by
  have down : ∀ d x, ds x ≤ d → x < 84 → P x → P 0 := by
    intro d
    induction d with
    | zero =>
      intro x hd hx h
      rcases pr_f x hx with rfl | ⟨_, h2, _⟩
      · exact h
      · omega
    | succ d ih =>
      intro x hd hx h
      rcases pr_f x hx with rfl | ⟨h1, h2, ⟨k, hk, e⟩, _⟩
      · exact h
      · exact ih (pr x) (by omega) h1 (hP x hx h k hk _ e)
  have h0 := down _ x (Nat.le_refl _) hx h
  have up : ∀ d y, ds y ≤ d → y < 84 → P y := by
    intro d
    induction d with
    | zero =>
      intro y hd hy
      rcases pr_f y hy with rfl | ⟨_, h2, _⟩
      · exact h0
      · omega
    | succ d ih =>
      intro y hd hy
      rcases pr_f y hy with rfl | ⟨h1, h2, _, k, hk, e⟩
      · exact h0
      · exact hP (pr y) h1 (ih (pr y) (by omega) h1) k hk _ e
  exact fun y hy => up _ y (Nat.le_refl _) hy
/-- trees and how much each stretch is used -/
def Us (u : SX) (ib : Nat → Bool) : Prop := (∀ i, i < 3192 → ao u 31 i = bI (ib i)) ∧ ∀ s, s < 84 → ao u 29 s = nI (cn (fun n => ib (84 * n + s)) 38)
theorem Us_fr {M : List Nat} {u v : SX} {ib : Nat → Bool} (h : Us u ib) (hf : fr M u v) (h1 : 31 ∉ M := by decide) (h2 : 29 ∉ M := by decide) : Us v ib := by
  unfold Us
  rw [fr_ao hf 31 h1, fr_ao hf 29 h2]
  exact h
theorem m84 (n s : Nat) : nI n * 84 + nI s = nI (84 * n + s) := by
  show nI n * nI 84 + nI s = _
  rw [pk_mul, nI_add, Nat.mul_comm]
theorem hx_clearTree {post : SX → Prop} {u : SX} {ib : Nat → Bool} (h : Us u ib) {n : Nat} (hn : n < 38)
    (K : ∀ u' ib', fr [29, 31, 32] u u' → Us u' ib' → (∀ i, (i < 84 * n ∨ 84 * n + 84 ≤ i) → ib' i = ib i ∧ ao u' 32 i = ao u 32 i) → (∀ s, s < 84 → ib' (84 * n + s) = false) → post u') : wpX_clearTree post u (nI n) := by
  rw [cx_clearTree]
  refine pk_loop (fun a t s => kx_clearTree_2 post (nI n) a (nI t) s) (fun t s => fr [29, 31, 32] u s ∧ ∃ ib', Us s ib' ∧ (∀ i, (i < 84 * n ∨ 84 * n + 84 ≤ i) → ib' i = ib i ∧ ao s 32 i = ao u 32 i) ∧ ∀ t', t' < t → ib' (84 * n + t') = false) 84 0 u (Nat.zero_le _)
    ⟨fr_rf, ib, h, fun _ _ => ⟨rfl, rfl⟩, fun t ht => by omega⟩ ?_ ?_
  · rintro a s ⟨h1, ib', h2, h3, h4⟩
    show kx_clearTree_2 _ _ _ _ _
    rw [cx_clearTree_2]
    exact pk_le 84 84 (fun _ => K s ib' h1 h2 h3 h4) (fun h => absurd h (by omega))
  · rintro a t s ht ⟨h1, ib', h2, h3, h4⟩ hr
    have hu := h2.2 t ht
    have hcl := cn_le (fun m => ib' (84 * m + t)) 38
    have H36 : ∀ b : Nat, (∀ ib'' : Nat → Bool, (∀ i, ib'' i = if i = 84 * n + t then false else ib' i) → cn (fun m => ib' (84 * m + t)) 38 = cn (fun m => ib'' (84 * m + t)) 38 + b) → kx_clearTree_36 post (fun y0 s => kx_clearTree_2 post (nI n) a y0 s) (nI n) (nI t) (nI (84 * n + t)) (nI b) (nI (cn (fun m => ib' (84 * m + t)) 38)) (nI t) s := by
      intro b hb
      have hb : cn (fun m => ib' (84 * m + t)) 38 = cn (fun m => if 84 * m + t = 84 * n + t then false else ib' (84 * m + t)) 38 + b := hb (fun i => if i = 84 * n + t then false else ib' i) (fun _ => rfl)
      rw [cx_clearTree_36]
      simp only [clI (show t < 2 ^ 31 by omega), clI (show 84 * n + t < 2 ^ 31 by omega), vo_0, vb_m]
      rw [pk_sub (by omega)]
      refine ⟨pk_in t 84 ht, nm_e ⟨pk_in (84 * n + t) 3192 (by omega), nm_e ⟨pk_in (84 * n + t) 3192 (by omega), nm_e (nm_r (nI_1 t) (hr _ ⟨fr_a (fr_a (fr_a h1 (by decide)) (by decide)) (by decide), fun i => if i = 84 * n + t then false else ib' i, ⟨fun i hi => ?_, fun t' ht' => ?_⟩, fun i hi => ?_, fun t' ht' => ?_⟩))⟩⟩⟩
      · show upd (ao s 31) (84 * n + t) 0 i = bI (if i = 84 * n + t then false else ib' i)
        by_cases e : i = 84 * n + t
        · rw [e, u_s, if_pos rfl]; rfl
        · rw [u_n e, if_neg e]; exact h2.1 i hi
      · show upd (ao s 29) t (nI (cn (fun m => ib' (84 * m + t)) 38 - b)) t' = _
        by_cases e : t' = t
        · rw [e, u_s]
          show nI _ = nI (cn (fun m => if 84 * m + t = 84 * n + t then false else ib' (84 * m + t)) 38)
          exact congrArg nI (by omega)
        · rw [u_n e, h2.2 t' ht']
          refine congrArg nI (cn_cg (fun m hm => ?_))
          show _ = if 84 * m + t' = 84 * n + t then false else _
          rw [if_neg (by omega)]
      · show (if i = 84 * n + t then false else ib' i) = ib i ∧ upd (ao s 32) (84 * n + t) _ i = _
        rw [if_neg (by omega), u_n (by omega)]; exact h3 i hi
      · show (if 84 * n + t' = 84 * n + t then false else ib' (84 * n + t')) = false
        by_cases e : t' = t
        · rw [if_pos (by omega)]
        · rw [if_neg (by omega)]; exact h4 t' (by omega)
    show kx_clearTree_2 _ _ _ _ _
    rw [cx_clearTree_2]
    simp only [m84, clI (show t < 2 ^ 31 by omega), hu]
    refine pk_le 84 t (fun h => absurd h (by omega)) (fun _ => nm_e ⟨pk_in t 84 ht, pk_in (84 * n + t) 3192 (by omega), ?_⟩)
    rw [clI (by omega)]
    refine br_b (h2.1 _ (by omega)) (fun e => H36 0 (fun ib'' hi => ?_)) (fun e => H36 1 (fun ib'' hi => ?_))
    · rw [Nat.add_zero]
      refine cn_cg (fun m hm => ?_)
      try dsimp only
      rw [hi]
      by_cases e' : m = n
      · rw [e', if_pos rfl, e]
      · rw [if_neg (by omega)]
    · refine cn_up (p := n) hn ?_ e (fun m hm hne => ?_)
      · try dsimp only
        rw [hi, if_pos rfl]
      · try dsimp only
        rw [hi, if_neg (by omega)]
theorem hx_addToTree {post : SX → Prop} {u : SX} {ib : Nat → Bool} (h : Us u ib) {n s t : Nat} (hn : n < 38) (hs : s < 84) (ht : t < 128) (hno : ib (84 * n + s) = false)
    (K : ∀ u', fr [29, 31, 32] u u' → Us u' (fun i => if i = 84 * n + s then true else ib i) → (∀ i, i ≠ 84 * n + s → ao u' 32 i = ao u 32 i) → ao u' 32 (84 * n + s) = pI t → post u') : wpX_addToTree post u (nI n) (nI s) (pI t) := by
  rw [cx_addToTree]
  simp only [m84, clI (show s < 2 ^ 31 by omega), h.2 s hs, nI_1, vbp ht, vo_1]
  refine nm_e ?_
  rw [clI (by omega)]
  refine ⟨pk_in (84 * n + s) 3192 (by omega), nm_e ⟨pk_in (84 * n + s) 3192 (by omega), nm_e ⟨pk_in s 84 hs, pk_in s 84 hs, nm_e ?_⟩⟩⟩
  refine K _ (fr_a (fr_a (fr_a fr_rf (by decide)) (by decide)) (by decide)) ⟨fun i hi => ?_, fun s' hs' => ?_⟩ (fun i hi => u_n hi) u_s
  · show upd (ao u 31) (84 * n + s) 1 i = bI (if i = 84 * n + s then true else ib i)
    by_cases e : i = 84 * n + s
    · rw [e, u_s, if_pos rfl]; rfl
    · rw [u_n e, if_neg e]; exact h.1 i hi
  · show upd (ao u 29) s _ s' = _
    by_cases e : s' = s
    · subst e
      rw [u_s]
      refine congrArg nI (Eq.symm (cn_up (p := n) hn hno ?_ (fun m hm hne => ?_)))
      · exact if_pos rfl
      · exact if_neg (by omega)
    · rw [u_n e, h.2 s' hs']
      refine congrArg nI (cn_cg (fun m hm => ?_))
      show _ = if 84 * m + s' = 84 * n + s then true else _
      rw [if_neg (by omega)]
end
section
/-! ===== E: the cheapest ways ===== -/
def kx_relax_2 (post : SX → Prop) (x1 : Int32) (n : Nat) (x2 : Int32) (u : SX) : Prop := match u with
  | (qf_gates, qf_nodes, qf_joinedSize, qf_cells, qf_chanceState, qf_isBuilt, qf_levels, qa_kinds, qa_firsts, qa_seconds, qa_thirds, qa_nextOf, qa_shownBy, qa_left, qa_right, qa_endOf, qa_cutCount, qa_cutSize, qa_cutLeaf, qa_cutDepth, qa_depthOf, qa_needed, qa_tableOf, qa_rows, qa_joined, qa_tableBits, qa_cellSource, qa_placeOf, qa_cellAt, qa_used, qa_worn, qa_inTree, qa_treeFrom, qa_farness, qa_cameFrom, qa_settled, qa_trackTaken, qa_trackOf, qa_switchBits, qa_pinTrack, qa_outTrack, qa_padTrack, qa_deviceTable, qa_hasFlip, qa_registerPlace, qa_outputPlace, qa_wireRoot, qa_wireLevel, qa_flip, qa_tableOut) => wX_relax_2 post x1 qf_gates qf_nodes qf_joinedSize qf_cells qf_chanceState qf_isBuilt qf_levels n x2 qa_kinds qa_firsts qa_seconds qa_thirds qa_nextOf qa_shownBy qa_left qa_right qa_endOf qa_cutCount qa_cutSize qa_cutLeaf qa_cutDepth qa_depthOf qa_needed qa_tableOf qa_rows qa_joined qa_tableBits qa_cellSource qa_placeOf qa_cellAt qa_used qa_worn qa_inTree qa_treeFrom qa_farness qa_cameFrom qa_settled qa_trackTaken qa_trackOf qa_switchBits qa_pinTrack qa_outTrack qa_padTrack qa_deviceTable qa_hasFlip qa_registerPlace qa_outputPlace qa_wireRoot qa_wireLevel qa_flip qa_tableOut
theorem cx_relax_2 (post : SX → Prop) (x1 : Int32) (n : Nat) (x2 : Int32) (u : SX) : kx_relax_2 post x1 (n + 1) x2 u = (((8 ≤ x2 → (post u)) ∧ (¬ 8 ≤ x2 → (¬ (4 : Int32) = 0 ∧ (wpX_crossingOf (fun r_3 => (¬ (4 : Int32) = 0 ∧ (wpX_stretchFrom (fun r_5 => (((r_5 < 0 → (∀ x2_7 : Int32, x2_7 = x2 + 1 → (kx_relax_2 post x1 n x2_7 u))) ∧ (¬ r_5 < 0 → (((r_5 = x1 → (∀ x2_9 : Int32, x2_9 = x2 + 1 → (kx_relax_2 post x1 n x2_9 u))) ∧ (¬ r_5 = x1 → (vp_in x1 84 ∧ (vp_in r_5 84 ∧ (vp_in r_5 84 ∧ (∀ x5_13 : Int32, x5_13 = ((((ao u 33) x1.toNatClampNeg) + 1) + ((ao u 30) r_5.toNatClampNeg)) + (2 * ((ao u 29) r_5.toNatClampNeg)) → (vp_in r_5 84 ∧ (((((ao u 33) r_5.toNatClampNeg) ≤ x5_13 → (∀ x2_16 : Int32, x2_16 = x2 + 1 → (kx_relax_2 post x1 n x2_16 u))) ∧ (¬ ((ao u 33) r_5.toNatClampNeg) ≤ x5_13 → (vp_in r_5 84 ∧ ∀ a_farness_18 : Nat → Int32, a_farness_18 = upd (ao u 33) r_5.toNatClampNeg x5_13 → (vp_in r_5 84 ∧ ∀ a_cameFrom_20 : Nat → Int32, a_cameFrom_20 = upd (ao u 34) r_5.toNatClampNeg (vp_nar .byte x1.toInt8.toInt32) → (∀ x2_21 : Int32, x2_21 = x2 + 1 → (kx_relax_2 post x1 n x2_21 (sa (sa u 33 a_farness_18) 34 a_cameFrom_20)))))))))))))))))))) r_3 (x2 - x2 / 4 * 4)))) x1 (x2 / 4)))))) := by simp only [n_ffx, n_afx, n_aax, n_fmx, n_amx]; rfl
theorem cx_relax (post : SX → Prop) (u : SX) (p0 : Int32) : wpX_relax post u p0 = (∃ n2 : Nat, kx_relax_2 post p0 n2 0 u) := rfl
def kx_measure_68 (post : SX → Prop) (J57 : Int32 → SX → Prop) (x2 : Int32) (n : Nat) (x3 : Int32) (x4 : Int32) (u : SX) : Prop := match u with
  | (qf_gates, qf_nodes, qf_joinedSize, qf_cells, qf_chanceState, qf_isBuilt, qf_levels, qa_kinds, qa_firsts, qa_seconds, qa_thirds, qa_nextOf, qa_shownBy, qa_left, qa_right, qa_endOf, qa_cutCount, qa_cutSize, qa_cutLeaf, qa_cutDepth, qa_depthOf, qa_needed, qa_tableOf, qa_rows, qa_joined, qa_tableBits, qa_cellSource, qa_placeOf, qa_cellAt, qa_used, qa_worn, qa_inTree, qa_treeFrom, qa_farness, qa_cameFrom, qa_settled, qa_trackTaken, qa_trackOf, qa_switchBits, qa_pinTrack, qa_outTrack, qa_padTrack, qa_deviceTable, qa_hasFlip, qa_registerPlace, qa_outputPlace, qa_wireRoot, qa_wireLevel, qa_flip, qa_tableOut) => wX_measure_68 post (fun x2 f_gates f_nodes f_joinedSize f_cells f_chanceState f_isBuilt f_levels a_kinds a_firsts a_seconds a_thirds a_nextOf a_shownBy a_left a_right a_endOf a_cutCount a_cutSize a_cutLeaf a_cutDepth a_depthOf a_needed a_tableOf a_rows a_joined a_tableBits a_cellSource a_placeOf a_cellAt a_used a_worn a_inTree a_treeFrom a_farness a_cameFrom a_settled a_trackTaken a_trackOf a_switchBits a_pinTrack a_outTrack a_padTrack a_deviceTable a_hasFlip a_registerPlace a_outputPlace a_wireRoot a_wireLevel a_flip a_tableOut => J57 x2 (f_gates, f_nodes, f_joinedSize, f_cells, f_chanceState, f_isBuilt, f_levels, a_kinds, a_firsts, a_seconds, a_thirds, a_nextOf, a_shownBy, a_left, a_right, a_endOf, a_cutCount, a_cutSize, a_cutLeaf, a_cutDepth, a_depthOf, a_needed, a_tableOf, a_rows, a_joined, a_tableBits, a_cellSource, a_placeOf, a_cellAt, a_used, a_worn, a_inTree, a_treeFrom, a_farness, a_cameFrom, a_settled, a_trackTaken, a_trackOf, a_switchBits, a_pinTrack, a_outTrack, a_padTrack, a_deviceTable, a_hasFlip, a_registerPlace, a_outputPlace, a_wireRoot, a_wireLevel, a_flip, a_tableOut)) x2 qf_gates qf_nodes qf_joinedSize qf_cells qf_chanceState qf_isBuilt qf_levels qa_kinds qa_firsts qa_seconds qa_thirds qa_nextOf qa_shownBy qa_left qa_right qa_endOf qa_cutCount qa_cutSize qa_cutLeaf qa_cutDepth qa_depthOf qa_needed qa_tableOf qa_rows qa_joined qa_tableBits qa_cellSource qa_placeOf qa_cellAt qa_used qa_worn qa_inTree qa_treeFrom qa_farness qa_cameFrom qa_settled qa_trackTaken qa_trackOf qa_switchBits qa_pinTrack qa_outTrack qa_padTrack qa_deviceTable qa_hasFlip qa_registerPlace qa_outputPlace qa_wireRoot qa_wireLevel qa_flip qa_tableOut n x3 x4
theorem cx_measure_68 (post : SX → Prop) (J57 : Int32 → SX → Prop) (x2 : Int32) (n : Nat) (x3 : Int32) (x4 : Int32) (u : SX) : kx_measure_68 post J57 x2 (n + 1) x3 x4 u = (((84 ≤ x4 → (vp_in x3 84 ∧ ∀ a_settled_5 : Nat → Int32, a_settled_5 = upd (ao u 35) x3.toNatClampNeg (vp_nar .boolean 1) → (wpX_relax (fun u1 => (∀ x2_57 : Int32, x2_57 = x2 + 1 → (J57 x2_57 u1))) (sa u 35 a_settled_5) x3))) ∧ (¬ 84 ≤ x4 → (vp_in x4 84 ∧ (((((ao u 35) x4.toNatClampNeg) = 0 → (((x3 < 0 → (∀ x4_62 : Int32, x4_62 = x4 + 1 → (kx_measure_68 post J57 x2 n x4 x4_62 u))) ∧ (¬ x3 < 0 → (vp_in x4 84 ∧ (vp_in x3 84 ∧ (((((ao u 33) x3.toNatClampNeg) ≤ ((ao u 33) x4.toNatClampNeg) → (∀ x4_66 : Int32, x4_66 = x4 + 1 → (kx_measure_68 post J57 x2 n x3 x4_66 u))) ∧ (¬ ((ao u 33) x3.toNatClampNeg) ≤ ((ao u 33) x4.toNatClampNeg) → (∀ x4_67 : Int32, x4_67 = x4 + 1 → (kx_measure_68 post J57 x2 n x4 x4_67 u))))))))))) ∧ (¬ ((ao u 35) x4.toNatClampNeg) = 0 → (∀ x4_60 : Int32, x4_60 = x4 + 1 → (kx_measure_68 post J57 x2 n x3 x4_60 u))))))))) := rfl
def kx_measure_57 (post : SX → Prop) (n : Nat) (x2 : Int32) (u : SX) : Prop := match u with
  | (qf_gates, qf_nodes, qf_joinedSize, qf_cells, qf_chanceState, qf_isBuilt, qf_levels, qa_kinds, qa_firsts, qa_seconds, qa_thirds, qa_nextOf, qa_shownBy, qa_left, qa_right, qa_endOf, qa_cutCount, qa_cutSize, qa_cutLeaf, qa_cutDepth, qa_depthOf, qa_needed, qa_tableOf, qa_rows, qa_joined, qa_tableBits, qa_cellSource, qa_placeOf, qa_cellAt, qa_used, qa_worn, qa_inTree, qa_treeFrom, qa_farness, qa_cameFrom, qa_settled, qa_trackTaken, qa_trackOf, qa_switchBits, qa_pinTrack, qa_outTrack, qa_padTrack, qa_deviceTable, qa_hasFlip, qa_registerPlace, qa_outputPlace, qa_wireRoot, qa_wireLevel, qa_flip, qa_tableOut) => wX_measure_57 post n x2 qf_gates qf_nodes qf_joinedSize qf_cells qf_chanceState qf_isBuilt qf_levels qa_kinds qa_firsts qa_seconds qa_thirds qa_nextOf qa_shownBy qa_left qa_right qa_endOf qa_cutCount qa_cutSize qa_cutLeaf qa_cutDepth qa_depthOf qa_needed qa_tableOf qa_rows qa_joined qa_tableBits qa_cellSource qa_placeOf qa_cellAt qa_used qa_worn qa_inTree qa_treeFrom qa_farness qa_cameFrom qa_settled qa_trackTaken qa_trackOf qa_switchBits qa_pinTrack qa_outTrack qa_padTrack qa_deviceTable qa_hasFlip qa_registerPlace qa_outputPlace qa_wireRoot qa_wireLevel qa_flip qa_tableOut
theorem cx_measure_57 (post : SX → Prop) (n : Nat) (x2 : Int32) (u : SX) : kx_measure_57 post (n + 1) x2 u = (((84 ≤ x2 → (post u)) ∧ (¬ 84 ≤ x2 → (∃ n68 : Nat, kx_measure_68 post (fun y0 s => kx_measure_57 post n y0 s) x2 n68 (- 1) 0 u)))) := rfl
def kx_measure_34 (post : SX → Prop) (J2 : Int32 → SX → Prop) (x1 : Int32) (x2 : Int32) (z0 : Int32) (z1 : Int32) (u : SX) : Prop := match u with
  | (qf_gates, qf_nodes, qf_joinedSize, qf_cells, qf_chanceState, qf_isBuilt, qf_levels, qa_kinds, qa_firsts, qa_seconds, qa_thirds, qa_nextOf, qa_shownBy, qa_left, qa_right, qa_endOf, qa_cutCount, qa_cutSize, qa_cutLeaf, qa_cutDepth, qa_depthOf, qa_needed, qa_tableOf, qa_rows, qa_joined, qa_tableBits, qa_cellSource, qa_placeOf, qa_cellAt, qa_used, qa_worn, qa_inTree, qa_treeFrom, qa_farness, qa_cameFrom, qa_settled, qa_trackTaken, qa_trackOf, qa_switchBits, qa_pinTrack, qa_outTrack, qa_padTrack, qa_deviceTable, qa_hasFlip, qa_registerPlace, qa_outputPlace, qa_wireRoot, qa_wireLevel, qa_flip, qa_tableOut) => wX_measure_34 post (fun x2 a_kinds a_firsts a_seconds a_thirds a_nextOf a_shownBy a_left a_right a_endOf a_cutCount a_cutSize a_cutLeaf a_cutDepth a_depthOf a_needed a_tableOf a_rows a_joined a_tableBits a_cellSource a_placeOf a_cellAt a_used a_worn a_inTree a_treeFrom a_farness a_cameFrom a_settled a_trackTaken a_trackOf a_switchBits a_pinTrack a_outTrack a_padTrack a_deviceTable a_hasFlip a_registerPlace a_outputPlace a_wireRoot a_wireLevel a_flip a_tableOut => J2 x2 (qf_gates, qf_nodes, qf_joinedSize, qf_cells, qf_chanceState, qf_isBuilt, qf_levels, a_kinds, a_firsts, a_seconds, a_thirds, a_nextOf, a_shownBy, a_left, a_right, a_endOf, a_cutCount, a_cutSize, a_cutLeaf, a_cutDepth, a_depthOf, a_needed, a_tableOf, a_rows, a_joined, a_tableBits, a_cellSource, a_placeOf, a_cellAt, a_used, a_worn, a_inTree, a_treeFrom, a_farness, a_cameFrom, a_settled, a_trackTaken, a_trackOf, a_switchBits, a_pinTrack, a_outTrack, a_padTrack, a_deviceTable, a_hasFlip, a_registerPlace, a_outputPlace, a_wireRoot, a_wireLevel, a_flip, a_tableOut)) x1 x2 z0 z1 qf_gates qf_nodes qf_joinedSize qf_cells qf_chanceState qf_isBuilt qf_levels qa_kinds qa_firsts qa_seconds qa_thirds qa_nextOf qa_shownBy qa_left qa_right qa_endOf qa_cutCount qa_cutSize qa_cutLeaf qa_cutDepth qa_depthOf qa_needed qa_tableOf qa_rows qa_joined qa_tableBits qa_cellSource qa_placeOf qa_cellAt qa_used qa_worn qa_inTree qa_treeFrom qa_farness qa_cameFrom qa_settled qa_trackTaken qa_trackOf qa_switchBits qa_pinTrack qa_outTrack qa_padTrack qa_deviceTable qa_hasFlip qa_registerPlace qa_outputPlace qa_wireRoot qa_wireLevel qa_flip qa_tableOut
theorem cx_measure_34 (post : SX → Prop) (J2 : Int32 → SX → Prop) (x1 : Int32) (x2 : Int32) (z0 : Int32) (z1 : Int32) (u : SX) : kx_measure_34 post J2 x1 x2 z0 z1 u = (vp_in z1 84 ∧ ∀ a_farness_71 : Nat → Int32, a_farness_71 = upd (ao u 33) z1.toNatClampNeg z0 → (vp_in x2 84 ∧ ∀ a_cameFrom_73 : Nat → Int32, a_cameFrom_73 = upd (ao u 34) x2.toNatClampNeg (vp_nar .byte (- 1)) → (vp_in x2 84 ∧ ∀ a_settled_75 : Nat → Int32, a_settled_75 = upd (ao u 35) x2.toNatClampNeg (vp_nar .boolean 0) → (∀ x2_76 : Int32, x2_76 = x2 + 1 → (J2 x2_76 (sa (sa (sa u 33 a_farness_71) 34 a_cameFrom_73) 35 a_settled_75)))))) := by simp only [n_ffx, n_afx, n_aax, n_fmx, n_amx]; rfl
def kx_measure_2 (post : SX → Prop) (x1 : Int32) (n : Nat) (x2 : Int32) (u : SX) : Prop := match u with
  | (qf_gates, qf_nodes, qf_joinedSize, qf_cells, qf_chanceState, qf_isBuilt, qf_levels, qa_kinds, qa_firsts, qa_seconds, qa_thirds, qa_nextOf, qa_shownBy, qa_left, qa_right, qa_endOf, qa_cutCount, qa_cutSize, qa_cutLeaf, qa_cutDepth, qa_depthOf, qa_needed, qa_tableOf, qa_rows, qa_joined, qa_tableBits, qa_cellSource, qa_placeOf, qa_cellAt, qa_used, qa_worn, qa_inTree, qa_treeFrom, qa_farness, qa_cameFrom, qa_settled, qa_trackTaken, qa_trackOf, qa_switchBits, qa_pinTrack, qa_outTrack, qa_padTrack, qa_deviceTable, qa_hasFlip, qa_registerPlace, qa_outputPlace, qa_wireRoot, qa_wireLevel, qa_flip, qa_tableOut) => wX_measure_2 post x1 qf_gates qf_nodes qf_joinedSize qf_cells qf_chanceState qf_isBuilt qf_levels n x2 qa_kinds qa_firsts qa_seconds qa_thirds qa_nextOf qa_shownBy qa_left qa_right qa_endOf qa_cutCount qa_cutSize qa_cutLeaf qa_cutDepth qa_depthOf qa_needed qa_tableOf qa_rows qa_joined qa_tableBits qa_cellSource qa_placeOf qa_cellAt qa_used qa_worn qa_inTree qa_treeFrom qa_farness qa_cameFrom qa_settled qa_trackTaken qa_trackOf qa_switchBits qa_pinTrack qa_outTrack qa_padTrack qa_deviceTable qa_hasFlip qa_registerPlace qa_outputPlace qa_wireRoot qa_wireLevel qa_flip qa_tableOut
theorem cx_measure_2 (post : SX → Prop) (x1 : Int32) (n : Nat) (x2 : Int32) (u : SX) : kx_measure_2 post x1 (n + 1) x2 u = (((84 ≤ x2 → (∃ n57 : Nat, kx_measure_57 post n57 0 u)) ∧ (¬ 84 ≤ x2 → (vp_in ((x1 * 84) + x2) 3192 ∧ (((((ao u 31) ((x1 * 84) + x2).toNatClampNeg) = 0 → (kx_measure_34 post (fun y0 s => kx_measure_2 post x1 n y0 s) x1 x2 1048576 x2 u)) ∧ (¬ ((ao u 31) ((x1 * 84) + x2).toNatClampNeg) = 0 → (kx_measure_34 post (fun y0 s => kx_measure_2 post x1 n y0 s) x1 x2 0 x2 u)))))))) := rfl
theorem cx_measure (post : SX → Prop) (u : SX) (p0 : Int32) : wpX_measure post u p0 = (∃ n2 : Nat, kx_measure_2 post p0 n2 0 u) := rfl
theorem rem4b {j : Nat} (h : j < 2 ^ 31) : nI j - nI (j / 4) * 4 = nI (j % 4) := by rw [← div4 h]; exact rem4 h
def Mc (n : Nat) (ib : Nat → Bool) (s : SX) (fa cf : Nat → Nat) (B : Nat) : Prop := (∀ x, x < 84 → ao s 33 x = nI (fa x) ∧ ao s 34 x = pI (cf x) ∧ cf x ≤ 84) ∧ (∀ x, x < 84 → ib (84 * n + x) = true → fa x = 0) ∧
  (∀ x, x < 84 → cf x = 0 → ib (84 * n + x) = true ∨ fa x = 1048576) ∧ (∀ x f, x < 84 → cf x = f + 1 → f < 84 ∧ adj x f ∧ fa f < fa x) ∧ ∀ x, x < 84 → fa x = 1048576 ∨ fa x ≤ B
def Wo (u : SX) (B : Nat) : Prop := ∀ s, s < 84 → ∃ w, ao u 30 s = nI w ∧ w ≤ B
theorem Wo_fr {M : List Nat} {u v : SX} {B : Nat} (h : Wo u B) (hf : fr M u v) (h1 : 30 ∉ M := by decide) : Wo v B := by
  unfold Wo
  rw [fr_ao hf 30 h1]
  exact h
theorem hx_relax {post : SX → Prop} {u : SX} {n : Nat} {ib : Nat → Bool} (hU : Us u ib) (hW : Wo u 102) {fa cf : Nat → Nat} {r f : Nat} (hM : Mc n ib u fa cf (179 * r)) (hr84 : r < 84) (hf : f < 84) (hff : fa f < 1048576)
    (K : ∀ u' fa' cf', fr [33, 34] u u' → Mc n ib u' fa' cf' (179 * (r + 1)) → (∀ x, fa' x ≤ fa x) → (∀ k, k < 8 → ∀ o, nb f k = o + 1 → fa' o < 1048576) → post u') : wpX_relax post u (nI f) := by
  have hfb : fa f ≤ 179 * r := by rcases hM.2.2.2.2 f hf with h | h <;> omega
  rw [cx_relax]
  refine pk_loop (fun a k s => kx_relax_2 post (nI f) a (nI k) s) (fun k s => fr [33, 34] u s ∧ ∃ fa' cf', Mc n ib s fa' cf' (179 * (r + 1)) ∧ (∀ x, fa' x ≤ fa x) ∧ fa' f = fa f ∧ ∀ k', k' < k → ∀ o, nb f k' = o + 1 → fa' o < 1048576) 8 0 u (Nat.zero_le _)
    ⟨fr_rf, fa, cf, ⟨hM.1, hM.2.1, hM.2.2.1, hM.2.2.2.1, fun x hx => by rcases hM.2.2.2.2 x hx with h | h <;> omega⟩, fun _ => Nat.le_refl _, rfl, fun k hk => by omega⟩ ?_ ?_
  · rintro a s ⟨h1, fa', cf', h2, h3, h4, h5⟩
    show kx_relax_2 _ _ _ _ _
    rw [cx_relax_2]
    exact pk_le 8 8 (fun _ => K s fa' cf' h1 h2 h3 h5) (fun h => absurd h (by omega))
  · rintro a k s hk ⟨h1, fa', cf', h2, h3, h4, h5⟩ hr
    have hnb := nb_lt hf hk
    have skip : (∀ o, nb f k = o + 1 → fa' o < 1048576) → kx_relax_2 post (nI f) a (nI (k + 1)) s := by
      intro ho
      refine hr s ⟨h1, fa', cf', h2, h3, h4, fun k' hk' o e => ?_⟩
      by_cases ek : k' = k
      · rw [ek] at e; exact ho o e
      · exact h5 k' (by omega) o e
    show kx_relax_2 _ _ _ _ _
    rw [cx_relax_2]
    simp only [rem4b (show k < 2 ^ 31 by omega), div4 (show k < 2 ^ 31 by omega)]
    refine pk_le 8 k (fun h => absurd h (by omega)) (fun _ => ⟨by decide, hx_crossingOf hf (by omega) ⟨by decide, hx_stretchFrom (cro_lt f hf _ (by omega)) (by omega) ?_⟩⟩)
    rw [show sfr (cro f (k / 4)) (k % 4) = nb f k from rfl]
    refine br_p rfl (by omega) (fun e => nm_r (nI_1 k) (skip (fun o eo => by omega))) (fun o eo ep => ?_)
    rw [ep]
    refine pk_eq o f (fun e => nm_r (nI_1 k) (skip (fun o' eo' => ?_))) (fun hne => ?_)
    · rw [show o' = f from by omega, h4]; exact hff
    obtain ⟨w, hw1, hw2⟩ := hW o (by omega)
    have hcl := cn_le (fun n => ib (84 * n + o)) 38
    have ho := h2.1 o (by omega)
    have hf' := h2.1 f hf
    have hob := h2.2.2.2.2 o (by omega)
    simp only [clI (show f < 2 ^ 31 by omega), clI (show o < 2 ^ 31 by omega), hf'.1, ho.1, fr_ao h1 30, fr_ao h1 29, hw1, hU.2 o (by omega), vby (show f < 128 by omega)]
    refine ⟨pk_in f 84 hf, pk_in o 84 (by omega), pk_in o 84 (by omega), nm_r (e' := nI (fa' f + 1 + w + 2 * cn (fun n => ib (84 * n + o)) 38)) ?_ ⟨pk_in o 84 (by omega), pk_le (fa' o) (fa' f + 1 + w + 2 * cn (fun n => ib (84 * n + o)) 38) (fun h => nm_r (nI_1 k) (skip (fun o' eo' => ?_))) (fun h => ⟨pk_in o 84 (by omega), nm_e ⟨pk_in o 84 (by omega), nm_e (nm_r (nI_1 k) (hr _ ?_))⟩⟩)⟩⟩
    · show nI (fa' f) + 1 + nI w + nI 2 * nI _ = _
      rw [nI_1, nI_add, pk_mul, nI_add]
    · rw [show o' = o from by omega]; omega
    · have hle : ∀ x, (if x = o then fa' f + 1 + w + 2 * cn (fun n => ib (84 * n + o)) 38 else fa' x) ≤ fa' x := by
        intro x
        split
        · next e => rw [e]; omega
        · exact Nat.le_refl _
      refine ⟨fr_a (fr_a h1 (by decide)) (by decide), fun x => if x = o then fa' f + 1 + w + 2 * cn (fun n => ib (84 * n + o)) 38 else fa' x, fun x => if x = o then f + 1 else cf' x, ⟨fun x hx => ?_, fun x hx hx' => ?_, fun x hx hx' => ?_, fun x g hx hx' => ?_, fun x hx => ?_⟩, fun x => Nat.le_trans (hle x) (h3 x), ?_, fun k' hk' o' eo' => ?_⟩
      · show upd (ao s 33) o _ x = nI (if x = o then _ else fa' x) ∧ upd (ao s 34) o _ x = pI (if x = o then f + 1 else cf' x) ∧ (if x = o then f + 1 else cf' x) ≤ 84
        by_cases e : x = o
        · rw [e, u_s, u_s, if_pos rfl, if_pos rfl, pI_s]
          exact ⟨rfl, rfl, by omega⟩
        · rw [u_n e, u_n e, if_neg e, if_neg e]; exact h2.1 x hx
      · have hz := h2.2.1 x hx hx'
        have := hle x
        try dsimp only
        omega
      · dsimp only at hx' ⊢
        by_cases e : x = o
        · rw [if_pos e] at hx'; omega
        · rw [if_neg e] at hx' ⊢; exact h2.2.2.1 x hx hx'
      · dsimp only at hx' ⊢
        by_cases e : x = o
        · rw [if_pos e] at hx' ⊢
          have : g = f := by omega
          subst this
          rw [if_neg (fun z => hne z.symm), e]
          exact ⟨hf, ⟨hne, k, hk, eo⟩, by omega⟩
        · rw [if_neg e] at hx' ⊢
          have hg := h2.2.2.2.1 x g hx hx'
          exact ⟨hg.1, hg.2.1, Nat.lt_of_le_of_lt (hle g) hg.2.2⟩
      · try dsimp only
        by_cases e : x = o
        · rw [if_pos e]; right; omega
        · rw [if_neg e]; exact h2.2.2.2.2 x hx
      · show (if f = o then _ else fa' f) = _
        rw [if_neg (fun z => hne z.symm)]; exact h4
      · by_cases ek : k' = k
        · rw [ek] at eo'
          rw [show o' = o from by omega]
          dsimp only
          rw [if_pos rfl]; omega
        · exact Nat.lt_of_le_of_lt (hle o') (h5 k' (by omega) o' eo')
theorem hx_me68 {post : SX → Prop} {J : Int32 → SX → Prop} {x2 : Int32} {u : SX} {fa : Nat → Nat} {st : Nat → Bool} (hfa : ∀ x, x < 84 → ao u 33 x = nI (fa x) ∧ fa x ≤ 1048576) (hst : ∀ x, x < 84 → ao u 35 x = bI (st x)) (hex : ∃ x, x < 84 ∧ st x = false)
    (K : ∀ m, m < 84 → st m = false → (∀ j, j < 84 → st j = false → fa m ≤ fa j) → wpX_relax (fun u1 => ∀ y : Int32, y = x2 + 1 → J y u1) (sa u 35 (upd (ao u 35) m (vp_nar .boolean 1))) (nI m)) : ∃ a, kx_measure_68 post J x2 a (-1) 0 u := by
  refine lp2 (fun a (ne i : Nat) => kx_measure_68 post J x2 a (pI ne) (nI i) u) (fun ne i => i ≤ 84 ∧ (ne = 0 → ∀ j, j < i → st j = true) ∧ ∀ m, ne = m + 1 → m < i ∧ st m = false ∧ ∀ j, j < i → st j = false → fa m ≤ fa j) (fun _ i => 84 - i) ?_ 0 0 ⟨Nat.zero_le _, fun _ j hj => by omega, fun m hm => by omega⟩
  rintro a ne i ⟨hi, h1, h2⟩ hr
  show kx_measure_68 _ _ _ _ _ _ _
  rw [cx_measure_68]
  refine pk_le 84 i (fun h => ?_) (fun h => ?_)
  · cases ne with
    | zero =>
      obtain ⟨x, hx, e⟩ := hex
      rw [h1 rfl x (by omega)] at e
      exact absurd e (by decide)
    | succ m =>
      obtain ⟨a1, a2, a3⟩ := h2 m rfl
      rw [pI_s, clI (by omega)]
      exact ⟨pk_in m 84 (by omega), nm_e (K m (by omega) a2 (fun j hj => a3 j (by omega)))⟩
  · have take : st i = false → (∀ m, ne = m + 1 → fa i ≤ fa m) → kx_measure_68 post J x2 a (nI i) (nI (i + 1)) u := by
      intro hsi hm
      rw [← pI_s i]
      refine hr (i + 1) (i + 1) ⟨by omega, fun z => by omega, fun m em => ?_⟩ (by omega)
      have : m = i := by omega
      subst this
      refine ⟨by omega, hsi, fun j hj hsj => ?_⟩
      by_cases e : j = m
      · rw [e]; exact Nat.le_refl _
      · cases ne with
        | zero => rw [h1 rfl j (by omega)] at hsj; exact absurd hsj (by decide)
        | succ q =>
          have := (h2 q rfl).2.2 j (by omega) hsj
          have := hm q rfl
          omega
    rw [clI (by omega)]
    have hne : ne < 2 ^ 31 := by
      cases ne with
      | zero => omega
      | succ m => have := (h2 m rfl).1; omega
    refine ⟨pk_in i 84 h, br_b (hst i h) (fun e => br_p rfl hne (fun e0 => nm_r (nI_1 i) (take e (fun m em => by omega))) (fun m em ep => ?_)) (fun e => nm_r (nI_1 i) (hr ne (i + 1) ⟨by omega, fun z j hj => ?_, fun m em => ?_⟩ (by omega)))⟩
    · obtain ⟨a1, a2, a3⟩ := h2 m em
      have f1 := hfa m (by omega)
      have f2 := hfa i h
      rw [ep, clI (by omega), f1.1, f2.1]
      refine ⟨pk_in i 84 h, pk_in m 84 (by omega), pk_le (fa m) (fa i) (fun hle => nm_r (nI_1 i) ?_) (fun hlt => nm_r (nI_1 i) (take e (fun m' em' => ?_)))⟩
      · rw [← ep]
        refine hr ne (i + 1) ⟨by omega, fun z => by omega, fun m' em' => ?_⟩ (by omega)
        have : m' = m := by omega
        subst this
        refine ⟨by omega, a2, fun j hj hsj => ?_⟩
        by_cases ej : j = i
        · rw [ej]; exact hle
        · exact a3 j (by omega) hsj
      · rw [show m' = m from by omega]; omega
    · by_cases ej : j = i
      · rw [ej]; exact e
      · exact h1 z j (by omega)
    · obtain ⟨a1, a2, a3⟩ := h2 m em
      refine ⟨by omega, a2, fun j hj hsj => ?_⟩
      by_cases ej : j = i
      · rw [ej, e] at hsj; exact absurd hsj (by decide)
      · exact a3 j (by omega) hsj
theorem hx_me57 {post : SX → Prop} {u u0 : SX} {n : Nat} {ib : Nat → Bool} (hU : Us u ib) (hW : Wo u 102) (hex : ∃ x, x < 84 ∧ ib (84 * n + x) = true) (hf0 : fr [33, 34, 35] u u0)
    {fa cf : Nat → Nat} (hM : Mc n ib u0 fa cf 0) (hst : ∀ x, x < 84 → ao u0 35 x = bI false)
    (K : ∀ u' (fa : Nat → Nat), fr [33, 34, 35] u u' → (∀ x, x < 84 → ib (84 * n + x) = false → ∃ f, f < 84 ∧ ao u' 34 x = nI f ∧ adj x f ∧ fa f < fa x) → post u') : ∃ a, kx_measure_57 post a 0 u0 := by
  refine pk_loop (fun a r s => kx_measure_57 post a (nI r) s) (fun r s => fr [33, 34, 35] u s ∧ ∃ fa cf st, Mc n ib s fa cf (179 * r) ∧ (∀ x, x < 84 → ao s 35 x = bI (st x)) ∧ cn st 84 = r ∧ (∀ x, x < 84 → st x = true → fa x < 1048576) ∧ ∀ x, x < 84 → st x = true → ∀ k, k < 8 → ∀ o, nb x k = o + 1 → fa o < 1048576) 84 0 u0 (Nat.zero_le _)
    ⟨hf0, fa, cf, fun _ => false, hM, hst, cn_0 (fun _ _ => rfl), fun x _ h => (Bool.false_ne_true h).elim, fun x _ h => (Bool.false_ne_true h).elim⟩ ?_ ?_
  · rintro a s ⟨h1, fa, cf, st, h2, h3, h4, h5, h6⟩
    show kx_measure_57 _ _ _ _
    rw [cx_measure_57]
    refine pk_le 84 84 (fun _ => K s fa h1 (fun x hx hno => ?_)) (fun h => absurd h (by omega))
    have hfx := h5 x hx (cn_all h4 x hx)
    have hcx := h2.1 x hx
    cases hc : cf x with
    | zero =>
      rcases h2.2.2.1 x hx hc with e | e
      · rw [hno] at e; exact absurd e (by decide)
      · omega
    | succ f =>
      have hg := h2.2.2.2.1 x f hx hc
      exact ⟨f, hg.1, by rw [hcx.2.1, hc, pI_s], hg.2.1, hg.2.2⟩
  · rintro a r s hr84 ⟨h1, fa, cf, st, h2, h3, h4, h5, h6⟩ hr
    show kx_measure_57 _ _ _ _
    rw [cx_measure_57]
    refine pk_le 84 r (fun h => absurd h (by omega)) (fun _ => ?_)
    refine hx_me68 (fa := fa) (st := st) (fun x hx => ⟨(h2.1 x hx).1, by rcases h2.2.2.2.2 x hx with h | h <;> omega⟩) h3 (cn_ex (by omega)) (fun m hm hsm hmin => ?_)
    have hfm : fa m < 1048576 := by
      rcases h2.2.2.2.2 m hm with hF | hB
      · exfalso
        obtain ⟨x0, hx0, ex0⟩ := hex
        have hall := grid (P := fun x => fa x < 1048576) (fun f hf hPf k hk o eo => by
          cases hs : st f with
          | false => have := hmin f hf hs; omega
          | true => exact h6 f hf hs k hk o eo) hx0 (by show fa x0 < 1048576; rw [h2.2.1 x0 hx0 ex0]; omega) m hm
        omega
      · omega
    have g1 : fr [33, 34, 35] u (sa s 35 (upd (ao s 35) m (vp_nar .boolean 1))) := fr_a h1 (by decide)
    have h2' : Mc n ib (sa s 35 (upd (ao s 35) m (vp_nar .boolean 1))) fa cf (179 * r) := h2
    refine hx_relax (Us_fr hU g1) (Wo_fr hW g1) h2' hr84 hm hfm (fun u1 fa' cf' f1 f2 f3 f4 => ?_)
    refine nm_r (nI_1 r) (hr u1 ⟨fr_tr g1 (fr_mn f1 (by decide)), fa', cf', fun x => if x = m then true else st x, f2, fun x hx => ?_, ?_, fun x hx hs => ?_, fun x hx hs k hk o eo => ?_⟩)
    · rw [fr_ao f1 35]
      show upd (ao s 35) m _ x = bI (if x = m then true else st x)
      by_cases e : x = m
      · rw [e, u_s, if_pos rfl]; rfl
      · rw [u_n e, if_neg e]; exact h3 x hx
    · rw [← h4]
      exact cn_up hm hsm (if_pos rfl) (fun i hi hne => if_neg hne)
    · by_cases e : x = m
      · rw [e]; exact Nat.lt_of_le_of_lt (f3 m) hfm
      · dsimp only at hs
        rw [if_neg e] at hs
        exact Nat.lt_of_le_of_lt (f3 x) (h5 x hx hs)
    · by_cases e : x = m
      · rw [e] at eo; exact f4 k hk o eo
      · dsimp only at hs
        rw [if_neg e] at hs
        exact Nat.lt_of_le_of_lt (f3 o) (h6 x hx hs k hk o eo)
theorem hx_measure {post : SX → Prop} {u : SX} {n : Nat} {ib : Nat → Bool} (hn : n < 38) (hU : Us u ib) (hW : Wo u 102) (hex : ∃ x, x < 84 ∧ ib (84 * n + x) = true)
    (K : ∀ u' (fa : Nat → Nat), fr [33, 34, 35] u u' → (∀ x, x < 84 → ib (84 * n + x) = false → ∃ f, f < 84 ∧ ao u' 34 x = nI f ∧ adj x f ∧ fa f < fa x) → post u') : wpX_measure post u (nI n) := by
  rw [cx_measure]
  refine pk_loop (fun a i s => kx_measure_2 post (nI n) a (nI i) s) (fun i s => fr [33, 34, 35] u s ∧ ∀ x, x < i → ao s 33 x = nI (if ib (84 * n + x) then 0 else 1048576) ∧ ao s 34 x = pI 0 ∧ ao s 35 x = bI false) 84 0 u (Nat.zero_le _) ⟨fr_rf, fun x hx => by omega⟩ ?_ ?_
  · rintro a s ⟨h1, h2⟩
    show kx_measure_2 _ _ _ _ _
    rw [cx_measure_2]
    refine pk_le 84 84 (fun _ => hx_me57 hU hW hex h1 (fa := fun x => if ib (84 * n + x) then 0 else 1048576) (cf := fun _ => 0) ⟨fun x hx => ⟨(h2 x hx).1, (h2 x hx).2.1, by dsimp only; omega⟩, fun x hx e => by dsimp only; rw [if_pos e], fun x hx _ => ?_, fun x f hx h => by dsimp only at h; omega, fun x hx => ?_⟩ (fun x hx => (h2 x hx).2.2) K) (fun h => absurd h (by omega))
    · try dsimp only
      cases ib (84 * n + x) with
      | false => right; rfl
      | true => left; rfl
    · try dsimp only
      cases ib (84 * n + x) with
      | false => left; rfl
      | true => right; exact Nat.le_refl _
  · rintro a i s hi ⟨h1, h2⟩ hr
    have H34 : ∀ x : Nat, x = (if ib (84 * n + i) then 0 else 1048576) → kx_measure_34 post (fun y0 s => kx_measure_2 post (nI n) a y0 s) (nI n) (nI i) (nI x) (nI i) s := by
      intro x hx
      rw [cx_measure_34]
      simp only [clI (show i < 2 ^ 31 by omega), vb_m, vo_0]
      refine ⟨pk_in i 84 hi, nm_e ⟨pk_in i 84 hi, nm_e ⟨pk_in i 84 hi, nm_e (nm_r (nI_1 i) (hr _ ⟨fr_a (fr_a (fr_a h1 (by decide)) (by decide)) (by decide), fun y hy => ?_⟩))⟩⟩⟩
      show upd (ao s 33) i _ y = _ ∧ upd (ao s 34) i _ y = _ ∧ upd (ao s 35) i _ y = _
      by_cases e : y = i
      · rw [e, u_s, u_s, u_s, hx]; exact ⟨rfl, rfl, rfl⟩
      · rw [u_n e, u_n e, u_n e]; exact h2 y (by omega)
    show kx_measure_2 _ _ _ _ _
    rw [cx_measure_2]
    simp only [m84, clI (show 84 * n + i < 2 ^ 31 by omega), fr_ao h1 31]
    refine pk_le 84 i (fun h => absurd h (by omega)) (fun _ => ⟨pk_in (84 * n + i) 3192 (by omega), br_b (hU.1 _ (by omega)) (fun e => H34 1048576 (by rw [e]; rfl)) (fun e => H34 0 (by rw [e]; rfl))⟩)
end
section
/-! ===== E: laying trees ===== -/
def kx_reach_7 (post : SX → Prop) (x1 : Int32) (n : Nat) (x3 : Int32) (u : SX) : Prop := match u with
  | (qf_gates, qf_nodes, qf_joinedSize, qf_cells, qf_chanceState, qf_isBuilt, qf_levels, qa_kinds, qa_firsts, qa_seconds, qa_thirds, qa_nextOf, qa_shownBy, qa_left, qa_right, qa_endOf, qa_cutCount, qa_cutSize, qa_cutLeaf, qa_cutDepth, qa_depthOf, qa_needed, qa_tableOf, qa_rows, qa_joined, qa_tableBits, qa_cellSource, qa_placeOf, qa_cellAt, qa_used, qa_worn, qa_inTree, qa_treeFrom, qa_farness, qa_cameFrom, qa_settled, qa_trackTaken, qa_trackOf, qa_switchBits, qa_pinTrack, qa_outTrack, qa_padTrack, qa_deviceTable, qa_hasFlip, qa_registerPlace, qa_outputPlace, qa_wireRoot, qa_wireLevel, qa_flip, qa_tableOut) => wX_reach_7 post x1 n x3 qf_gates qf_nodes qf_joinedSize qf_cells qf_chanceState qf_isBuilt qf_levels qa_kinds qa_firsts qa_seconds qa_thirds qa_nextOf qa_shownBy qa_left qa_right qa_endOf qa_cutCount qa_cutSize qa_cutLeaf qa_cutDepth qa_depthOf qa_needed qa_tableOf qa_rows qa_joined qa_tableBits qa_cellSource qa_placeOf qa_cellAt qa_used qa_worn qa_inTree qa_treeFrom qa_farness qa_cameFrom qa_settled qa_trackTaken qa_trackOf qa_switchBits qa_pinTrack qa_outTrack qa_padTrack qa_deviceTable qa_hasFlip qa_registerPlace qa_outputPlace qa_wireRoot qa_wireLevel qa_flip qa_tableOut
theorem cx_reach_7 (post : SX → Prop) (x1 : Int32) (n : Nat) (x3 : Int32) (u : SX) : kx_reach_7 post x1 (n + 1) x3 u = (((x3 < 0 → (post u)) ∧ (¬ x3 < 0 → (vp_in ((x1 * 84) + x3) 3192 ∧ (((((ao u 31) ((x1 * 84) + x3).toNatClampNeg) = 0 → (vp_in x3 84 ∧ (wpX_addToTree (fun u1 => (vp_in x3 84 ∧ (∀ x3_108 : Int32, x3_108 = (ao u1 34) x3.toNatClampNeg → (kx_reach_7 post x1 n x3_108 u1)))) u x1 x3 ((ao u 34) x3.toNatClampNeg)))) ∧ (¬ ((ao u 31) ((x1 * 84) + x3).toNatClampNeg) = 0 → (post u)))))))) := rfl
theorem cx_reach (post : SX → Prop) (u : SX) (p0 : Int32) (p1 : Int32) : wpX_reach post u p0 p1 = (wpX_measure (fun u1 => (∃ n7 : Nat, kx_reach_7 post p0 n7 p1 u1)) u p0) := rfl
def kx_wireSource_50 (post : SX → Prop) (J9 : Int32 → Int32 → SX → Prop) (x1 : Int32) (x2 : Int32) (x3 : Int32) (u : SX) : Prop := match u with
  | (qf_gates, qf_nodes, qf_joinedSize, qf_cells, qf_chanceState, qf_isBuilt, qf_levels, qa_kinds, qa_firsts, qa_seconds, qa_thirds, qa_nextOf, qa_shownBy, qa_left, qa_right, qa_endOf, qa_cutCount, qa_cutSize, qa_cutLeaf, qa_cutDepth, qa_depthOf, qa_needed, qa_tableOf, qa_rows, qa_joined, qa_tableBits, qa_cellSource, qa_placeOf, qa_cellAt, qa_used, qa_worn, qa_inTree, qa_treeFrom, qa_farness, qa_cameFrom, qa_settled, qa_trackTaken, qa_trackOf, qa_switchBits, qa_pinTrack, qa_outTrack, qa_padTrack, qa_deviceTable, qa_hasFlip, qa_registerPlace, qa_outputPlace, qa_wireRoot, qa_wireLevel, qa_flip, qa_tableOut) => wX_wireSource_50 post (fun x2 x3 f_gates f_nodes f_joinedSize f_cells f_chanceState f_isBuilt f_levels a_kinds a_firsts a_seconds a_thirds a_nextOf a_shownBy a_left a_right a_endOf a_cutCount a_cutSize a_cutLeaf a_cutDepth a_depthOf a_needed a_tableOf a_rows a_joined a_tableBits a_cellSource a_placeOf a_cellAt a_used a_worn a_inTree a_treeFrom a_farness a_cameFrom a_settled a_trackTaken a_trackOf a_switchBits a_pinTrack a_outTrack a_padTrack a_deviceTable a_hasFlip a_registerPlace a_outputPlace a_wireRoot a_wireLevel a_flip a_tableOut => J9 x2 x3 (f_gates, f_nodes, f_joinedSize, f_cells, f_chanceState, f_isBuilt, f_levels, a_kinds, a_firsts, a_seconds, a_thirds, a_nextOf, a_shownBy, a_left, a_right, a_endOf, a_cutCount, a_cutSize, a_cutLeaf, a_cutDepth, a_depthOf, a_needed, a_tableOf, a_rows, a_joined, a_tableBits, a_cellSource, a_placeOf, a_cellAt, a_used, a_worn, a_inTree, a_treeFrom, a_farness, a_cameFrom, a_settled, a_trackTaken, a_trackOf, a_switchBits, a_pinTrack, a_outTrack, a_padTrack, a_deviceTable, a_hasFlip, a_registerPlace, a_outputPlace, a_wireRoot, a_wireLevel, a_flip, a_tableOut)) x1 x2 x3 qf_gates qf_nodes qf_joinedSize qf_cells qf_chanceState qf_isBuilt qf_levels qa_kinds qa_firsts qa_seconds qa_thirds qa_nextOf qa_shownBy qa_left qa_right qa_endOf qa_cutCount qa_cutSize qa_cutLeaf qa_cutDepth qa_depthOf qa_needed qa_tableOf qa_rows qa_joined qa_tableBits qa_cellSource qa_placeOf qa_cellAt qa_used qa_worn qa_inTree qa_treeFrom qa_farness qa_cameFrom qa_settled qa_trackTaken qa_trackOf qa_switchBits qa_pinTrack qa_outTrack qa_padTrack qa_deviceTable qa_hasFlip qa_registerPlace qa_outputPlace qa_wireRoot qa_wireLevel qa_flip qa_tableOut
theorem cx_wireSource_50 (post : SX → Prop) (J9 : Int32 → Int32 → SX → Prop) (x1 : Int32) (x2 : Int32) (x3 : Int32) (u : SX) : kx_wireSource_50 post J9 x1 x2 x3 u = (¬ (4 : Int32) = 0 ∧ (vp_in (x3 / 4) 64 ∧ (¬ (4 : Int32) = 0 ∧ (wpX_stretchAt (fun r_60 => (wpX_reach (fun u1 => (∀ x3_112 : Int32, x3_112 = x3 + 1 → (J9 x2 x3_112 u1))) u x1 r_60)) ((ao u 27) (x3 / 4).toNatClampNeg) (x3 - x3 / 4 * 4))))) := rfl
def kx_wireSource_9 (post : SX → Prop) (x1 : Int32) (n : Nat) (x2 : Int32) (x3 : Int32) (u : SX) : Prop := match u with
  | (qf_gates, qf_nodes, qf_joinedSize, qf_cells, qf_chanceState, qf_isBuilt, qf_levels, qa_kinds, qa_firsts, qa_seconds, qa_thirds, qa_nextOf, qa_shownBy, qa_left, qa_right, qa_endOf, qa_cutCount, qa_cutSize, qa_cutLeaf, qa_cutDepth, qa_depthOf, qa_needed, qa_tableOf, qa_rows, qa_joined, qa_tableBits, qa_cellSource, qa_placeOf, qa_cellAt, qa_used, qa_worn, qa_inTree, qa_treeFrom, qa_farness, qa_cameFrom, qa_settled, qa_trackTaken, qa_trackOf, qa_switchBits, qa_pinTrack, qa_outTrack, qa_padTrack, qa_deviceTable, qa_hasFlip, qa_registerPlace, qa_outputPlace, qa_wireRoot, qa_wireLevel, qa_flip, qa_tableOut) => wX_wireSource_9 post x1 n x2 x3 qf_gates qf_nodes qf_joinedSize qf_cells qf_chanceState qf_isBuilt qf_levels qa_kinds qa_firsts qa_seconds qa_thirds qa_nextOf qa_shownBy qa_left qa_right qa_endOf qa_cutCount qa_cutSize qa_cutLeaf qa_cutDepth qa_depthOf qa_needed qa_tableOf qa_rows qa_joined qa_tableBits qa_cellSource qa_placeOf qa_cellAt qa_used qa_worn qa_inTree qa_treeFrom qa_farness qa_cameFrom qa_settled qa_trackTaken qa_trackOf qa_switchBits qa_pinTrack qa_outTrack qa_padTrack qa_deviceTable qa_hasFlip qa_registerPlace qa_outputPlace qa_wireRoot qa_wireLevel qa_flip qa_tableOut
theorem cx_wireSource_9 (post : SX → Prop) (x1 : Int32) (n : Nat) (x2 : Int32) (x3 : Int32) (u : SX) : kx_wireSource_9 post x1 (n + 1) x2 x3 u = (((((fo u 3) * 4) ≤ x3 → (post u)) ∧ (¬ ((fo u 3) * 4) ≤ x3 → (vp_in x3 256 ∧ (((((ao u 26) x3.toNatClampNeg) = x1 → (((x2 = 0 → (wpX_stretchOfSource (fun r_113 => (wpX_addToTree (fun u1 => (kx_wireSource_50 post (fun y0 y1 s => kx_wireSource_9 post x1 n y0 y1 s) x1 1 x3 u1)) u x1 r_113 (- 1))) u x1)) ∧ (¬ x2 = 0 → (kx_wireSource_50 post (fun y0 y1 s => kx_wireSource_9 post x1 n y0 y1 s) x1 x2 x3 u))))) ∧ (¬ ((ao u 26) x3.toNatClampNeg) = x1 → (∀ x3_55 : Int32, x3_55 = x3 + 1 → (kx_wireSource_9 post x1 n x2 x3_55 u))))))))) := rfl
theorem cx_wireSource (post : SX → Prop) (u : SX) (p0 : Int32) : wpX_wireSource post u p0 = (wpX_clearTree (fun u1 => (∃ n9 : Nat, kx_wireSource_9 post p0 n9 0 0 u1)) u p0) := rfl
/-- o is reached from s by the links of the tree of n -/
def Cn (u : SX) (ib : Nat → Bool) (n o s : Nat) : Prop := ∀ S : Nat → Prop, S o → (∀ a f, a < 84 → f < 84 → ib (84 * n + a) = true → ao u 32 (84 * n + a) = nI f → S f → S a) → S s
/-- the tree of n is one, from o on -/
def Tg (u : SX) (ib : Nat → Bool) (n o : Nat) : Prop := ∀ s, s < 84 → ib (84 * n + s) = true → ((ao u 32 (84 * n + s) = pI 0 ∧ s = o) ∨ ∃ f, f < 84 ∧ ao u 32 (84 * n + s) = nI f ∧ ib (84 * n + f) = true ∧ adj s f) ∧ Cn u ib n o s
theorem Tg_cg {u v : SX} {ib jb : Nat → Bool} {n o : Nat} (h : Tg u ib n o) (hi : ∀ s, s < 84 → jb (84 * n + s) = ib (84 * n + s)) (hl : ∀ s, s < 84 → ao v 32 (84 * n + s) = ao u 32 (84 * n + s)) : Tg v jb n o := by
  intro s hs hb
  rw [hi s hs] at hb
  obtain ⟨h1, h2⟩ := h s hs hb
  refine ⟨?_, fun S hS hc => h2 S hS (fun a f ha hf hb' hl' => hc a f ha hf (by rw [hi a ha]; exact hb') (by rw [hl a ha]; exact hl'))⟩
  rcases h1 with h1 | ⟨f, f1, f2, f3, f4⟩
  · left; rw [hl s hs]; exact h1
  · right; exact ⟨f, f1, by rw [hl s hs]; exact f2, by rw [hi f f1]; exact f3, f4⟩
theorem hx_re7 {post : SX → Prop} {u : SX} {n o st : Nat} {ib0 : Nat → Bool} {fa : Nat → Nat} (hn : n < 38) (hst : st < 84) (hU : Us u ib0) (hT : Tg u ib0 n o)
    (hcf : ∀ x, x < 84 → ib0 (84 * n + x) = false → ∃ f, f < 84 ∧ ao u 34 x = nI f ∧ adj x f ∧ fa f < fa x)
    (K : ∀ u' ib', fr [29, 31, 32] u u' → Us u' ib' → (∀ i, ib0 i = true → ib' i = true) → (∀ i, (i < 84 * n ∨ 84 * n + 84 ≤ i) → ib' i = ib0 i ∧ ao u' 32 i = ao u 32 i) → ib' (84 * n + st) = true → Tg u' ib' n o → post u') :
    ∃ a, kx_reach_7 post (nI n) a (nI st) u := by
  refine lp2 (fun a (x : Nat) (s : SX) => kx_reach_7 post (nI n) a (nI x) s) (fun x s => x < 84 ∧ fr [29, 31, 32] u s ∧ ∃ ib, Us s ib ∧ (∀ i, ib0 i = true → ib i = true) ∧ (∀ i, (i < 84 * n ∨ 84 * n + 84 ≤ i) → ib i = ib0 i ∧ ao s 32 i = ao u 32 i) ∧ (ib (84 * n + st) = true ∨ x = st) ∧
      (∀ a, a < 84 → ib0 (84 * n + a) = true → ao s 32 (84 * n + a) = ao u 32 (84 * n + a)) ∧
      ∀ a, a < 84 → ib (84 * n + a) = true → (ib0 (84 * n + a) = true ∨ (fa x < fa a ∧ ∃ f, f < 84 ∧ ao s 32 (84 * n + a) = nI f ∧ adj a f ∧ (f = x ∨ ib (84 * n + f) = true))) ∧
        ∀ S : Nat → Prop, S o → S x → (∀ a f, a < 84 → f < 84 → ib (84 * n + a) = true → ao s 32 (84 * n + a) = nI f → S f → S a) → S a) (fun x _ => fa x) ?_ st u
    ⟨hst, fr_rf, ib0, hU, fun _ h => h, fun _ _ => ⟨rfl, rfl⟩, Or.inr rfl, fun _ _ _ => rfl, fun a ha hb => ⟨Or.inl hb, fun S h1 _ h3 => (hT a ha hb).2 S h1 h3⟩⟩
  rintro a x s ⟨hx, f1, ib, g1, g2, g3, g4, g5, g6⟩ hr
  show kx_reach_7 _ _ _ _ _
  rw [cx_reach_7]
  simp only [m84, clI (show 84 * n + x < 2 ^ 31 by omega), clI (show x < 2 ^ 31 by omega)]
  refine br_f (nI_pos (by omega)) ⟨pk_in (84 * n + x) 3192 (by omega), br_b (g1.1 _ (by omega)) (fun e => ⟨pk_in x 84 hx, ?_⟩) (fun e => ?_)⟩
  · have e0 : ib0 (84 * n + x) = false := by
      cases h : ib0 (84 * n + x) with
      | false => rfl
      | true => rw [g2 _ h] at e; exact absurd e (by decide)
    obtain ⟨f, q1, q2, q3, q4⟩ := hcf x hx e0
    have q2' : ao s 34 x = nI f := by rw [fr_ao f1 34]; exact q2
    rw [q2', ← pI_s f]
    refine hx_addToTree g1 hn hx (by omega) e (fun u1 k1 k2 k3 k4 => ⟨pk_in x 84 hx, nm_r (e' := nI f) (by rw [fr_ao k1 34]; exact q2') (hr f u1 ⟨q1, fr_tr f1 k1, _, k2, fun i hi => ?_, fun i hi => ?_, ?_, fun b hb hb0 => ?_, fun b hb hbi => ?_⟩ q4)⟩)
    · show (if i = 84 * n + x then true else ib i) = true
      split
      · rfl
      · exact g2 i hi
    · show (if i = 84 * n + x then true else ib i) = ib0 i ∧ _
      rw [if_neg (by omega), k3 i (by omega)]; exact g3 i hi
    · left
      show (if 84 * n + st = 84 * n + x then true else ib (84 * n + st)) = true
      split
      · rfl
      · next hne =>
        rcases g4 with h | h
        · exact h
        · exact absurd (by rw [h]) hne
    · rw [k3 _ (fun z => by rw [z, e0] at hb0; exact absurd hb0 (by decide))]
      exact g5 b hb hb0
    · have hclo : ∀ S : Nat → Prop, (∀ a f, a < 84 → f < 84 → (if 84 * n + a = 84 * n + x then true else ib (84 * n + a)) = true → ao u1 32 (84 * n + a) = nI f → S f → S a) → ∀ a f, a < 84 → f < 84 → ib (84 * n + a) = true → ao s 32 (84 * n + a) = nI f → S f → S a := by
        intro S hc a' f' ha' hf' hb' hl' hS
        have hne : 84 * n + a' ≠ 84 * n + x := fun z => by rw [z, e] at hb'; exact absurd hb' (by decide)
        exact hc a' f' ha' hf' (by rw [if_neg hne]; exact hb') (by rw [k3 _ hne]; exact hl') hS
      by_cases ebx : b = x
      · subst ebx
        refine ⟨Or.inr ⟨q4, f, q1, by rw [k4, pI_s], q3, Or.inl rfl⟩, fun S _ hSf hc => hc b f hx q1 (if_pos rfl) (by rw [k4, pI_s]) hSf⟩
      · have hbi' : ib (84 * n + b) = true := by
          have : (if 84 * n + b = 84 * n + x then true else ib (84 * n + b)) = true := hbi
          rw [if_neg (by omega)] at this; exact this
        obtain ⟨p1, p2⟩ := g6 b hb hbi'
        refine ⟨?_, fun S hSo hSf hc => p2 S hSo (hc x f hx q1 (if_pos rfl) (by rw [k4, pI_s]) hSf) (hclo S hc)⟩
        rcases p1 with p1 | ⟨p1, g, r1, r2, r3, r4⟩
        · exact Or.inl p1
        · refine Or.inr ⟨by omega, g, r1, by rw [k3 _ (by omega)]; exact r2, r3, Or.inr ?_⟩
          show (if 84 * n + g = 84 * n + x then true else ib (84 * n + g)) = true
          split
          · rfl
          · next hne =>
            rcases r4 with h | h
            · exact absurd (by rw [h]) hne
            · exact h
  · have hx0 : ib0 (84 * n + x) = true := by
      rcases (g6 x hx e).1 with h | h
      · exact h
      · omega
    have hconn : ∀ S : Nat → Prop, S o → (∀ a f, a < 84 → f < 84 → ib (84 * n + a) = true → ao s 32 (84 * n + a) = nI f → S f → S a) → S x := fun S hSo hc =>
      (hT x hx hx0).2 S hSo (fun a f ha hf hb hl hS => hc a f ha hf (g2 _ hb) (by rw [g5 a ha hb]; exact hl) hS)
    refine K s ib f1 g1 g2 g3 ?_ (fun b hb hbi => ⟨?_, fun S hSo hc => (g6 b hb hbi).2 S hSo (hconn S hSo hc) hc⟩)
    · rcases g4 with h | h
      · exact h
      · rw [← h]; exact e
    · rcases (g6 b hb hbi).1 with h | ⟨_, g, r1, r2, r3, r4⟩
      · rw [g5 b hb h]
        rcases (hT b hb h).1 with h' | ⟨g, r1, r2, r3, r4⟩
        · exact Or.inl h'
        · exact Or.inr ⟨g, r1, r2, g2 _ r3, r4⟩
      · refine Or.inr ⟨g, r1, r2, ?_, r3⟩
        rcases r4 with r4 | r4
        · rw [r4]; exact e
        · exact r4
theorem hx_reach {post : SX → Prop} {u : SX} {n o st : Nat} {ib0 : Nat → Bool} (hn : n < 38) (hst : st < 84) (ho : o < 84) (hU : Us u ib0) (hW : Wo u 102) (hT : Tg u ib0 n o) (hio : ib0 (84 * n + o) = true)
    (K : ∀ u' ib', fr [29, 31, 32, 33, 34, 35] u u' → Us u' ib' → (∀ i, ib0 i = true → ib' i = true) → (∀ i, (i < 84 * n ∨ 84 * n + 84 ≤ i) → ib' i = ib0 i ∧ ao u' 32 i = ao u 32 i) → ib' (84 * n + st) = true → Tg u' ib' n o → post u') :
    wpX_reach post u (nI n) (nI st) := by
  rw [cx_reach]
  refine hx_measure hn hU hW ⟨o, ho, hio⟩ (fun u1 fa f1 hcf => ?_)
  refine hx_re7 hn hst (Us_fr hU f1) (Tg_cg hT (fun _ _ => rfl) (fun _ _ => by rw [fr_ao f1 32])) hcf (fun u2 ib' g1 g2 g3 g4 g5 g6 => ?_)
  exact K u2 ib' (fr_tr (fr_mn f1 (by decide)) (fr_mn g1 (by decide))) g2 g3 (fun i hi => ⟨(g4 i hi).1, (g4 i hi).2.trans (by rw [fr_ao f1 32])⟩) g5 g6
/-- the pins of source n are in its tree, and its own stretch is -/
def Pk (C : Nat) (P : Nat → Nat → Nat) (pl : Nat → Nat) (ib : Nat → Bool) (n k : Nat) : Prop := ∀ j, j < k → P (j / 4) (j % 4) = n + 1 → ib (84 * n + stA (pl (j / 4)) (j % 4)) = true ∧ ib (84 * n + ow pl n) = true
theorem hx_wireSource {post : SX → Prop} {u : SX} {C : Nat} {P : Nat → Nat → Nat} {pl : Nat → Nat} {ib0 : Nat → Bool} (hP : Pn u C P) (hl : Pl u C pl) (hU : Us u ib0) (hW : Wo u 102) {n : Nat} (hn : n < C + 2)
    (K : ∀ u' ib', fr [29, 31, 32, 33, 34, 35] u u' → Us u' ib' → (∀ i, (i < 84 * n ∨ 84 * n + 84 ≤ i) → ib' i = ib0 i ∧ ao u' 32 i = ao u 32 i) → Tg u' ib' n (ow pl n) → Pk C P pl ib' n (4 * C) → post u') : wpX_wireSource post u (nI n) := by
  have hC := hP.2.2.1
  have hC10 := hP.2.1
  have ho := ow_lt hl hC10 hn
  rw [cx_wireSource]
  refine hx_clearTree hU (by omega) (fun u1 ib1 f1 k1 k2 k3 => ?_)
  have g1 : fr [29, 31, 32, 33, 34, 35] u u1 := fr_mn f1 (by decide)
  refine lp3 (fun a (b : Bool) (j : Nat) (s : SX) => kx_wireSource_9 post (nI n) a (bI b) (nI j) s) (fun b j s => j ≤ 4 * C ∧ fr [29, 31, 32, 33, 34, 35] u s ∧ ∃ ib, Us s ib ∧ (∀ i, (i < 84 * n ∨ 84 * n + 84 ≤ i) → ib i = ib0 i ∧ ao s 32 i = ao u 32 i) ∧
      (b = false → ∀ t, t < 84 → ib (84 * n + t) = false) ∧ (b = true → ib (84 * n + ow pl n) = true) ∧ Tg s ib n (ow pl n) ∧ Pk C P pl ib n j) (fun _ j _ => 4 * C - j) ?_ false 0 u1
    ⟨Nat.zero_le _, g1, ib1, k1, k2, fun _ => k3, fun h => absurd h (by decide), fun t ht h => by rw [k3 t ht] at h; exact absurd h (by decide), fun j hj => by omega⟩
  rintro a b j s ⟨hj, h1, ib, h2, h3, h4, h5, h6, h7⟩ hr
  have hP' := Pn_fr hP h1
  have hl' := Pl_fr hl h1
  show kx_wireSource_9 _ _ _ _ _ _
  rw [cx_wireSource_9]
  simp only [hP'.1, m40]
  refine pk_le (4 * C) j (fun h => K s ib h1 h2 h3 h6 (fun j' hj' => h7 j' (by omega))) (fun hlt => ?_)
  have hpj := Pn_j hP' hlt
  rw [clI (by omega), hpj.1]
  have hpl := hl' (j / 4) (by omega)
  -- once the own stretch is there
  have H50 : ∀ (s : SX) (ib : Nat → Bool), fr [29, 31, 32, 33, 34, 35] u s → Us s ib → (∀ i, (i < 84 * n ∨ 84 * n + 84 ≤ i) → ib i = ib0 i ∧ ao s 32 i = ao u 32 i) → ib (84 * n + ow pl n) = true → Tg s ib n (ow pl n) → Pk C P pl ib n j →
      kx_wireSource_50 post (fun y0 y1 s => kx_wireSource_9 post (nI n) a y0 y1 s) (nI n) 1 (nI j) s := by
    intro s ib h1 h2 h3 h5 h6 h7
    have hl' := Pl_fr hl h1
    have hpl := hl' (j / 4) (by omega)
    rw [cx_wireSource_50]
    simp only [rem4b (show j < 2 ^ 31 by omega), div4 (show j < 2 ^ 31 by omega), clI (show j / 4 < 2 ^ 31 by omega), hpl.1]
    refine ⟨by decide, pk_in (j / 4) 64 (by omega), by decide, hx_stretchAt hpl.2 (by omega) ?_⟩
    refine hx_reach (by omega) (stA_lt _ hpl.2 _ (by omega)) ho h2 (Wo_fr hW h1) h6 h5 (fun u2 ib2 q1 q2 q3 q4 q5 q6 => ?_)
    refine nm_r (nI_1 j) (hr true (j + 1) u2 ⟨by omega, fr_tr h1 q1, ib2, q2, fun i hi => ⟨(q4 i hi).1.trans (h3 i hi).1, (q4 i hi).2.trans (h3 i hi).2⟩, fun h => absurd h (by decide), fun _ => q3 _ h5, q6, fun j' hj' e => ?_⟩ (by omega))
    by_cases ej : j' = j
    · subst ej; exact ⟨q5, q3 _ h5⟩
    · have := h7 j' (by omega) e
      exact ⟨q3 _ this.1, q3 _ this.2⟩
  refine ⟨pk_in j 256 (by omega), br_c (fun e => ?_) (fun e => ?_)⟩
  · refine br_b rfl (fun eb => ?_) (fun eb => ?_)
    · refine hx_stretchOfSource hl' hC10 hC hn ?_
      have hno := h4 eb
      refine hx_addToTree (t := 0) h2 (by omega) ho (by omega) (hno _ ho) (fun u2 q1 q2 q3 q4 => ?_)
      have own : (if 84 * n + ow pl n = 84 * n + ow pl n then true else ib (84 * n + ow pl n)) = true := if_pos rfl
      refine H50 u2 _ (fr_tr h1 (fr_mn q1 (by decide))) q2 (fun i hi => ?_) own (fun t ht hti => ?_) (fun j' hj' e' => ?_)
      · show (if i = 84 * n + ow pl n then true else ib i) = ib0 i ∧ _
        rw [if_neg (by omega), q3 i (by omega)]; exact h3 i hi
      · have hti' : (if 84 * n + t = 84 * n + ow pl n then true else ib (84 * n + t)) = true := hti
        by_cases et : t = ow pl n
        · subst et
          exact ⟨Or.inl ⟨q4, rfl⟩, fun S hS _ => hS⟩
        · rw [if_neg (by omega), hno t ht] at hti'
          exact absurd hti' (by decide)
      · have := (h7 j' hj' e').2
        rw [hno _ ho] at this
        exact absurd this (by decide)
    · subst eb
      exact H50 s ib h1 h2 h3 (h5 rfl) h6 h7
  · refine nm_r (nI_1 j) ?_
    refine hr b (j + 1) s ⟨by omega, h1, ib, h2, h3, h4, h5, h6, fun j' hj' e' => ?_⟩ (by omega)
    by_cases ej : j' = j
    · subst ej
      exact absurd (by rw [e', pI_s]) e
    · exact h7 j' (by omega) e'
end
section
/-! ===== E: all trees, and tracks ===== -/
def kx_isTrackFree_2 (post : Int32 → Prop) (x1 : Int32) (x2 : Int32) (n : Nat) (x3 : Int32) (u : SX) : Prop := match u with
  | (qf_gates, qf_nodes, qf_joinedSize, qf_cells, qf_chanceState, qf_isBuilt, qf_levels, qa_kinds, qa_firsts, qa_seconds, qa_thirds, qa_nextOf, qa_shownBy, qa_left, qa_right, qa_endOf, qa_cutCount, qa_cutSize, qa_cutLeaf, qa_cutDepth, qa_depthOf, qa_needed, qa_tableOf, qa_rows, qa_joined, qa_tableBits, qa_cellSource, qa_placeOf, qa_cellAt, qa_used, qa_worn, qa_inTree, qa_treeFrom, qa_farness, qa_cameFrom, qa_settled, qa_trackTaken, qa_trackOf, qa_switchBits, qa_pinTrack, qa_outTrack, qa_padTrack, qa_deviceTable, qa_hasFlip, qa_registerPlace, qa_outputPlace, qa_wireRoot, qa_wireLevel, qa_flip, qa_tableOut) => wX_isTrackFree_2 post x1 x2 qf_gates qf_nodes qf_joinedSize qf_cells qf_chanceState qf_isBuilt qf_levels qa_kinds qa_firsts qa_seconds qa_thirds qa_nextOf qa_shownBy qa_left qa_right qa_endOf qa_cutCount qa_cutSize qa_cutLeaf qa_cutDepth qa_depthOf qa_needed qa_tableOf qa_rows qa_joined qa_tableBits qa_cellSource qa_placeOf qa_cellAt qa_used qa_worn qa_inTree qa_treeFrom qa_farness qa_cameFrom qa_settled qa_trackTaken qa_trackOf qa_switchBits qa_pinTrack qa_outTrack qa_padTrack qa_deviceTable qa_hasFlip qa_registerPlace qa_outputPlace qa_wireRoot qa_wireLevel qa_flip qa_tableOut n x3
theorem cx_isTrackFree_2 (post : Int32 → Prop) (x1 : Int32) (x2 : Int32) (n : Nat) (x3 : Int32) (u : SX) : kx_isTrackFree_2 post x1 x2 (n + 1) x3 u = (((84 ≤ x3 → (post 1)) ∧ (¬ 84 ≤ x3 → (vp_in ((x1 * 84) + x3) 3192 ∧ (((((ao u 31) ((x1 * 84) + x3).toNatClampNeg) = 0 → (∀ x3_4 : Int32, x3_4 = x3 + 1 → (kx_isTrackFree_2 post x1 x2 n x3_4 u))) ∧ (¬ ((ao u 31) ((x1 * 84) + x3).toNatClampNeg) = 0 → (vp_in ((x3 * 38) + x2) 3192 ∧ (((((ao u 36) ((x3 * 38) + x2).toNatClampNeg) = 0 → (∀ x3_7 : Int32, x3_7 = x3 + 1 → (kx_isTrackFree_2 post x1 x2 n x3_7 u))) ∧ (¬ ((ao u 36) ((x3 * 38) + x2).toNatClampNeg) = 0 → (post 0)))))))))))) := rfl
theorem cx_isTrackFree (post : Int32 → Prop) (u : SX) (p0 : Int32) (p1 : Int32) : wpX_isTrackFree post u p0 p1 = (∃ n2 : Nat, kx_isTrackFree_2 post p0 p1 n2 0 u) := rfl
def kx_giveTrack_33 (post : SX → Prop) (x1 : Int32) (x2 : Int32) (n : Nat) (x3 : Int32) (u : SX) : Prop := match u with
  | (qf_gates, qf_nodes, qf_joinedSize, qf_cells, qf_chanceState, qf_isBuilt, qf_levels, qa_kinds, qa_firsts, qa_seconds, qa_thirds, qa_nextOf, qa_shownBy, qa_left, qa_right, qa_endOf, qa_cutCount, qa_cutSize, qa_cutLeaf, qa_cutDepth, qa_depthOf, qa_needed, qa_tableOf, qa_rows, qa_joined, qa_tableBits, qa_cellSource, qa_placeOf, qa_cellAt, qa_used, qa_worn, qa_inTree, qa_treeFrom, qa_farness, qa_cameFrom, qa_settled, qa_trackTaken, qa_trackOf, qa_switchBits, qa_pinTrack, qa_outTrack, qa_padTrack, qa_deviceTable, qa_hasFlip, qa_registerPlace, qa_outputPlace, qa_wireRoot, qa_wireLevel, qa_flip, qa_tableOut) => wX_giveTrack_33 post x1 x2 qf_gates qf_nodes qf_joinedSize qf_cells qf_chanceState qf_isBuilt qf_levels n x3 qa_kinds qa_firsts qa_seconds qa_thirds qa_nextOf qa_shownBy qa_left qa_right qa_endOf qa_cutCount qa_cutSize qa_cutLeaf qa_cutDepth qa_depthOf qa_needed qa_tableOf qa_rows qa_joined qa_tableBits qa_cellSource qa_placeOf qa_cellAt qa_used qa_worn qa_inTree qa_treeFrom qa_farness qa_cameFrom qa_settled qa_trackTaken qa_trackOf qa_switchBits qa_pinTrack qa_outTrack qa_padTrack qa_deviceTable qa_hasFlip qa_registerPlace qa_outputPlace qa_wireRoot qa_wireLevel qa_flip qa_tableOut
theorem cx_giveTrack_33 (post : SX → Prop) (x1 : Int32) (x2 : Int32) (n : Nat) (x3 : Int32) (u : SX) : kx_giveTrack_33 post x1 x2 (n + 1) x3 u = (((84 ≤ x3 → (post u)) ∧ (¬ 84 ≤ x3 → (vp_in ((x1 * 84) + x3) 3192 ∧ (((((ao u 31) ((x1 * 84) + x3).toNatClampNeg) = 0 → (∀ x3_7 : Int32, x3_7 = x3 + 1 → (kx_giveTrack_33 post x1 x2 n x3_7 u))) ∧ (¬ ((ao u 31) ((x1 * 84) + x3).toNatClampNeg) = 0 → (vp_in ((x3 * 38) + x2) 3192 ∧ ∀ a_trackTaken_9 : Nat → Int32, a_trackTaken_9 = upd (ao u 36) ((x3 * 38) + x2).toNatClampNeg (vp_nar .boolean 1) → (∀ x3_10 : Int32, x3_10 = x3 + 1 → (kx_giveTrack_33 post x1 x2 n x3_10 (sa u 36 a_trackTaken_9))))))))))) := rfl
def kx_giveTrack_23 (post : SX → Prop) (x1 : Int32) (x2 : Int32) (u : SX) : Prop := match u with
  | (qf_gates, qf_nodes, qf_joinedSize, qf_cells, qf_chanceState, qf_isBuilt, qf_levels, qa_kinds, qa_firsts, qa_seconds, qa_thirds, qa_nextOf, qa_shownBy, qa_left, qa_right, qa_endOf, qa_cutCount, qa_cutSize, qa_cutLeaf, qa_cutDepth, qa_depthOf, qa_needed, qa_tableOf, qa_rows, qa_joined, qa_tableBits, qa_cellSource, qa_placeOf, qa_cellAt, qa_used, qa_worn, qa_inTree, qa_treeFrom, qa_farness, qa_cameFrom, qa_settled, qa_trackTaken, qa_trackOf, qa_switchBits, qa_pinTrack, qa_outTrack, qa_padTrack, qa_deviceTable, qa_hasFlip, qa_registerPlace, qa_outputPlace, qa_wireRoot, qa_wireLevel, qa_flip, qa_tableOut) => wX_giveTrack_23 post x1 x2 qf_gates qf_nodes qf_joinedSize qf_cells qf_chanceState qf_isBuilt qf_levels qa_kinds qa_firsts qa_seconds qa_thirds qa_nextOf qa_shownBy qa_left qa_right qa_endOf qa_cutCount qa_cutSize qa_cutLeaf qa_cutDepth qa_depthOf qa_needed qa_tableOf qa_rows qa_joined qa_tableBits qa_cellSource qa_placeOf qa_cellAt qa_used qa_worn qa_inTree qa_treeFrom qa_farness qa_cameFrom qa_settled qa_trackTaken qa_trackOf qa_switchBits qa_pinTrack qa_outTrack qa_padTrack qa_deviceTable qa_hasFlip qa_registerPlace qa_outputPlace qa_wireRoot qa_wireLevel qa_flip qa_tableOut
theorem cx_giveTrack_23 (post : SX → Prop) (x1 : Int32) (x2 : Int32) (u : SX) : kx_giveTrack_23 post x1 x2 u = (vp_in x1 38 ∧ ∀ a_trackOf_3 : Nat → Int32, a_trackOf_3 = upd (ao u 37) x1.toNatClampNeg (vp_nar .byte x2.toInt8.toInt32) → (∃ n33 : Nat, kx_giveTrack_33 post x1 x2 n33 0 (sa u 37 a_trackOf_3))) := rfl
def kx_giveTrack_2 (post : SX → Prop) (x1 : Int32) (n : Nat) (x2 : Int32) (u : SX) : Prop := match u with
  | (qf_gates, qf_nodes, qf_joinedSize, qf_cells, qf_chanceState, qf_isBuilt, qf_levels, qa_kinds, qa_firsts, qa_seconds, qa_thirds, qa_nextOf, qa_shownBy, qa_left, qa_right, qa_endOf, qa_cutCount, qa_cutSize, qa_cutLeaf, qa_cutDepth, qa_depthOf, qa_needed, qa_tableOf, qa_rows, qa_joined, qa_tableBits, qa_cellSource, qa_placeOf, qa_cellAt, qa_used, qa_worn, qa_inTree, qa_treeFrom, qa_farness, qa_cameFrom, qa_settled, qa_trackTaken, qa_trackOf, qa_switchBits, qa_pinTrack, qa_outTrack, qa_padTrack, qa_deviceTable, qa_hasFlip, qa_registerPlace, qa_outputPlace, qa_wireRoot, qa_wireLevel, qa_flip, qa_tableOut) => wX_giveTrack_2 post x1 qf_gates qf_nodes qf_joinedSize qf_cells qf_chanceState qf_isBuilt qf_levels qa_kinds qa_firsts qa_seconds qa_thirds qa_nextOf qa_shownBy qa_left qa_right qa_endOf qa_cutCount qa_cutSize qa_cutLeaf qa_cutDepth qa_depthOf qa_needed qa_tableOf qa_rows qa_joined qa_tableBits qa_cellSource qa_placeOf qa_cellAt qa_used qa_worn qa_inTree qa_treeFrom qa_farness qa_cameFrom qa_settled qa_trackTaken qa_trackOf qa_switchBits qa_pinTrack qa_outTrack qa_padTrack qa_deviceTable qa_hasFlip qa_registerPlace qa_outputPlace qa_wireRoot qa_wireLevel qa_flip qa_tableOut n x2
theorem cx_giveTrack_2 (post : SX → Prop) (x1 : Int32) (n : Nat) (x2 : Int32) (u : SX) : kx_giveTrack_2 post x1 (n + 1) x2 u = (((37 ≤ x2 → (kx_giveTrack_23 post x1 x2 u)) ∧ (¬ 37 ≤ x2 → (wpX_isTrackFree (fun r_11 => (((r_11 = 0 → (∀ x2_63 : Int32, x2_63 = x2 + 1 → (kx_giveTrack_2 post x1 n x2_63 u))) ∧ (¬ r_11 = 0 → (kx_giveTrack_23 post x1 x2 u))))) u x1 x2)))) := rfl
theorem cx_giveTrack (post : SX → Prop) (u : SX) (p0 : Int32) : wpX_giveTrack post u p0 = (∃ n2 : Nat, kx_giveTrack_2 post p0 n2 0 u) := rfl
def kx_wireAll_138 (post : SX → Prop) (n : Nat) (x1 : Int32) (u : SX) : Prop := match u with
  | (qf_gates, qf_nodes, qf_joinedSize, qf_cells, qf_chanceState, qf_isBuilt, qf_levels, qa_kinds, qa_firsts, qa_seconds, qa_thirds, qa_nextOf, qa_shownBy, qa_left, qa_right, qa_endOf, qa_cutCount, qa_cutSize, qa_cutLeaf, qa_cutDepth, qa_depthOf, qa_needed, qa_tableOf, qa_rows, qa_joined, qa_tableBits, qa_cellSource, qa_placeOf, qa_cellAt, qa_used, qa_worn, qa_inTree, qa_treeFrom, qa_farness, qa_cameFrom, qa_settled, qa_trackTaken, qa_trackOf, qa_switchBits, qa_pinTrack, qa_outTrack, qa_padTrack, qa_deviceTable, qa_hasFlip, qa_registerPlace, qa_outputPlace, qa_wireRoot, qa_wireLevel, qa_flip, qa_tableOut) => wX_wireAll_138 post n x1 qf_gates qf_nodes qf_joinedSize qf_cells qf_chanceState qf_isBuilt qf_levels qa_kinds qa_firsts qa_seconds qa_thirds qa_nextOf qa_shownBy qa_left qa_right qa_endOf qa_cutCount qa_cutSize qa_cutLeaf qa_cutDepth qa_depthOf qa_needed qa_tableOf qa_rows qa_joined qa_tableBits qa_cellSource qa_placeOf qa_cellAt qa_used qa_worn qa_inTree qa_treeFrom qa_farness qa_cameFrom qa_settled qa_trackTaken qa_trackOf qa_switchBits qa_pinTrack qa_outTrack qa_padTrack qa_deviceTable qa_hasFlip qa_registerPlace qa_outputPlace qa_wireRoot qa_wireLevel qa_flip qa_tableOut
theorem cx_wireAll_138 (post : SX → Prop) (n : Nat) (x1 : Int32) (u : SX) : kx_wireAll_138 post (n + 1) x1 u = (wpX_sources (fun r_4 => (((r_4 ≤ x1 → (post u)) ∧ (¬ r_4 ≤ x1 → (wpX_giveTrack (fun u1 => (∀ x1_107 : Int32, x1_107 = x1 + 1 → (kx_wireAll_138 post n x1_107 u1))) u x1))))) u) := rfl
def kx_wireAll_87 (post : SX → Prop) (J59 : Int32 → SX → Prop) (x1 : Int32) (n : Nat) (x2 : Int32) (u : SX) : Prop := match u with
  | (qf_gates, qf_nodes, qf_joinedSize, qf_cells, qf_chanceState, qf_isBuilt, qf_levels, qa_kinds, qa_firsts, qa_seconds, qa_thirds, qa_nextOf, qa_shownBy, qa_left, qa_right, qa_endOf, qa_cutCount, qa_cutSize, qa_cutLeaf, qa_cutDepth, qa_depthOf, qa_needed, qa_tableOf, qa_rows, qa_joined, qa_tableBits, qa_cellSource, qa_placeOf, qa_cellAt, qa_used, qa_worn, qa_inTree, qa_treeFrom, qa_farness, qa_cameFrom, qa_settled, qa_trackTaken, qa_trackOf, qa_switchBits, qa_pinTrack, qa_outTrack, qa_padTrack, qa_deviceTable, qa_hasFlip, qa_registerPlace, qa_outputPlace, qa_wireRoot, qa_wireLevel, qa_flip, qa_tableOut) => wX_wireAll_87 post (fun x1 f_gates f_nodes f_joinedSize f_cells f_chanceState f_isBuilt f_levels a_kinds a_firsts a_seconds a_thirds a_nextOf a_shownBy a_left a_right a_endOf a_cutCount a_cutSize a_cutLeaf a_cutDepth a_depthOf a_needed a_tableOf a_rows a_joined a_tableBits a_cellSource a_placeOf a_cellAt a_used a_worn a_inTree a_treeFrom a_farness a_cameFrom a_settled a_trackTaken a_trackOf a_switchBits a_pinTrack a_outTrack a_padTrack a_deviceTable a_hasFlip a_registerPlace a_outputPlace a_wireRoot a_wireLevel a_flip a_tableOut => J59 x1 (f_gates, f_nodes, f_joinedSize, f_cells, f_chanceState, f_isBuilt, f_levels, a_kinds, a_firsts, a_seconds, a_thirds, a_nextOf, a_shownBy, a_left, a_right, a_endOf, a_cutCount, a_cutSize, a_cutLeaf, a_cutDepth, a_depthOf, a_needed, a_tableOf, a_rows, a_joined, a_tableBits, a_cellSource, a_placeOf, a_cellAt, a_used, a_worn, a_inTree, a_treeFrom, a_farness, a_cameFrom, a_settled, a_trackTaken, a_trackOf, a_switchBits, a_pinTrack, a_outTrack, a_padTrack, a_deviceTable, a_hasFlip, a_registerPlace, a_outputPlace, a_wireRoot, a_wireLevel, a_flip, a_tableOut)) x1 qf_gates qf_nodes qf_joinedSize qf_cells qf_chanceState qf_isBuilt qf_levels n x2 qa_kinds qa_firsts qa_seconds qa_thirds qa_nextOf qa_shownBy qa_left qa_right qa_endOf qa_cutCount qa_cutSize qa_cutLeaf qa_cutDepth qa_depthOf qa_needed qa_tableOf qa_rows qa_joined qa_tableBits qa_cellSource qa_placeOf qa_cellAt qa_used qa_worn qa_inTree qa_treeFrom qa_farness qa_cameFrom qa_settled qa_trackTaken qa_trackOf qa_switchBits qa_pinTrack qa_outTrack qa_padTrack qa_deviceTable qa_hasFlip qa_registerPlace qa_outputPlace qa_wireRoot qa_wireLevel qa_flip qa_tableOut
theorem cx_wireAll_87 (post : SX → Prop) (J59 : Int32 → SX → Prop) (x1 : Int32) (n : Nat) (x2 : Int32) (u : SX) : kx_wireAll_87 post J59 x1 (n + 1) x2 u = (((84 ≤ x2 → (∀ x1_161 : Int32, x1_161 = x1 + 1 → (J59 x1_161 u))) ∧ (¬ 84 ≤ x2 → (vp_in x2 84 ∧ (vp_in x2 84 ∧ (((((ao u 29) x2.toNatClampNeg) ≤ 4 → (vp_in x2 84 ∧ ∀ a_worn_166 : Nat → Int32, a_worn_166 = upd (ao u 30) x2.toNatClampNeg (((ao u 30) x2.toNatClampNeg) + 0) → (∀ x2_167 : Int32, x2_167 = x2 + 1 → (kx_wireAll_87 post J59 x1 n x2_167 (sa u 30 a_worn_166))))) ∧ (¬ ((ao u 29) x2.toNatClampNeg) ≤ 4 → (vp_in x2 84 ∧ (vp_in x2 84 ∧ ∀ a_worn_170 : Nat → Int32, a_worn_170 = upd (ao u 30) x2.toNatClampNeg (((ao u 30) x2.toNatClampNeg) + (((ao u 29) x2.toNatClampNeg) - 4)) → (∀ x2_171 : Int32, x2_171 = x2 + 1 → (kx_wireAll_87 post J59 x1 n x2_171 (sa u 30 a_worn_170))))))))))))) := rfl
def kx_wireAll_66 (post : SX → Prop) (J59 : Int32 → SX → Prop) (x1 : Int32) (n : Nat) (x2 : Int32) (u : SX) : Prop := match u with
  | (qf_gates, qf_nodes, qf_joinedSize, qf_cells, qf_chanceState, qf_isBuilt, qf_levels, qa_kinds, qa_firsts, qa_seconds, qa_thirds, qa_nextOf, qa_shownBy, qa_left, qa_right, qa_endOf, qa_cutCount, qa_cutSize, qa_cutLeaf, qa_cutDepth, qa_depthOf, qa_needed, qa_tableOf, qa_rows, qa_joined, qa_tableBits, qa_cellSource, qa_placeOf, qa_cellAt, qa_used, qa_worn, qa_inTree, qa_treeFrom, qa_farness, qa_cameFrom, qa_settled, qa_trackTaken, qa_trackOf, qa_switchBits, qa_pinTrack, qa_outTrack, qa_padTrack, qa_deviceTable, qa_hasFlip, qa_registerPlace, qa_outputPlace, qa_wireRoot, qa_wireLevel, qa_flip, qa_tableOut) => wX_wireAll_66 post (fun x1 f_gates f_nodes f_joinedSize f_cells f_chanceState f_isBuilt f_levels a_kinds a_firsts a_seconds a_thirds a_nextOf a_shownBy a_left a_right a_endOf a_cutCount a_cutSize a_cutLeaf a_cutDepth a_depthOf a_needed a_tableOf a_rows a_joined a_tableBits a_cellSource a_placeOf a_cellAt a_used a_worn a_inTree a_treeFrom a_farness a_cameFrom a_settled a_trackTaken a_trackOf a_switchBits a_pinTrack a_outTrack a_padTrack a_deviceTable a_hasFlip a_registerPlace a_outputPlace a_wireRoot a_wireLevel a_flip a_tableOut => J59 x1 (f_gates, f_nodes, f_joinedSize, f_cells, f_chanceState, f_isBuilt, f_levels, a_kinds, a_firsts, a_seconds, a_thirds, a_nextOf, a_shownBy, a_left, a_right, a_endOf, a_cutCount, a_cutSize, a_cutLeaf, a_cutDepth, a_depthOf, a_needed, a_tableOf, a_rows, a_joined, a_tableBits, a_cellSource, a_placeOf, a_cellAt, a_used, a_worn, a_inTree, a_treeFrom, a_farness, a_cameFrom, a_settled, a_trackTaken, a_trackOf, a_switchBits, a_pinTrack, a_outTrack, a_padTrack, a_deviceTable, a_hasFlip, a_registerPlace, a_outputPlace, a_wireRoot, a_wireLevel, a_flip, a_tableOut)) x1 n x2 qf_gates qf_nodes qf_joinedSize qf_cells qf_chanceState qf_isBuilt qf_levels qa_kinds qa_firsts qa_seconds qa_thirds qa_nextOf qa_shownBy qa_left qa_right qa_endOf qa_cutCount qa_cutSize qa_cutLeaf qa_cutDepth qa_depthOf qa_needed qa_tableOf qa_rows qa_joined qa_tableBits qa_cellSource qa_placeOf qa_cellAt qa_used qa_worn qa_inTree qa_treeFrom qa_farness qa_cameFrom qa_settled qa_trackTaken qa_trackOf qa_switchBits qa_pinTrack qa_outTrack qa_padTrack qa_deviceTable qa_hasFlip qa_registerPlace qa_outputPlace qa_wireRoot qa_wireLevel qa_flip qa_tableOut
theorem cx_wireAll_66 (post : SX → Prop) (J59 : Int32 → SX → Prop) (x1 : Int32) (n : Nat) (x2 : Int32) (u : SX) : kx_wireAll_66 post J59 x1 (n + 1) x2 u = (wpX_sources (fun r_108 => (((r_108 ≤ x2 → (∃ n87 : Nat, kx_wireAll_87 post J59 x1 n87 0 u)) ∧ (¬ r_108 ≤ x2 → (wpX_wireSource (fun u1 => (∀ x2_223 : Int32, x2_223 = x2 + 1 → (kx_wireAll_66 post J59 x1 n x2_223 u1))) u x2))))) u) := rfl
def kx_wireAll_59 (post : SX → Prop) (n : Nat) (x1 : Int32) (u : SX) : Prop := match u with
  | (qf_gates, qf_nodes, qf_joinedSize, qf_cells, qf_chanceState, qf_isBuilt, qf_levels, qa_kinds, qa_firsts, qa_seconds, qa_thirds, qa_nextOf, qa_shownBy, qa_left, qa_right, qa_endOf, qa_cutCount, qa_cutSize, qa_cutLeaf, qa_cutDepth, qa_depthOf, qa_needed, qa_tableOf, qa_rows, qa_joined, qa_tableBits, qa_cellSource, qa_placeOf, qa_cellAt, qa_used, qa_worn, qa_inTree, qa_treeFrom, qa_farness, qa_cameFrom, qa_settled, qa_trackTaken, qa_trackOf, qa_switchBits, qa_pinTrack, qa_outTrack, qa_padTrack, qa_deviceTable, qa_hasFlip, qa_registerPlace, qa_outputPlace, qa_wireRoot, qa_wireLevel, qa_flip, qa_tableOut) => wX_wireAll_59 post n x1 qf_gates qf_nodes qf_joinedSize qf_cells qf_chanceState qf_isBuilt qf_levels qa_kinds qa_firsts qa_seconds qa_thirds qa_nextOf qa_shownBy qa_left qa_right qa_endOf qa_cutCount qa_cutSize qa_cutLeaf qa_cutDepth qa_depthOf qa_needed qa_tableOf qa_rows qa_joined qa_tableBits qa_cellSource qa_placeOf qa_cellAt qa_used qa_worn qa_inTree qa_treeFrom qa_farness qa_cameFrom qa_settled qa_trackTaken qa_trackOf qa_switchBits qa_pinTrack qa_outTrack qa_padTrack qa_deviceTable qa_hasFlip qa_registerPlace qa_outputPlace qa_wireRoot qa_wireLevel qa_flip qa_tableOut
theorem cx_wireAll_59 (post : SX → Prop) (n : Nat) (x1 : Int32) (u : SX) : kx_wireAll_59 post (n + 1) x1 u = (((3 ≤ x1 → (∃ n138 : Nat, kx_wireAll_138 post n138 0 u)) ∧ (¬ 3 ≤ x1 → (∃ n66 : Nat, kx_wireAll_66 post (fun y0 s => kx_wireAll_59 post n y0 s) x1 n66 0 u)))) := rfl
def kx_wireAll_30 (post : SX → Prop) (n : Nat) (x1 : Int32) (u : SX) : Prop := match u with
  | (qf_gates, qf_nodes, qf_joinedSize, qf_cells, qf_chanceState, qf_isBuilt, qf_levels, qa_kinds, qa_firsts, qa_seconds, qa_thirds, qa_nextOf, qa_shownBy, qa_left, qa_right, qa_endOf, qa_cutCount, qa_cutSize, qa_cutLeaf, qa_cutDepth, qa_depthOf, qa_needed, qa_tableOf, qa_rows, qa_joined, qa_tableBits, qa_cellSource, qa_placeOf, qa_cellAt, qa_used, qa_worn, qa_inTree, qa_treeFrom, qa_farness, qa_cameFrom, qa_settled, qa_trackTaken, qa_trackOf, qa_switchBits, qa_pinTrack, qa_outTrack, qa_padTrack, qa_deviceTable, qa_hasFlip, qa_registerPlace, qa_outputPlace, qa_wireRoot, qa_wireLevel, qa_flip, qa_tableOut) => wX_wireAll_30 post qf_gates qf_nodes qf_joinedSize qf_cells qf_chanceState qf_isBuilt qf_levels n x1 qa_kinds qa_firsts qa_seconds qa_thirds qa_nextOf qa_shownBy qa_left qa_right qa_endOf qa_cutCount qa_cutSize qa_cutLeaf qa_cutDepth qa_depthOf qa_needed qa_tableOf qa_rows qa_joined qa_tableBits qa_cellSource qa_placeOf qa_cellAt qa_used qa_worn qa_inTree qa_treeFrom qa_farness qa_cameFrom qa_settled qa_trackTaken qa_trackOf qa_switchBits qa_pinTrack qa_outTrack qa_padTrack qa_deviceTable qa_hasFlip qa_registerPlace qa_outputPlace qa_wireRoot qa_wireLevel qa_flip qa_tableOut
theorem cx_wireAll_30 (post : SX → Prop) (n : Nat) (x1 : Int32) (u : SX) : kx_wireAll_30 post (n + 1) x1 u = (((3192 ≤ x1 → (∃ n59 : Nat, kx_wireAll_59 post n59 0 u)) ∧ (¬ 3192 ≤ x1 → (vp_in x1 3192 ∧ ∀ a_inTree_225 : Nat → Int32, a_inTree_225 = upd (ao u 31) x1.toNatClampNeg (vp_nar .boolean 0) → (vp_in x1 3192 ∧ ∀ a_trackTaken_227 : Nat → Int32, a_trackTaken_227 = upd (ao u 36) x1.toNatClampNeg (vp_nar .boolean 0) → (∀ x1_228 : Int32, x1_228 = x1 + 1 → (kx_wireAll_30 post n x1_228 (sa (sa u 31 a_inTree_225) 36 a_trackTaken_227)))))))) := by simp only [n_ffx, n_afx, n_aax, n_fmx, n_amx]; rfl
def kx_wireAll_2 (post : SX → Prop) (n : Nat) (x1 : Int32) (u : SX) : Prop := match u with
  | (qf_gates, qf_nodes, qf_joinedSize, qf_cells, qf_chanceState, qf_isBuilt, qf_levels, qa_kinds, qa_firsts, qa_seconds, qa_thirds, qa_nextOf, qa_shownBy, qa_left, qa_right, qa_endOf, qa_cutCount, qa_cutSize, qa_cutLeaf, qa_cutDepth, qa_depthOf, qa_needed, qa_tableOf, qa_rows, qa_joined, qa_tableBits, qa_cellSource, qa_placeOf, qa_cellAt, qa_used, qa_worn, qa_inTree, qa_treeFrom, qa_farness, qa_cameFrom, qa_settled, qa_trackTaken, qa_trackOf, qa_switchBits, qa_pinTrack, qa_outTrack, qa_padTrack, qa_deviceTable, qa_hasFlip, qa_registerPlace, qa_outputPlace, qa_wireRoot, qa_wireLevel, qa_flip, qa_tableOut) => wX_wireAll_2 post qf_gates qf_nodes qf_joinedSize qf_cells qf_chanceState qf_isBuilt qf_levels n x1 qa_kinds qa_firsts qa_seconds qa_thirds qa_nextOf qa_shownBy qa_left qa_right qa_endOf qa_cutCount qa_cutSize qa_cutLeaf qa_cutDepth qa_depthOf qa_needed qa_tableOf qa_rows qa_joined qa_tableBits qa_cellSource qa_placeOf qa_cellAt qa_used qa_worn qa_inTree qa_treeFrom qa_farness qa_cameFrom qa_settled qa_trackTaken qa_trackOf qa_switchBits qa_pinTrack qa_outTrack qa_padTrack qa_deviceTable qa_hasFlip qa_registerPlace qa_outputPlace qa_wireRoot qa_wireLevel qa_flip qa_tableOut
theorem cx_wireAll_2 (post : SX → Prop) (n : Nat) (x1 : Int32) (u : SX) : kx_wireAll_2 post (n + 1) x1 u = (((84 ≤ x1 → (∃ n30 : Nat, kx_wireAll_30 post n30 0 u)) ∧ (¬ 84 ≤ x1 → (vp_in x1 84 ∧ ∀ a_used_230 : Nat → Int32, a_used_230 = upd (ao u 29) x1.toNatClampNeg 0 → (vp_in x1 84 ∧ ∀ a_worn_232 : Nat → Int32, a_worn_232 = upd (ao u 30) x1.toNatClampNeg 0 → (∀ x1_233 : Int32, x1_233 = x1 + 1 → (kx_wireAll_2 post n x1_233 (sa (sa u 29 a_used_230) 30 a_worn_232)))))))) := by simp only [n_ffx, n_afx, n_aax, n_fmx, n_amx]; rfl
theorem cx_wireAll (post : SX → Prop) (u : SX) : wpX_wireAll post u = (∃ n2 : Nat, kx_wireAll_2 post n2 0 u) := rfl
theorem m38 (s t : Nat) : nI s * 38 + nI t = nI (38 * s + t) := by
  show nI s * nI 38 + nI t = _
  rw [pk_mul, nI_add, Nat.mul_comm]
def Tk (u : SX) (tb : Nat → Bool) : Prop := ∀ i, i < 3192 → ao u 36 i = bI (tb i)
def It (u : SX) (ib : Nat → Bool) : Prop := ∀ i, i < 3192 → ao u 31 i = bI (ib i)
theorem It_fr {M : List Nat} {u v : SX} {ib : Nat → Bool} (h : It u ib) (hf : fr M u v) (h1 : 31 ∉ M := by decide) : It v ib := by
  unfold It
  rw [fr_ao hf 31 h1]
  exact h
theorem hx_isTrackFree {post : Int32 → Prop} {u : SX} {ib tb : Nat → Bool} (hI : It u ib) (hT : Tk u tb) {n t : Nat} (hn : n < 38) (ht : t < 38)
    (K0 : (∃ s, s < 84 ∧ ib (84 * n + s) = true ∧ tb (38 * s + t) = true) → post 0) (K1 : (∀ s, s < 84 → ib (84 * n + s) = true → tb (38 * s + t) = false) → post 1) : wpX_isTrackFree post u (nI n) (nI t) := by
  rw [cx_isTrackFree]
  refine lp1 (fun a (s : Nat) => kx_isTrackFree_2 post (nI n) (nI t) a (nI s) u) (fun s => s ≤ 84 ∧ ∀ s', s' < s → ib (84 * n + s') = true → tb (38 * s' + t) = false) (fun s => 84 - s) ?_ 0 ⟨Nat.zero_le _, fun s hs => by omega⟩
  rintro a s ⟨hs, h⟩ hr
  show kx_isTrackFree_2 _ _ _ _ _ _
  rw [cx_isTrackFree_2]
  refine pk_le 84 s (fun h84 => K1 (fun s' hs' => h s' (by omega))) (fun hlt => ?_)
  simp only [m84, m38, clI (show 84 * n + s < 2 ^ 31 by omega), clI (show 38 * s + t < 2 ^ 31 by omega)]
  have step : (ib (84 * n + s) = true → tb (38 * s + t) = false) → kx_isTrackFree_2 post (nI n) (nI t) a (nI (s + 1)) u := fun h0 => hr (s + 1) ⟨by omega, fun s' hs' hi => by
    by_cases e : s' = s
    · rw [e] at hi ⊢; exact h0 hi
    · exact h s' (by omega) hi⟩ (by omega)
  refine ⟨pk_in (84 * n + s) 3192 (by omega), br_b (hI _ (by omega)) (fun e => nm_r (nI_1 s) (step (fun hi => by rw [e] at hi; exact absurd hi (by decide)))) (fun e => ⟨pk_in (38 * s + t) 3192 (by omega), br_b (hT _ (by omega)) (fun e' => nm_r (nI_1 s) (step (fun _ => e'))) (fun e' => K0 ⟨s, hlt, e, e'⟩)⟩)⟩
theorem hx_giveTrack {post : SX → Prop} {u : SX} {ib tb : Nat → Bool} (hI : It u ib) (hT : Tk u tb) {n : Nat} (hn : n < 38) (hfree : ∀ s, s < 84 → tb (38 * s + n) = false)
    (K : ∀ u' t tb', fr [36, 37] u u' → t ≤ n → (∀ s, s < 84 → ib (84 * n + s) = true → tb (38 * s + t) = false) → Tk u' tb' → (∀ s t', s < 84 → t' < 38 → tb' (38 * s + t') = (tb (38 * s + t') || (decide (t' = t) && ib (84 * n + s)))) →
      ao u' 37 n = nI t → (∀ m, m ≠ n → ao u' 37 m = ao u 37 m) → post u') : wpX_giveTrack post u (nI n) := by
  have H23 : ∀ t, t ≤ n → (∀ s, s < 84 → ib (84 * n + s) = true → tb (38 * s + t) = false) → kx_giveTrack_23 post (nI n) (nI t) u := by
    intro t ht hf
    rw [cx_giveTrack_23]
    simp only [clI (show n < 2 ^ 31 by omega), vby (show t < 128 by omega)]
    refine ⟨pk_in n 38 hn, nm_e ?_⟩
    refine pk_loop (fun a s w => kx_giveTrack_33 post (nI n) (nI t) a (nI s) w) (fun s w => fr [36, 37] u w ∧ ao w 37 = upd (ao u 37) n (nI t) ∧ ∃ tb', Tk w tb' ∧ ∀ s' t', s' < 84 → t' < 38 → tb' (38 * s' + t') = (tb (38 * s' + t') || (decide (t' = t ∧ s' < s) && ib (84 * n + s')))) 84 0 _ (Nat.zero_le _)
      ⟨fr_a fr_rf (by decide), rfl, tb, hT, fun s' t' _ _ => by rw [decide_eq_false (by omega), Bool.false_and, Bool.or_false]⟩ ?_ ?_
    · rintro a w ⟨f1, f2, tb', f3, f4⟩
      show kx_giveTrack_33 _ _ _ _ _ _
      rw [cx_giveTrack_33]
      refine pk_le 84 84 (fun _ => K w t tb' f1 ht hf f3 (fun s' t' hs' ht' => ?_) (by rw [f2, u_s]) (fun m hm => by rw [f2, u_n hm])) (fun h => absurd h (by omega))
      rw [f4 s' t' hs' ht']
      by_cases e : t' = t
      · rw [decide_eq_true ⟨e, hs'⟩, decide_eq_true e]
      · rw [decide_eq_false (fun z => e z.1), decide_eq_false e]
    · rintro a s w hs ⟨f1, f2, tb', f3, f4⟩ hr
      show kx_giveTrack_33 _ _ _ _ _ _
      rw [cx_giveTrack_33]
      simp only [m84, m38, clI (show 84 * n + s < 2 ^ 31 by omega), clI (show 38 * s + t < 2 ^ 31 by omega), vo_1]
      refine pk_le 84 s (fun h => absurd h (by omega)) (fun _ => ⟨pk_in (84 * n + s) 3192 (by omega), br_b ((It_fr hI f1) _ (by omega)) (fun e => nm_r (nI_1 s) (hr w ⟨f1, f2, tb', f3, fun s' t' hs' ht' => ?_⟩)) (fun e => ⟨pk_in (38 * s + t) 3192 (by omega), nm_e (nm_r (nI_1 s) (hr _ ⟨fr_a f1 (by decide), f2, fun i => if i = 38 * s + t then true else tb' i, fun i hi => ?_, fun s' t' hs' ht' => ?_⟩))⟩)⟩)
      · rw [f4 s' t' hs' ht']
        by_cases e' : s' = s
        · rw [e', e, Bool.and_false, Bool.and_false]
        · have : (t' = t ∧ s' < s) ↔ (t' = t ∧ s' < s + 1) := by omega
          rw [decide_eq_decide.mpr this]
      · show upd (ao w 36) (38 * s + t) 1 i = bI (if i = 38 * s + t then true else tb' i)
        by_cases e' : i = 38 * s + t
        · rw [e', u_s, if_pos rfl]; rfl
        · rw [u_n e', if_neg e']; exact f3 i hi
      · show (if 38 * s' + t' = 38 * s + t then true else tb' (38 * s' + t')) = _
        by_cases e' : s' = s ∧ t' = t
        · rw [if_pos (by omega), decide_eq_true (by omega), e'.1, e, Bool.true_and, Bool.or_true]
        · rw [if_neg (by omega), f4 s' t' hs' ht']
          have : (t' = t ∧ s' < s) ↔ (t' = t ∧ s' < s + 1) := by omega
          rw [decide_eq_decide.mpr this]
  rw [cx_giveTrack]
  refine lp1 (fun a (t : Nat) => kx_giveTrack_2 post (nI n) a (nI t) u) (fun t => t ≤ n) (fun t => n - t) ?_ 0 (Nat.zero_le _)
  rintro a t ht hr
  show kx_giveTrack_2 _ _ _ _ _
  rw [cx_giveTrack_2]
  refine pk_le 37 t (fun h37 => H23 t ht (fun s hs _ => ?_)) (fun h37 => ?_)
  · rw [show t = n from by omega]; exact hfree s hs
  · refine hx_isTrackFree hI hT hn (by omega) (fun hx => br_t rfl (nm_r (nI_1 t) (hr (t + 1) ?_ ?_))) (fun hf => br_f (by decide) (H23 t ht hf))
    · obtain ⟨s, hs, h1, h2⟩ := hx
      have : t ≠ n := fun e => by rw [e, hfree s hs] at h2; exact absurd h2 (by decide)
      omega
    · obtain ⟨s, hs, h1, h2⟩ := hx
      have : t ≠ n := fun e => by rw [e, hfree s hs] at h2; exact absurd h2 (by decide)
      omega
theorem hx_sources {post : Int32 → Prop} {u : SX} {C : Nat} (h : fo u 3 = nI C) (K : post (nI (C + 2))) : wpX_sources post u := by
  rw [cx_sources, h]
  have e : (12 : Int32) + nI C - 10 = nI (C + 2) := by
    show nI 12 + nI C - nI 10 = _
    rw [nI_add, pk_sub (by omega)]
    exact congrArg nI (by omega)
  rw [e]; exact K
/-- no two sources of one track meet -/
def Dj (ib : Nat → Bool) (tr : Nat → Nat) (M : Nat) : Prop := ∀ n m, n < M → m < M → n ≠ m → tr n = tr m → ∀ s, s < 84 → ib (84 * n + s) = true → ib (84 * m + s) = true → False
theorem hx_wa138 {post : SX → Prop} {u : SX} {C : Nat} (hc : fo u 3 = nI C) (hC : C ≤ 36) {ib : Nat → Bool} (hI : It u ib) (hT : Tk u (fun _ => false))
    (K : ∀ u' tr, fr [36, 37] u u' → (∀ n, n < C + 2 → ao u' 37 n = nI (tr n) ∧ tr n < 38) → Dj ib tr (C + 2) → post u') : ∃ a, kx_wireAll_138 post a 0 u := by
  refine pk_loop (fun a n s => kx_wireAll_138 post a (nI n) s) (fun n s => fr [36, 37] u s ∧ ∃ tb tr, Tk s tb ∧ (∀ m, m < n → ao s 37 m = nI (tr m) ∧ tr m ≤ m) ∧ (∀ s t, s < 84 → t < 38 → tb (38 * s + t) = true → ∃ m, m < n ∧ tr m = t) ∧ (∀ m s, m < n → s < 84 → ib (84 * m + s) = true → tb (38 * s + tr m) = true) ∧ Dj ib tr n) (C + 2) 0 u (Nat.zero_le _)
    ⟨fr_rf, fun _ => false, fun _ => 0, hT, fun m hm => by omega, fun s t _ _ h => (Bool.false_ne_true h).elim, fun m s hm => by omega, fun n m hn => by omega⟩ ?_ ?_
  · rintro a s ⟨f1, tb, tr, f2, f3, f4, f5, f6⟩
    show kx_wireAll_138 _ _ _ _
    rw [cx_wireAll_138]
    refine hx_sources (C := C) (by rw [fr_fo f1 3]; exact hc) (pk_le (C + 2) (C + 2) (fun _ => K s tr f1 (fun n hn => ⟨(f3 n hn).1, by have := (f3 n hn).2; omega⟩) f6) (fun h => absurd h (by omega)))
  · rintro a n s hn ⟨f1, tb, tr, f2, f3, f4, f5, f6⟩ hr
    show kx_wireAll_138 _ _ _ _
    rw [cx_wireAll_138]
    refine hx_sources (C := C) (by rw [fr_fo f1 3]; exact hc) (pk_le (C + 2) n (fun h => absurd h (by omega)) (fun _ => ?_))
    refine hx_giveTrack (It_fr hI f1) f2 (by omega) (fun x hx => ?_) (fun u' t tb' g1 g2 g3 g4 g5 g6 g7 => ?_)
    · cases h : tb (38 * x + n) with
      | false => rfl
      | true =>
        obtain ⟨m, hm, e⟩ := f4 x n hx (by omega) h
        have := (f3 m hm).2
        omega
    · refine nm_r (nI_1 n) (hr u' ⟨fr_tr f1 g1, tb', fun m => if m = n then t else tr m, g4, fun m hm => ?_, fun x t' hx ht' h => ?_, fun m x hm hx h => ?_, fun p q hp hq hpq e x hx h1 h2 => ?_⟩)
      · dsimp only
        by_cases e : m = n
        · rw [if_pos e, e]; exact ⟨g6, g2⟩
        · rw [if_neg e, g7 m e]; exact f3 m (by omega)
      · dsimp only
        rw [g5 x t' hx ht', Bool.or_eq_true] at h
        rcases h with h | h
        · obtain ⟨m, hm, e⟩ := f4 x t' hx ht' h
          exact ⟨m, by omega, by rw [if_neg (by omega)]; exact e⟩
        · rw [Bool.and_eq_true] at h
          exact ⟨n, by omega, by rw [if_pos rfl]; exact (of_decide_eq_true h.1).symm⟩
      · dsimp only
        by_cases e : m = n
        · rw [if_pos e, g5 x t hx (by omega), decide_eq_true rfl, ← e, h, Bool.true_and, Bool.or_true]
        · rw [if_neg e, g5 x (tr m) hx (by have := (f3 m (by omega)).2; omega), f5 m x (by omega) hx h, Bool.true_or]
      · dsimp only at e
        have key : ∀ m, m < n → tr m = t → ib (84 * m + x) = true → ib (84 * n + x) = true → False := by
          intro m hm et hi hj
          have a1 := f5 m x hm hx hi
          rw [et, g3 x hx hj] at a1
          exact absurd a1 (by decide)
        by_cases ep : p = n
        · rw [if_pos ep, if_neg (by omega)] at e
          rw [ep] at h1
          exact key q (by omega) e.symm h2 h1
        · rw [if_neg ep] at e
          by_cases eq : q = n
          · rw [if_pos eq] at e
            rw [eq] at h2
            exact key p (by omega) e h1 h2
          · rw [if_neg eq] at e
            exact f6 p q (by omega) (by omega) hpq e x hx h1 h2
theorem hx_wa87 {post : SX → Prop} {J : Int32 → SX → Prop} {x1 : Int32} {u : SX} {ib : Nat → Bool} (hU : Us u ib) {B : Nat} (hW : Wo u B) (hB : B ≤ 102) (K : ∀ u', fr [30] u u' → Wo u' (B + 34) → ∀ y, y = x1 + 1 → J y u') : ∃ a, kx_wireAll_87 post J x1 a 0 u := by
  refine pk_loop (fun a s w => kx_wireAll_87 post J x1 a (nI s) w) (fun s w => fr [30] u w ∧ (∀ s', s' < s → ∃ x, ao w 30 s' = nI x ∧ x ≤ B + 34) ∧ ∀ s', s ≤ s' → s' < 84 → ∃ x, ao w 30 s' = nI x ∧ x ≤ B) 84 0 u (Nat.zero_le _) ⟨fr_rf, fun s hs => by omega, fun s _ hs => hW s hs⟩ ?_ ?_
  · rintro a w ⟨f1, f2, f3⟩
    show kx_wireAll_87 _ _ _ _ _ _
    rw [cx_wireAll_87]
    exact pk_le 84 84 (fun _ => K w f1 f2) (fun h => absurd h (by omega))
  · rintro a s w hs ⟨f1, f2, f3⟩ hr
    obtain ⟨x, hx1, hx2⟩ := f3 s (Nat.le_refl _) hs
    have hcl := cn_le (fun n => ib (84 * n + s)) 38
    have put : ∀ y z : Nat, y ≤ B + 34 → z = s + 1 → kx_wireAll_87 post J x1 a (nI z) (sa w 30 (upd (ao w 30) s (nI y))) := by
      intro y z hy ez
      rw [ez]
      refine hr _ ⟨fr_a f1 (by decide), fun s' hs' => ?_, fun s' h1 h2 => ?_⟩
      · show ∃ x, upd (ao w 30) s (nI y) s' = nI x ∧ _
        by_cases e : s' = s
        · exact ⟨y, by rw [e, u_s], hy⟩
        · rw [u_n e]; exact f2 s' (by omega)
      · show ∃ x, upd (ao w 30) s (nI y) s' = nI x ∧ _
        rw [u_n (by omega)]; exact f3 s' (by omega) h2
    show kx_wireAll_87 _ _ _ _ _ _
    rw [cx_wireAll_87]
    simp only [clI (show s < 2 ^ 31 by omega), fr_ao f1 29, hU.2 s hs, hx1]
    refine pk_le 84 s (fun h => absurd h (by omega)) (fun _ => ⟨pk_in s 84 hs, pk_in s 84 hs, pk_le (cn (fun n => ib (84 * n + s)) 38) 4 (fun h => ⟨pk_in s 84 hs, nm_r (e' := upd (ao w 30) s (nI x)) (by rw [show nI x + 0 = nI x from nI_add x 0]) (nm_r (nI_1 s) (put x (s + 1) (by omega) rfl))⟩) (fun h => ⟨pk_in s 84 hs, pk_in s 84 hs, nm_r (e' := upd (ao w 30) s (nI (x + (cn (fun n => ib (84 * n + s)) 38 - 4)))) ?_ (nm_r (nI_1 s) (put _ (s + 1) (by omega) rfl))⟩)⟩)
    rw [show nI (cn (fun n => ib (84 * n + s)) 38) - 4 = nI (cn (fun n => ib (84 * n + s)) 38 - 4) from pk_sub (b := 4) (by omega), nI_add]
theorem hx_wa66 {post : SX → Prop} {J : Int32 → SX → Prop} {x1 : Int32} {u : SX} {C : Nat} {P : Nat → Nat → Nat} {pl : Nat → Nat} (hP : Pn u C P) (hl : Pl u C pl) {ib0 : Nat → Bool} (hU : Us u ib0) {B : Nat} (hW : Wo u B) (hB : B ≤ 102) (hT : ∀ n, n < C + 2 → Tg u ib0 n (ow pl n))
    (K : ∀ u' ib, fr [29, 30, 31, 32, 33, 34, 35] u u' → Us u' ib → Wo u' (B + 34) → (∀ n, n < C + 2 → Tg u' ib n (ow pl n) ∧ Pk C P pl ib n (4 * C)) → ∀ y, y = x1 + 1 → J y u') : ∃ a, kx_wireAll_66 post J x1 a 0 u := by
  have hC := hP.2.2.1
  refine pk_loop (fun a n s => kx_wireAll_66 post J x1 a (nI n) s) (fun n s => fr [29, 30, 31, 32, 33, 34, 35] u s ∧ Wo s B ∧ ∃ ib, Us s ib ∧ ∀ m, m < C + 2 → Tg s ib m (ow pl m) ∧ (m < n → Pk C P pl ib m (4 * C))) (C + 2) 0 u (Nat.zero_le _) ⟨fr_rf, hW, ib0, hU, fun m hm => ⟨hT m hm, fun h => by omega⟩⟩ ?_ ?_
  · rintro a s ⟨f1, f2, ib, f3, f4⟩
    show kx_wireAll_66 _ _ _ _ _ _
    rw [cx_wireAll_66]
    refine hx_sources (C := C) (by rw [fr_fo f1 3]; exact hP.1) (pk_le (C + 2) (C + 2) (fun _ => ?_) (fun h => absurd h (by omega)))
    refine hx_wa87 f3 f2 hB (fun u' g1 g2 => K u' ib (fr_tr f1 (fr_mn g1 (by decide))) (Us_fr f3 g1) g2 (fun n hn => ⟨Tg_cg (f4 n hn).1 (fun _ _ => rfl) (fun _ _ => by rw [fr_ao g1 32]), (f4 n hn).2 hn⟩))
  · rintro a n s hn ⟨f1, f2, ib, f3, f4⟩ hr
    show kx_wireAll_66 _ _ _ _ _ _
    rw [cx_wireAll_66]
    refine hx_sources (C := C) (by rw [fr_fo f1 3]; exact hP.1) (pk_le (C + 2) n (fun h => absurd h (by omega)) (fun _ => ?_))
    have hl' := Pl_fr hl f1
    refine hx_wireSource (Pn_fr hP f1) hl' f3 (fun s hs => by obtain ⟨w, w1, w2⟩ := f2 s hs; exact ⟨w, w1, by omega⟩) hn (fun u' ib' g1 g2 g3 g4 g5 => ?_)
    refine nm_r (nI_1 n) (hr u' ⟨fr_tr f1 (fr_mn g1 (by decide)), Wo_fr f2 g1, ib', g2, fun m hm => ?_⟩)
    by_cases e : m = n
    · subst e; exact ⟨g4, fun _ => g5⟩
    · refine ⟨Tg_cg (f4 m hm).1 (fun x hx => (g3 _ (by omega)).1) (fun x hx => (g3 _ (by omega)).2), fun hlt j hj ej => ?_⟩
      have h0 := (f4 m hm).2 (by omega) j hj ej
      have b1 := stA_lt _ (hl' (j / 4) (by omega)).2 (j % 4) (by omega)
      have b2 := ow_lt hl' hP.2.1 hm
      rw [(g3 _ (by omega)).1, (g3 _ (by omega)).1]
      exact h0
theorem hx_wireAll {post : SX → Prop} {u : SX} {C : Nat} {P : Nat → Nat → Nat} {pl : Nat → Nat} (hP : Pn u C P) (hl : Pl u C pl)
    (K : ∀ u' ib tr, fr [29, 30, 31, 32, 33, 34, 35, 36, 37] u u' → It u' ib → (∀ n, n < C + 2 → Tg u' ib n (ow pl n) ∧ Pk C P pl ib n (4 * C)) → (∀ n, n < C + 2 → ao u' 37 n = nI (tr n) ∧ tr n < 38) → Dj ib tr (C + 2) → post u') : wpX_wireAll post u := by
  have hC := hP.2.2.1
  rw [cx_wireAll]
  refine pk_loop (fun a s w => kx_wireAll_2 post a (nI s) w) (fun s w => fr [29, 30] u w ∧ ∀ s', s' < s → ao w 29 s' = nI 0 ∧ ao w 30 s' = nI 0) 84 0 u (Nat.zero_le _) ⟨fr_rf, fun s hs => by omega⟩ ?_ ?_
  · rintro a w ⟨f1, f2⟩
    show kx_wireAll_2 _ _ _ _
    rw [cx_wireAll_2]
    refine pk_le 84 84 (fun _ => ?_) (fun h => absurd h (by omega))
    refine pk_loop (fun a i v => kx_wireAll_30 post a (nI i) v) (fun i v => fr [31, 36] w v ∧ ∀ i', i' < i → ao v 31 i' = bI false ∧ ao v 36 i' = bI false) 3192 0 w (Nat.zero_le _) ⟨fr_rf, fun s hs => by omega⟩ ?_ ?_
    · rintro a v ⟨g1, g2⟩
      show kx_wireAll_30 _ _ _ _
      rw [cx_wireAll_30]
      refine pk_le 3192 3192 (fun _ => ?_) (fun h => absurd h (by omega))
      have q1 : fr [29, 30, 31, 36] u v := fr_tr (fr_mn f1 (by decide)) (fr_mn g1 (by decide))
      have hP' := Pn_fr hP q1
      have hl' := Pl_fr hl q1
      refine pk_loop (fun a r s => kx_wireAll_59 post a (nI r) s) (fun r s => fr [29, 30, 31, 32, 33, 34, 35] v s ∧ Wo s (34 * r) ∧ ∃ ib, Us s ib ∧ (∀ n, n < C + 2 → Tg s ib n (ow pl n)) ∧ (1 ≤ r → ∀ n, n < C + 2 → Pk C P pl ib n (4 * C))) 3 0 v (Nat.zero_le _)
        ⟨fr_rf, fun s hs => ⟨0, by rw [fr_ao g1 30]; exact (f2 s hs).2, by omega⟩, fun _ => false, ⟨fun i hi => (g2 i hi).1, fun s hs => by rw [fr_ao g1 29, (f2 s hs).1, cn_0 (fun _ _ => rfl)]⟩, fun n _ s _ h => (Bool.false_ne_true h).elim, fun h => by omega⟩ ?_ ?_
      · rintro a s ⟨h1, h2, ib, h3, h4, h5⟩
        show kx_wireAll_59 _ _ _ _
        rw [cx_wireAll_59]
        refine pk_le 3 3 (fun _ => ?_) (fun h => absurd h (by omega))
        refine hx_wa138 (C := C) (by rw [fr_fo h1 3]; exact hP'.1) hC (ib := ib) h3.1 (fun i hi => by rw [fr_ao h1 36]; exact (g2 i hi).2) (fun u' tr k1 k2 k3 => ?_)
        refine K u' ib tr (fr_tr (fr_mn q1 (by decide)) (fr_tr (fr_mn h1 (by decide)) (fr_mn k1 (by decide)))) (It_fr h3.1 k1) (fun n hn => ⟨Tg_cg (h4 n hn) (fun _ _ => rfl) (fun _ _ => by rw [fr_ao k1 32]), h5 (by omega) n hn⟩) k2 k3
      · rintro a r s hr3 ⟨h1, h2, ib, h3, h4, h5⟩ hr
        show kx_wireAll_59 _ _ _ _
        rw [cx_wireAll_59]
        refine pk_le 3 r (fun h => absurd h (by omega)) (fun _ => ?_)
        refine hx_wa66 (Pn_fr hP' h1) (Pl_fr hl' h1) h3 h2 (by omega) h4 (fun u' ib' k1 k2 k3 k4 y ey => ?_)
        rw [ey, nI_1]
        exact hr u' ⟨fr_tr h1 k1, by rw [show 34 * (r + 1) = 34 * r + 34 from by omega]; exact k3, ib', k2, fun n hn => (k4 n hn).1, fun _ n hn => (k4 n hn).2⟩
    · rintro a i v hi ⟨g1, g2⟩ hr
      show kx_wireAll_30 _ _ _ _
      rw [cx_wireAll_30]
      simp only [clI (show i < 2 ^ 31 by omega), vo_0]
      refine pk_le 3192 i (fun h => absurd h (by omega)) (fun _ => ⟨pk_in i 3192 hi, nm_e ⟨pk_in i 3192 hi, nm_e (nm_r (nI_1 i) (hr _ ⟨fr_a (fr_a g1 (by decide)) (by decide), fun i' hi' => ?_⟩))⟩⟩)
      show upd (ao v 31) i 0 i' = _ ∧ upd (ao v 36) i 0 i' = _
      by_cases e : i' = i
      · rw [e, u_s, u_s]; exact ⟨rfl, rfl⟩
      · rw [u_n e, u_n e]; exact g2 i' (by omega)
  · rintro a s w hs ⟨f1, f2⟩ hr
    show kx_wireAll_2 _ _ _ _
    rw [cx_wireAll_2]
    simp only [clI (show s < 2 ^ 31 by omega)]
    refine pk_le 84 s (fun h => absurd h (by omega)) (fun _ => ⟨pk_in s 84 hs, nm_e ⟨pk_in s 84 hs, nm_e (nm_r (nI_1 s) (hr _ ⟨fr_a (fr_a f1 (by decide)) (by decide), fun i' hi' => ?_⟩))⟩⟩)
    show upd (ao w 29) s 0 i' = _ ∧ upd (ao w 30) s 0 i' = _
    by_cases e : i' = s
    · rw [e, u_s, u_s]; exact ⟨rfl, rfl⟩
    · rw [u_n e, u_n e]; exact f2 i' (by omega)
end
section
/-! ===== F: the bits of trees ===== -/
def kx_writeTree_9 (post : SX → Prop) (x1 : Int32) (x2 : Int32) (n : Nat) (x3 : Int32) (u : SX) : Prop := match u with
  | (qf_gates, qf_nodes, qf_joinedSize, qf_cells, qf_chanceState, qf_isBuilt, qf_levels, qa_kinds, qa_firsts, qa_seconds, qa_thirds, qa_nextOf, qa_shownBy, qa_left, qa_right, qa_endOf, qa_cutCount, qa_cutSize, qa_cutLeaf, qa_cutDepth, qa_depthOf, qa_needed, qa_tableOf, qa_rows, qa_joined, qa_tableBits, qa_cellSource, qa_placeOf, qa_cellAt, qa_used, qa_worn, qa_inTree, qa_treeFrom, qa_farness, qa_cameFrom, qa_settled, qa_trackTaken, qa_trackOf, qa_switchBits, qa_pinTrack, qa_outTrack, qa_padTrack, qa_deviceTable, qa_hasFlip, qa_registerPlace, qa_outputPlace, qa_wireRoot, qa_wireLevel, qa_flip, qa_tableOut) => wX_writeTree_9 post x1 x2 qf_gates qf_nodes qf_joinedSize qf_cells qf_chanceState qf_isBuilt qf_levels n x3 qa_kinds qa_firsts qa_seconds qa_thirds qa_nextOf qa_shownBy qa_left qa_right qa_endOf qa_cutCount qa_cutSize qa_cutLeaf qa_cutDepth qa_depthOf qa_needed qa_tableOf qa_rows qa_joined qa_tableBits qa_cellSource qa_placeOf qa_cellAt qa_used qa_worn qa_inTree qa_treeFrom qa_farness qa_cameFrom qa_settled qa_trackTaken qa_trackOf qa_switchBits qa_pinTrack qa_outTrack qa_padTrack qa_deviceTable qa_hasFlip qa_registerPlace qa_outputPlace qa_wireRoot qa_wireLevel qa_flip qa_tableOut
theorem cx_writeTree_9 (post : SX → Prop) (x1 : Int32) (x2 : Int32) (n : Nat) (x3 : Int32) (u : SX) : kx_writeTree_9 post x1 x2 (n + 1) x3 u = (((84 ≤ x3 → (post u)) ∧ (¬ 84 ≤ x3 → (∀ x4_4 : Int32, x4_4 = (x1 * 84) + x3 → (vp_in x4_4 3192 ∧ (((((ao u 31) x4_4.toNatClampNeg) = 0 → (∀ x3_7 : Int32, x3_7 = x3 + 1 → (kx_writeTree_9 post x1 x2 n x3_7 u))) ∧ (¬ ((ao u 31) x4_4.toNatClampNeg) = 0 → (vp_in x4_4 3192 ∧ (((((ao u 32) x4_4.toNatClampNeg) < 0 → (∀ x3_10 : Int32, x3_10 = x3 + 1 → (kx_writeTree_9 post x1 x2 n x3_10 u))) ∧ (¬ ((ao u 32) x4_4.toNatClampNeg) < 0 → (vp_in x4_4 3192 ∧ (wpX_commonCrossing (fun r_12 => (wpX_sideAt (fun r_13 => (vp_in x4_4 3192 ∧ (wpX_sideAt (fun r_15 => (∀ x8_16 : Int32, x8_16 = (r_12 * 38) + x2 → (vp_in x8_16 1862 ∧ (wpX_pairBit (fun r_18 => (vp_in x8_16 1862 ∧ ∀ a_switchBits_20 : Nat → Int32, a_switchBits_20 = upd (ao u 38) x8_16.toNatClampNeg (vp_nar .byte ((((ao u 38) x8_16.toNatClampNeg) ||| r_18).toInt8.toInt32)) → (∀ x3_21 : Int32, x3_21 = x3 + 1 → (kx_writeTree_9 post x1 x2 n x3_21 (sa u 38 a_switchBits_20))))) r_13 r_15)))) r_12 ((ao u 32) x4_4.toNatClampNeg)))) r_12 x3)) x3 ((ao u 32) x4_4.toNatClampNeg))))))))))))))) := rfl
theorem cx_writeTree (post : SX → Prop) (u : SX) (p0 : Int32) : wpX_writeTree post u p0 = (vp_in p0 38 ∧ (∀ x2_2 : Int32, x2_2 = (ao u 37) p0.toNatClampNeg → (∃ n9 : Nat, kx_writeTree_9 post p0 x2_2 n9 0 u))) := rfl
theorem cx_isWired (post : Int32 → Prop) (u : SX) (p0 : Int32) : wpX_isWired post u p0 = (wpX_stretchOfSource (fun r_1 => (vp_in ((p0 * 84) + r_1) 3192 ∧ (narrow .boolean (.int ((ao u 31) ((p0 * 84) + r_1).toNatClampNeg)) = .int ((ao u 31) ((p0 * 84) + r_1).toNatClampNeg) ∧ (post ((ao u 31) ((p0 * 84) + r_1).toNatClampNeg))))) u p0) := rfl
def kx_clearBits_81 (post : SX → Prop) (n : Nat) (x1 : Int32) (u : SX) : Prop := match u with
  | (qf_gates, qf_nodes, qf_joinedSize, qf_cells, qf_chanceState, qf_isBuilt, qf_levels, qa_kinds, qa_firsts, qa_seconds, qa_thirds, qa_nextOf, qa_shownBy, qa_left, qa_right, qa_endOf, qa_cutCount, qa_cutSize, qa_cutLeaf, qa_cutDepth, qa_depthOf, qa_needed, qa_tableOf, qa_rows, qa_joined, qa_tableBits, qa_cellSource, qa_placeOf, qa_cellAt, qa_used, qa_worn, qa_inTree, qa_treeFrom, qa_farness, qa_cameFrom, qa_settled, qa_trackTaken, qa_trackOf, qa_switchBits, qa_pinTrack, qa_outTrack, qa_padTrack, qa_deviceTable, qa_hasFlip, qa_registerPlace, qa_outputPlace, qa_wireRoot, qa_wireLevel, qa_flip, qa_tableOut) => wX_clearBits_81 post qf_gates qf_nodes qf_joinedSize qf_cells qf_chanceState qf_isBuilt qf_levels n x1 qa_kinds qa_firsts qa_seconds qa_thirds qa_nextOf qa_shownBy qa_left qa_right qa_endOf qa_cutCount qa_cutSize qa_cutLeaf qa_cutDepth qa_depthOf qa_needed qa_tableOf qa_rows qa_joined qa_tableBits qa_cellSource qa_placeOf qa_cellAt qa_used qa_worn qa_inTree qa_treeFrom qa_farness qa_cameFrom qa_settled qa_trackTaken qa_trackOf qa_switchBits qa_pinTrack qa_outTrack qa_padTrack qa_deviceTable qa_hasFlip qa_registerPlace qa_outputPlace qa_wireRoot qa_wireLevel qa_flip qa_tableOut
theorem cx_clearBits_81 (post : SX → Prop) (n : Nat) (x1 : Int32) (u : SX) : kx_clearBits_81 post (n + 1) x1 u = (((6 ≤ x1 → (post u)) ∧ (¬ 6 ≤ x1 → (vp_in x1 6 ∧ ∀ a_padTrack_6 : Nat → Int32, a_padTrack_6 = upd (ao u 41) x1.toNatClampNeg (vp_nar .byte 0) → (∀ x1_7 : Int32, x1_7 = x1 + 1 → (kx_clearBits_81 post n x1_7 (sa u 41 a_padTrack_6))))))) := rfl
def kx_clearBits_46 (post : SX → Prop) (n : Nat) (x1 : Int32) (u : SX) : Prop := match u with
  | (qf_gates, qf_nodes, qf_joinedSize, qf_cells, qf_chanceState, qf_isBuilt, qf_levels, qa_kinds, qa_firsts, qa_seconds, qa_thirds, qa_nextOf, qa_shownBy, qa_left, qa_right, qa_endOf, qa_cutCount, qa_cutSize, qa_cutLeaf, qa_cutDepth, qa_depthOf, qa_needed, qa_tableOf, qa_rows, qa_joined, qa_tableBits, qa_cellSource, qa_placeOf, qa_cellAt, qa_used, qa_worn, qa_inTree, qa_treeFrom, qa_farness, qa_cameFrom, qa_settled, qa_trackTaken, qa_trackOf, qa_switchBits, qa_pinTrack, qa_outTrack, qa_padTrack, qa_deviceTable, qa_hasFlip, qa_registerPlace, qa_outputPlace, qa_wireRoot, qa_wireLevel, qa_flip, qa_tableOut) => wX_clearBits_46 post qf_gates qf_nodes qf_joinedSize qf_cells qf_chanceState qf_isBuilt qf_levels n x1 qa_kinds qa_firsts qa_seconds qa_thirds qa_nextOf qa_shownBy qa_left qa_right qa_endOf qa_cutCount qa_cutSize qa_cutLeaf qa_cutDepth qa_depthOf qa_needed qa_tableOf qa_rows qa_joined qa_tableBits qa_cellSource qa_placeOf qa_cellAt qa_used qa_worn qa_inTree qa_treeFrom qa_farness qa_cameFrom qa_settled qa_trackTaken qa_trackOf qa_switchBits qa_pinTrack qa_outTrack qa_padTrack qa_deviceTable qa_hasFlip qa_registerPlace qa_outputPlace qa_wireRoot qa_wireLevel qa_flip qa_tableOut
theorem cx_clearBits_46 (post : SX → Prop) (n : Nat) (x1 : Int32) (u : SX) : kx_clearBits_46 post (n + 1) x1 u = (((36 ≤ x1 → (∃ n81 : Nat, kx_clearBits_81 post n81 0 u)) ∧ (¬ 36 ≤ x1 → (vp_in x1 36 ∧ ∀ a_outTrack_9 : Nat → Int32, a_outTrack_9 = upd (ao u 40) x1.toNatClampNeg (vp_nar .byte 0) → (vp_in x1 36 ∧ ∀ a_deviceTable_11 : Nat → Int32, a_deviceTable_11 = upd (ao u 42) x1.toNatClampNeg 0 → (vp_in x1 36 ∧ ∀ a_hasFlip_13 : Nat → Int32, a_hasFlip_13 = upd (ao u 43) x1.toNatClampNeg (vp_nar .boolean 0) → (∀ x1_14 : Int32, x1_14 = x1 + 1 → (kx_clearBits_46 post n x1_14 (sa (sa (sa u 40 a_outTrack_9) 42 a_deviceTable_11) 43 a_hasFlip_13))))))))) := by simp only [n_ffx, n_afx, n_aax, n_fmx, n_amx]; rfl
def kx_clearBits_24 (post : SX → Prop) (n : Nat) (x1 : Int32) (u : SX) : Prop := match u with
  | (qf_gates, qf_nodes, qf_joinedSize, qf_cells, qf_chanceState, qf_isBuilt, qf_levels, qa_kinds, qa_firsts, qa_seconds, qa_thirds, qa_nextOf, qa_shownBy, qa_left, qa_right, qa_endOf, qa_cutCount, qa_cutSize, qa_cutLeaf, qa_cutDepth, qa_depthOf, qa_needed, qa_tableOf, qa_rows, qa_joined, qa_tableBits, qa_cellSource, qa_placeOf, qa_cellAt, qa_used, qa_worn, qa_inTree, qa_treeFrom, qa_farness, qa_cameFrom, qa_settled, qa_trackTaken, qa_trackOf, qa_switchBits, qa_pinTrack, qa_outTrack, qa_padTrack, qa_deviceTable, qa_hasFlip, qa_registerPlace, qa_outputPlace, qa_wireRoot, qa_wireLevel, qa_flip, qa_tableOut) => wX_clearBits_24 post qf_gates qf_nodes qf_joinedSize qf_cells qf_chanceState qf_isBuilt qf_levels n x1 qa_kinds qa_firsts qa_seconds qa_thirds qa_nextOf qa_shownBy qa_left qa_right qa_endOf qa_cutCount qa_cutSize qa_cutLeaf qa_cutDepth qa_depthOf qa_needed qa_tableOf qa_rows qa_joined qa_tableBits qa_cellSource qa_placeOf qa_cellAt qa_used qa_worn qa_inTree qa_treeFrom qa_farness qa_cameFrom qa_settled qa_trackTaken qa_trackOf qa_switchBits qa_pinTrack qa_outTrack qa_padTrack qa_deviceTable qa_hasFlip qa_registerPlace qa_outputPlace qa_wireRoot qa_wireLevel qa_flip qa_tableOut
theorem cx_clearBits_24 (post : SX → Prop) (n : Nat) (x1 : Int32) (u : SX) : kx_clearBits_24 post (n + 1) x1 u = (((144 ≤ x1 → (∃ n46 : Nat, kx_clearBits_46 post n46 0 u)) ∧ (¬ 144 ≤ x1 → (vp_in x1 144 ∧ ∀ a_pinTrack_16 : Nat → Int32, a_pinTrack_16 = upd (ao u 39) x1.toNatClampNeg (vp_nar .byte 0) → (∀ x1_17 : Int32, x1_17 = x1 + 1 → (kx_clearBits_24 post n x1_17 (sa u 39 a_pinTrack_16))))))) := rfl
def kx_clearBits_2 (post : SX → Prop) (n : Nat) (x1 : Int32) (u : SX) : Prop := match u with
  | (qf_gates, qf_nodes, qf_joinedSize, qf_cells, qf_chanceState, qf_isBuilt, qf_levels, qa_kinds, qa_firsts, qa_seconds, qa_thirds, qa_nextOf, qa_shownBy, qa_left, qa_right, qa_endOf, qa_cutCount, qa_cutSize, qa_cutLeaf, qa_cutDepth, qa_depthOf, qa_needed, qa_tableOf, qa_rows, qa_joined, qa_tableBits, qa_cellSource, qa_placeOf, qa_cellAt, qa_used, qa_worn, qa_inTree, qa_treeFrom, qa_farness, qa_cameFrom, qa_settled, qa_trackTaken, qa_trackOf, qa_switchBits, qa_pinTrack, qa_outTrack, qa_padTrack, qa_deviceTable, qa_hasFlip, qa_registerPlace, qa_outputPlace, qa_wireRoot, qa_wireLevel, qa_flip, qa_tableOut) => wX_clearBits_2 post qf_gates qf_nodes qf_joinedSize qf_cells qf_chanceState qf_isBuilt qf_levels n x1 qa_kinds qa_firsts qa_seconds qa_thirds qa_nextOf qa_shownBy qa_left qa_right qa_endOf qa_cutCount qa_cutSize qa_cutLeaf qa_cutDepth qa_depthOf qa_needed qa_tableOf qa_rows qa_joined qa_tableBits qa_cellSource qa_placeOf qa_cellAt qa_used qa_worn qa_inTree qa_treeFrom qa_farness qa_cameFrom qa_settled qa_trackTaken qa_trackOf qa_switchBits qa_pinTrack qa_outTrack qa_padTrack qa_deviceTable qa_hasFlip qa_registerPlace qa_outputPlace qa_wireRoot qa_wireLevel qa_flip qa_tableOut
theorem cx_clearBits_2 (post : SX → Prop) (n : Nat) (x1 : Int32) (u : SX) : kx_clearBits_2 post (n + 1) x1 u = (((1862 ≤ x1 → (∃ n24 : Nat, kx_clearBits_24 post n24 0 u)) ∧ (¬ 1862 ≤ x1 → (vp_in x1 1862 ∧ ∀ a_switchBits_19 : Nat → Int32, a_switchBits_19 = upd (ao u 38) x1.toNatClampNeg (vp_nar .byte 0) → (∀ x1_20 : Int32, x1_20 = x1 + 1 → (kx_clearBits_2 post n x1_20 (sa u 38 a_switchBits_19))))))) := rfl
theorem cx_clearBits (post : SX → Prop) (u : SX) : wpX_clearBits post u = (∃ n2 : Nat, kx_clearBits_2 post n2 0 u) := rfl
def pq (a b : Nat) : Nat := if b ≤ a then (if b = 0 then a - 1 else if b = 1 then a + 1 else 5) else (if a = 0 then b - 1 else if a = 1 then b + 1 else 5)
theorem pq_b : ∀ a, a < 4 → ∀ b, b < 4 → a ≠ b → pb a b = 2 ^ pq a b ∧ pq a b < 6 := by decide +kernel
theorem pq_j : ∀ x, x < 256 → (x / 64 < x / 16 % 4 ∧ x / 4 % 4 ≠ x % 4 ∧ pq (x / 64) (x / 16 % 4) = pq (x / 4 % 4) (x % 4)) → ((x / 64 = x / 4 % 4 ∧ x / 16 % 4 = x % 4) ∨ (x / 64 = x % 4 ∧ x / 16 % 4 = x / 4 % 4)) := by decide +kernel
theorem pq_i {a b c d : Nat} (ha : a < 4) (hb : b < 4) (hc : c < 4) (hd : d < 4) (h : a < b ∧ c ≠ d ∧ pq a b = pq c d) : (a = c ∧ b = d) ∨ (a = d ∧ b = c) := by
  have k := pq_j (64 * a + 16 * b + 4 * c + d) (by omega)
  rw [show (64 * a + 16 * b + 4 * c + d) / 64 = a from by omega, show (64 * a + 16 * b + 4 * c + d) / 16 % 4 = b from by omega, show (64 * a + 16 * b + 4 * c + d) / 4 % 4 = c from by omega, show (64 * a + 16 * b + 4 * c + d) % 4 = d from by omega] at k
  exact k h
/-- s hangs on f in the tree of n -/
def LK (u : SX) (ib : Nat → Bool) (n s f : Nat) : Prop := s < 84 ∧ f < 84 ∧ ib (84 * n + s) = true ∧ ao u 32 (84 * n + s) = nI f ∧ adj s f ∧ ib (84 * n + f) = true
def Sw (u0 : SX) (ib : Nat → Bool) (tr : Nat → Nat) (u : SX) (sw : Nat → Nat) (D : Nat → Nat → Prop) : Prop := (∀ i, i < 1862 → ao u 38 i = nI (sw i) ∧ sw i < 64) ∧
  (∀ i k, i < 1862 → (sw i).testBit k = true → ∃ n s f, D n s ∧ LK u0 ib n s f ∧ i = 38 * ccr s f + tr n ∧ k = pq (sd (ccr s f) s) (sd (ccr s f) f)) ∧
  ∀ n s f, D n s → LK u0 ib n s f → (sw (38 * ccr s f + tr n)).testBit (pq (sd (ccr s f) s) (sd (ccr s f) f)) = true
theorem adj_g {s f : Nat} (hs : s < 84) (hf : f < 84) (h : adj s f) : ccr s f < 49 ∧ sd (ccr s f) s < 4 ∧ sd (ccr s f) f < 4 ∧ sd (ccr s f) s ≠ sd (ccr s f) f ∧ sfr (ccr s f) (sd (ccr s f) s) = s + 1 ∧ sfr (ccr s f) (sd (ccr s f) f) = f + 1 := by
  obtain ⟨hne, k, hk, e⟩ := h
  exact adj_f f hf k hk s hs e hne
theorem Sw_D {u0 : SX} {ib : Nat → Bool} {tr : Nat → Nat} {u : SX} {sw : Nat → Nat} {D D' : Nat → Nat → Prop} (h : Sw u0 ib tr u sw D) (hd : ∀ n s f, LK u0 ib n s f → (D n s ↔ D' n s)) : Sw u0 ib tr u sw D' := by
  refine ⟨h.1, fun i k hi hk => ?_, fun n s f hD hL => h.2.2 n s f ((hd n s f hL).mpr hD) hL⟩
  obtain ⟨n, s, f, a, b, c⟩ := h.2.1 i k hi hk
  exact ⟨n, s, f, (hd n s f b).mp a, b, c⟩
theorem nI_or (a b : Nat) : nI a ||| nI b = nI (a ||| b) := by
  apply Int32.toBitVec_inj.mp
  rw [Int32.toBitVec_or]
  show BitVec.ofNat 32 a ||| BitVec.ofNat 32 b = BitVec.ofNat 32 (a ||| b)
  exact BitVec.ofNat_or.symm
theorem hx_writeTree {post : SX → Prop} {u0 u : SX} {ib : Nat → Bool} {tr : Nat → Nat} {n o : Nat} (hn : n < 38) (hI : It u ib) (hl : ∀ i, ao u 32 i = ao u0 32 i) (hT : Tg u0 ib n o) (htr : ao u 37 n = nI (tr n)) (ht : tr n < 38) {sw : Nat → Nat} (hS : Sw u0 ib tr u sw (fun m _ => m < n))
    (K : ∀ u' sw', fr [38] u u' → Sw u0 ib tr u' sw' (fun m _ => m < n + 1) → post u') : wpX_writeTree post u (nI n) := by
  rw [cx_writeTree, clI (by omega), htr]
  refine ⟨pk_in n 38 hn, nm_e ?_⟩
  refine pk_loop (fun a s w => kx_writeTree_9 post (nI n) (nI (tr n)) a (nI s) w) (fun s w => fr [38] u w ∧ ∃ sw', Sw u0 ib tr w sw' (fun m x => m < n ∨ (m = n ∧ x < s))) 84 0 u (Nat.zero_le _) ⟨fr_rf, sw, Sw_D hS (fun m s f _ => by omega)⟩ ?_ ?_
  · rintro a w ⟨f1, sw', f2⟩
    show kx_writeTree_9 _ _ _ _ _ _
    rw [cx_writeTree_9]
    refine pk_le 84 84 (fun _ => K w sw' f1 (Sw_D f2 (fun m s f h => ?_))) (fun h => absurd h (by omega))
    have := h.1
    omega
  · rintro a s w hs ⟨f1, sw', f2⟩ hr
    have hI' := It_fr hI f1
    have skip : (∀ f, ¬ LK u0 ib n s f) → kx_writeTree_9 post (nI n) (nI (tr n)) a (nI (s + 1)) w := by
      intro hno
      refine hr w ⟨f1, sw', Sw_D f2 (fun m x f h => ?_)⟩
      by_cases e : m = n ∧ x = s
      · rw [e.1, e.2] at h; exact absurd h (hno f)
      · omega
    show kx_writeTree_9 _ _ _ _ _ _
    rw [cx_writeTree_9]
    simp only [m84]
    refine pk_le 84 s (fun h => absurd h (by omega)) (fun _ => nm_e ⟨pk_in (84 * n + s) 3192 (by omega), ?_⟩)
    rw [clI (by omega), fr_ao f1 32, hl]
    refine br_b (hI' _ (by omega)) (fun e => nm_r (nI_1 s) (skip (fun f h => ?_))) (fun e => ⟨pk_in (84 * n + s) 3192 (by omega), ?_⟩)
    · rw [h.2.2.1] at e; exact absurd e (by decide)
    rcases (hT s hs e).1 with ⟨e1, e2⟩ | ⟨f, g1, g2, g3, g4⟩
    · rw [e1]
      refine br_t (by decide) (nm_r (nI_1 s) (skip (fun f h => ?_)))
      have h1 := h.2.2.2.1
      rw [e1, ← pI_s, pI_eq (by omega) (by have := h.2.1; omega)] at h1
      omega
    · have hLK : LK u0 ib n s f := ⟨hs, g1, e, g2, g4, g3⟩
      obtain ⟨a1, a2, a3, a4, a5, a6⟩ := adj_g hs g1 g4
      have hpq := pq_b _ a2 _ a3 a4
      have hsw := f2.1 (38 * ccr s f + tr n) (by omega)
      have hor : sw' (38 * ccr s f + tr n) ||| 2 ^ pq (sd (ccr s f) s) (sd (ccr s f) f) < 64 := Nat.or_lt_two_pow (n := 6) hsw.2 (Nat.pow_lt_pow_right (by omega) hpq.2)
      rw [g2]
      refine br_f (nI_pos (by omega)) ⟨pk_in (84 * n + s) 3192 (by omega), hx_commonCrossing hs g1 (hx_sideAt a1 hs ⟨pk_in (84 * n + s) 3192 (by omega), hx_sideAt a1 g1 ?_⟩)⟩
      rw [m38]
      refine nm_e ?_
      rw [clI (by omega), hsw.1]
      refine ⟨pk_in (38 * ccr s f + tr n) 1862 (by omega), hx_pairBit a2 a3 a4 ?_⟩
      rw [hpq.1, nI_or, vby (by omega)]
      refine ⟨pk_in (38 * ccr s f + tr n) 1862 (by omega), nm_e (nm_r (nI_1 s) (hr _ ⟨fr_a f1 (by decide), fun i => if i = 38 * ccr s f + tr n then sw' (38 * ccr s f + tr n) ||| 2 ^ pq (sd (ccr s f) s) (sd (ccr s f) f) else sw' i, fun i hi => ?_, fun i k hi hk => ?_, fun m x g hD hL => ?_⟩))⟩
      · show upd (ao w 38) (38 * ccr s f + tr n) _ i = nI (if i = 38 * ccr s f + tr n then _ else sw' i) ∧ (if i = 38 * ccr s f + tr n then _ else sw' i) < 64
        by_cases ei : i = 38 * ccr s f + tr n
        · rw [ei, u_s, if_pos rfl]; exact ⟨rfl, hor⟩
        · rw [u_n ei, if_neg ei]; exact f2.1 i hi
      · dsimp only at hk
        have old : (sw' i).testBit k = true → ∃ n_1 s_1 f, (n_1 < n ∨ n_1 = n ∧ s_1 < s + 1) ∧ LK u0 ib n_1 s_1 f ∧ i = 38 * ccr s_1 f + tr n_1 ∧ k = pq (sd (ccr s_1 f) s_1) (sd (ccr s_1 f) f) := by
          intro h
          obtain ⟨m, x, g, b1, b2⟩ := f2.2.1 i k hi h
          exact ⟨m, x, g, by omega, b2⟩
        by_cases ei : i = 38 * ccr s f + tr n
        · rw [if_pos ei, Nat.testBit_or, Bool.or_eq_true] at hk
          rcases hk with hk | hk
          · rw [← ei] at hk; exact old hk
          · rw [Nat.testBit_two_pow] at hk
            exact ⟨n, s, f, Or.inr ⟨rfl, by omega⟩, hLK, ei, (of_decide_eq_true hk).symm⟩
        · rw [if_neg ei] at hk; exact old hk
      · dsimp only
        by_cases ex : m = n ∧ x = s
        · obtain ⟨rfl, rfl⟩ := ex
          have : g = f := by
            have h1 := hL.2.2.2.1
            rw [g2] at h1
            exact ((nI_eq (by omega) (by have := hL.2.1; omega)).mp h1).symm
          subst this
          rw [if_pos rfl, Nat.testBit_or, Nat.testBit_two_pow, decide_eq_true rfl, Bool.or_true]
        · have h0 := f2.2.2 m x g (by omega) hL
          split
          · next ei => rw [Nat.testBit_or, ← ei, h0, Bool.true_or]
          · exact h0
theorem hx_isWired {post : Int32 → Prop} {u : SX} {C : Nat} {pl : Nat → Nat} (h : Pl u C pl) (hC : 10 ≤ C) (hC' : C ≤ 36) {ib : Nat → Bool} (hI : It u ib) {n : Nat} (hn : n < C + 2) (K : post (bI (ib (84 * n + ow pl n)))) : wpX_isWired post u (nI n) := by
  have ho := ow_lt h hC hn
  rw [cx_isWired]
  refine hx_stretchOfSource h hC hC' hn ?_
  rw [m84, clI (by omega), hI _ (by omega)]
  exact ⟨pk_in (84 * n + ow pl n) 3192 (by omega), bI_n, K⟩
theorem hx_clearBits {post : SX → Prop} {u : SX}
    (K : ∀ u', fr [38, 39, 40, 41, 42, 43] u u' → (∀ i, i < 1862 → ao u' 38 i = nI 0) → (∀ i, i < 144 → ao u' 39 i = nI 0) → (∀ p, p < 36 → ao u' 40 p = nI 0) → post u') : wpX_clearBits post u := by
  rw [cx_clearBits]
  refine pk_loop (fun a i w => kx_clearBits_2 post a (nI i) w) (fun i w => fr [38] u w ∧ ∀ j, j < i → ao w 38 j = nI 0) 1862 0 u (Nat.zero_le _) ⟨fr_rf, fun s hs => by omega⟩ ?_ ?_
  · rintro a w ⟨f1, f2⟩
    show kx_clearBits_2 _ _ _ _
    rw [cx_clearBits_2]
    refine pk_le 1862 1862 (fun _ => ?_) (fun h => absurd h (by omega))
    refine pk_loop (fun a i v => kx_clearBits_24 post a (nI i) v) (fun i v => fr [39] w v ∧ ∀ j, j < i → ao v 39 j = nI 0) 144 0 w (Nat.zero_le _) ⟨fr_rf, fun s hs => by omega⟩ ?_ ?_
    · rintro a v ⟨g1, g2⟩
      show kx_clearBits_24 _ _ _ _
      rw [cx_clearBits_24]
      refine pk_le 144 144 (fun _ => ?_) (fun h => absurd h (by omega))
      refine pk_loop (fun a i x => kx_clearBits_46 post a (nI i) x) (fun i x => fr [40, 42, 43] v x ∧ ∀ j, j < i → ao x 40 j = nI 0) 36 0 v (Nat.zero_le _) ⟨fr_rf, fun s hs => by omega⟩ ?_ ?_
      · rintro a x ⟨h1, h2⟩
        show kx_clearBits_46 _ _ _ _
        rw [cx_clearBits_46]
        refine pk_le 36 36 (fun _ => ?_) (fun h => absurd h (by omega))
        refine pk_loop (fun a i y => kx_clearBits_81 post a (nI i) y) (fun i y => fr [41] x y) 6 0 x (Nat.zero_le _) fr_rf ?_ ?_
        · rintro a y k1
          show kx_clearBits_81 _ _ _ _
          rw [cx_clearBits_81]
          refine pk_le 6 6 (fun _ => K y (fr_tr (fr_mn f1 (by decide)) (fr_tr (fr_mn g1 (by decide)) (fr_tr (fr_mn h1 (by decide)) (fr_mn k1 (by decide))))) (fun i hi => ?_) (fun i hi => ?_) (fun i hi => ?_)) (fun h => absurd h (by omega))
          · rw [fr_ao k1 38, fr_ao h1 38, fr_ao g1 38]; exact f2 i hi
          · rw [fr_ao k1 39, fr_ao h1 39]; exact g2 i hi
          · rw [fr_ao k1 40]; exact h2 i hi
        · rintro a i y hi k1 hr
          show kx_clearBits_81 _ _ _ _
          rw [cx_clearBits_81]
          exact pk_le 6 i (fun h => absurd h (by omega)) (fun _ => ⟨pk_in i 6 hi, nm_e (nm_r (nI_1 i) (hr _ (fr_a k1 (by decide))))⟩)
      · rintro a i x hi ⟨h1, h2⟩ hr
        show kx_clearBits_46 _ _ _ _
        rw [cx_clearBits_46]
        simp only [clI (show i < 2 ^ 31 by omega)]
        refine pk_le 36 i (fun h => absurd h (by omega)) (fun _ => ⟨pk_in i 36 hi, nm_e ⟨pk_in i 36 hi, nm_e ⟨pk_in i 36 hi, nm_e (nm_r (nI_1 i) (hr _ ⟨fr_a (fr_a (fr_a h1 (by decide)) (by decide)) (by decide), fun j hj => ?_⟩))⟩⟩⟩)
        show upd (ao x 40) i _ j = _
        by_cases e : j = i
        · rw [e, u_s]; exact vbn (m := 0) (by omega)
        · rw [u_n e]; exact h2 j (by omega)
    · rintro a i v hi ⟨g1, g2⟩ hr
      show kx_clearBits_24 _ _ _ _
      rw [cx_clearBits_24]
      simp only [clI (show i < 2 ^ 31 by omega)]
      refine pk_le 144 i (fun h => absurd h (by omega)) (fun _ => ⟨pk_in i 144 hi, nm_e (nm_r (nI_1 i) (hr _ ⟨fr_a g1 (by decide), fun j hj => ?_⟩))⟩)
      show upd (ao v 39) i _ j = _
      by_cases e : j = i
      · rw [e, u_s]; exact vbn (m := 0) (by omega)
      · rw [u_n e]; exact g2 j (by omega)
  · rintro a i w hi ⟨f1, f2⟩ hr
    show kx_clearBits_2 _ _ _ _
    rw [cx_clearBits_2]
    simp only [clI (show i < 2 ^ 31 by omega)]
    refine pk_le 1862 i (fun h => absurd h (by omega)) (fun _ => ⟨pk_in i 1862 hi, nm_e (nm_r (nI_1 i) (hr _ ⟨fr_a f1 (by decide), fun j hj => ?_⟩))⟩)
    show upd (ao w 38) i _ j = _
    by_cases e : j = i
    · rw [e, u_s]; exact vbn (m := 0) (by omega)
    · rw [u_n e]; exact f2 j (by omega)
end
section
/-! ===== F: all bits ===== -/
def kx_writeBits_231 (post : SX → Prop) (n : Nat) (x1 : Int32) (u : SX) : Prop := match u with
  | (qf_gates, qf_nodes, qf_joinedSize, qf_cells, qf_chanceState, qf_isBuilt, qf_levels, qa_kinds, qa_firsts, qa_seconds, qa_thirds, qa_nextOf, qa_shownBy, qa_left, qa_right, qa_endOf, qa_cutCount, qa_cutSize, qa_cutLeaf, qa_cutDepth, qa_depthOf, qa_needed, qa_tableOf, qa_rows, qa_joined, qa_tableBits, qa_cellSource, qa_placeOf, qa_cellAt, qa_used, qa_worn, qa_inTree, qa_treeFrom, qa_farness, qa_cameFrom, qa_settled, qa_trackTaken, qa_trackOf, qa_switchBits, qa_pinTrack, qa_outTrack, qa_padTrack, qa_deviceTable, qa_hasFlip, qa_registerPlace, qa_outputPlace, qa_wireRoot, qa_wireLevel, qa_flip, qa_tableOut) => wX_writeBits_231 post qf_gates qf_nodes qf_joinedSize qf_cells qf_chanceState qf_isBuilt qf_levels n x1 qa_kinds qa_firsts qa_seconds qa_thirds qa_nextOf qa_shownBy qa_left qa_right qa_endOf qa_cutCount qa_cutSize qa_cutLeaf qa_cutDepth qa_depthOf qa_needed qa_tableOf qa_rows qa_joined qa_tableBits qa_cellSource qa_placeOf qa_cellAt qa_used qa_worn qa_inTree qa_treeFrom qa_farness qa_cameFrom qa_settled qa_trackTaken qa_trackOf qa_switchBits qa_pinTrack qa_outTrack qa_padTrack qa_deviceTable qa_hasFlip qa_registerPlace qa_outputPlace qa_wireRoot qa_wireLevel qa_flip qa_tableOut
theorem cx_writeBits_231 (post : SX → Prop) (n : Nat) (x1 : Int32) (u : SX) : kx_writeBits_231 post (n + 1) x1 u = (((4 ≤ x1 → (post u)) ∧ (¬ 4 ≤ x1 → (vp_in (6 + x1) 64 ∧ (vp_in x1 4 ∧ ∀ a_outputPlace_109 : Nat → Int32, a_outputPlace_109 = upd (ao u 45) x1.toNatClampNeg (vp_nar .byte ((ao u 27) (6 + x1).toNatClampNeg)) → (∀ x1_110 : Int32, x1_110 = x1 + 1 → (kx_writeBits_231 post n x1_110 (sa u 45 a_outputPlace_109)))))))) := rfl
def kx_writeBits_205 (post : SX → Prop) (n : Nat) (x1 : Int32) (u : SX) : Prop := match u with
  | (qf_gates, qf_nodes, qf_joinedSize, qf_cells, qf_chanceState, qf_isBuilt, qf_levels, qa_kinds, qa_firsts, qa_seconds, qa_thirds, qa_nextOf, qa_shownBy, qa_left, qa_right, qa_endOf, qa_cutCount, qa_cutSize, qa_cutLeaf, qa_cutDepth, qa_depthOf, qa_needed, qa_tableOf, qa_rows, qa_joined, qa_tableBits, qa_cellSource, qa_placeOf, qa_cellAt, qa_used, qa_worn, qa_inTree, qa_treeFrom, qa_farness, qa_cameFrom, qa_settled, qa_trackTaken, qa_trackOf, qa_switchBits, qa_pinTrack, qa_outTrack, qa_padTrack, qa_deviceTable, qa_hasFlip, qa_registerPlace, qa_outputPlace, qa_wireRoot, qa_wireLevel, qa_flip, qa_tableOut) => wX_writeBits_205 post qf_gates qf_nodes qf_joinedSize qf_cells qf_chanceState qf_isBuilt qf_levels n x1 qa_kinds qa_firsts qa_seconds qa_thirds qa_nextOf qa_shownBy qa_left qa_right qa_endOf qa_cutCount qa_cutSize qa_cutLeaf qa_cutDepth qa_depthOf qa_needed qa_tableOf qa_rows qa_joined qa_tableBits qa_cellSource qa_placeOf qa_cellAt qa_used qa_worn qa_inTree qa_treeFrom qa_farness qa_cameFrom qa_settled qa_trackTaken qa_trackOf qa_switchBits qa_pinTrack qa_outTrack qa_padTrack qa_deviceTable qa_hasFlip qa_registerPlace qa_outputPlace qa_wireRoot qa_wireLevel qa_flip qa_tableOut
theorem cx_writeBits_205 (post : SX → Prop) (n : Nat) (x1 : Int32) (u : SX) : kx_writeBits_205 post (n + 1) x1 u = (((6 ≤ x1 → (∃ n231 : Nat, kx_writeBits_231 post n231 0 u)) ∧ (¬ 6 ≤ x1 → (vp_in x1 64 ∧ (vp_in x1 6 ∧ ∀ a_registerPlace_113 : Nat → Int32, a_registerPlace_113 = upd (ao u 44) x1.toNatClampNeg (vp_nar .byte ((ao u 27) x1.toNatClampNeg)) → (∀ x1_114 : Int32, x1_114 = x1 + 1 → (kx_writeBits_205 post n x1_114 (sa u 44 a_registerPlace_113)))))))) := rfl
def kx_writeBits_145 (post : SX → Prop) (J99 : Int32 → SX → Prop) (x1 : Int32) (x2 : Int32) (n : Nat) (x3 : Int32) (u : SX) : Prop := match u with
  | (qf_gates, qf_nodes, qf_joinedSize, qf_cells, qf_chanceState, qf_isBuilt, qf_levels, qa_kinds, qa_firsts, qa_seconds, qa_thirds, qa_nextOf, qa_shownBy, qa_left, qa_right, qa_endOf, qa_cutCount, qa_cutSize, qa_cutLeaf, qa_cutDepth, qa_depthOf, qa_needed, qa_tableOf, qa_rows, qa_joined, qa_tableBits, qa_cellSource, qa_placeOf, qa_cellAt, qa_used, qa_worn, qa_inTree, qa_treeFrom, qa_farness, qa_cameFrom, qa_settled, qa_trackTaken, qa_trackOf, qa_switchBits, qa_pinTrack, qa_outTrack, qa_padTrack, qa_deviceTable, qa_hasFlip, qa_registerPlace, qa_outputPlace, qa_wireRoot, qa_wireLevel, qa_flip, qa_tableOut) => wX_writeBits_145 post (fun x1 a_kinds a_firsts a_seconds a_thirds a_nextOf a_shownBy a_left a_right a_endOf a_cutCount a_cutSize a_cutLeaf a_cutDepth a_depthOf a_needed a_tableOf a_rows a_joined a_tableBits a_cellSource a_placeOf a_cellAt a_used a_worn a_inTree a_treeFrom a_farness a_cameFrom a_settled a_trackTaken a_trackOf a_switchBits a_pinTrack a_outTrack a_padTrack a_deviceTable a_hasFlip a_registerPlace a_outputPlace a_wireRoot a_wireLevel a_flip a_tableOut => J99 x1 (qf_gates, qf_nodes, qf_joinedSize, qf_cells, qf_chanceState, qf_isBuilt, qf_levels, a_kinds, a_firsts, a_seconds, a_thirds, a_nextOf, a_shownBy, a_left, a_right, a_endOf, a_cutCount, a_cutSize, a_cutLeaf, a_cutDepth, a_depthOf, a_needed, a_tableOf, a_rows, a_joined, a_tableBits, a_cellSource, a_placeOf, a_cellAt, a_used, a_worn, a_inTree, a_treeFrom, a_farness, a_cameFrom, a_settled, a_trackTaken, a_trackOf, a_switchBits, a_pinTrack, a_outTrack, a_padTrack, a_deviceTable, a_hasFlip, a_registerPlace, a_outputPlace, a_wireRoot, a_wireLevel, a_flip, a_tableOut)) x1 x2 qf_gates qf_nodes qf_joinedSize qf_cells qf_chanceState qf_isBuilt qf_levels n x3 qa_kinds qa_firsts qa_seconds qa_thirds qa_nextOf qa_shownBy qa_left qa_right qa_endOf qa_cutCount qa_cutSize qa_cutLeaf qa_cutDepth qa_depthOf qa_needed qa_tableOf qa_rows qa_joined qa_tableBits qa_cellSource qa_placeOf qa_cellAt qa_used qa_worn qa_inTree qa_treeFrom qa_farness qa_cameFrom qa_settled qa_trackTaken qa_trackOf qa_switchBits qa_pinTrack qa_outTrack qa_padTrack qa_deviceTable qa_hasFlip qa_registerPlace qa_outputPlace qa_wireRoot qa_wireLevel qa_flip qa_tableOut
theorem cx_writeBits_145 (post : SX → Prop) (J99 : Int32 → SX → Prop) (x1 : Int32) (x2 : Int32) (n : Nat) (x3 : Int32) (u : SX) : kx_writeBits_145 post J99 x1 x2 (n + 1) x3 u = (((4 ≤ x3 → (∀ x1_124 : Int32, x1_124 = x1 + 1 → (J99 x1_124 u))) ∧ (¬ 4 ≤ x3 → (vp_in ((x1 * 4) + x3) 256 ∧ (∀ x4_126 : Int32, x4_126 = (ao u 26) ((x1 * 4) + x3).toNatClampNeg → (((x4_126 < 0 → (vp_in ((x2 * 4) + x3) 144 ∧ ∀ a_pinTrack_129 : Nat → Int32, a_pinTrack_129 = upd (ao u 39) ((x2 * 4) + x3).toNatClampNeg (vp_nar .byte ((0 : Int32).toInt8.toInt32)) → (∀ x3_130 : Int32, x3_130 = x3 + 1 → (kx_writeBits_145 post J99 x1 x2 n x3_130 (sa u 39 a_pinTrack_129))))) ∧ (¬ x4_126 < 0 → (vp_in x4_126 38 ∧ (vp_in ((x2 * 4) + x3) 144 ∧ ∀ a_pinTrack_133 : Nat → Int32, a_pinTrack_133 = upd (ao u 39) ((x2 * 4) + x3).toNatClampNeg (vp_nar .byte ((((ao u 37) x4_126.toNatClampNeg) + 1).toInt8.toInt32)) → (∀ x3_134 : Int32, x3_134 = x3 + 1 → (kx_writeBits_145 post J99 x1 x2 n x3_134 (sa u 39 a_pinTrack_133))))))))))))) := rfl
def kx_writeBits_99 (post : SX → Prop) (n : Nat) (x1 : Int32) (u : SX) : Prop := match u with
  | (qf_gates, qf_nodes, qf_joinedSize, qf_cells, qf_chanceState, qf_isBuilt, qf_levels, qa_kinds, qa_firsts, qa_seconds, qa_thirds, qa_nextOf, qa_shownBy, qa_left, qa_right, qa_endOf, qa_cutCount, qa_cutSize, qa_cutLeaf, qa_cutDepth, qa_depthOf, qa_needed, qa_tableOf, qa_rows, qa_joined, qa_tableBits, qa_cellSource, qa_placeOf, qa_cellAt, qa_used, qa_worn, qa_inTree, qa_treeFrom, qa_farness, qa_cameFrom, qa_settled, qa_trackTaken, qa_trackOf, qa_switchBits, qa_pinTrack, qa_outTrack, qa_padTrack, qa_deviceTable, qa_hasFlip, qa_registerPlace, qa_outputPlace, qa_wireRoot, qa_wireLevel, qa_flip, qa_tableOut) => wX_writeBits_99 post qf_gates qf_nodes qf_joinedSize qf_cells qf_chanceState qf_isBuilt qf_levels n x1 qa_kinds qa_firsts qa_seconds qa_thirds qa_nextOf qa_shownBy qa_left qa_right qa_endOf qa_cutCount qa_cutSize qa_cutLeaf qa_cutDepth qa_depthOf qa_needed qa_tableOf qa_rows qa_joined qa_tableBits qa_cellSource qa_placeOf qa_cellAt qa_used qa_worn qa_inTree qa_treeFrom qa_farness qa_cameFrom qa_settled qa_trackTaken qa_trackOf qa_switchBits qa_pinTrack qa_outTrack qa_padTrack qa_deviceTable qa_hasFlip qa_registerPlace qa_outputPlace qa_wireRoot qa_wireLevel qa_flip qa_tableOut
theorem cx_writeBits_99 (post : SX → Prop) (n : Nat) (x1 : Int32) (u : SX) : kx_writeBits_99 post (n + 1) x1 u = ((((fo u 3) ≤ x1 → (∃ n205 : Nat, kx_writeBits_205 post n205 0 u)) ∧ (¬ (fo u 3) ≤ x1 → (vp_in x1 64 ∧ (∀ x2_116 : Int32, x2_116 = (ao u 27) x1.toNatClampNeg → (vp_in x1 64 ∧ (vp_in x2_116 36 ∧ ∀ a_deviceTable_119 : Nat → Int32, a_deviceTable_119 = upd (ao u 42) x2_116.toNatClampNeg ((ao u 25) x1.toNatClampNeg) → (((6 ≤ x1 → (vp_in x2_116 36 ∧ ∀ a_hasFlip_122 : Nat → Int32, a_hasFlip_122 = upd (ao u 43) x2_116.toNatClampNeg (vp_nar .boolean 0) → (∃ n145 : Nat, kx_writeBits_145 post (fun y0 s => kx_writeBits_99 post n y0 s) x1 x2_116 n145 0 (sa (sa u 42 a_deviceTable_119) 43 a_hasFlip_122)))) ∧ (¬ 6 ≤ x1 → (vp_in x2_116 36 ∧ ∀ a_hasFlip_136 : Nat → Int32, a_hasFlip_136 = upd (ao u 43) x2_116.toNatClampNeg (vp_nar .boolean 1) → (∃ n145 : Nat, kx_writeBits_145 post (fun y0 s => kx_writeBits_99 post n y0 s) x1 x2_116 n145 0 (sa (sa u 42 a_deviceTable_119) 43 a_hasFlip_136))))))))))))) := by simp only [n_ffx, n_afx, n_aax, n_fmx, n_amx]; rfl
def kx_writeBits_77 (post : SX → Prop) (J6 : Int32 → SX → Prop) (x1 : Int32) (x2 : Int32) (z0 : Int32) (u : SX) : Prop := match u with
  | (qf_gates, qf_nodes, qf_joinedSize, qf_cells, qf_chanceState, qf_isBuilt, qf_levels, qa_kinds, qa_firsts, qa_seconds, qa_thirds, qa_nextOf, qa_shownBy, qa_left, qa_right, qa_endOf, qa_cutCount, qa_cutSize, qa_cutLeaf, qa_cutDepth, qa_depthOf, qa_needed, qa_tableOf, qa_rows, qa_joined, qa_tableBits, qa_cellSource, qa_placeOf, qa_cellAt, qa_used, qa_worn, qa_inTree, qa_treeFrom, qa_farness, qa_cameFrom, qa_settled, qa_trackTaken, qa_trackOf, qa_switchBits, qa_pinTrack, qa_outTrack, qa_padTrack, qa_deviceTable, qa_hasFlip, qa_registerPlace, qa_outputPlace, qa_wireRoot, qa_wireLevel, qa_flip, qa_tableOut) => wX_writeBits_77 post (fun x1 f_gates f_nodes f_joinedSize f_cells f_chanceState f_isBuilt f_levels a_kinds a_firsts a_seconds a_thirds a_nextOf a_shownBy a_left a_right a_endOf a_cutCount a_cutSize a_cutLeaf a_cutDepth a_depthOf a_needed a_tableOf a_rows a_joined a_tableBits a_cellSource a_placeOf a_cellAt a_used a_worn a_inTree a_treeFrom a_farness a_cameFrom a_settled a_trackTaken a_trackOf a_switchBits a_pinTrack a_outTrack a_padTrack a_deviceTable a_hasFlip a_registerPlace a_outputPlace a_wireRoot a_wireLevel a_flip a_tableOut => J6 x1 (f_gates, f_nodes, f_joinedSize, f_cells, f_chanceState, f_isBuilt, f_levels, a_kinds, a_firsts, a_seconds, a_thirds, a_nextOf, a_shownBy, a_left, a_right, a_endOf, a_cutCount, a_cutSize, a_cutLeaf, a_cutDepth, a_depthOf, a_needed, a_tableOf, a_rows, a_joined, a_tableBits, a_cellSource, a_placeOf, a_cellAt, a_used, a_worn, a_inTree, a_treeFrom, a_farness, a_cameFrom, a_settled, a_trackTaken, a_trackOf, a_switchBits, a_pinTrack, a_outTrack, a_padTrack, a_deviceTable, a_hasFlip, a_registerPlace, a_outputPlace, a_wireRoot, a_wireLevel, a_flip, a_tableOut)) x1 x2 z0 qf_gates qf_nodes qf_joinedSize qf_cells qf_chanceState qf_isBuilt qf_levels qa_kinds qa_firsts qa_seconds qa_thirds qa_nextOf qa_shownBy qa_left qa_right qa_endOf qa_cutCount qa_cutSize qa_cutLeaf qa_cutDepth qa_depthOf qa_needed qa_tableOf qa_rows qa_joined qa_tableBits qa_cellSource qa_placeOf qa_cellAt qa_used qa_worn qa_inTree qa_treeFrom qa_farness qa_cameFrom qa_settled qa_trackTaken qa_trackOf qa_switchBits qa_pinTrack qa_outTrack qa_padTrack qa_deviceTable qa_hasFlip qa_registerPlace qa_outputPlace qa_wireRoot qa_wireLevel qa_flip qa_tableOut
theorem cx_writeBits_77 (post : SX → Prop) (J6 : Int32 → SX → Prop) (x1 : Int32) (x2 : Int32) (z0 : Int32) (u : SX) : kx_writeBits_77 post J6 x1 x2 z0 u = (vp_in z0 64 ∧ (vp_in ((ao u 27) z0.toNatClampNeg) 36 ∧ ∀ a_outTrack_244 : Nat → Int32, a_outTrack_244 = upd (ao u 40) ((ao u 27) z0.toNatClampNeg).toNatClampNeg (vp_nar .byte x2.toInt8.toInt32) → (∀ x1_245 : Int32, x1_245 = x1 + 1 → (J6 x1_245 (sa u 40 a_outTrack_244))))) := rfl
def kx_writeBits_39 (post : SX → Prop) (J6 : Int32 → SX → Prop) (x1 : Int32) (z0 : Int32) (u : SX) : Prop := match u with
  | (qf_gates, qf_nodes, qf_joinedSize, qf_cells, qf_chanceState, qf_isBuilt, qf_levels, qa_kinds, qa_firsts, qa_seconds, qa_thirds, qa_nextOf, qa_shownBy, qa_left, qa_right, qa_endOf, qa_cutCount, qa_cutSize, qa_cutLeaf, qa_cutDepth, qa_depthOf, qa_needed, qa_tableOf, qa_rows, qa_joined, qa_tableBits, qa_cellSource, qa_placeOf, qa_cellAt, qa_used, qa_worn, qa_inTree, qa_treeFrom, qa_farness, qa_cameFrom, qa_settled, qa_trackTaken, qa_trackOf, qa_switchBits, qa_pinTrack, qa_outTrack, qa_padTrack, qa_deviceTable, qa_hasFlip, qa_registerPlace, qa_outputPlace, qa_wireRoot, qa_wireLevel, qa_flip, qa_tableOut) => wX_writeBits_39 post (fun x1 f_gates f_nodes f_joinedSize f_cells f_chanceState f_isBuilt f_levels a_kinds a_firsts a_seconds a_thirds a_nextOf a_shownBy a_left a_right a_endOf a_cutCount a_cutSize a_cutLeaf a_cutDepth a_depthOf a_needed a_tableOf a_rows a_joined a_tableBits a_cellSource a_placeOf a_cellAt a_used a_worn a_inTree a_treeFrom a_farness a_cameFrom a_settled a_trackTaken a_trackOf a_switchBits a_pinTrack a_outTrack a_padTrack a_deviceTable a_hasFlip a_registerPlace a_outputPlace a_wireRoot a_wireLevel a_flip a_tableOut => J6 x1 (f_gates, f_nodes, f_joinedSize, f_cells, f_chanceState, f_isBuilt, f_levels, a_kinds, a_firsts, a_seconds, a_thirds, a_nextOf, a_shownBy, a_left, a_right, a_endOf, a_cutCount, a_cutSize, a_cutLeaf, a_cutDepth, a_depthOf, a_needed, a_tableOf, a_rows, a_joined, a_tableBits, a_cellSource, a_placeOf, a_cellAt, a_used, a_worn, a_inTree, a_treeFrom, a_farness, a_cameFrom, a_settled, a_trackTaken, a_trackOf, a_switchBits, a_pinTrack, a_outTrack, a_padTrack, a_deviceTable, a_hasFlip, a_registerPlace, a_outputPlace, a_wireRoot, a_wireLevel, a_flip, a_tableOut)) x1 z0 qf_gates qf_nodes qf_joinedSize qf_cells qf_chanceState qf_isBuilt qf_levels qa_kinds qa_firsts qa_seconds qa_thirds qa_nextOf qa_shownBy qa_left qa_right qa_endOf qa_cutCount qa_cutSize qa_cutLeaf qa_cutDepth qa_depthOf qa_needed qa_tableOf qa_rows qa_joined qa_tableBits qa_cellSource qa_placeOf qa_cellAt qa_used qa_worn qa_inTree qa_treeFrom qa_farness qa_cameFrom qa_settled qa_trackTaken qa_trackOf qa_switchBits qa_pinTrack qa_outTrack qa_padTrack qa_deviceTable qa_hasFlip qa_registerPlace qa_outputPlace qa_wireRoot qa_wireLevel qa_flip qa_tableOut
theorem cx_writeBits_39 (post : SX → Prop) (J6 : Int32 → SX → Prop) (x1 : Int32) (z0 : Int32) (u : SX) : kx_writeBits_39 post J6 x1 z0 u = (((6 ≤ x1 → (((12 ≤ x1 → (kx_writeBits_77 post J6 x1 z0 ((x1 - 12) + 10) u)) ∧ (¬ 12 ≤ x1 → (kx_writeBits_77 post J6 x1 z0 (x1 - 6) u))))) ∧ (¬ 6 ≤ x1 → (vp_in x1 6 ∧ ∀ a_padTrack_247 : Nat → Int32, a_padTrack_247 = upd (ao u 41) x1.toNatClampNeg (vp_nar .byte z0.toInt8.toInt32) → (∀ x1_248 : Int32, x1_248 = x1 + 1 → (J6 x1_248 (sa u 41 a_padTrack_247))))))) := rfl
def kx_writeBits_6 (post : SX → Prop) (n : Nat) (x1 : Int32) (u : SX) : Prop := match u with
  | (qf_gates, qf_nodes, qf_joinedSize, qf_cells, qf_chanceState, qf_isBuilt, qf_levels, qa_kinds, qa_firsts, qa_seconds, qa_thirds, qa_nextOf, qa_shownBy, qa_left, qa_right, qa_endOf, qa_cutCount, qa_cutSize, qa_cutLeaf, qa_cutDepth, qa_depthOf, qa_needed, qa_tableOf, qa_rows, qa_joined, qa_tableBits, qa_cellSource, qa_placeOf, qa_cellAt, qa_used, qa_worn, qa_inTree, qa_treeFrom, qa_farness, qa_cameFrom, qa_settled, qa_trackTaken, qa_trackOf, qa_switchBits, qa_pinTrack, qa_outTrack, qa_padTrack, qa_deviceTable, qa_hasFlip, qa_registerPlace, qa_outputPlace, qa_wireRoot, qa_wireLevel, qa_flip, qa_tableOut) => wX_writeBits_6 post n x1 qf_gates qf_nodes qf_joinedSize qf_cells qf_chanceState qf_isBuilt qf_levels qa_kinds qa_firsts qa_seconds qa_thirds qa_nextOf qa_shownBy qa_left qa_right qa_endOf qa_cutCount qa_cutSize qa_cutLeaf qa_cutDepth qa_depthOf qa_needed qa_tableOf qa_rows qa_joined qa_tableBits qa_cellSource qa_placeOf qa_cellAt qa_used qa_worn qa_inTree qa_treeFrom qa_farness qa_cameFrom qa_settled qa_trackTaken qa_trackOf qa_switchBits qa_pinTrack qa_outTrack qa_padTrack qa_deviceTable qa_hasFlip qa_registerPlace qa_outputPlace qa_wireRoot qa_wireLevel qa_flip qa_tableOut
theorem cx_writeBits_6 (post : SX → Prop) (n : Nat) (x1 : Int32) (u : SX) : kx_writeBits_6 post (n + 1) x1 u = (wpX_sources (fun r_52 => (((r_52 ≤ x1 → (∃ n99 : Nat, kx_writeBits_99 post n99 0 u)) ∧ (¬ r_52 ≤ x1 → (wpX_writeTree (fun u1 => (wpX_isWired (fun r_188 => (((r_188 = 0 → (kx_writeBits_39 post (fun y0 s => kx_writeBits_6 post n y0 s) x1 0 u1)) ∧ (¬ r_188 = 0 → (vp_in x1 38 ∧ (kx_writeBits_39 post (fun y0 s => kx_writeBits_6 post n y0 s) x1 (((ao u1 37) x1.toNatClampNeg) + 1) u1)))))) u1 x1)) u x1))))) u) := rfl
theorem cx_writeBits (post : SX → Prop) (u : SX) : wpX_writeBits post u = (wpX_clearBits (fun u1 => (∃ n6 : Nat, kx_writeBits_6 post n6 0 u1)) u) := rfl
def wt (ib : Nat → Bool) (tr pl : Nat → Nat) (n : Nat) : Nat := if ib (84 * n + ow pl n) then tr n + 1 else 0
def pt (P : Nat → Nat → Nat) (tr : Nat → Nat) (c i : Nat) : Nat := if P c i = 0 then 0 else tr (P c i - 1) + 1
def WB (u : SX) (C : Nat) (P : Nat → Nat → Nat) (pl : Nat → Nat) (ib : Nat → Bool) (tr : Nat → Nat) (T : Nat → Int32) : Prop :=
  ((∀ c i, c < C → i < 4 → ao u 39 (4 * pl c + i) = nI (pt P tr c i)) ∧ ∀ p i, p < 36 → i < 4 → (∀ c, c < C → pl c ≠ p) → ao u 39 (4 * p + i) = nI 0) ∧
  (∀ n, n < 6 → ao u 41 n = nI (wt ib tr pl n)) ∧ (∀ n, 6 ≤ n → n < C + 2 → ao u 40 (pl (ce n)) = nI (wt ib tr pl n)) ∧ (∀ p, p < 36 → (∀ n, 6 ≤ n → n < C + 2 → pl (ce n) ≠ p) → ao u 40 p = nI 0) ∧
  (∀ c, c < C → ao u 42 (pl c) = T c ∧ ao u 43 (pl c) = bI (decide (c < 6))) ∧ (∀ r, r < 6 → ao u 44 r = nI (pl r)) ∧ ∀ o, o < 4 → ao u 45 o = nI (pl (6 + o))
theorem ce_inj {n m : Nat} (hn : 6 ≤ n) (hm : 6 ≤ m) (h : ce n = ce m) : n = m := by
  unfold ce at h
  split at h <;> split at h <;> omega
theorem ce_lt {n C : Nat} (hC : 10 ≤ C) (hn : n < C + 2) : ce n < C := by unfold ce; split <;> omega
theorem hx_wb231 {post : SX → Prop} {u : SX} {C : Nat} {pl : Nat → Nat} (hl : Pl u C pl) (hC : 10 ≤ C) (K : ∀ u', fr [44, 45] u u' → (∀ r, r < 6 → ao u' 44 r = nI (pl r)) → (∀ o, o < 4 → ao u' 45 o = nI (pl (6 + o))) → post u') : ∃ a, kx_writeBits_205 post a 0 u := by
  refine pk_loop (fun a r s => kx_writeBits_205 post a (nI r) s) (fun r s => fr [44] u s ∧ ∀ r', r' < r → ao s 44 r' = nI (pl r')) 6 0 u (Nat.zero_le _) ⟨fr_rf, fun r hr => by omega⟩ ?_ ?_
  · rintro a s ⟨f1, f2⟩
    show kx_writeBits_205 _ _ _ _
    rw [cx_writeBits_205]
    refine pk_le 6 6 (fun _ => ?_) (fun h => absurd h (by omega))
    refine pk_loop (fun a o s => kx_writeBits_231 post a (nI o) s) (fun o v => fr [45] s v ∧ ∀ r', r' < o → ao v 45 r' = nI (pl (6 + r'))) 4 0 s (Nat.zero_le _) ⟨fr_rf, fun r hr => by omega⟩ ?_ ?_
    · rintro a v ⟨g1, g2⟩
      show kx_writeBits_231 _ _ _ _
      rw [cx_writeBits_231]
      exact pk_le 4 4 (fun _ => K v (fr_tr (fr_mn f1 (by decide)) (fr_mn g1 (by decide))) (fun r hr => by rw [fr_ao g1 44]; exact f2 r hr) g2) (fun h => absurd h (by omega))
    · rintro a o v ho ⟨g1, g2⟩ hr
      have hp := (Pl_fr (Pl_fr hl f1) g1) (6 + o) (by omega)
      show kx_writeBits_231 _ _ _ _
      rw [cx_writeBits_231]
      have e6 : (6 : Int32) + nI o = nI (6 + o) := nI_add 6 o
      simp only [e6, clI (show o < 2 ^ 31 by omega), clI (show 6 + o < 2 ^ 31 by omega), hp.1, vbn (show pl (6 + o) < 128 by omega)]
      refine pk_le 4 o (fun h => absurd h (by omega)) (fun _ => ⟨pk_in (6 + o) 64 (by omega), pk_in o 4 ho, nm_e (nm_r (nI_1 o) (hr _ ⟨fr_a g1 (by decide), fun r' hr' => ?_⟩))⟩)
      show upd (ao v 45) o _ r' = _
      by_cases e : r' = o
      · rw [e, u_s]
      · rw [u_n e]; exact g2 r' (by omega)
  · rintro a r s hr6 ⟨f1, f2⟩ hr
    have hp := (Pl_fr hl f1) r (by omega)
    show kx_writeBits_205 _ _ _ _
    rw [cx_writeBits_205]
    simp only [clI (show r < 2 ^ 31 by omega), hp.1, vbn (show pl r < 128 by omega)]
    refine pk_le 6 r (fun h => absurd h (by omega)) (fun _ => ⟨pk_in r 64 (by omega), pk_in r 6 hr6, nm_e (nm_r (nI_1 r) (hr _ ⟨fr_a f1 (by decide), fun r' hr' => ?_⟩))⟩)
    show upd (ao s 44) r _ r' = _
    by_cases e : r' = r
    · rw [e, u_s]
    · rw [u_n e]; exact f2 r' (by omega)
theorem hx_wb145 {post : SX → Prop} {J : Int32 → SX → Prop} {u : SX} {C : Nat} {P : Nat → Nat → Nat} {tr : Nat → Nat} {c p : Nat} (hP : Pn u C P) (hc : c < C) (hp : p < 36) (htr : ∀ n, n < C + 2 → ao u 37 n = nI (tr n) ∧ tr n < 38)
    (K : ∀ u', fr [39] u u' → (∀ i, i < 4 → ao u' 39 (4 * p + i) = nI (pt P tr c i)) → (∀ j, (j < 4 * p ∨ 4 * p + 4 ≤ j) → ao u' 39 j = ao u 39 j) → ∀ y, y = nI (c + 1) → J y u') : ∃ a, kx_writeBits_145 post J (nI c) (nI p) a 0 u := by
  have hC := hP.2.2.1
  refine pk_loop (fun a i s => kx_writeBits_145 post J (nI c) (nI p) a (nI i) s) (fun i s => fr [39] u s ∧ (∀ i', i' < i → ao s 39 (4 * p + i') = nI (pt P tr c i')) ∧ ∀ j, (j < 4 * p ∨ 4 * p + 4 ≤ j) → ao s 39 j = ao u 39 j) 4 0 u (Nat.zero_le _) ⟨fr_rf, fun i hi => by omega, fun _ _ => rfl⟩ ?_ ?_
  · rintro a s ⟨f1, f2, f3⟩
    show kx_writeBits_145 _ _ _ _ _ _ _
    rw [cx_writeBits_145]
    exact pk_le 4 4 (fun _ => nm_r (nI_1 c) (K s f1 f2 f3 _ rfl)) (fun h => absurd h (by omega))
  · rintro a i s hi ⟨f1, f2, f3⟩ hr
    have hpc := (Pn_fr hP f1).2.2.2 c i hc hi
    have put : ∀ x : Int32, x = nI (pt P tr c i) → kx_writeBits_145 post J (nI c) (nI p) a (nI (i + 1)) (sa s 39 (upd (ao s 39) (4 * p + i) x)) := by
      intro x hx
      refine hr _ ⟨fr_a f1 (by decide), fun i' hi' => ?_, fun j hj => ?_⟩
      · show upd (ao s 39) (4 * p + i) x (4 * p + i') = _
        by_cases e : i' = i
        · rw [e, u_s]; exact hx
        · rw [u_n (by omega)]; exact f2 i' (by omega)
      · show upd (ao s 39) (4 * p + i) x j = _
        rw [u_n (by omega)]; exact f3 j hj
    show kx_writeBits_145 _ _ _ _ _ _ _
    rw [cx_writeBits_145]
    simp only [m4, clI (show 4 * c + i < 2 ^ 31 by omega), clI (show 4 * p + i < 2 ^ 31 by omega)]
    refine pk_le 4 i (fun h => absurd h (by omega)) (fun _ => ⟨pk_in (4 * c + i) 256 (by omega), nm_r hpc.1 (br_p rfl (by omega) (fun e => ⟨pk_in (4 * p + i) 144 (by omega), nm_e (nm_r (nI_1 i) (put _ ?_))⟩) (fun m em ep => ?_))⟩)
    · unfold pt
      rw [if_pos e]
      exact vby (m := 0) (by omega)
    · have ht := htr m (by omega)
      rw [ep, clI (by omega), fr_ao f1 37, ht.1, nI_1, vby (by omega)]
      refine ⟨pk_in m 38 (by omega), pk_in (4 * p + i) 144 (by omega), nm_e (nm_r (nI_1 i) (put _ ?_))⟩
      unfold pt
      rw [if_neg (by omega), em, Nat.add_sub_cancel]
theorem hx_writeBits {post : SX → Prop} {u : SX} {C : Nat} {P : Nat → Nat → Nat} {pl : Nat → Nat} {ib : Nat → Bool} {tr : Nat → Nat} (hP : Pn u C P) (hl : Pl u C pl) (hinj : ∀ c c', c < C → c' < C → pl c = pl c' → c = c') (hI : It u ib)
    (hT : ∀ n, n < C + 2 → Tg u ib n (ow pl n)) (htr : ∀ n, n < C + 2 → ao u 37 n = nI (tr n) ∧ tr n < 38)
    (K : ∀ u' sw, fr [38, 39, 40, 41, 42, 43, 44, 45] u u' → Sw u ib tr u' sw (fun n _ => n < C + 2) → WB u' C P pl ib tr (ao u 25) → post u') : wpX_writeBits post u := by
  have hC := hP.2.2.1
  have hC10 := hP.2.1
  rw [cx_writeBits]
  refine hx_clearBits (fun u1 f1 z1 z2 z3 => ?_)
  have hwt : ∀ n, n < C + 2 → wt ib tr pl n < 128 := fun n hn => by
    have := (htr n hn).2
    unfold wt
    split <;> omega
  refine pk_loop (fun a n s => kx_writeBits_6 post a (nI n) s) (fun n s => fr [38, 40, 41] u1 s ∧ (∃ sw, Sw u ib tr s sw (fun m _ => m < n)) ∧ (∀ m, m < n → m < 6 → ao s 41 m = nI (wt ib tr pl m)) ∧ (∀ m, 6 ≤ m → m < n → ao s 40 (pl (ce m)) = nI (wt ib tr pl m)) ∧ ∀ p, p < 36 → (∀ m, 6 ≤ m → m < n → pl (ce m) ≠ p) → ao s 40 p = nI 0) (C + 2) 0 u1 (Nat.zero_le _)
    ⟨fr_rf, ⟨fun _ => 0, fun i hi => ⟨z1 i hi, by dsimp only; omega⟩, fun i k _ h => by rw [Nat.zero_testBit] at h; exact absurd h (by decide), fun n _ _ h => by omega⟩, fun m hm => by omega, fun m _ hm => by omega, fun p hp _ => z3 p hp⟩ ?_ ?_
  · rintro a s ⟨g1, ⟨sw, g2⟩, g3, g4, g5⟩
    have q1 : fr [38, 39, 40, 41, 42, 43] u s := fr_tr f1 (fr_mn g1 (by decide))
    show kx_writeBits_6 _ _ _ _
    rw [cx_writeBits_6]
    refine hx_sources (C := C) (by rw [fr_fo q1 3]; exact hP.1) (pk_le (C + 2) (C + 2) (fun _ => ?_) (fun h => absurd h (by omega)))
    have hPs := Pn_fr hP q1
    have hls := Pl_fr hl q1
    refine pk_loop (fun a c v => kx_writeBits_99 post a (nI c) v) (fun c v => fr [39, 42, 43] s v ∧ (∀ c' i, c' < c → i < 4 → ao v 39 (4 * pl c' + i) = nI (pt P tr c' i)) ∧ (∀ p i, p < 36 → i < 4 → (∀ c', c' < c → pl c' ≠ p) → ao v 39 (4 * p + i) = nI 0) ∧ ∀ c', c' < c → ao v 42 (pl c') = ao u 25 c' ∧ ao v 43 (pl c') = bI (decide (c' < 6))) C 0 s (Nat.zero_le _)
      ⟨fr_rf, fun c' _ h => by omega, fun p i hp hi _ => by rw [fr_ao g1 39]; exact z2 _ (by omega), fun c' h => by omega⟩ ?_ ?_
    · rintro a v ⟨h1, h2, h3, h4⟩
      show kx_writeBits_99 _ _ _ _
      rw [cx_writeBits_99, fr_fo h1 3, hPs.1]
      refine pk_le C C (fun _ => hx_wb231 (Pl_fr hls h1) hC10 (fun u' k1 k2 k3 => ?_)) (fun h => absurd h (by omega))
      refine K u' sw (fr_tr (fr_mn q1 (by decide)) (fr_tr (fr_mn h1 (by decide)) (fr_mn k1 (by decide)))) ⟨fun i hi => ?_, g2.2⟩ ⟨⟨fun c i hc hi => ?_, fun p i hp hi hno => ?_⟩, fun n hn => ?_, fun n h6 hn => ?_, fun p hp hno => ?_, fun c hc => ?_, k2, k3⟩
      · rw [fr_ao k1 38, fr_ao h1 38]; exact g2.1 i hi
      · rw [fr_ao k1 39]; exact h2 c i hc hi
      · rw [fr_ao k1 39]; exact h3 p i hp hi hno
      · rw [fr_ao k1 41, fr_ao h1 41]; exact g3 n (by omega) hn
      · rw [fr_ao k1 40, fr_ao h1 40]; exact g4 n h6 hn
      · rw [fr_ao k1 40, fr_ao h1 40]; exact g5 p hp hno
      · rw [fr_ao k1 42, fr_ao k1 43]; exact h4 c hc
    · rintro a c v hc ⟨h1, h2, h3, h4⟩ hr
      have hpl := (Pl_fr hls h1) c hc
      have next : ∀ b : Bool, b = decide (c < 6) → ∃ n145, kx_writeBits_145 post (fun y0 s => kx_writeBits_99 post a y0 s) (nI c) (nI (pl c)) n145 0 (sa (sa v 42 (upd (ao v 42) (pl c) (ao u 25 c))) 43 (upd (ao v 43) (pl c) (bI b))) := by
        intro b hb
        have w1 : fr [42, 43] v (sa (sa v 42 (upd (ao v 42) (pl c) (ao u 25 c))) 43 (upd (ao v 43) (pl c) (bI b))) := fr_a (fr_a fr_rf (by decide)) (by decide)
        refine hx_wb145 (tr := tr) (Pn_fr (Pn_fr hPs h1) w1) hc hpl.2 (fun n hn => ?_) (fun u' k1 k2 k3 y ey => ?_)
        · rw [fr_ao w1 37, fr_ao h1 37, fr_ao q1 37]; exact htr n hn
        · rw [ey]
          refine hr u' ⟨fr_tr h1 (fr_tr (fr_mn w1 (by decide)) (fr_mn k1 (by decide))), fun c' i hc' hi => ?_, fun p i hp hi hno => ?_, fun c' hc' => ?_⟩
          · by_cases e : c' = c
            · rw [e]; exact k2 i hi
            · have hne : pl c' ≠ pl c := fun z => e (hinj c' c (by omega) hc z)
              rw [k3 _ (by omega)]
              exact h2 c' i (by omega) hi
          · have := hno c (by omega)
            rw [k3 _ (by omega)]
            exact h3 p i hp hi (fun c' hc' => hno c' (by omega))
          · rw [fr_ao k1 42, fr_ao k1 43]
            show upd (ao v 42) (pl c) _ (pl c') = _ ∧ upd (ao v 43) (pl c) _ (pl c') = _
            by_cases e : c' = c
            · rw [e, u_s, u_s, hb]; exact ⟨rfl, rfl⟩
            · have hne : pl c' ≠ pl c := fun z => e (hinj c' c (by omega) hc z)
              rw [u_n hne, u_n hne]; exact h4 c' (by omega)
      show kx_writeBits_99 _ _ _ _
      rw [cx_writeBits_99]
      simp only [fr_fo h1 3, hPs.1, clI (show c < 2 ^ 31 by omega), fr_ao h1 25, fr_ao q1 25, vo_0, vo_1]
      refine pk_le C c (fun h => absurd h (by omega)) (fun _ => ⟨pk_in c 64 (by omega), nm_r hpl.1 ⟨pk_in c 64 (by omega), pk_in (pl c) 36 hpl.2, nm_e ?_⟩⟩)
      rw [clI (by omega)]
      refine pk_le 6 c (fun h6 => ⟨pk_in (pl c) 36 hpl.2, nm_e (next false (by rw [decide_eq_false (by omega)]))⟩) (fun h6 => ⟨pk_in (pl c) 36 hpl.2, nm_e (next true (by rw [decide_eq_true h6]))⟩)
  · rintro a n s hn ⟨g1, ⟨sw, g2⟩, g3, g4, g5⟩ hr
    have q1 : fr [38, 39, 40, 41, 42, 43] u s := fr_tr f1 (fr_mn g1 (by decide))
    show kx_writeBits_6 _ _ _ _
    rw [cx_writeBits_6]
    refine hx_sources (C := C) (by rw [fr_fo q1 3]; exact hP.1) (pk_le (C + 2) n (fun h => absurd h (by omega)) (fun _ => ?_))
    refine hx_writeTree (o := ow pl n) (by omega) (It_fr hI q1) (fun i => by rw [fr_ao q1 32]) (hT n hn) (by rw [fr_ao q1 37]; exact (htr n hn).1) (htr n hn).2 g2 (fun u2 sw' k1 k2 => ?_)
    have q2 : fr [38, 39, 40, 41, 42, 43] u u2 := fr_tr q1 (fr_mn k1 (by decide))
    have hl2 := Pl_fr hl q2
    have hS : ∀ v : SX, fr [40, 41] u2 v → Sw u ib tr v sw' (fun m _ => m < n + 1) := fun v hv => ⟨fun i hi => by rw [fr_ao hv 38]; exact k2.1 i hi, k2.2⟩
    have g3' : ∀ m, m < n → m < 6 → ao u2 41 m = nI (wt ib tr pl m) := fun m h1 h2 => by rw [fr_ao k1 41]; exact g3 m h1 h2
    have g4' : ∀ m, 6 ≤ m → m < n → ao u2 40 (pl (ce m)) = nI (wt ib tr pl m) := fun m h1 h2 => by rw [fr_ao k1 40]; exact g4 m h1 h2
    have g5' : ∀ p, p < 36 → (∀ m, 6 ≤ m → m < n → pl (ce m) ≠ p) → ao u2 40 p = nI 0 := fun p h1 h2 => by rw [fr_ao k1 40]; exact g5 p h1 h2
    have H39 : kx_writeBits_39 post (fun y0 s => kx_writeBits_6 post a y0 s) (nI n) (nI (wt ib tr pl n)) u2 := by
      have hw := hwt n hn
      have H77 : 6 ≤ n → kx_writeBits_77 post (fun y0 s => kx_writeBits_6 post a y0 s) (nI n) (nI (wt ib tr pl n)) (nI (ce n)) u2 := by
        intro h6
        have hce := ce_lt hC10 hn
        have hp := hl2 (ce n) hce
        rw [cx_writeBits_77]
        simp only [clI (show ce n < 2 ^ 31 by omega), hp.1, clI (show pl (ce n) < 2 ^ 31 by omega), vby hw]
        refine ⟨pk_in (ce n) 64 (by omega), pk_in (pl (ce n)) 36 hp.2, nm_e (nm_r (nI_1 n) (hr _ ⟨fr_a (fr_tr g1 (fr_mn k1 (by decide))) (by decide), ⟨sw', hS _ (fr_a fr_rf (by decide))⟩, fun m h1 h2 => g3' m (by omega) h2, fun m h1 h2 => ?_, fun p h1 h2 => ?_⟩))⟩
        · show upd (ao u2 40) (pl (ce n)) _ (pl (ce m)) = _
          by_cases e : m = n
          · rw [e, u_s]
          · rw [u_n (fun z => e (ce_inj h1 h6 (hinj _ _ (ce_lt hC10 (by omega)) hce z)))]
            exact g4' m h1 (by omega)
        · show upd (ao u2 40) (pl (ce n)) _ p = _
          rw [u_n (fun z => h2 n h6 (by omega) z.symm)]
          exact g5' p h1 (fun m h3 h4 => h2 m h3 (by omega))
      rw [cx_writeBits_39]
      refine pk_le 6 n (fun h6 => pk_le 12 n (fun h12 => ?_) (fun h12 => ?_)) (fun h6 => ?_)
      · have e : nI n - 12 + 10 = nI (ce n) := by
          unfold ce
          rw [if_neg (by omega)]
          show nI n - nI 12 + nI 10 = _
          rw [pk_sub h12, nI_add]
          exact congrArg nI (by omega)
        rw [e]; exact H77 h6
      · have e : nI n - 6 = nI (ce n) := by
          unfold ce
          rw [if_pos h12]
          exact pk_sub (b := 6) h6
        rw [e]; exact H77 h6
      · simp only [clI (show n < 2 ^ 31 by omega), vby hw]
        refine ⟨pk_in n 6 h6, nm_e (nm_r (nI_1 n) (hr _ ⟨fr_a (fr_tr g1 (fr_mn k1 (by decide))) (by decide), ⟨sw', hS _ (fr_a fr_rf (by decide))⟩, fun m h1 h2 => ?_, fun m h1 h2 => by omega, fun p h1 h2 => g5' p h1 (fun m h3 h4 => by omega)⟩))⟩
        show upd (ao u2 41) n _ m = _
        by_cases e : m = n
        · rw [e, u_s]
        · rw [u_n e]; exact g3' m (by omega) h2
    unfold wt at H39
    refine hx_isWired hl2 hC10 hC (It_fr hI q2) hn (br_b rfl (fun e => ?_) (fun e => ?_))
    · rw [e] at H39; exact H39
    · rw [e] at H39
      rw [clI (by omega), fr_ao q2 37, (htr n hn).1, nI_1]
      exact ⟨pk_in n 38 (by omega), H39⟩
end
section
/-! ===== G: which wires are one ===== -/
def kx_rootOfWire_2 (post : Int32 → Prop) (n : Nat) (x2 : Int32) (u : SX) : Prop := match u with
  | (qf_gates, qf_nodes, qf_joinedSize, qf_cells, qf_chanceState, qf_isBuilt, qf_levels, qa_kinds, qa_firsts, qa_seconds, qa_thirds, qa_nextOf, qa_shownBy, qa_left, qa_right, qa_endOf, qa_cutCount, qa_cutSize, qa_cutLeaf, qa_cutDepth, qa_depthOf, qa_needed, qa_tableOf, qa_rows, qa_joined, qa_tableBits, qa_cellSource, qa_placeOf, qa_cellAt, qa_used, qa_worn, qa_inTree, qa_treeFrom, qa_farness, qa_cameFrom, qa_settled, qa_trackTaken, qa_trackOf, qa_switchBits, qa_pinTrack, qa_outTrack, qa_padTrack, qa_deviceTable, qa_hasFlip, qa_registerPlace, qa_outputPlace, qa_wireRoot, qa_wireLevel, qa_flip, qa_tableOut) => wX_rootOfWire_2 post qf_gates qf_nodes qf_joinedSize qf_cells qf_chanceState qf_isBuilt qf_levels qa_kinds qa_firsts qa_seconds qa_thirds qa_nextOf qa_shownBy qa_left qa_right qa_endOf qa_cutCount qa_cutSize qa_cutLeaf qa_cutDepth qa_depthOf qa_needed qa_tableOf qa_rows qa_joined qa_tableBits qa_cellSource qa_placeOf qa_cellAt qa_used qa_worn qa_inTree qa_treeFrom qa_farness qa_cameFrom qa_settled qa_trackTaken qa_trackOf qa_switchBits qa_pinTrack qa_outTrack qa_padTrack qa_deviceTable qa_hasFlip qa_registerPlace qa_outputPlace qa_wireRoot qa_wireLevel qa_flip qa_tableOut n x2
theorem cx_rootOfWire_2 (post : Int32 → Prop) (n : Nat) (x2 : Int32) (u : SX) : kx_rootOfWire_2 post (n + 1) x2 u = (vp_in x2 3192 ∧ (((((ao u 46) x2.toNatClampNeg) = x2 → (post x2)) ∧ (¬ ((ao u 46) x2.toNatClampNeg) = x2 → (vp_in x2 3192 ∧ (∀ x2_4 : Int32, x2_4 = (ao u 46) x2.toNatClampNeg → (kx_rootOfWire_2 post n x2_4 u))))))) := rfl
theorem cx_rootOfWire (post : Int32 → Prop) (u : SX) (p0 : Int32) : wpX_rootOfWire post u p0 = (∃ n2 : Nat, kx_rootOfWire_2 post n2 p0 u) := rfl
def kx_readSwitch_15 (post : SX → Prop) (x1 : Int32) (x2 : Int32) (x3 : Int32) (n : Nat) (x4 : Int32) (u : SX) : Prop := match u with
  | (qf_gates, qf_nodes, qf_joinedSize, qf_cells, qf_chanceState, qf_isBuilt, qf_levels, qa_kinds, qa_firsts, qa_seconds, qa_thirds, qa_nextOf, qa_shownBy, qa_left, qa_right, qa_endOf, qa_cutCount, qa_cutSize, qa_cutLeaf, qa_cutDepth, qa_depthOf, qa_needed, qa_tableOf, qa_rows, qa_joined, qa_tableBits, qa_cellSource, qa_placeOf, qa_cellAt, qa_used, qa_worn, qa_inTree, qa_treeFrom, qa_farness, qa_cameFrom, qa_settled, qa_trackTaken, qa_trackOf, qa_switchBits, qa_pinTrack, qa_outTrack, qa_padTrack, qa_deviceTable, qa_hasFlip, qa_registerPlace, qa_outputPlace, qa_wireRoot, qa_wireLevel, qa_flip, qa_tableOut) => wX_readSwitch_15 post x1 x2 x3 qf_gates qf_nodes qf_joinedSize qf_cells qf_chanceState qf_isBuilt qf_levels n x4 qa_kinds qa_firsts qa_seconds qa_thirds qa_nextOf qa_shownBy qa_left qa_right qa_endOf qa_cutCount qa_cutSize qa_cutLeaf qa_cutDepth qa_depthOf qa_needed qa_tableOf qa_rows qa_joined qa_tableBits qa_cellSource qa_placeOf qa_cellAt qa_used qa_worn qa_inTree qa_treeFrom qa_farness qa_cameFrom qa_settled qa_trackTaken qa_trackOf qa_switchBits qa_pinTrack qa_outTrack qa_padTrack qa_deviceTable qa_hasFlip qa_registerPlace qa_outputPlace qa_wireRoot qa_wireLevel qa_flip qa_tableOut
theorem cx_readSwitch_15 (post : SX → Prop) (x1 : Int32) (x2 : Int32) (x3 : Int32) (n : Nat) (x4 : Int32) (u : SX) : kx_readSwitch_15 post x1 x2 x3 (n + 1) x4 u = (((16 ≤ x4 → (post u)) ∧ (¬ 16 ≤ x4 → (((x3 = 0 → (post u)) ∧ (¬ x3 = 0 → (¬ (4 : Int32) = 0 ∧ (∀ x5_6 : Int32, x5_6 = x4 / 4 → (¬ (4 : Int32) = 0 ∧ (∀ x6_8 : Int32, x6_8 = x4 - x4 / 4 * 4 → (((x6_8 ≤ x5_6 → (∀ x4_10 : Int32, x4_10 = x4 + 1 → (kx_readSwitch_15 post x1 x2 x3 n x4_10 u))) ∧ (¬ x6_8 ≤ x5_6 → (wpX_pairBit (fun r_11 => ((((x3 &&& r_11) = 0 → (∀ x4_13 : Int32, x4_13 = x4 + 1 → (kx_readSwitch_15 post x1 x2 x3 n x4_13 u))) ∧ (¬ (x3 &&& r_11) = 0 → (wpX_stretchFrom (fun r_14 => (wpX_stretchFrom (fun r_15 => (wpX_rootOfWire (fun r_16 => (wpX_rootOfWire (fun r_67 => (vp_in r_16 3192 ∧ ∀ a_wireRoot_119 : Nat → Int32, a_wireRoot_119 = upd (ao u 46) r_16.toNatClampNeg (vp_nar .short r_67.toInt16.toInt32) → (∀ x4_120 : Int32, x4_120 = x4 + 1 → (kx_readSwitch_15 post x1 x2 x3 n x4_120 (sa u 46 a_wireRoot_119))))) u ((r_15 * 38) + x2))) u ((r_14 * 38) + x2))) x1 x6_8)) x1 x5_6))))) x5_6 x6_8)))))))))))))) := rfl
theorem cx_readSwitch (post : SX → Prop) (u : SX) (p0 : Int32) (p1 : Int32) : wpX_readSwitch post u p0 p1 = (vp_in ((p0 * 38) + p1) 1862 ∧ (∀ x3_2 : Int32, x3_2 = (ao u 38) ((p0 * 38) + p1).toNatClampNeg → (∃ n15 : Nat, kx_readSwitch_15 post p0 p1 x3_2 n15 0 u))) := rfl
def kx_readSwitches_59 (post : SX → Prop) (n : Nat) (x1 : Int32) (u : SX) : Prop := match u with
  | (qf_gates, qf_nodes, qf_joinedSize, qf_cells, qf_chanceState, qf_isBuilt, qf_levels, qa_kinds, qa_firsts, qa_seconds, qa_thirds, qa_nextOf, qa_shownBy, qa_left, qa_right, qa_endOf, qa_cutCount, qa_cutSize, qa_cutLeaf, qa_cutDepth, qa_depthOf, qa_needed, qa_tableOf, qa_rows, qa_joined, qa_tableBits, qa_cellSource, qa_placeOf, qa_cellAt, qa_used, qa_worn, qa_inTree, qa_treeFrom, qa_farness, qa_cameFrom, qa_settled, qa_trackTaken, qa_trackOf, qa_switchBits, qa_pinTrack, qa_outTrack, qa_padTrack, qa_deviceTable, qa_hasFlip, qa_registerPlace, qa_outputPlace, qa_wireRoot, qa_wireLevel, qa_flip, qa_tableOut) => wX_readSwitches_59 post qf_gates qf_nodes qf_joinedSize qf_cells qf_chanceState qf_isBuilt qf_levels n x1 qa_kinds qa_firsts qa_seconds qa_thirds qa_nextOf qa_shownBy qa_left qa_right qa_endOf qa_cutCount qa_cutSize qa_cutLeaf qa_cutDepth qa_depthOf qa_needed qa_tableOf qa_rows qa_joined qa_tableBits qa_cellSource qa_placeOf qa_cellAt qa_used qa_worn qa_inTree qa_treeFrom qa_farness qa_cameFrom qa_settled qa_trackTaken qa_trackOf qa_switchBits qa_pinTrack qa_outTrack qa_padTrack qa_deviceTable qa_hasFlip qa_registerPlace qa_outputPlace qa_wireRoot qa_wireLevel qa_flip qa_tableOut
theorem cx_readSwitches_59 (post : SX → Prop) (n : Nat) (x1 : Int32) (u : SX) : kx_readSwitches_59 post (n + 1) x1 u = (((3192 ≤ x1 → (post u)) ∧ (¬ 3192 ≤ x1 → (wpX_rootOfWire (fun r_4 => (vp_in x1 3192 ∧ ∀ a_wireRoot_56 : Nat → Int32, a_wireRoot_56 = upd (ao u 46) x1.toNatClampNeg (vp_nar .short r_4.toInt16.toInt32) → (∀ x1_57 : Int32, x1_57 = x1 + 1 → (kx_readSwitches_59 post n x1_57 (sa u 46 a_wireRoot_56))))) u x1)))) := rfl
def kx_readSwitches_33 (post : SX → Prop) (J25 : Int32 → SX → Prop) (x1 : Int32) (n : Nat) (x2 : Int32) (u : SX) : Prop := match u with
  | (qf_gates, qf_nodes, qf_joinedSize, qf_cells, qf_chanceState, qf_isBuilt, qf_levels, qa_kinds, qa_firsts, qa_seconds, qa_thirds, qa_nextOf, qa_shownBy, qa_left, qa_right, qa_endOf, qa_cutCount, qa_cutSize, qa_cutLeaf, qa_cutDepth, qa_depthOf, qa_needed, qa_tableOf, qa_rows, qa_joined, qa_tableBits, qa_cellSource, qa_placeOf, qa_cellAt, qa_used, qa_worn, qa_inTree, qa_treeFrom, qa_farness, qa_cameFrom, qa_settled, qa_trackTaken, qa_trackOf, qa_switchBits, qa_pinTrack, qa_outTrack, qa_padTrack, qa_deviceTable, qa_hasFlip, qa_registerPlace, qa_outputPlace, qa_wireRoot, qa_wireLevel, qa_flip, qa_tableOut) => wX_readSwitches_33 post (fun x1 f_gates f_nodes f_joinedSize f_cells f_chanceState f_isBuilt f_levels a_kinds a_firsts a_seconds a_thirds a_nextOf a_shownBy a_left a_right a_endOf a_cutCount a_cutSize a_cutLeaf a_cutDepth a_depthOf a_needed a_tableOf a_rows a_joined a_tableBits a_cellSource a_placeOf a_cellAt a_used a_worn a_inTree a_treeFrom a_farness a_cameFrom a_settled a_trackTaken a_trackOf a_switchBits a_pinTrack a_outTrack a_padTrack a_deviceTable a_hasFlip a_registerPlace a_outputPlace a_wireRoot a_wireLevel a_flip a_tableOut => J25 x1 (f_gates, f_nodes, f_joinedSize, f_cells, f_chanceState, f_isBuilt, f_levels, a_kinds, a_firsts, a_seconds, a_thirds, a_nextOf, a_shownBy, a_left, a_right, a_endOf, a_cutCount, a_cutSize, a_cutLeaf, a_cutDepth, a_depthOf, a_needed, a_tableOf, a_rows, a_joined, a_tableBits, a_cellSource, a_placeOf, a_cellAt, a_used, a_worn, a_inTree, a_treeFrom, a_farness, a_cameFrom, a_settled, a_trackTaken, a_trackOf, a_switchBits, a_pinTrack, a_outTrack, a_padTrack, a_deviceTable, a_hasFlip, a_registerPlace, a_outputPlace, a_wireRoot, a_wireLevel, a_flip, a_tableOut)) x1 n x2 qf_gates qf_nodes qf_joinedSize qf_cells qf_chanceState qf_isBuilt qf_levels qa_kinds qa_firsts qa_seconds qa_thirds qa_nextOf qa_shownBy qa_left qa_right qa_endOf qa_cutCount qa_cutSize qa_cutLeaf qa_cutDepth qa_depthOf qa_needed qa_tableOf qa_rows qa_joined qa_tableBits qa_cellSource qa_placeOf qa_cellAt qa_used qa_worn qa_inTree qa_treeFrom qa_farness qa_cameFrom qa_settled qa_trackTaken qa_trackOf qa_switchBits qa_pinTrack qa_outTrack qa_padTrack qa_deviceTable qa_hasFlip qa_registerPlace qa_outputPlace qa_wireRoot qa_wireLevel qa_flip qa_tableOut
theorem cx_readSwitches_33 (post : SX → Prop) (J25 : Int32 → SX → Prop) (x1 : Int32) (n : Nat) (x2 : Int32) (u : SX) : kx_readSwitches_33 post J25 x1 (n + 1) x2 u = (((38 ≤ x2 → (∀ x1_59 : Int32, x1_59 = x1 + 1 → (J25 x1_59 u))) ∧ (¬ 38 ≤ x2 → (wpX_readSwitch (fun u1 => (∀ x2_111 : Int32, x2_111 = x2 + 1 → (kx_readSwitches_33 post J25 x1 n x2_111 u1))) u x1 x2)))) := rfl
def kx_readSwitches_25 (post : SX → Prop) (n : Nat) (x1 : Int32) (u : SX) : Prop := match u with
  | (qf_gates, qf_nodes, qf_joinedSize, qf_cells, qf_chanceState, qf_isBuilt, qf_levels, qa_kinds, qa_firsts, qa_seconds, qa_thirds, qa_nextOf, qa_shownBy, qa_left, qa_right, qa_endOf, qa_cutCount, qa_cutSize, qa_cutLeaf, qa_cutDepth, qa_depthOf, qa_needed, qa_tableOf, qa_rows, qa_joined, qa_tableBits, qa_cellSource, qa_placeOf, qa_cellAt, qa_used, qa_worn, qa_inTree, qa_treeFrom, qa_farness, qa_cameFrom, qa_settled, qa_trackTaken, qa_trackOf, qa_switchBits, qa_pinTrack, qa_outTrack, qa_padTrack, qa_deviceTable, qa_hasFlip, qa_registerPlace, qa_outputPlace, qa_wireRoot, qa_wireLevel, qa_flip, qa_tableOut) => wX_readSwitches_25 post n x1 qf_gates qf_nodes qf_joinedSize qf_cells qf_chanceState qf_isBuilt qf_levels qa_kinds qa_firsts qa_seconds qa_thirds qa_nextOf qa_shownBy qa_left qa_right qa_endOf qa_cutCount qa_cutSize qa_cutLeaf qa_cutDepth qa_depthOf qa_needed qa_tableOf qa_rows qa_joined qa_tableBits qa_cellSource qa_placeOf qa_cellAt qa_used qa_worn qa_inTree qa_treeFrom qa_farness qa_cameFrom qa_settled qa_trackTaken qa_trackOf qa_switchBits qa_pinTrack qa_outTrack qa_padTrack qa_deviceTable qa_hasFlip qa_registerPlace qa_outputPlace qa_wireRoot qa_wireLevel qa_flip qa_tableOut
theorem cx_readSwitches_25 (post : SX → Prop) (n : Nat) (x1 : Int32) (u : SX) : kx_readSwitches_25 post (n + 1) x1 u = (((49 ≤ x1 → (∃ n59 : Nat, kx_readSwitches_59 post n59 0 u)) ∧ (¬ 49 ≤ x1 → (∃ n33 : Nat, kx_readSwitches_33 post (fun y0 s => kx_readSwitches_25 post n y0 s) x1 n33 0 u)))) := rfl
def kx_readSwitches_2 (post : SX → Prop) (n : Nat) (x1 : Int32) (u : SX) : Prop := match u with
  | (qf_gates, qf_nodes, qf_joinedSize, qf_cells, qf_chanceState, qf_isBuilt, qf_levels, qa_kinds, qa_firsts, qa_seconds, qa_thirds, qa_nextOf, qa_shownBy, qa_left, qa_right, qa_endOf, qa_cutCount, qa_cutSize, qa_cutLeaf, qa_cutDepth, qa_depthOf, qa_needed, qa_tableOf, qa_rows, qa_joined, qa_tableBits, qa_cellSource, qa_placeOf, qa_cellAt, qa_used, qa_worn, qa_inTree, qa_treeFrom, qa_farness, qa_cameFrom, qa_settled, qa_trackTaken, qa_trackOf, qa_switchBits, qa_pinTrack, qa_outTrack, qa_padTrack, qa_deviceTable, qa_hasFlip, qa_registerPlace, qa_outputPlace, qa_wireRoot, qa_wireLevel, qa_flip, qa_tableOut) => wX_readSwitches_2 post qf_gates qf_nodes qf_joinedSize qf_cells qf_chanceState qf_isBuilt qf_levels n x1 qa_kinds qa_firsts qa_seconds qa_thirds qa_nextOf qa_shownBy qa_left qa_right qa_endOf qa_cutCount qa_cutSize qa_cutLeaf qa_cutDepth qa_depthOf qa_needed qa_tableOf qa_rows qa_joined qa_tableBits qa_cellSource qa_placeOf qa_cellAt qa_used qa_worn qa_inTree qa_treeFrom qa_farness qa_cameFrom qa_settled qa_trackTaken qa_trackOf qa_switchBits qa_pinTrack qa_outTrack qa_padTrack qa_deviceTable qa_hasFlip qa_registerPlace qa_outputPlace qa_wireRoot qa_wireLevel qa_flip qa_tableOut
theorem cx_readSwitches_2 (post : SX → Prop) (n : Nat) (x1 : Int32) (u : SX) : kx_readSwitches_2 post (n + 1) x1 u = (((3192 ≤ x1 → (∃ n25 : Nat, kx_readSwitches_25 post n25 0 u)) ∧ (¬ 3192 ≤ x1 → (vp_in x1 3192 ∧ ∀ a_wireRoot_113 : Nat → Int32, a_wireRoot_113 = upd (ao u 46) x1.toNatClampNeg (vp_nar .short x1.toInt16.toInt32) → (∀ x1_114 : Int32, x1_114 = x1 + 1 → (kx_readSwitches_2 post n x1_114 (sa u 46 a_wireRoot_113))))))) := rfl
theorem cx_readSwitches (post : SX → Prop) (u : SX) : wpX_readSwitches post u = (∃ n2 : Nat, kx_readSwitches_2 post n2 0 u) := rfl
def Uf (u : SX) (wr rp dp : Nat → Nat) : Prop := ∀ w, w < 3192 → ao u 46 w = nI (wr w) ∧ wr w < 3192 ∧ rp w < 3192 ∧ wr (rp w) = rp w ∧ (wr w = w → rp w = w) ∧ (wr w ≠ w → rp (wr w) = rp w ∧ dp (wr w) < dp w)
theorem Uf_rr {u : SX} {wr rp dp : Nat → Nat} (h : Uf u wr rp dp) {w : Nat} (hw : w < 3192) : rp (rp w) = rp w := (h (rp w) (h w hw).2.2.1).2.2.2.2.1 (h w hw).2.2.2.1
theorem hx_rootOfWire {post : Int32 → Prop} {u : SX} {wr rp dp : Nat → Nat} (h : Uf u wr rp dp) {w : Nat} (hw : w < 3192) (K : post (nI (rp w))) : wpX_rootOfWire post u (nI w) := by
  rw [cx_rootOfWire]
  refine lp1 (fun a (v : Nat) => kx_rootOfWire_2 post a (nI v) u) (fun v => v < 3192 ∧ rp v = rp w) (fun v => dp v) ?_ w ⟨hw, rfl⟩
  rintro a v ⟨hv, e⟩ hr
  obtain ⟨h1, h2, h3, h4, h5, h6⟩ := h v hv
  show kx_rootOfWire_2 _ _ _ _
  rw [cx_rootOfWire_2]
  simp only [clI (show v < 2 ^ 31 by omega), h1]
  refine ⟨pk_in v 3192 hv, pk_eq (wr v) v (fun e' => ?_) (fun e' => ⟨pk_in v 3192 hv, nm_e (hr (wr v) ⟨h2, (h6 e').1.trans e⟩ (h6 e').2)⟩)⟩
  rw [← e, h5 e'] at K
  exact K
theorem Uf_un {u v : SX} {wr rp dp : Nat → Nat} (h : Uf u wr rp dp) {a b : Nat} (ha : a < 3192) (hb : b < 3192) (hv : ∀ w, ao v 46 w = if w = rp a then nI (rp b) else ao u 46 w) :
    Uf v (fun w => if w = rp a then rp b else wr w) (fun w => if rp w = rp a then rp b else rp w) (fun w => if rp w = rp a ∧ rp a ≠ rp b then dp w + dp (rp b) + 1 else dp w) := by
  have raa := Uf_rr h ha
  have rbb := Uf_rr h hb
  have ra := (h a ha).2.2.1
  have rb := (h b hb).2.2.1
  have wa := (h a ha).2.2.2.1
  have wb := (h b hb).2.2.2.1
  intro w hw
  obtain ⟨h1, h2, h3, h4, h5, h6⟩ := h w hw
  dsimp only
  refine ⟨?_, ?_, ?_, ?_, ?_, ?_⟩
  · rw [hv w]
    split
    · rfl
    · exact h1
  · split
    · exact rb
    · exact h2
  · split
    · exact rb
    · exact h3
  · by_cases e : rp w = rp a
    · rw [if_pos e]
      by_cases e' : rp b = rp a
      · rw [if_pos e']
      · rw [if_neg e']; exact wb
    · rw [if_neg e, if_neg e]; exact h4
  · intro e
    by_cases ew : w = rp a
    · rw [if_pos ew] at e
      rw [ew, raa, if_pos rfl, e, ew]
    · rw [if_neg ew] at e
      have := h5 e
      rw [this, if_neg ew]
  · intro e
    by_cases ew : w = rp a
    · rw [if_pos ew] at e ⊢
      have hne : rp a ≠ rp b := fun z => e (by rw [ew, z])
      rw [ew, raa, if_pos rfl, rbb, if_neg (fun z => hne z.symm), if_neg (fun z => hne z.1.symm), if_pos ⟨rfl, hne⟩]
      exact ⟨rfl, by omega⟩
    · rw [if_neg ew] at e ⊢
      obtain ⟨g1, g2⟩ := h6 e
      rw [g1]
      refine ⟨rfl, ?_⟩
      split <;> omega
/-- wire w belongs to source n -/
def Kd (ib : Nat → Bool) (tr : Nat → Nat) (w n : Nat) : Prop := ∃ s, s < 84 ∧ w = 38 * s + tr n ∧ ib (84 * n + s) = true
def So (ib : Nat → Bool) (tr : Nat → Nat) (M : Nat) (rp : Nat → Nat) : Prop := ∀ w, w < 3192 → rp w = w ∨ ∃ n, n < M ∧ Kd ib tr w n ∧ Kd ib tr (rp w) n
theorem Kd_u {ib : Nat → Bool} {tr : Nat → Nat} {M : Nat} (hD : Dj ib tr M) (ht : ∀ n, n < M → tr n < 38) {w n m : Nat} (hn : n < M) (hm : m < M) (h1 : Kd ib tr w n) (h2 : Kd ib tr w m) : n = m := by
  obtain ⟨s, a1, a2, a3⟩ := h1
  obtain ⟨s', b1, b2, b3⟩ := h2
  have := ht n hn
  have := ht m hm
  have es : s = s' := by omega
  subst es
  by_cases e : n = m
  · exact e
  · exact absurd (hD n m hn hm e (by omega) s a1 a3 b3) (fun z => z)
theorem So_un {ib : Nat → Bool} {tr : Nat → Nat} {M : Nat} {rp : Nat → Nat} (hD : Dj ib tr M) (ht : ∀ n, n < M → tr n < 38) (h : So ib tr M rp) {a b n : Nat} (hn : n < M) (ha : a < 3192) (hb : b < 3192) (ka : Kd ib tr a n) (kb : Kd ib tr b n) : So ib tr M (fun w => if rp w = rp a then rp b else rp w) := by
  have cls : ∀ w, w < 3192 → Kd ib tr w n → Kd ib tr (rp w) n := by
    intro w hw kw
    rcases h w hw with e | ⟨m, hm, k1, k2⟩
    · rw [e]; exact kw
    · rw [Kd_u hD ht hn hm kw k1]; exact k2
  have cls' : ∀ w, w < 3192 → Kd ib tr (rp w) n → Kd ib tr w n := by
    intro w hw kw
    rcases h w hw with e | ⟨m, hm, k1, k2⟩
    · rw [e] at kw; exact kw
    · rw [Kd_u hD ht hn hm kw k2]; exact k1
  intro w hw
  dsimp only
  by_cases e : rp w = rp a
  · rw [if_pos e]
    exact Or.inr ⟨n, hn, cls' w hw (by rw [e]; exact cls a ha ka), cls b hb kb⟩
  · rw [if_neg e]; exact h w hw
theorem and_p : ∀ x, x < 64 → ∀ k, k < 6 → ((x &&& 2 ^ k = 0) ↔ x.testBit k = false) := by decide +kernel
theorem pq_c : ∀ a, a < 4 → ∀ b, b < 4 → pq a b = pq b a := by decide +kernel
/-- the links that lie at crossing cr, track t, in the pair number i -/
def ps (s f : Nat) : Nat := if sd (ccr s f) s < sd (ccr s f) f then 4 * sd (ccr s f) s + sd (ccr s f) f else 4 * sd (ccr s f) f + sd (ccr s f) s
theorem hx_readSwitch {post : SX → Prop} {u0 u : SX} {ib : Nat → Bool} {tr : Nat → Nat} {M : Nat} {sw : Nat → Nat} (hS : Sw u0 ib tr u sw (fun n _ => n < M)) (hD : Dj ib tr M) (ht : ∀ n, n < M → tr n < 38) {cr t : Nat} (hcr : cr < 49) (ht38 : t < 38) {wr rp dp : Nat → Nat} (hU : Uf u wr rp dp) (hO : So ib tr M rp)
    (K : ∀ u' wr' rp' dp', fr [46] u u' → Uf u' wr' rp' dp' → So ib tr M rp' → (∀ w w', rp w = rp w' → rp' w = rp' w') → (∀ n s f, n < M → LK u0 ib n s f → ccr s f = cr → tr n = t → rp' (38 * s + t) = rp' (38 * f + t)) → post u') : wpX_readSwitch post u (nI cr) (nI t) := by
  rw [cx_readSwitch, m38, clI (by omega), (hS.1 _ (by omega)).1]
  refine ⟨pk_in (38 * cr + t) 1862 (by omega), nm_e ?_⟩
  have hsw := (hS.1 (38 * cr + t) (by omega)).2
  have hcomp : ∀ n s f, n < M → LK u0 ib n s f → ccr s f = cr → tr n = t → (sw (38 * cr + t)).testBit (pq (sd cr s) (sd cr f)) = true := by
    intro n s f hn hL e1 e2
    have := hS.2.2 n s f hn hL
    rw [e1, e2] at this
    exact this
  refine pk_loop (fun a i v => kx_readSwitch_15 post (nI cr) (nI t) (nI (sw (38 * cr + t))) a (nI i) v) (fun i v => fr [46] u v ∧ ∃ wr' rp' dp', Uf v wr' rp' dp' ∧ So ib tr M rp' ∧ (∀ w w', rp w = rp w' → rp' w = rp' w') ∧ ∀ n s f, n < M → LK u0 ib n s f → ccr s f = cr → tr n = t → ps s f < i → rp' (38 * s + t) = rp' (38 * f + t)) 16 0 u (Nat.zero_le _)
    ⟨fr_rf, wr, rp, dp, hU, hO, fun _ _ h => h, fun n s f _ _ _ _ h => by omega⟩ ?_ ?_
  · rintro a v ⟨f1, wr', rp', dp', f2, f3, f4, f5⟩
    show kx_readSwitch_15 _ _ _ _ _ _ _
    rw [cx_readSwitch_15]
    refine pk_le 16 16 (fun _ => K v wr' rp' dp' f1 f2 f3 f4 (fun n s f hn hL e1 e2 => f5 n s f hn hL e1 e2 ?_)) (fun h => absurd h (by omega))
    obtain ⟨a1, a2, a3, a4, _⟩ := adj_g hL.1 hL.2.1 hL.2.2.2.2.1
    unfold ps
    split <;> omega
  · rintro a i v hi ⟨f1, wr', rp', dp', f2, f3, f4, f5⟩ hr
    have skip : (∀ n s f, n < M → LK u0 ib n s f → ccr s f = cr → tr n = t → ps s f ≠ i) → kx_readSwitch_15 post (nI cr) (nI t) (nI (sw (38 * cr + t))) a (nI (i + 1)) v := fun hno =>
      hr v ⟨f1, wr', rp', dp', f2, f3, f4, fun n s f hn hL e1 e2 hp => f5 n s f hn hL e1 e2 (by have := hno n s f hn hL e1 e2; omega)⟩
    show kx_readSwitch_15 _ _ _ _ _ _ _
    rw [cx_readSwitch_15]
    simp only [rem4b (show i < 2 ^ 31 by omega), div4 (show i < 2 ^ 31 by omega)]
    refine pk_le 16 i (fun h => absurd h (by omega)) (fun _ => pk_eq (sw (38 * cr + t)) 0 (fun e => ?_) (fun _ => ⟨by decide, nm_e ⟨by decide, nm_e (pk_le (i % 4) (i / 4) (fun hle => nm_r (nI_1 i) (skip (fun n s f hn hL e1 e2 hp => ?_))) (fun hlt => ?_))⟩⟩))
    · refine K v wr' rp' dp' f1 f2 f3 f4 (fun n s f hn hL e1 e2 => ?_)
      have := hcomp n s f hn hL e1 e2
      rw [e, Nat.zero_testBit] at this
      exact absurd this (by decide)
    · obtain ⟨a1, a2, a3, a4, _⟩ := adj_g hL.1 hL.2.1 hL.2.2.2.2.1
      unfold ps at hp
      split at hp <;> omega
    · have hpq := pq_b (i / 4) (by omega) (i % 4) (by omega) (by omega)
      refine hx_pairBit (by omega) (by omega) (by omega) ?_
      rw [hpq.1, nx_and]
      refine br_c (fun h0 => nm_r (nI_1 i) (skip (fun n s f hn hL e1 e2 hp => ?_))) (fun h0 => ?_)
      · have hand : sw (38 * cr + t) &&& 2 ^ pq (i / 4) (i % 4) = 0 := (nI_eq (Nat.lt_of_le_of_lt Nat.and_le_left (by omega)) (by omega)).mp h0
        have hf := (and_p _ hsw _ hpq.2).mp hand
        obtain ⟨a1, a2, a3, a4, _⟩ := adj_g hL.1 hL.2.1 hL.2.2.2.2.1
        have hc := hcomp n s f hn hL e1 e2
        rw [e1] at a2 a3 a4
        unfold ps at hp
        rw [e1] at hp
        have : pq (i / 4) (i % 4) = pq (sd cr s) (sd cr f) := by
          split at hp
          · rw [show i / 4 = sd cr s from by omega, show i % 4 = sd cr f from by omega]
          · rw [show i / 4 = sd cr f from by omega, show i % 4 = sd cr s from by omega, pq_c _ a3 _ a2]
        rw [this, hc] at hf
        exact absurd hf (by decide)
      · have hand : (sw (38 * cr + t)).testBit (pq (i / 4) (i % 4)) = true := by
          cases hb : (sw (38 * cr + t)).testBit (pq (i / 4) (i % 4)) with
          | true => rfl
          | false => exact absurd (by rw [(and_p _ hsw _ hpq.2).mpr hb]; rfl) h0
        obtain ⟨n, s, f, hn, hL, e1, e2⟩ := hS.2.1 _ _ (by omega) hand
        obtain ⟨a1, a2, a3, a4, a5, a6⟩ := adj_g hL.1 hL.2.1 hL.2.2.2.2.1
        have htn := ht n hn
        have ec : ccr s f = cr := by omega
        have et : tr n = t := by omega
        rw [ec] at a2 a3 a4 a5 a6 e2
        have hs84 := hL.1
        have hf84 := hL.2.1
        -- the two stretches of the pair
        have main : ∀ x y : Nat, x < 84 → y < 84 → sfr cr (i / 4) = x + 1 → sfr cr (i % 4) = y + 1 → Kd ib tr (38 * x + t) n → Kd ib tr (38 * y + t) n →
            wpX_stretchFrom (fun r_14 => wpX_stretchFrom (fun r_15 => wpX_rootOfWire (fun r_16 => wpX_rootOfWire (fun r_67 => vp_in r_16 3192 ∧ ∀ a_wireRoot_119 : Nat → Int32, a_wireRoot_119 = upd (ao v 46) r_16.toNatClampNeg (vp_nar .short r_67.toInt16.toInt32) → ∀ x4_120 : Int32, x4_120 = nI i + 1 → kx_readSwitch_15 post (nI cr) (nI t) (nI (sw (38 * cr + t))) a x4_120 (sa v 46 a_wireRoot_119)) v (r_15 * 38 + nI t)) v (r_14 * 38 + nI t)) (nI cr) (nI (i % 4))) (nI cr) (nI (i / 4)) := by
          intro x y hx hy ex ey kx ky
          have hxw : 38 * x + t < 3192 := by omega
          have hyw : 38 * y + t < 3192 := by omega
          refine hx_stretchFrom hcr (by omega) (hx_stretchFrom hcr (by omega) ?_)
          rw [ex, ey, pI_s, pI_s, m38, m38]
          refine hx_rootOfWire f2 hxw (hx_rootOfWire f2 hyw ?_)
          have rx := (f2 _ hxw).2.2.1
          have ry := (f2 _ hyw).2.2.1
          rw [clI (by omega), vsh (by omega)]
          refine ⟨pk_in (rp' (38 * x + t)) 3192 rx, nm_e (nm_r (nI_1 i) (hr _ ⟨fr_a f1 (by decide), _, _, _, Uf_un f2 hxw hyw (fun w => rfl), So_un hD ht f3 hn hxw hyw kx ky, fun w w' h => ?_, fun m s' f' hm hL' g1 g2 hp => ?_⟩))⟩
          · try dsimp only
            rw [f4 w w' h]
          · try dsimp only
            by_cases hpi : ps s' f' < i
            · rw [f5 m s' f' hm hL' g1 g2 hpi]
            · obtain ⟨b1, b2, b3, b4, b5, b6⟩ := adj_g hL'.1 hL'.2.1 hL'.2.2.2.2.1
              rw [g1] at b2 b3 b4 b5 b6
              have hpe : ps s' f' = i := by omega
              unfold ps at hpe
              rw [g1] at hpe
              have hxy : (s' = x ∧ f' = y) ∨ (s' = y ∧ f' = x) := by
                split at hpe
                · left
                  rw [show sd cr s' = i / 4 from by omega, ex] at b5
                  rw [show sd cr f' = i % 4 from by omega, ey] at b6
                  omega
                · right
                  rw [show sd cr s' = i % 4 from by omega, ey] at b5
                  rw [show sd cr f' = i / 4 from by omega, ex] at b6
                  omega
              have e0 : (if rp' (38 * x + t) = rp' (38 * x + t) then rp' (38 * y + t) else rp' (38 * x + t)) = rp' (38 * y + t) := if_pos rfl
              have e1 : (if rp' (38 * y + t) = rp' (38 * x + t) then rp' (38 * y + t) else rp' (38 * y + t)) = rp' (38 * y + t) := by split <;> rfl
              rcases hxy with ⟨q1, q2⟩ | ⟨q1, q2⟩
              · rw [q1, q2, e0, e1]
              · rw [q1, q2, e0, e1]
        have ks : Kd ib tr (38 * s + t) n := ⟨s, hs84, by rw [et], hL.2.2.1⟩
        have kf : Kd ib tr (38 * f + t) n := ⟨f, hf84, by rw [et], hL.2.2.2.2.2⟩
        rcases pq_i (by omega) (by omega) a2 a3 ⟨hlt, a4, e2⟩ with ⟨q1, q2⟩ | ⟨q1, q2⟩
        · exact main s f hs84 hf84 (by rw [q1]; exact a5) (by rw [q2]; exact a6) ks kf
        · exact main f s hf84 hs84 (by rw [q1]; exact a6) (by rw [q2]; exact a5) kf ks
end
section
/-! ===== G: all switches; the device ===== -/
theorem Sw_fr {M : List Nat} {u0 : SX} {ib : Nat → Bool} {tr : Nat → Nat} {u v : SX} {sw : Nat → Nat} {D : Nat → Nat → Prop} (h : Sw u0 ib tr u sw D) (hf : fr M u v) (h1 : 38 ∉ M := by decide) : Sw u0 ib tr v sw D :=
  ⟨fun i hi => by rw [fr_ao hf 38 h1]; exact h.1 i hi, h.2⟩
theorem Uf_dp {u : SX} {wr rp dp : Nat → Nat} (h : Uf u wr rp dp) : ∀ d w, dp w ≤ d → w < 3192 → rp w ≠ w → dp (rp w) < dp w := by
  intro d
  induction d with
  | zero =>
    intro w hd hw hne
    have hw' := h w hw
    have := (hw'.2.2.2.2.2 (fun z => hne (hw'.2.2.2.2.1 z))).2
    omega
  | succ d ih =>
    intro w hd hw hne
    have hw' := h w hw
    obtain ⟨g1, g2⟩ := hw'.2.2.2.2.2 (fun z => hne (hw'.2.2.2.2.1 z))
    by_cases e : rp (wr w) = wr w
    · rw [← g1, e]; exact g2
    · have := ih (wr w) (by omega) hw'.2.1 e
      rw [g1] at this
      omega
theorem hx_rs59 {post : SX → Prop} {u : SX} {wr rp dp : Nat → Nat} (hU : Uf u wr rp dp) (K : ∀ u', fr [46] u u' → (∀ w, w < 3192 → ao u' 46 w = nI (rp w) ∧ rp w < 3192) → post u') : ∃ a, kx_readSwitches_59 post a 0 u := by
  refine pk_loop (fun a i s => kx_readSwitches_59 post a (nI i) s) (fun i s => fr [46] u s ∧ ∃ wr', Uf s wr' rp dp ∧ ∀ w, w < i → wr' w = rp w) 3192 0 u (Nat.zero_le _) ⟨fr_rf, wr, hU, fun w hw => by omega⟩ ?_ ?_
  · rintro a s ⟨f1, wr', f2, f3⟩
    show kx_readSwitches_59 _ _ _ _
    rw [cx_readSwitches_59]
    exact pk_le 3192 3192 (fun _ => K s f1 (fun w hw => ⟨by rw [(f2 w hw).1, f3 w hw], (f2 w hw).2.2.1⟩)) (fun h => absurd h (by omega))
  · rintro a i s hi ⟨f1, wr', f2, f3⟩ hr
    have hri := (f2 i hi).2.2.1
    show kx_readSwitches_59 _ _ _ _
    rw [cx_readSwitches_59]
    refine pk_le 3192 i (fun h => absurd h (by omega)) (fun _ => hx_rootOfWire f2 hi ?_)
    rw [clI (by omega), vsh (by omega)]
    refine ⟨pk_in i 3192 hi, nm_e (nm_r (nI_1 i) (hr _ ⟨fr_a f1 (by decide), fun w => if w = i then rp i else wr' w, fun w hw => ?_, fun w hw => ?_⟩))⟩
    · obtain ⟨h1, h2, h3, h4, h5, h6⟩ := f2 w hw
      dsimp only
      refine ⟨?_, ?_, h3, ?_, ?_, ?_⟩
      · show upd (ao s 46) i _ w = _
        by_cases e : w = i
        · rw [e, u_s, if_pos rfl]
        · rw [u_n e, if_neg e]; exact h1
      · split
        · exact hri
        · exact h2
      · by_cases e : rp w = i
        · rw [if_pos e, ← e]; exact Uf_rr f2 hw
        · rw [if_neg e]; exact h4
      · by_cases e : w = i
        · rw [if_pos e, e]; exact fun z => z
        · rw [if_neg e]; exact h5
      · by_cases e : w = i
        · rw [if_pos e, e]
          exact fun z => ⟨Uf_rr f2 hi, Uf_dp f2 _ i (Nat.le_refl _) hi z⟩
        · rw [if_neg e]; exact h6
    · dsimp only
      by_cases e : w = i
      · rw [if_pos e, e]
      · rw [if_neg e]; exact f3 w (by omega)
theorem hx_readSwitches {post : SX → Prop} {u0 u : SX} {ib : Nat → Bool} {tr : Nat → Nat} {M : Nat} {sw : Nat → Nat} (hS : Sw u0 ib tr u sw (fun n _ => n < M)) (hD : Dj ib tr M) (ht : ∀ n, n < M → tr n < 38)
    (K : ∀ u' rp, fr [46] u u' → (∀ w, w < 3192 → ao u' 46 w = nI (rp w) ∧ rp w < 3192) → So ib tr M rp → (∀ n s f, n < M → LK u0 ib n s f → rp (38 * s + tr n) = rp (38 * f + tr n)) → post u') : wpX_readSwitches post u := by
  rw [cx_readSwitches]
  refine pk_loop (fun a i s => kx_readSwitches_2 post a (nI i) s) (fun i s => fr [46] u s ∧ ∀ w, w < i → ao s 46 w = nI w) 3192 0 u (Nat.zero_le _) ⟨fr_rf, fun w hw => by omega⟩ ?_ ?_
  · rintro a s ⟨f1, f2⟩
    show kx_readSwitches_2 _ _ _ _
    rw [cx_readSwitches_2]
    refine pk_le 3192 3192 (fun _ => ?_) (fun h => absurd h (by omega))
    refine pk_loop (fun a c v => kx_readSwitches_25 post a (nI c) v) (fun c v => fr [46] u v ∧ ∃ wr rp dp, Uf v wr rp dp ∧ So ib tr M rp ∧ ∀ n s f, n < M → LK u0 ib n s f → ccr s f < c → rp (38 * s + tr n) = rp (38 * f + tr n)) 49 0 s (Nat.zero_le _)
      ⟨f1, fun w => w, fun w => w, fun _ => 0, fun w hw => ⟨f2 w hw, hw, hw, rfl, fun _ => rfl, fun h => absurd rfl h⟩, fun w _ => Or.inl rfl, fun n s f _ _ h => by omega⟩ ?_ ?_
    · rintro a v ⟨g1, wr, rp, dp, g2, g3, g4⟩
      show kx_readSwitches_25 _ _ _ _
      rw [cx_readSwitches_25]
      refine pk_le 49 49 (fun _ => hx_rs59 g2 (fun u' k1 k2 => K u' rp (fr_tr g1 k1) k2 g3 (fun n s f hn hL => g4 n s f hn hL (adj_g hL.1 hL.2.1 hL.2.2.2.2.1).1))) (fun h => absurd h (by omega))
    · rintro a c v hc ⟨g1, wr, rp, dp, g2, g3, g4⟩ hr
      show kx_readSwitches_25 _ _ _ _
      rw [cx_readSwitches_25]
      refine pk_le 49 c (fun h => absurd h (by omega)) (fun _ => ?_)
      refine pk_loop (fun b t x => kx_readSwitches_33 post (fun y0 s => kx_readSwitches_25 post a y0 s) (nI c) b (nI t) x) (fun t x => fr [46] u x ∧ ∃ wr rp dp, Uf x wr rp dp ∧ So ib tr M rp ∧ ∀ n s f, n < M → LK u0 ib n s f → (ccr s f < c ∨ (ccr s f = c ∧ tr n < t)) → rp (38 * s + tr n) = rp (38 * f + tr n)) 38 0 v (Nat.zero_le _)
        ⟨g1, wr, rp, dp, g2, g3, fun n s f hn hL h => g4 n s f hn hL (by omega)⟩ ?_ ?_
      · rintro b x ⟨h1, wr, rp, dp, h2, h3, h4⟩
        show kx_readSwitches_33 _ _ _ _ _ _
        rw [cx_readSwitches_33]
        refine pk_le 38 38 (fun _ => nm_r (nI_1 c) (hr x ⟨h1, wr, rp, dp, h2, h3, fun n s f hn hL h => h4 n s f hn hL ?_⟩)) (fun h => absurd h (by omega))
        have := ht n hn
        omega
      · rintro b t x ht38 ⟨h1, wr, rp, dp, h2, h3, h4⟩ hr'
        show kx_readSwitches_33 _ _ _ _ _ _
        rw [cx_readSwitches_33]
        refine pk_le 38 t (fun h => absurd h (by omega)) (fun _ => ?_)
        refine hx_readSwitch (Sw_fr hS h1) hD ht hc ht38 h2 h3 (fun u' wr' rp' dp' k1 k2 k3 k4 k5 => nm_r (nI_1 t) (hr' u' ⟨fr_tr h1 k1, wr', rp', dp', k2, k3, fun n s f hn hL h => ?_⟩))
        by_cases e : ccr s f = c ∧ tr n = t
        · rw [e.2]; exact k5 n s f hn hL e.1 e.2
        · exact k4 _ _ (h4 n s f hn hL (by omega))
  · rintro a i s hi ⟨f1, f2⟩ hr
    show kx_readSwitches_2 _ _ _ _
    rw [cx_readSwitches_2]
    simp only [clI (show i < 2 ^ 31 by omega), vsh (show i < 32768 by omega)]
    refine pk_le 3192 i (fun h => absurd h (by omega)) (fun _ => ⟨pk_in i 3192 hi, nm_e (nm_r (nI_1 i) (hr _ ⟨fr_a f1 (by decide), fun w hw => ?_⟩))⟩)
    show upd (ao s 46) i _ w = _
    by_cases e : w = i
    · rw [e, u_s]
    · rw [u_n e]; exact f2 w (by omega)
/-- the wire that track bits x at a stretch stand for -/
def Wa (u : SX) (st : Nat) (x : Int32) (e : Nat) : Prop := (x = nI 0 ∧ e = 0) ∨ ∃ t w, t < 38 ∧ x = nI (t + 1) ∧ ao u 46 (38 * st + t) = nI w ∧ w < 3192 ∧ e = w + 1
/-- a device that works: what registers get, what outputs show -/
def Dv (u : SX) (nxt out : (Nat → Bool) → Nat → Bool) : Prop := ∃ (C : Nat) (P : Nat → Nat → Nat) (pl : Nat → Nat) (T : Nat → Int32) (wv : Nat → Nat), 10 ≤ C ∧ C ≤ 36 ∧ (∀ c, c < C → pl c < 36) ∧ (∀ c c', c < C → c' < C → pl c = pl c' → c = c') ∧
  (∀ c i, c < C → i < 4 → Wa u (stA (pl c) i) (ao u 39 (4 * pl c + i)) (if P c i = 0 then 0 else wv (P c i - 1)) ∧ (P c i ≠ 0 → wv (P c i - 1) ≠ 0) ∧ P c i ≤ C + 2 ∧ (10 ≤ c → P c i ≤ c + 2)) ∧
  (∀ p i, p < 36 → i < 4 → (∀ c, c < C → pl c ≠ p) → ao u 39 (4 * p + i) = nI 0) ∧
  (∀ n, n < 6 → Wa u (42 + n * 7) (ao u 41 n) (wv n)) ∧ (∀ n, 6 ≤ n → n < C + 2 → Wa u (stA (pl (ce n)) 0) (ao u 40 (pl (ce n))) (wv n)) ∧
  (∀ p, p < 36 → (∀ n, 6 ≤ n → n < C + 2 → pl (ce n) ≠ p) → ao u 40 p = nI 0) ∧ (∀ n m, n < C + 2 → m < C + 2 → wv n ≠ 0 → wv n = wv m → n = m) ∧
  (∀ c, c < C → ao u 42 (pl c) = T c ∧ ao u 43 (pl c) = bI (decide (c < 6))) ∧ (∀ r, r < 6 → ao u 44 r = nI (pl r)) ∧ (∀ o, o < 4 → ao u 45 o = nI (pl (6 + o))) ∧
  ∀ e, ∃ sv : Nat → Bool, (∀ s, s < 12 → sv s = e s) ∧ (∀ c, 10 ≤ c → c < C → sv (c + 2) = bt (T c) (rS (P c) sv)) ∧ (∀ r, r < 6 → nxt e r = bt (T r) (rS (P r) sv)) ∧ ∀ o, o < 4 → out e o = bt (T (6 + o)) (rS (P (6 + o)) sv)
theorem Dv_fr {M : List Nat} {u v : SX} {nxt out : (Nat → Bool) → Nat → Bool} (h : Dv u nxt out) (hf : fr M u v) (h0 : 39 ∉ M := by decide) (h1 : 40 ∉ M := by decide) (h2 : 41 ∉ M := by decide) (h3 : 42 ∉ M := by decide) (h4 : 43 ∉ M := by decide) (h5 : 44 ∉ M := by decide) (h6 : 45 ∉ M := by decide) (h7 : 46 ∉ M := by decide) : Dv v nxt out := by
  unfold Dv Wa
  rw [fr_ao hf 39 h0, fr_ao hf 40 h1, fr_ao hf 41 h2, fr_ao hf 42 h3, fr_ao hf 43 h4, fr_ao hf 44 h5, fr_ao hf 45 h6, fr_ao hf 46 h7]
  exact h
theorem Dv_of {u0 u : SX} {C : Nat} {P : Nat → Nat → Nat} {pl : Nat → Nat} {ib : Nat → Bool} {tr rp : Nat → Nat} {T : Nat → Int32} {root : (Nat → Bool) → Nat → Bool} (hC : 10 ≤ C) (hC' : C ≤ 36) (hpl : ∀ c, c < C → pl c < 36) (hinj : ∀ c c', c < C → c' < C → pl c = pl c' → c = c')
    (hPb : ∀ c i, c < C → i < 4 → P c i ≤ C + 2 ∧ (10 ≤ c → P c i ≤ c + 2)) (hT : ∀ n, n < C + 2 → Tg u0 ib n (ow pl n) ∧ Pk C P pl ib n (4 * C)) (htr : ∀ n, n < C + 2 → tr n < 38) (hD : Dj ib tr (C + 2)) (hW : WB u C P pl ib tr T)
    (hr : ∀ w, w < 3192 → ao u 46 w = nI (rp w) ∧ rp w < 3192) (hO : So ib tr (C + 2) rp) (hL : ∀ n s f, n < C + 2 → LK u0 ib n s f → rp (38 * s + tr n) = rp (38 * f + tr n))
    (hsem : ∀ e, ∃ sv : Nat → Bool, (∀ s, s < 12 → sv s = e s) ∧ (∀ c, 10 ≤ c → c < C → sv (c + 2) = bt (T c) (rS (P c) sv)) ∧ ∀ c, c < 10 → root e c = bt (T c) (rS (P c) sv)) : Dv u root (fun e o => root e (6 + o)) := by
  obtain ⟨⟨w1, w1'⟩, w2, w3, w4, w5, w6, w7⟩ := hW
  have hlP : Pl (sa u 27 (fun c => nI (pl c))) C pl := fun c hc => ⟨rfl, hpl c hc⟩
  have ho : ∀ n, n < C + 2 → ow pl n < 84 := fun n hn => ow_lt hlP hC hn
  have conn : ∀ n s, n < C + 2 → s < 84 → ib (84 * n + s) = true → rp (38 * s + tr n) = rp (38 * ow pl n + tr n) := by
    intro n s hn hs hi
    refine ((hT n hn).1 s hs hi).2 (fun s => rp (38 * s + tr n) = rp (38 * ow pl n + tr n)) rfl ?_
    intro a f ha hf hia hla hS
    refine Eq.trans (hL n a f hn ⟨ha, hf, hia, hla, ?_⟩) hS
    rcases ((hT n hn).1 a ha hia).1 with ⟨e, _⟩ | ⟨f', g1, g2, g3, g4⟩
    · rw [e, ← pI_s, pI_eq (by omega) (by omega)] at hla
      omega
    · rw [g2, nI_eq (by omega) (by omega)] at hla
      rw [← hla]; exact ⟨g4, g3⟩
  have wired : ∀ n st, n < C + 2 → st < 84 → ib (84 * n + st) = true → ib (84 * n + ow pl n) = true → Wa u st (nI (tr n + 1)) (if ib (84 * n + ow pl n) then rp (38 * ow pl n + tr n) + 1 else 0) := by
    intro n st hn hst hi hio
    have := htr n hn
    have h := hr (38 * st + tr n) (by omega)
    rw [if_pos hio, ← conn n st hn hst hi]
    exact Or.inr ⟨tr n, rp (38 * st + tr n), this, rfl, h.1, h.2, rfl⟩
  have own : ∀ n, n < C + 2 → Wa u (ow pl n) (nI (wt ib tr pl n)) (if ib (84 * n + ow pl n) then rp (38 * ow pl n + tr n) + 1 else 0) := by
    intro n hn
    cases hi : ib (84 * n + ow pl n) with
    | false =>
      unfold wt
      rw [hi]
      exact Or.inl ⟨rfl, rfl⟩
    | true =>
      have h := wired n _ hn (ho n hn) hi hi
      unfold wt
      rw [hi] at h ⊢
      exact h
  refine ⟨C, P, pl, T, fun n => if ib (84 * n + ow pl n) then rp (38 * ow pl n + tr n) + 1 else 0, hC, hC', hpl, hinj, fun c i hc hi => ?_, w1', fun n hn => ?_, fun n h6 hn => ?_, w4, fun n m hn hm hne e => ?_, w5, w6, w7, fun e => ?_⟩
  · have hp := hPb c i hc hi
    refine ⟨?_, fun h0 => ?_, hp⟩
    · rw [w1 c i hc hi]
      unfold pt
      by_cases e : P c i = 0
      · rw [if_pos e, if_pos e]; exact Or.inl ⟨rfl, rfl⟩
      · rw [if_neg e, if_neg e]
        have hpk := (hT (P c i - 1) (by omega)).2 (4 * c + i) (by omega)
        rw [show (4 * c + i) / 4 = c from by omega, show (4 * c + i) % 4 = i from by omega] at hpk
        have hpk := hpk (by omega)
        exact wired _ _ (by omega) (stA_lt _ (hpl c hc) i hi) hpk.1 hpk.2
    · have hpk := (hT (P c i - 1) (by omega)).2 (4 * c + i) (by omega)
      rw [show (4 * c + i) / 4 = c from by omega, show (4 * c + i) % 4 = i from by omega] at hpk
      have hpk := hpk (by omega)
      dsimp only
      rw [if_pos hpk.2]; omega
  · rw [w2 n hn]
    have e : 42 + n * 7 = ow pl n := (if_pos hn).symm
    rw [e]
    exact own n (by omega)
  · rw [w3 n h6 hn]
    have e : stA (pl (ce n)) 0 = ow pl n := (if_neg (by omega)).symm
    rw [e]
    exact own n hn
  · dsimp only at hne e
    have cls : ∀ n, n < C + 2 → ib (84 * n + ow pl n) = true → Kd ib tr (rp (38 * ow pl n + tr n)) n := by
      intro n hn hi
      have h38 := htr n hn
      have h84 := ho n hn
      have k0 : Kd ib tr (38 * ow pl n + tr n) n := ⟨ow pl n, h84, rfl, hi⟩
      rcases hO (38 * ow pl n + tr n) (by omega) with e | ⟨m, hm, k1, k2⟩
      · rw [e]; exact k0
      · rw [← Kd_u hD htr hn hm k0 k1] at k2; exact k2
    cases hi : ib (84 * n + ow pl n) with
    | false => rw [hi] at hne; exact absurd rfl hne
    | true =>
      cases hj : ib (84 * m + ow pl m) with
      | false =>
        rw [hi, hj] at e
        exact absurd e (Nat.succ_ne_zero _)
      | true =>
        rw [hi, hj, if_pos rfl, if_pos rfl] at e
        have k1 := cls n hn hi
        have k2 := cls m hm hj
        rw [show rp (38 * ow pl n + tr n) = rp (38 * ow pl m + tr m) from by omega] at k1
        exact Kd_u hD htr hn hm k1 k2
  · obtain ⟨sv, s1, s2, s3⟩ := hsem e
    exact ⟨sv, s1, s2, fun r hr => s3 r (by omega), fun o ho => s3 (6 + o) (by omega)⟩
end
section
/-! ===== H: the device at work ===== -/
theorem cx_wireAt (post : Int32 → Prop) (u : SX) (p0 : Int32) (p1 : Int32) : wpX_wireAt post u p0 p1 = (((p1 = 0 → (post (- 1))) ∧ (¬ p1 = 0 → (vp_in (((p0 * 38) + p1) - 1) 3192 ∧ (post ((ao u 46) (((p0 * 38) + p1) - 1).toNatClampNeg)))))) := rfl
theorem cx_drive (post : Int32 → SX → Prop) (u : SX) (p0 : Int32) (p1 : Int32) : wpX_drive post u p0 p1 = (((p0 < 0 → (post 0 u)) ∧ (¬ p0 < 0 → (vp_in p0 3192 ∧ (((((ao u 47) p0.toNatClampNeg) = p1 → (post 0 u)) ∧ (¬ ((ao u 47) p0.toNatClampNeg) = p1 → (vp_in p0 3192 ∧ ∀ a_wireLevel_5 : Nat → Int32, a_wireLevel_5 = upd (ao u 47) p0.toNatClampNeg (vp_nar .byte p1.toInt8.toInt32) → (post 1 (sa u 47 a_wireLevel_5)))))))))) := rfl
def kx_workTable_4 (post : Int32 → Prop) (x1 : Int32) (n : Nat) (x2 : Int32) (x3 : Int32) (u : SX) : Prop := match u with
  | (qf_gates, qf_nodes, qf_joinedSize, qf_cells, qf_chanceState, qf_isBuilt, qf_levels, qa_kinds, qa_firsts, qa_seconds, qa_thirds, qa_nextOf, qa_shownBy, qa_left, qa_right, qa_endOf, qa_cutCount, qa_cutSize, qa_cutLeaf, qa_cutDepth, qa_depthOf, qa_needed, qa_tableOf, qa_rows, qa_joined, qa_tableBits, qa_cellSource, qa_placeOf, qa_cellAt, qa_used, qa_worn, qa_inTree, qa_treeFrom, qa_farness, qa_cameFrom, qa_settled, qa_trackTaken, qa_trackOf, qa_switchBits, qa_pinTrack, qa_outTrack, qa_padTrack, qa_deviceTable, qa_hasFlip, qa_registerPlace, qa_outputPlace, qa_wireRoot, qa_wireLevel, qa_flip, qa_tableOut) => wX_workTable_4 post x1 qf_gates qf_nodes qf_joinedSize qf_cells qf_chanceState qf_isBuilt qf_levels qa_kinds qa_firsts qa_seconds qa_thirds qa_nextOf qa_shownBy qa_left qa_right qa_endOf qa_cutCount qa_cutSize qa_cutLeaf qa_cutDepth qa_depthOf qa_needed qa_tableOf qa_rows qa_joined qa_tableBits qa_cellSource qa_placeOf qa_cellAt qa_used qa_worn qa_inTree qa_treeFrom qa_farness qa_cameFrom qa_settled qa_trackTaken qa_trackOf qa_switchBits qa_pinTrack qa_outTrack qa_padTrack qa_deviceTable qa_hasFlip qa_registerPlace qa_outputPlace qa_wireRoot qa_wireLevel qa_flip qa_tableOut n x2 x3
theorem cx_workTable_4 (post : Int32 → Prop) (x1 : Int32) (n : Nat) (x2 : Int32) (x3 : Int32) (u : SX) : kx_workTable_4 post x1 (n + 1) x2 x3 u = (((4 ≤ x3 → (vp_in x1 36 ∧ (post ((((ao u 42) x1.toNatClampNeg) >>> (x2 &&& 31)) &&& 1)))) ∧ (¬ 4 ≤ x3 → (wpX_stretchAt (fun r_3 => (vp_in ((x1 * 4) + x3) 144 ∧ (wpX_wireAt (fun r_5 => (((r_5 < 0 → (∀ x2_57 : Int32, x2_57 = x2 ||| 0 → (∀ x3_58 : Int32, x3_58 = x3 + 1 → (kx_workTable_4 post x1 n x2_57 x3_58 u)))) ∧ (¬ r_5 < 0 → (vp_in r_5 3192 ∧ (((((ao u 47) r_5.toNatClampNeg) = 1 → (∀ x2_63 : Int32, x2_63 = x2 ||| ((1 : Int32) <<< (x3 &&& 31)) → (∀ x3_64 : Int32, x3_64 = x3 + 1 → (kx_workTable_4 post x1 n x2_63 x3_64 u)))) ∧ (¬ ((ao u 47) r_5.toNatClampNeg) = 1 → (∀ x2_61 : Int32, x2_61 = x2 ||| 0 → (∀ x3_62 : Int32, x3_62 = x3 + 1 → (kx_workTable_4 post x1 n x2_61 x3_62 u))))))))))) u r_3 ((ao u 39) ((x1 * 4) + x3).toNatClampNeg)))) x1 x3)))) := rfl
theorem cx_workTable (post : Int32 → Prop) (u : SX) (p0 : Int32) : wpX_workTable post u p0 = (∃ n4 : Nat, kx_workTable_4 post p0 n4 0 0 u) := rfl
def kx_settle_131 (post : SX → Prop) (J50 : Int32 → Int32 → SX → Prop) (J64 : Int32 → Int32 → SX → Prop) (x2 : Int32) (x3 : Int32) (z0 : Int32) (z1 : Int32) (z3 : Int32) (u : SX) : Prop := match u with
  | (qf_gates, qf_nodes, qf_joinedSize, qf_cells, qf_chanceState, qf_isBuilt, qf_levels, qa_kinds, qa_firsts, qa_seconds, qa_thirds, qa_nextOf, qa_shownBy, qa_left, qa_right, qa_endOf, qa_cutCount, qa_cutSize, qa_cutLeaf, qa_cutDepth, qa_depthOf, qa_needed, qa_tableOf, qa_rows, qa_joined, qa_tableBits, qa_cellSource, qa_placeOf, qa_cellAt, qa_used, qa_worn, qa_inTree, qa_treeFrom, qa_farness, qa_cameFrom, qa_settled, qa_trackTaken, qa_trackOf, qa_switchBits, qa_pinTrack, qa_outTrack, qa_padTrack, qa_deviceTable, qa_hasFlip, qa_registerPlace, qa_outputPlace, qa_wireRoot, qa_wireLevel, qa_flip, qa_tableOut) => wX_settle_131 post (fun x1 x2 f_gates f_nodes f_joinedSize f_cells f_chanceState f_isBuilt f_levels a_kinds a_firsts a_seconds a_thirds a_nextOf a_shownBy a_left a_right a_endOf a_cutCount a_cutSize a_cutLeaf a_cutDepth a_depthOf a_needed a_tableOf a_rows a_joined a_tableBits a_cellSource a_placeOf a_cellAt a_used a_worn a_inTree a_treeFrom a_farness a_cameFrom a_settled a_trackTaken a_trackOf a_switchBits a_pinTrack a_outTrack a_padTrack a_deviceTable a_hasFlip a_registerPlace a_outputPlace a_wireRoot a_wireLevel a_flip a_tableOut => J50 x1 x2 (f_gates, f_nodes, f_joinedSize, f_cells, f_chanceState, f_isBuilt, f_levels, a_kinds, a_firsts, a_seconds, a_thirds, a_nextOf, a_shownBy, a_left, a_right, a_endOf, a_cutCount, a_cutSize, a_cutLeaf, a_cutDepth, a_depthOf, a_needed, a_tableOf, a_rows, a_joined, a_tableBits, a_cellSource, a_placeOf, a_cellAt, a_used, a_worn, a_inTree, a_treeFrom, a_farness, a_cameFrom, a_settled, a_trackTaken, a_trackOf, a_switchBits, a_pinTrack, a_outTrack, a_padTrack, a_deviceTable, a_hasFlip, a_registerPlace, a_outputPlace, a_wireRoot, a_wireLevel, a_flip, a_tableOut)) (fun x1 x3 f_gates f_nodes f_joinedSize f_cells f_chanceState f_isBuilt f_levels a_kinds a_firsts a_seconds a_thirds a_nextOf a_shownBy a_left a_right a_endOf a_cutCount a_cutSize a_cutLeaf a_cutDepth a_depthOf a_needed a_tableOf a_rows a_joined a_tableBits a_cellSource a_placeOf a_cellAt a_used a_worn a_inTree a_treeFrom a_farness a_cameFrom a_settled a_trackTaken a_trackOf a_switchBits a_pinTrack a_outTrack a_padTrack a_deviceTable a_hasFlip a_registerPlace a_outputPlace a_wireRoot a_wireLevel a_flip a_tableOut => J64 x1 x3 (f_gates, f_nodes, f_joinedSize, f_cells, f_chanceState, f_isBuilt, f_levels, a_kinds, a_firsts, a_seconds, a_thirds, a_nextOf, a_shownBy, a_left, a_right, a_endOf, a_cutCount, a_cutSize, a_cutLeaf, a_cutDepth, a_depthOf, a_needed, a_tableOf, a_rows, a_joined, a_tableBits, a_cellSource, a_placeOf, a_cellAt, a_used, a_worn, a_inTree, a_treeFrom, a_farness, a_cameFrom, a_settled, a_trackTaken, a_trackOf, a_switchBits, a_pinTrack, a_outTrack, a_padTrack, a_deviceTable, a_hasFlip, a_registerPlace, a_outputPlace, a_wireRoot, a_wireLevel, a_flip, a_tableOut)) x2 x3 z0 z1 z3 qf_gates qf_nodes qf_joinedSize qf_cells qf_chanceState qf_isBuilt qf_levels qa_kinds qa_firsts qa_seconds qa_thirds qa_nextOf qa_shownBy qa_left qa_right qa_endOf qa_cutCount qa_cutSize qa_cutLeaf qa_cutDepth qa_depthOf qa_needed qa_tableOf qa_rows qa_joined qa_tableBits qa_cellSource qa_placeOf qa_cellAt qa_used qa_worn qa_inTree qa_treeFrom qa_farness qa_cameFrom qa_settled qa_trackTaken qa_trackOf qa_switchBits qa_pinTrack qa_outTrack qa_padTrack qa_deviceTable qa_hasFlip qa_registerPlace qa_outputPlace qa_wireRoot qa_wireLevel qa_flip qa_tableOut
theorem cx_settle_131 (post : SX → Prop) (J50 : Int32 → Int32 → SX → Prop) (J64 : Int32 → Int32 → SX → Prop) (x2 : Int32) (x3 : Int32) (z0 : Int32) (z1 : Int32) (z3 : Int32) (u : SX) : kx_settle_131 post J50 J64 x2 x3 z0 z1 z3 u = (wpX_drive (fun r_115 u1 => (∀ x1_166 : Int32, x1_166 = z3 ||| r_115 → (∀ x3_167 : Int32, x3_167 = x3 + 1 → (J64 x1_166 x3_167 u1)))) u z1 z0) := rfl
def kx_settle_64 (post : SX → Prop) (J50 : Int32 → Int32 → SX → Prop) (x2 : Int32) (n : Nat) (x1 : Int32) (x3 : Int32) (u : SX) : Prop := match u with
  | (qf_gates, qf_nodes, qf_joinedSize, qf_cells, qf_chanceState, qf_isBuilt, qf_levels, qa_kinds, qa_firsts, qa_seconds, qa_thirds, qa_nextOf, qa_shownBy, qa_left, qa_right, qa_endOf, qa_cutCount, qa_cutSize, qa_cutLeaf, qa_cutDepth, qa_depthOf, qa_needed, qa_tableOf, qa_rows, qa_joined, qa_tableBits, qa_cellSource, qa_placeOf, qa_cellAt, qa_used, qa_worn, qa_inTree, qa_treeFrom, qa_farness, qa_cameFrom, qa_settled, qa_trackTaken, qa_trackOf, qa_switchBits, qa_pinTrack, qa_outTrack, qa_padTrack, qa_deviceTable, qa_hasFlip, qa_registerPlace, qa_outputPlace, qa_wireRoot, qa_wireLevel, qa_flip, qa_tableOut) => wX_settle_64 post (fun x1 x2 f_gates f_nodes f_joinedSize f_cells f_chanceState f_isBuilt f_levels a_kinds a_firsts a_seconds a_thirds a_nextOf a_shownBy a_left a_right a_endOf a_cutCount a_cutSize a_cutLeaf a_cutDepth a_depthOf a_needed a_tableOf a_rows a_joined a_tableBits a_cellSource a_placeOf a_cellAt a_used a_worn a_inTree a_treeFrom a_farness a_cameFrom a_settled a_trackTaken a_trackOf a_switchBits a_pinTrack a_outTrack a_padTrack a_deviceTable a_hasFlip a_registerPlace a_outputPlace a_wireRoot a_wireLevel a_flip a_tableOut => J50 x1 x2 (f_gates, f_nodes, f_joinedSize, f_cells, f_chanceState, f_isBuilt, f_levels, a_kinds, a_firsts, a_seconds, a_thirds, a_nextOf, a_shownBy, a_left, a_right, a_endOf, a_cutCount, a_cutSize, a_cutLeaf, a_cutDepth, a_depthOf, a_needed, a_tableOf, a_rows, a_joined, a_tableBits, a_cellSource, a_placeOf, a_cellAt, a_used, a_worn, a_inTree, a_treeFrom, a_farness, a_cameFrom, a_settled, a_trackTaken, a_trackOf, a_switchBits, a_pinTrack, a_outTrack, a_padTrack, a_deviceTable, a_hasFlip, a_registerPlace, a_outputPlace, a_wireRoot, a_wireLevel, a_flip, a_tableOut)) x2 n x1 x3 qf_gates qf_nodes qf_joinedSize qf_cells qf_chanceState qf_isBuilt qf_levels qa_kinds qa_firsts qa_seconds qa_thirds qa_nextOf qa_shownBy qa_left qa_right qa_endOf qa_cutCount qa_cutSize qa_cutLeaf qa_cutDepth qa_depthOf qa_needed qa_tableOf qa_rows qa_joined qa_tableBits qa_cellSource qa_placeOf qa_cellAt qa_used qa_worn qa_inTree qa_treeFrom qa_farness qa_cameFrom qa_settled qa_trackTaken qa_trackOf qa_switchBits qa_pinTrack qa_outTrack qa_padTrack qa_deviceTable qa_hasFlip qa_registerPlace qa_outputPlace qa_wireRoot qa_wireLevel qa_flip qa_tableOut
theorem cx_settle_64 (post : SX → Prop) (J50 : Int32 → Int32 → SX → Prop) (x2 : Int32) (n : Nat) (x1 : Int32) (x3 : Int32) (u : SX) : kx_settle_64 post J50 x2 (n + 1) x1 x3 u = (((36 ≤ x3 → (∀ x2_5 : Int32, x2_5 = x2 + 1 → (J50 x1 x2_5 u))) ∧ (¬ 36 ≤ x3 → (wpX_workTable (fun r_6 => (vp_in x3 36 ∧ ∀ a_tableOut_58 : Nat → Int32, a_tableOut_58 = upd (ao u 49) x3.toNatClampNeg (vp_nar .byte r_6.toInt8.toInt32) → (wpX_stretchAt (fun r_59 => (vp_in x3 36 ∧ (wpX_wireAt (fun r_61 => (vp_in x3 36 ∧ (((((ao u 43) x3.toNatClampNeg) = 0 → (vp_in x3 36 ∧ (kx_settle_131 post J50 (fun y0 y1 s => kx_settle_64 post J50 x2 n y0 y1 s) x2 x3 (a_tableOut_58 x3.toNatClampNeg) r_61 x1 (sa u 49 a_tableOut_58)))) ∧ (¬ ((ao u 43) x3.toNatClampNeg) = 0 → (vp_in x3 36 ∧ (kx_settle_131 post J50 (fun y0 y1 s => kx_settle_64 post J50 x2 n y0 y1 s) x2 x3 ((ao u 48) x3.toNatClampNeg) r_61 x1 (sa u 49 a_tableOut_58)))))))) (sa u 49 a_tableOut_58) r_59 ((ao u 40) x3.toNatClampNeg)))) x3 0))) u x3)))) := rfl
def kx_settle_50 (post : SX → Prop) (n : Nat) (x1 : Int32) (x2 : Int32) (u : SX) : Prop := match u with
  | (qf_gates, qf_nodes, qf_joinedSize, qf_cells, qf_chanceState, qf_isBuilt, qf_levels, qa_kinds, qa_firsts, qa_seconds, qa_thirds, qa_nextOf, qa_shownBy, qa_left, qa_right, qa_endOf, qa_cutCount, qa_cutSize, qa_cutLeaf, qa_cutDepth, qa_depthOf, qa_needed, qa_tableOf, qa_rows, qa_joined, qa_tableBits, qa_cellSource, qa_placeOf, qa_cellAt, qa_used, qa_worn, qa_inTree, qa_treeFrom, qa_farness, qa_cameFrom, qa_settled, qa_trackTaken, qa_trackOf, qa_switchBits, qa_pinTrack, qa_outTrack, qa_padTrack, qa_deviceTable, qa_hasFlip, qa_registerPlace, qa_outputPlace, qa_wireRoot, qa_wireLevel, qa_flip, qa_tableOut) => wX_settle_50 post n x1 x2 qf_gates qf_nodes qf_joinedSize qf_cells qf_chanceState qf_isBuilt qf_levels qa_kinds qa_firsts qa_seconds qa_thirds qa_nextOf qa_shownBy qa_left qa_right qa_endOf qa_cutCount qa_cutSize qa_cutLeaf qa_cutDepth qa_depthOf qa_needed qa_tableOf qa_rows qa_joined qa_tableBits qa_cellSource qa_placeOf qa_cellAt qa_used qa_worn qa_inTree qa_treeFrom qa_farness qa_cameFrom qa_settled qa_trackTaken qa_trackOf qa_switchBits qa_pinTrack qa_outTrack qa_padTrack qa_deviceTable qa_hasFlip qa_registerPlace qa_outputPlace qa_wireRoot qa_wireLevel qa_flip qa_tableOut
theorem cx_settle_50 (post : SX → Prop) (n : Nat) (x1 : Int32) (x2 : Int32) (u : SX) : kx_settle_50 post (n + 1) x1 x2 u = (((37 < x2 → (post u)) ∧ (¬ 37 < x2 → (((x1 = 0 → (post u)) ∧ (¬ x1 = 0 → (∃ n64 : Nat, kx_settle_64 post (fun y0 y1 s => kx_settle_50 post n y0 y1 s) x2 n64 0 0 u))))))) := rfl
def kx_settle_2 (post : SX → Prop) (n : Nat) (x1 : Int32) (u : SX) : Prop := match u with
  | (qf_gates, qf_nodes, qf_joinedSize, qf_cells, qf_chanceState, qf_isBuilt, qf_levels, qa_kinds, qa_firsts, qa_seconds, qa_thirds, qa_nextOf, qa_shownBy, qa_left, qa_right, qa_endOf, qa_cutCount, qa_cutSize, qa_cutLeaf, qa_cutDepth, qa_depthOf, qa_needed, qa_tableOf, qa_rows, qa_joined, qa_tableBits, qa_cellSource, qa_placeOf, qa_cellAt, qa_used, qa_worn, qa_inTree, qa_treeFrom, qa_farness, qa_cameFrom, qa_settled, qa_trackTaken, qa_trackOf, qa_switchBits, qa_pinTrack, qa_outTrack, qa_padTrack, qa_deviceTable, qa_hasFlip, qa_registerPlace, qa_outputPlace, qa_wireRoot, qa_wireLevel, qa_flip, qa_tableOut) => wX_settle_2 post n x1 qf_gates qf_nodes qf_joinedSize qf_cells qf_chanceState qf_isBuilt qf_levels qa_kinds qa_firsts qa_seconds qa_thirds qa_nextOf qa_shownBy qa_left qa_right qa_endOf qa_cutCount qa_cutSize qa_cutLeaf qa_cutDepth qa_depthOf qa_needed qa_tableOf qa_rows qa_joined qa_tableBits qa_cellSource qa_placeOf qa_cellAt qa_used qa_worn qa_inTree qa_treeFrom qa_farness qa_cameFrom qa_settled qa_trackTaken qa_trackOf qa_switchBits qa_pinTrack qa_outTrack qa_padTrack qa_deviceTable qa_hasFlip qa_registerPlace qa_outputPlace qa_wireRoot qa_wireLevel qa_flip qa_tableOut
theorem cx_settle_2 (post : SX → Prop) (n : Nat) (x1 : Int32) (u : SX) : kx_settle_2 post (n + 1) x1 u = (((6 ≤ x1 → (∃ n50 : Nat, kx_settle_50 post n50 1 0 u)) ∧ (¬ 6 ≤ x1 → (wpX_standing (fun r_169 => (vp_in x1 6 ∧ (wpX_wireAt (fun r_171 => (wpX_drive (fun r_222 u1 => (∀ x1_273 : Int32, x1_273 = x1 + 1 → (kx_settle_2 post n x1_273 u1))) u r_171 (((fo u 6) >>> (x1 &&& 31)) &&& 1))) u r_169 ((ao u 41) x1.toNatClampNeg)))) 0 x1)))) := rfl
theorem cx_settle (post : SX → Prop) (u : SX) : wpX_settle post u = (∃ n2 : Nat, kx_settle_2 post n2 0 u) := rfl
def Wl (u : SX) (wl : Nat → Bool) : Prop := ∀ w, w < 3192 → ao u 47 w = bI (wl w)
theorem hx_wireAt {post : Int32 → Prop} {u : SX} {st e : Nat} {x : Int32} (hst : st < 84) (h : Wa u st x e) (K : post (pI e)) : wpX_wireAt post u (nI st) x := by
  rw [cx_wireAt]
  rcases h with ⟨h1, h2⟩ | ⟨t, w, h1, h2, h3, h4, h5⟩
  · rw [h2] at K
    exact br_t h1 K
  · rw [h5, pI_s] at K
    have e1 : nI st * 38 + nI (t + 1) - 1 = nI (38 * st + t) := by
      rw [m38]; exact nI_pred (38 * st + t)
    rw [h2, e1, clI (by omega), h3]
    exact br_f (nI_ne0 (by omega) (by omega)) ⟨pk_in (38 * st + t) 3192 (by omega), K⟩
theorem hx_drive {post : Int32 → SX → Prop} {u : SX} {wl : Nat → Bool} (hW : Wl u wl) {e : Nat} (he : e ≤ 3192) {b : Bool} (K0 : (∀ w, e = w + 1 → wl w = b) → post 0 u)
    (K1 : ∀ u' w, e = w + 1 → wl w ≠ b → fr [47] u u' → Wl u' (fun x => if x = w then b else wl x) → post 1 u') : wpX_drive post u (pI e) (bI b) := by
  rw [cx_drive]
  refine br_p rfl (by omega) (fun h => K0 (fun w hw => by omega)) (fun w ew ep => ?_)
  rw [ep, clI (by omega), hW w (by omega), bI_vb']
  refine ⟨pk_in w 3192 (by omega), br_c (fun h => K0 (fun w' hw' => ?_)) (fun h => ⟨pk_in w 3192 (by omega), nm_e (K1 _ w ew (fun z => h (by rw [z])) (fr_a fr_rf (by decide)) (fun x hx => ?_))⟩)⟩
  · rw [show w' = w from by omega]; exact bI_inj.mp h
  · show upd (ao u 47) w (bI b) x = bI (if x = w then b else wl x)
    by_cases ex : x = w
    · rw [ex, u_s, if_pos rfl]
    · rw [u_n ex, if_neg ex]; exact hW x hx
/-- the number of the first k bits -/
def rk (f : Nat → Bool) : Nat → Nat
  | 0 => 0
  | k + 1 => rk f k + (if f k then 2 ^ k else 0)
theorem rk_lt (f : Nat → Bool) : ∀ k, rk f k < 2 ^ k
  | 0 => Nat.lt_succ_self 0
  | k + 1 => by
    have := rk_lt f k
    unfold rk
    rw [Nat.pow_succ]
    split <;> omega
theorem rk_ro (f : Nat → Bool) : rk f 4 = ro f := by
  unfold ro
  simp only [rk]
  cases f 0 <;> cases f 1 <;> cases f 2 <;> cases f 3 <;> rfl
theorem or_1 : ∀ i, i < 4 → ∀ a, a < 16 → a < 2 ^ i → nI a ||| ((1 : Int32) <<< (nI i &&& 31)) = nI (a + 2 ^ i) := by decide +kernel
theorem or_0 (a : Nat) : nI a ||| 0 = nI a := by
  have := nI_or a 0
  rw [Nat.or_zero] at this
  exact this
theorem p2_16 : ∀ i, i < 4 → 2 ^ i ≤ 16 := by decide
theorem b_1 : ∀ i, i < 32 → bt 1 i = decide (i = 0) := by decide +kernel
theorem bit_at (x : Int32) {ρ : Nat} (h : ρ < 32) : (x >>> (nI ρ &&& 31)) &&& 1 = bI (bt x ρ) := by
  apply b_ext
  intro i hi
  rw [b_and, b_1 i hi, b_sshr ρ h x hi]
  by_cases e : i = 0
  · rw [e, decide_eq_true rfl, Bool.and_true, if_pos (by omega), Nat.add_zero]
    cases bt x ρ
    · exact (b_0 0).symm
    · exact (b_1 0 (by omega)).symm
  · rw [decide_eq_false e, Bool.and_false]
    cases bt x ρ
    · exact (b_0 i).symm
    · show false = bt 1 i
      rw [b_1 i hi, decide_eq_false e]
theorem hx_workTable {post : Int32 → Prop} {u : SX} {wl : Nat → Bool} (hW : Wl u wl) {p : Nat} (hp : p < 36) {pw : Nat → Nat} (h : ∀ i, i < 4 → Wa u (stA p i) (ao u 39 (4 * p + i)) (pw i)) (hb : ∀ i, i < 4 → pw i ≤ 3192)
    (K : post (bI (bt (ao u 42 p) (ro (fun i => decide (pw i ≠ 0) && wl (pw i - 1)))))) : wpX_workTable post u (nI p) := by
  rw [cx_workTable]
  refine pk_loop (fun a i (x : Int32) => kx_workTable_4 post (nI p) a x (nI i) u) (fun i x => x = nI (rk (fun i => decide (pw i ≠ 0) && wl (pw i - 1)) i)) 4 0 0 (Nat.zero_le _) rfl ?_ ?_
  · rintro a x rfl
    show kx_workTable_4 _ _ _ _ _ _
    rw [cx_workTable_4, rk_ro, clI (by omega)]
    refine pk_le 4 4 (fun _ => ⟨pk_in p 36 hp, ?_⟩) (fun h => absurd h (by omega))
    rw [bit_at _ (Nat.lt_of_lt_of_le (ro_lt _) (by omega))]
    exact K
  · rintro a i x hi rfl hr
    have hrk := rk_lt (fun i => decide (pw i ≠ 0) && wl (pw i - 1)) i
    have h216 : 2 ^ i ≤ 16 := p2_16 i hi
    have h16 : rk (fun i => decide (pw i ≠ 0) && wl (pw i - 1)) i < 16 := Nat.lt_of_lt_of_le hrk h216
    have go : ∀ b : Bool, (decide (pw i ≠ 0) && wl (pw i - 1)) = b → ∀ y : Int32, y = nI (rk (fun i => decide (pw i ≠ 0) && wl (pw i - 1)) i + if b then 2 ^ i else 0) → kx_workTable_4 post (nI p) a y (nI (i + 1)) u := by
      intro b eb y ey
      refine hr y ?_
      rw [ey]
      show _ = nI (rk _ i + if (decide (pw i ≠ 0) && wl (pw i - 1)) then 2 ^ i else 0)
      rw [eb]
    show kx_workTable_4 _ _ _ _ _ _
    rw [cx_workTable_4]
    simp only [m4, clI (show 4 * p + i < 2 ^ 31 by omega)]
    refine pk_le 4 i (fun h => absurd h (by omega)) (fun _ => hx_stretchAt hp hi ⟨pk_in (4 * p + i) 144 (by omega), hx_wireAt (stA_lt p hp i hi) (h i hi) ?_⟩)
    have hbi := hb i hi
    refine br_p rfl (by omega) (fun e0 => nm_e (nm_r (nI_1 i) (go false ?_ _ ?_))) (fun w ew ep => ?_)
    · rw [e0]; rfl
    · exact or_0 _
    · have hv : (decide (pw i ≠ 0) && wl (pw i - 1)) = wl w := by
        rw [ew, decide_eq_true (by omega), Bool.true_and, Nat.add_sub_cancel]
      rw [ep, clI (by omega), hW w (by omega)]
      refine ⟨pk_in w 3192 (by omega), br_c (fun e1 => nm_e (nm_r (nI_1 i) (go true ?_ _ ?_))) (fun e1 => nm_e (nm_r (nI_1 i) (go false ?_ _ ?_)))⟩
      · rw [hv]; exact bI_1.mp e1
      · exact or_1 i hi _ h16 hrk
      · rw [hv]
        cases hw : wl w with
        | false => rfl
        | true => exact absurd (bI_1.mpr hw) e1
      · exact or_0 _
/-- the parts of a working device -/
def Dw (u : SX) (C : Nat) (P : Nat → Nat → Nat) (pl : Nat → Nat) (T : Nat → Int32) (wv : Nat → Nat) : Prop := 10 ≤ C ∧ C ≤ 36 ∧ (∀ c, c < C → pl c < 36) ∧ (∀ c c', c < C → c' < C → pl c = pl c' → c = c') ∧
  (∀ c i, c < C → i < 4 → Wa u (stA (pl c) i) (ao u 39 (4 * pl c + i)) (if P c i = 0 then 0 else wv (P c i - 1)) ∧ (P c i ≠ 0 → wv (P c i - 1) ≠ 0) ∧ P c i ≤ C + 2 ∧ (10 ≤ c → P c i ≤ c + 2)) ∧
  (∀ p i, p < 36 → i < 4 → (∀ c, c < C → pl c ≠ p) → ao u 39 (4 * p + i) = nI 0) ∧
  (∀ n, n < 6 → Wa u (42 + n * 7) (ao u 41 n) (wv n)) ∧ (∀ n, 6 ≤ n → n < C + 2 → Wa u (stA (pl (ce n)) 0) (ao u 40 (pl (ce n))) (wv n)) ∧
  (∀ p, p < 36 → (∀ n, 6 ≤ n → n < C + 2 → pl (ce n) ≠ p) → ao u 40 p = nI 0) ∧ (∀ n m, n < C + 2 → m < C + 2 → wv n ≠ 0 → wv n = wv m → n = m) ∧
  (∀ c, c < C → ao u 42 (pl c) = T c ∧ ao u 43 (pl c) = bI (decide (c < 6)))
theorem Wa_b {u : SX} {st e : Nat} {x : Int32} (h : Wa u st x e) : e ≤ 3192 := by
  rcases h with ⟨_, h⟩ | ⟨t, w, _, _, _, h4, h5⟩ <;> omega
theorem Dw_fr {M : List Nat} {u v : SX} {C : Nat} {P : Nat → Nat → Nat} {pl : Nat → Nat} {T : Nat → Int32} {wv : Nat → Nat} (h : Dw u C P pl T wv) (hf : fr M u v) (h0 : 39 ∉ M := by decide) (h1 : 40 ∉ M := by decide) (h2 : 41 ∉ M := by decide) (h3 : 42 ∉ M := by decide) (h4 : 43 ∉ M := by decide) (h7 : 46 ∉ M := by decide) : Dw v C P pl T wv := by
  unfold Dw Wa
  rw [fr_ao hf 39 h0, fr_ao hf 40 h1, fr_ao hf 41 h2, fr_ao hf 42 h3, fr_ao hf 43 h4, fr_ao hf 46 h7]
  exact h
/-- what place p makes of the levels -/
def tw (P : Nat → Nat → Nat) (T : Nat → Int32) (wv : Nat → Nat) (wl : Nat → Bool) (c : Nat) : Bool := bt (T c) (rS (P c) (fun n => wl (wv n - 1)))
theorem hx_workCell {post : Int32 → Prop} {u : SX} {C : Nat} {P : Nat → Nat → Nat} {pl : Nat → Nat} {T : Nat → Int32} {wv : Nat → Nat} (hD : Dw u C P pl T wv) {wl : Nat → Bool} (hW : Wl u wl) {p : Nat} (hp : p < 36)
    (K1 : ∀ c, c < C → pl c = p → post (bI (tw P T wv wl c))) (K0 : (∀ c, c < C → pl c ≠ p) → ∀ b : Bool, post (bI b)) : wpX_workTable post u (nI p) := by
  obtain ⟨d1, d2, d3, d4, d5, d6, d7, d8, d9, d10, d11⟩ := hD
  by_cases h : ∃ c, c < C ∧ pl c = p
  · obtain ⟨c, hc, rfl⟩ := h
    refine hx_workTable hW hp (pw := fun i => if P c i = 0 then 0 else wv (P c i - 1)) (fun i hi => (d5 c i hc hi).1) (fun i hi => Wa_b (d5 c i hc hi).1) ?_
    rw [(d11 c hc).1]
    have := K1 c hc rfl
    unfold tw rS at this
    have e : ro (fun i => decide ((if P c i = 0 then 0 else wv (P c i - 1)) ≠ 0) && wl ((if P c i = 0 then 0 else wv (P c i - 1)) - 1)) = ro (fun i => decide (P c i ≠ 0) && wl (wv (P c i - 1) - 1)) := by
      refine ro_cg (fun i hi => ?_)
      try dsimp only
      by_cases e0 : P c i = 0
      · rw [if_pos e0, e0]; rfl
      · rw [if_neg e0, decide_eq_true ((d5 c i hc hi).2.1 e0), decide_eq_true e0]
    rw [e]; exact this
  · have hno : ∀ c, c < C → pl c ≠ p := fun c hc e => h ⟨c, hc, e⟩
    exact hx_workTable hW hp (pw := fun _ => 0) (fun i hi => Or.inl ⟨d6 p i hp hi hno, rfl⟩) (fun i _ => Nat.zero_le _) (K0 hno _)
end
section
/-! ===== H: levels settle ===== -/
def Ri (wv : Nat → Nat) (sv wl : Nat → Bool) (n : Nat) : Prop := wv n ≠ 0 → wl (wv n - 1) = sv n
def tv (P : Nat → Nat → Nat) (T : Nat → Int32) (sv : Nat → Bool) (c : Nat) : Bool := bt (T c) (rS (P c) sv)
def lm (k : Nat) : Nat := if k = 0 then 6 else 11 + k
theorem lm_s (k : Nat) : lm (k + 1) = 12 + k := by unfold lm; rw [if_neg (by omega)]; omega
theorem lm_6 (k : Nat) : 6 ≤ lm k := by unfold lm; split <;> omega
theorem lm_p {k : Nat} (h : 0 < k) : lm k = 11 + k := by unfold lm; rw [if_neg (by omega)]
theorem tw_tv {u : SX} {C : Nat} {P : Nat → Nat → Nat} {pl : Nat → Nat} {T : Nat → Int32} {wv : Nat → Nat} (hD : Dw u C P pl T wv) {sv wl : Nat → Bool} {c : Nat} (hc : c < C) (h : ∀ i, i < 4 → P c i ≠ 0 → Ri wv sv wl (P c i - 1)) : tw P T wv wl c = tv P T sv c := by
  unfold tw tv
  have e : rS (P c) (fun n => wl (wv n - 1)) = rS (P c) sv := by
    refine ro_cg (fun i hi => ?_)
    try dsimp only
    by_cases e0 : P c i = 0
    · rw [e0]; rfl
    · rw [h i hi e0 ((hD.2.2.2.2.1 c i hc hi).2.1 e0)]
  rw [e]
theorem or_b (m : Bool) : bI m ||| 0 = bI m := by cases m <;> decide
theorem or_t (m : Bool) : bI m ||| 1 = bI true := by cases m <;> decide
theorem hx_st64 {post : SX → Prop} {J : Int32 → Int32 → SX → Prop} {x2 : Int32} {u s0 : SX} {C : Nat} {P : Nat → Nat → Nat} {pl : Nat → Nat} {T : Nat → Int32} {wv : Nat → Nat} (hD : Dw u C P pl T wv) {sv : Nat → Bool} (hsv : ∀ c, 10 ≤ c → c < C → sv (c + 2) = tv P T sv c)
    (hF : ∀ r, r < 6 → ao u 48 (pl r) = bI (sv (6 + r))) {k : Nat} {wl0 : Nat → Bool} (hf0 : fr [47, 49] u s0) (hW0 : Wl s0 wl0) (hA : ∀ n, n < C + 2 → n < lm k → Ri wv sv wl0 n)
    (K : ∀ s' wl' (m : Bool), fr [47, 49] u s' → Wl s' wl' → (∀ n, n < C + 2 → n < lm (k + 1) → Ri wv sv wl' n) → ((m = false ∨ 37 ≤ k) → ∀ c, c < C → ao s' 49 (pl c) = bI (tv P T sv c)) → ∀ y, y = x2 + 1 → J (bI m) y s') :
    ∃ a, kx_settle_64 post J x2 a 0 0 s0 := by
  have hD0 := hD
  obtain ⟨d1, d2, d3, d4, d5, d6, d7, d8, d9, d10, d11⟩ := hD
  refine lp3 (fun a (m : Bool) (p : Nat) (s : SX) => kx_settle_64 post J x2 a (bI m) (nI p) s) (fun m p s => p ≤ 36 ∧ fr [47, 49] u s ∧ ∃ wl, Wl s wl ∧ (∀ n, n < C + 2 → n < lm k → Ri wv sv wl n) ∧ (∀ n, 6 ≤ n → n < C + 2 → n < lm (k + 1) → pl (ce n) < p → Ri wv sv wl n) ∧
      (m = false → wl = wl0 ∧ (∀ c, c < C → pl c < p → ao s 49 (pl c) = bI (tw P T wv wl0 c)) ∧ ∀ n, 6 ≤ n → n < C + 2 → pl (ce n) < p → wv n ≠ 0 → wl0 (wv n - 1) = if n < 12 then sv n else tw P T wv wl0 (ce n)) ∧
      (37 ≤ k → ∀ c, c < C → pl c < p → ao s 49 (pl c) = bI (tv P T sv c))) (fun _ p _ => 36 - p) ?_ false 0 s0
    ⟨Nat.zero_le _, hf0, wl0, hW0, hA, fun n _ _ _ h => by omega, fun _ => ⟨rfl, fun c _ h => by omega, fun n _ _ h => by omega⟩, fun _ c _ h => by omega⟩
  rintro a m p s ⟨hp, f1, wl, hW, qA, qB, qC, qD⟩ hr
  show kx_settle_64 _ _ _ _ _ _ _
  rw [cx_settle_64]
  refine pk_le 36 p (fun hge => ?_) (fun hlt => ?_)
  · -- the round is over
    refine K s wl m f1 hW (fun n hn hlm => ?_) (fun hor c hc => ?_)
    · by_cases h6 : n < 6
      · exact qA n hn (by have := lm_6 k; omega)
      · exact qB n (by omega) hn hlm (by have := d3 (ce n) (ce_lt d1 hn); omega)
    · by_cases hk : 37 ≤ k
      · exact qD hk c hc (by have := d3 c hc; omega)
      · have hm : m = false := by
          rcases hor with h | h
          · exact h
          · exact absurd h hk
        obtain ⟨e1, e2, e3⟩ := qC hm
        have all : ∀ b n, n ≤ b → n < C + 2 → Ri wv sv wl0 n := by
          intro b
          induction b with
          | zero =>
            intro n hb hn
            exact hA n hn (by have := lm_6 k; omega)
          | succ b ih =>
            intro n hb hn hne
            by_cases h6 : n < 6
            · exact hA n hn (by have := lm_6 k; omega) hne
            · have h := e3 n (by omega) hn (by have := d3 (ce n) (ce_lt d1 hn); omega) hne
              by_cases h12 : n < 12
              · rw [if_pos h12] at h; exact h
              · rw [if_neg h12] at h
                have hce : ce n = n - 2 := if_neg h12
                rw [h, hce, tw_tv hD0 (by omega) (fun i hi h0 => ih _ (by have := (d5 (n - 2) i (by omega) hi).2.2.2 (by omega); omega) (by have := (d5 (n - 2) i (by omega) hi).2.2.1; omega)), ← hsv (n - 2) (by omega) (by omega), show n - 2 + 2 = n from by omega]
        rw [e2 c hc (by have := d3 c hc; omega), tw_tv hD0 hc (fun i hi h0 => all _ _ (Nat.le_refl _) (by have := (d5 c i hc hi).2.2.1; omega))]
  · have hDs := Dw_fr hD0 f1
    rw [clI (by omega)]
    have rest : ∀ b : Bool, (∀ c, c < C → pl c = p → b = tw P T wv wl c) → (vp_in (nI p) 36 ∧ ∀ a_tableOut_58 : Nat → Int32, a_tableOut_58 = upd (ao s 49) p (vp_nar .byte (bI b).toInt8.toInt32) → wpX_stretchAt (fun r_59 => vp_in (nI p) 36 ∧ wpX_wireAt (fun r_61 => vp_in (nI p) 36 ∧ ((ao s 43 p = 0 → vp_in (nI p) 36 ∧ kx_settle_131 post J (fun y0 y1 s => kx_settle_64 post J x2 a y0 y1 s) x2 (nI p) (a_tableOut_58 p) r_61 (bI m) (sa s 49 a_tableOut_58)) ∧ (¬ ao s 43 p = 0 → vp_in (nI p) 36 ∧ kx_settle_131 post J (fun y0 y1 s => kx_settle_64 post J x2 a y0 y1 s) x2 (nI p) (ao s 48 p) r_61 (bI m) (sa s 49 a_tableOut_58)))) (sa s 49 a_tableOut_58) r_59 (ao s 40 p)) (nI p) 0) := by
      intro b hb
      refine ⟨pk_in p 36 hlt, nm_e ?_⟩
      rw [bI_vb']
      have w1 : fr [49] s (sa s 49 (upd (ao s 49) p (bI b))) := fr_a fr_rf (by decide)
      have f2 : fr [47, 49] u (sa s 49 (upd (ao s 49) p (bI b))) := fr_tr f1 (fr_mn w1 (by decide))
      have hW2 : Wl (sa s 49 (upd (ao s 49) p (bI b))) wl := hW
      have hDw := Dw_fr hDs w1
      -- what stands in tableOut
      have tC : m = false → ∀ c, c < C → pl c < p + 1 → upd (ao s 49) p (bI b) (pl c) = bI (tw P T wv wl0 c) := by
        intro hm c hc hpc
        obtain ⟨e1, e2, e3⟩ := qC hm
        by_cases e : pl c = p
        · rw [e, u_s, hb c hc e, e1]
        · rw [u_n e]; exact e2 c hc (by omega)
      have tD : 37 ≤ k → ∀ c, c < C → pl c < p + 1 → upd (ao s 49) p (bI b) (pl c) = bI (tv P T sv c) := by
        intro hk c hc hpc
        by_cases e : pl c = p
        · rw [e, u_s, hb c hc e, tw_tv hD0 hc (fun i hi h0 => qA _ (by have := (d5 c i hc hi).2.2.1; omega) (by have := (d5 c i hc hi).2.2.1; rw [lm_p (by omega)]; omega))]
        · rw [u_n e]; exact qD hk c hc (by omega)
      refine hx_stretchAt (i := 0) hlt (by omega) ⟨pk_in p 36 hlt, ?_⟩
      by_cases hex : ∃ n, 6 ≤ n ∧ n < C + 2 ∧ pl (ce n) = p
      · obtain ⟨n, n6, nC, rfl⟩ := hex
        have hcC := ce_lt d1 nC
        have hwa := hDw.2.2.2.2.2.2.2.1 n n6 nC
        refine hx_wireAt (stA_lt _ hlt 0 (by omega)) hwa ⟨pk_in (pl (ce n)) 36 hlt, ?_⟩
        have hb' := hb (ce n) hcC rfl
        -- the level that it drives
        have lev : ∀ L : Bool, L = (if n < 12 then sv n else tw P T wv wl (ce n)) → kx_settle_131 post J (fun y0 y1 s => kx_settle_64 post J x2 a y0 y1 s) x2 (nI (pl (ce n))) (bI L) (pI (wv n)) (bI m) (sa s 49 (upd (ao s 49) (pl (ce n)) (bI b))) := by
          intro L hL
          have Lr : n < lm (k + 1) → L = sv n := by
            intro hlm
            rw [hL]
            by_cases h12 : n < 12
            · rw [if_pos h12]
            · rw [if_neg h12]
              have hce : ce n = n - 2 := if_neg h12
              rw [lm_s] at hlm
              rw [hce, tw_tv hD0 (by omega) (fun i hi h0 => qA _ (by have := (d5 (n - 2) i (by omega) hi).2.2.1; omega) (by have := (d5 (n - 2) i (by omega) hi).2.2.2 (by omega); rw [lm_p (by omega)]; omega)), ← hsv (n - 2) (by omega) (by omega), show n - 2 + 2 = n from by omega]
          have hlm1 : n < lm k → n < lm (k + 1) := by
            intro h
            rw [lm_s]
            unfold lm at h
            split at h <;> omega
          rw [cx_settle_131]
          refine hx_drive hW2 (Wa_b hwa) (fun hsame => ?_) (fun u' w ew hne g1 g2 => ?_)
          · refine nm_r (or_b m) (nm_r (nI_1 (pl (ce n))) (hr m (pl (ce n) + 1) _ ⟨by omega, f2, wl, hW2, qA, fun n' h6 hC' hlm hpl => ?_, fun hm => ⟨(qC hm).1, tC hm, fun n' h6 hC' hpl hne => ?_⟩, tD⟩ (by omega)))
            · by_cases e : n' = n
              · subst e
                intro hne
                rw [hsame (wv n' - 1) (by omega)]; exact Lr hlm
              · have : pl (ce n') ≠ pl (ce n) := fun z => e (ce_inj h6 n6 (d4 _ _ (ce_lt d1 hC') hcC z))
                exact qB n' h6 hC' hlm (by omega)
            · by_cases e : n' = n
              · subst e
                rw [← (qC hm).1, hsame (wv n' - 1) (by omega)]; exact hL
              · have : pl (ce n') ≠ pl (ce n) := fun z => e (ce_inj h6 n6 (d4 _ _ (ce_lt d1 hC') hcC z))
                exact (qC hm).2.2 n' h6 hC' (by omega) hne
          · have f3 : fr [47, 49] u u' := fr_tr f2 (fr_mn g1 (by decide))
            have other : ∀ n', n' < C + 2 → n' ≠ n → Ri wv sv wl n' → Ri wv sv (fun x => if x = w then L else wl x) n' := by
              intro n' hC' hne' hR h0
              have : wv n' ≠ wv n := fun z => hne' (d10 n' n hC' nC h0 z)
              dsimp only
              rw [if_neg (by omega)]; exact hR h0
            have self : L = sv n → Ri wv sv (fun x => if x = w then L else wl x) n := by
              intro hLs h0
              dsimp only
              rw [if_pos (by omega)]; exact hLs
            have tO : ao u' 49 = upd (ao s 49) (pl (ce n)) (bI b) := by rw [fr_ao g1 49]; rfl
            refine nm_r (or_t m) (nm_r (nI_1 (pl (ce n))) (hr true (pl (ce n) + 1) _ ⟨by omega, f3, _, g2, fun n' hC' hlm => ?_, fun n' h6 hC' hlm hpl => ?_, fun hm => absurd hm (by decide), fun hk c hc hpc => by rw [tO]; exact tD hk c hc hpc⟩ (by omega)))
            · by_cases e : n' = n
              · subst e; exact self (Lr (hlm1 hlm))
              · exact other n' hC' e (qA n' hC' hlm)
            · by_cases e : n' = n
              · subst e; exact self (Lr hlm)
              · have : pl (ce n') ≠ pl (ce n) := fun z => e (ce_inj h6 n6 (d4 _ _ (ce_lt d1 hC') hcC z))
                exact other n' hC' e (qB n' h6 hC' hlm (by omega))
        refine br_b (by rw [fr_ao f1 43]; exact (d11 _ hcC).2) (fun e => ⟨pk_in (pl (ce n)) 36 hlt, ?_⟩) (fun e => ⟨pk_in (pl (ce n)) 36 hlt, ?_⟩)
        · rw [u_s]
          have h12 : ¬ n < 12 := by
            intro h12
            have : ce n = n - 6 := if_pos h12
            have := of_decide_eq_false e
            omega
          exact lev b (by rw [if_neg h12]; exact hb')
        · have h12 : n < 12 := by
            by_cases h12 : n < 12
            · exact h12
            · have : ce n = n - 2 := if_neg h12
              have := of_decide_eq_true e
              omega
          have hce : ce n = n - 6 := if_pos h12
          have : ao s 48 (pl (ce n)) = bI (sv n) := by
            rw [fr_ao f1 48, hce, hF (n - 6) (by omega), show 6 + (n - 6) = n from by omega]
          rw [this]
          exact lev (sv n) (by rw [if_pos h12])
      · have hno : ∀ n, 6 ≤ n → n < C + 2 → pl (ce n) ≠ p := fun n h1 h2 e => hex ⟨n, h1, h2, e⟩
        have hout := hDs.2.2.2.2.2.2.2.2.1 p hlt hno
        have nx : ∀ z : Int32, kx_settle_131 post J (fun y0 y1 s => kx_settle_64 post J x2 a y0 y1 s) x2 (nI p) z (pI 0) (bI m) (sa s 49 (upd (ao s 49) p (bI b))) := by
          intro z
          rw [cx_settle_131, cx_drive]
          refine br_t (by decide) (nm_r (or_b m) (nm_r (nI_1 p) (hr m (p + 1) _ ⟨by omega, f2, wl, hW2, qA, fun n' h6 hC' hlm hpl => ?_, fun hm => ⟨(qC hm).1, tC hm, fun n' h6 hC' hpl hne => ?_⟩, tD⟩ (by omega))))
          · exact qB n' h6 hC' hlm (by have := hno n' h6 hC'; omega)
          · exact (qC hm).2.2 n' h6 hC' (by have := hno n' h6 hC'; omega) hne
        rw [hout]
        exact hx_wireAt (stA_lt _ hlt 0 (by omega)) (Or.inl ⟨rfl, rfl⟩) ⟨pk_in p 36 hlt, br_c (fun _ => ⟨pk_in p 36 hlt, nx _⟩) (fun _ => ⟨pk_in p 36 hlt, nx _⟩)⟩
    exact hx_workCell hDs hW hlt (fun c hc ec => rest _ (fun c' hc' ec' => by rw [d4 c' c hc' hc (ec'.trans ec.symm)])) (fun hno b => rest b (fun c hc ec => absurd ec (hno c hc)))
theorem hx_settle {post : SX → Prop} {u : SX} {C : Nat} {P : Nat → Nat → Nat} {pl : Nat → Nat} {T : Nat → Int32} {wv : Nat → Nat} (hD : Dw u C P pl T wv) {sv : Nat → Bool} (hsv : ∀ c, 10 ≤ c → c < C → sv (c + 2) = tv P T sv c)
    (hF : ∀ r, r < 6 → ao u 48 (pl r) = bI (sv (6 + r))) (hL : ∀ i, i < 6 → (fo u 6 >>> (nI i &&& 31)) &&& 1 = bI (sv i)) {wl : Nat → Bool} (hW : Wl u wl)
    (K : ∀ u' wl', fr [47, 49] u u' → Wl u' wl' → (∀ c, c < C → ao u' 49 (pl c) = bI (tv P T sv c)) → post u') : wpX_settle post u := by
  have d1 := hD.1
  have d2 := hD.2.1
  rw [cx_settle]
  refine pk_loop (fun a i s => kx_settle_2 post a (nI i) s) (fun i s => fr [47, 49] u s ∧ ∃ wl, Wl s wl ∧ ∀ n, n < i → Ri wv sv wl n) 6 0 u (Nat.zero_le _) ⟨fr_rf, wl, hW, fun n hn => by omega⟩ ?_ ?_
  · rintro a s ⟨f1, wl, hW, hA⟩
    show kx_settle_2 _ _ _ _
    rw [cx_settle_2]
    refine pk_le 6 6 (fun _ => ?_) (fun h => absurd h (by omega))
    refine lp3 (fun a (m : Bool) (k : Nat) (s : SX) => kx_settle_50 post a (bI m) (nI k) s) (fun m k s => k ≤ 38 ∧ fr [47, 49] u s ∧ ∃ wl, Wl s wl ∧ (∀ n, n < C + 2 → n < lm k → Ri wv sv wl n) ∧ ((m = false ∨ 38 ≤ k) → ∀ c, c < C → ao s 49 (pl c) = bI (tv P T sv c))) (fun _ k _ => 38 - k) ?_ true 0 s
      ⟨by omega, f1, wl, hW, fun n _ h => hA n h, fun h => h.elim (fun z => absurd z (by decide)) (fun z => absurd z (by decide))⟩
    rintro a m k s ⟨hk, g1, wl, g2, g3, g4⟩ hr
    show kx_settle_50 _ _ _ _ _
    rw [cx_settle_50]
    refine pk_lt 37 k (fun h => K s wl g1 g2 (g4 (Or.inr (by omega)))) (fun h => br_b rfl (fun e => K s wl g1 g2 (g4 (Or.inl e))) (fun e => ?_))
    refine hx_st64 hD hsv hF g1 g2 g3 (fun s' wl' m' k1 k2 k3 k4 y ey => ?_)
    rw [ey, nI_1]
    exact hr m' (k + 1) s' ⟨by omega, k1, wl', k2, k3, fun h' => k4 (h'.imp_right (fun z => by omega))⟩ (by omega)
  · rintro a i s hi ⟨f1, wl, hW, hA⟩ hr
    have hwa := (Dw_fr hD f1).2.2.2.2.2.2.1 i hi
    have d10 := hD.2.2.2.2.2.2.2.2.2.1
    show kx_settle_2 _ _ _ _
    rw [cx_settle_2]
    refine pk_le 6 i (fun h => absurd h (by omega)) (fun _ => ?_)
    unfold wpX_standing
    rw [show (42 : Int32) + nI i * 7 + 0 = nI (42 + i * 7) from stI 0 i, clI (by omega), fr_fo f1 6, hL i hi]
    refine ⟨pk_in i 6 hi, hx_wireAt (by omega) hwa (hx_drive hW (Wa_b hwa) (fun hsame => ?_) (fun u' w ew hne g1 g2 => ?_))⟩
    · refine nm_r (nI_1 i) (hr s ⟨f1, wl, hW, fun n hn => ?_⟩)
      by_cases e : n = i
      · subst e; exact fun h0 => hsame (wv n - 1) (by omega)
      · exact hA n (by omega)
    · refine nm_r (nI_1 i) (hr u' ⟨fr_tr f1 (fr_mn g1 (by decide)), _, g2, fun n hn => ?_⟩)
      intro h0
      dsimp only
      by_cases e : n = i
      · subst e; rw [if_pos (by omega)]
      · have : wv n ≠ wv i := fun z => e (d10 n i (by omega) (by omega) h0 z)
        rw [if_neg (by omega)]; exact hA n (by omega) h0
end
section
/-! ===== H: ticks and registers ===== -/
def kx_tick_6 (post : SX → Prop) (n : Nat) (x1 : Int32) (u : SX) : Prop := match u with
  | (qf_gates, qf_nodes, qf_joinedSize, qf_cells, qf_chanceState, qf_isBuilt, qf_levels, qa_kinds, qa_firsts, qa_seconds, qa_thirds, qa_nextOf, qa_shownBy, qa_left, qa_right, qa_endOf, qa_cutCount, qa_cutSize, qa_cutLeaf, qa_cutDepth, qa_depthOf, qa_needed, qa_tableOf, qa_rows, qa_joined, qa_tableBits, qa_cellSource, qa_placeOf, qa_cellAt, qa_used, qa_worn, qa_inTree, qa_treeFrom, qa_farness, qa_cameFrom, qa_settled, qa_trackTaken, qa_trackOf, qa_switchBits, qa_pinTrack, qa_outTrack, qa_padTrack, qa_deviceTable, qa_hasFlip, qa_registerPlace, qa_outputPlace, qa_wireRoot, qa_wireLevel, qa_flip, qa_tableOut) => wX_tick_6 post qf_gates qf_nodes qf_joinedSize qf_cells qf_chanceState qf_isBuilt qf_levels n x1 qa_kinds qa_firsts qa_seconds qa_thirds qa_nextOf qa_shownBy qa_left qa_right qa_endOf qa_cutCount qa_cutSize qa_cutLeaf qa_cutDepth qa_depthOf qa_needed qa_tableOf qa_rows qa_joined qa_tableBits qa_cellSource qa_placeOf qa_cellAt qa_used qa_worn qa_inTree qa_treeFrom qa_farness qa_cameFrom qa_settled qa_trackTaken qa_trackOf qa_switchBits qa_pinTrack qa_outTrack qa_padTrack qa_deviceTable qa_hasFlip qa_registerPlace qa_outputPlace qa_wireRoot qa_wireLevel qa_flip qa_tableOut
theorem cx_tick_6 (post : SX → Prop) (n : Nat) (x1 : Int32) (u : SX) : kx_tick_6 post (n + 1) x1 u = (((36 ≤ x1 → (post u)) ∧ (¬ 36 ≤ x1 → (vp_in x1 36 ∧ (((((ao u 43) x1.toNatClampNeg) = 0 → (vp_in x1 36 ∧ ∀ a_flip_56 : Nat → Int32, a_flip_56 = upd (ao u 48) x1.toNatClampNeg (vp_nar .byte 0) → (∀ x1_57 : Int32, x1_57 = x1 + 1 → (kx_tick_6 post n x1_57 (sa u 48 a_flip_56))))) ∧ (¬ ((ao u 43) x1.toNatClampNeg) = 0 → (vp_in x1 36 ∧ (vp_in x1 36 ∧ ∀ a_flip_60 : Nat → Int32, a_flip_60 = upd (ao u 48) x1.toNatClampNeg (vp_nar .byte ((ao u 49) x1.toNatClampNeg)) → (∀ x1_61 : Int32, x1_61 = x1 + 1 → (kx_tick_6 post n x1_61 (sa u 48 a_flip_60)))))))))))) := rfl
theorem cx_tick (post : SX → Prop) (u : SX) : wpX_tick post u = (wpX_settle (fun u1 => (∃ n6 : Nat, kx_tick_6 post n6 0 u1)) u) := rfl
def kx_readRegisters_4 (post : Int32 → Prop) (n : Nat) (x1 : Int32) (x2 : Int32) (u : SX) : Prop := match u with
  | (qf_gates, qf_nodes, qf_joinedSize, qf_cells, qf_chanceState, qf_isBuilt, qf_levels, qa_kinds, qa_firsts, qa_seconds, qa_thirds, qa_nextOf, qa_shownBy, qa_left, qa_right, qa_endOf, qa_cutCount, qa_cutSize, qa_cutLeaf, qa_cutDepth, qa_depthOf, qa_needed, qa_tableOf, qa_rows, qa_joined, qa_tableBits, qa_cellSource, qa_placeOf, qa_cellAt, qa_used, qa_worn, qa_inTree, qa_treeFrom, qa_farness, qa_cameFrom, qa_settled, qa_trackTaken, qa_trackOf, qa_switchBits, qa_pinTrack, qa_outTrack, qa_padTrack, qa_deviceTable, qa_hasFlip, qa_registerPlace, qa_outputPlace, qa_wireRoot, qa_wireLevel, qa_flip, qa_tableOut) => wX_readRegisters_4 post qf_gates qf_nodes qf_joinedSize qf_cells qf_chanceState qf_isBuilt qf_levels qa_kinds qa_firsts qa_seconds qa_thirds qa_nextOf qa_shownBy qa_left qa_right qa_endOf qa_cutCount qa_cutSize qa_cutLeaf qa_cutDepth qa_depthOf qa_needed qa_tableOf qa_rows qa_joined qa_tableBits qa_cellSource qa_placeOf qa_cellAt qa_used qa_worn qa_inTree qa_treeFrom qa_farness qa_cameFrom qa_settled qa_trackTaken qa_trackOf qa_switchBits qa_pinTrack qa_outTrack qa_padTrack qa_deviceTable qa_hasFlip qa_registerPlace qa_outputPlace qa_wireRoot qa_wireLevel qa_flip qa_tableOut n x1 x2
theorem cx_readRegisters_4 (post : Int32 → Prop) (n : Nat) (x1 : Int32) (x2 : Int32) (u : SX) : kx_readRegisters_4 post (n + 1) x1 x2 u = (((6 ≤ x2 → (post x1)) ∧ (¬ 6 ≤ x2 → (vp_in x2 6 ∧ (vp_in ((ao u 44) x2.toNatClampNeg) 36 ∧ (∀ x1_4 : Int32, x1_4 = x1 ||| (((ao u 48) ((ao u 44) x2.toNatClampNeg).toNatClampNeg) <<< (x2 &&& 31)) → (∀ x2_5 : Int32, x2_5 = x2 + 1 → (kx_readRegisters_4 post n x1_4 x2_5 u)))))))) := rfl
theorem cx_readRegisters (post : Int32 → Prop) (u : SX) : wpX_readRegisters post u = (∃ n4 : Nat, kx_readRegisters_4 post n4 0 0 u) := rfl
def kx_writeRegisters_2 (post : SX → Prop) (x1 : Int32) (n : Nat) (x2 : Int32) (u : SX) : Prop := match u with
  | (qf_gates, qf_nodes, qf_joinedSize, qf_cells, qf_chanceState, qf_isBuilt, qf_levels, qa_kinds, qa_firsts, qa_seconds, qa_thirds, qa_nextOf, qa_shownBy, qa_left, qa_right, qa_endOf, qa_cutCount, qa_cutSize, qa_cutLeaf, qa_cutDepth, qa_depthOf, qa_needed, qa_tableOf, qa_rows, qa_joined, qa_tableBits, qa_cellSource, qa_placeOf, qa_cellAt, qa_used, qa_worn, qa_inTree, qa_treeFrom, qa_farness, qa_cameFrom, qa_settled, qa_trackTaken, qa_trackOf, qa_switchBits, qa_pinTrack, qa_outTrack, qa_padTrack, qa_deviceTable, qa_hasFlip, qa_registerPlace, qa_outputPlace, qa_wireRoot, qa_wireLevel, qa_flip, qa_tableOut) => wX_writeRegisters_2 post x1 qf_gates qf_nodes qf_joinedSize qf_cells qf_chanceState qf_isBuilt qf_levels n x2 qa_kinds qa_firsts qa_seconds qa_thirds qa_nextOf qa_shownBy qa_left qa_right qa_endOf qa_cutCount qa_cutSize qa_cutLeaf qa_cutDepth qa_depthOf qa_needed qa_tableOf qa_rows qa_joined qa_tableBits qa_cellSource qa_placeOf qa_cellAt qa_used qa_worn qa_inTree qa_treeFrom qa_farness qa_cameFrom qa_settled qa_trackTaken qa_trackOf qa_switchBits qa_pinTrack qa_outTrack qa_padTrack qa_deviceTable qa_hasFlip qa_registerPlace qa_outputPlace qa_wireRoot qa_wireLevel qa_flip qa_tableOut
theorem cx_writeRegisters_2 (post : SX → Prop) (x1 : Int32) (n : Nat) (x2 : Int32) (u : SX) : kx_writeRegisters_2 post x1 (n + 1) x2 u = (((6 ≤ x2 → (post u)) ∧ (¬ 6 ≤ x2 → (vp_in x2 6 ∧ (vp_in ((ao u 44) x2.toNatClampNeg) 36 ∧ ∀ a_flip_4 : Nat → Int32, a_flip_4 = upd (ao u 48) ((ao u 44) x2.toNatClampNeg).toNatClampNeg (vp_nar .byte (((x1 >>> (x2 &&& 31)) &&& 1).toInt8.toInt32)) → (∀ x2_5 : Int32, x2_5 = x2 + 1 → (kx_writeRegisters_2 post x1 n x2_5 (sa u 48 a_flip_4)))))))) := rfl
theorem cx_writeRegisters (post : SX → Prop) (u : SX) (p0 : Int32) : wpX_writeRegisters post u p0 = (∃ n2 : Nat, kx_writeRegisters_2 post p0 n2 0 u) := rfl
def kx_ahead_7 (post : Int32 → SX → Prop) (x1 : Int32) (x2 : Int32) (n : Nat) (x3 : Int32) (u : SX) : Prop := match u with
  | (qf_gates, qf_nodes, qf_joinedSize, qf_cells, qf_chanceState, qf_isBuilt, qf_levels, qa_kinds, qa_firsts, qa_seconds, qa_thirds, qa_nextOf, qa_shownBy, qa_left, qa_right, qa_endOf, qa_cutCount, qa_cutSize, qa_cutLeaf, qa_cutDepth, qa_depthOf, qa_needed, qa_tableOf, qa_rows, qa_joined, qa_tableBits, qa_cellSource, qa_placeOf, qa_cellAt, qa_used, qa_worn, qa_inTree, qa_treeFrom, qa_farness, qa_cameFrom, qa_settled, qa_trackTaken, qa_trackOf, qa_switchBits, qa_pinTrack, qa_outTrack, qa_padTrack, qa_deviceTable, qa_hasFlip, qa_registerPlace, qa_outputPlace, qa_wireRoot, qa_wireLevel, qa_flip, qa_tableOut) => wX_ahead_7 post x1 x2 n x3 qf_gates qf_nodes qf_joinedSize qf_cells qf_chanceState qf_isBuilt qf_levels qa_kinds qa_firsts qa_seconds qa_thirds qa_nextOf qa_shownBy qa_left qa_right qa_endOf qa_cutCount qa_cutSize qa_cutLeaf qa_cutDepth qa_depthOf qa_needed qa_tableOf qa_rows qa_joined qa_tableBits qa_cellSource qa_placeOf qa_cellAt qa_used qa_worn qa_inTree qa_treeFrom qa_farness qa_cameFrom qa_settled qa_trackTaken qa_trackOf qa_switchBits qa_pinTrack qa_outTrack qa_padTrack qa_deviceTable qa_hasFlip qa_registerPlace qa_outputPlace qa_wireRoot qa_wireLevel qa_flip qa_tableOut
theorem cx_ahead_7 (post : Int32 → SX → Prop) (x1 : Int32) (x2 : Int32) (n : Nat) (x3 : Int32) (u : SX) : kx_ahead_7 post x1 x2 (n + 1) x3 u = (((x1 ≤ x3 → (wpX_readRegisters (fun r_53 => (wpX_writeRegisters (fun u1 => (post r_53 u1)) u x2)) u)) ∧ (¬ x1 ≤ x3 → (wpX_tick (fun u2 => (∀ x3_206 : Int32, x3_206 = x3 + 1 → (kx_ahead_7 post x1 x2 n x3_206 u2))) u)))) := rfl
theorem cx_ahead (post : Int32 → SX → Prop) (u : SX) (p0 : Int32) : wpX_ahead post u p0 = (wpX_readRegisters (fun r_1 => (∃ n7 : Nat, kx_ahead_7 post p0 r_1 n7 0 u)) u) := rfl
def kx_outputs_17 (post : Int32 → SX → Prop) (n : Nat) (x1 : Int32) (x2 : Int32) (u : SX) : Prop := match u with
  | (qf_gates, qf_nodes, qf_joinedSize, qf_cells, qf_chanceState, qf_isBuilt, qf_levels, qa_kinds, qa_firsts, qa_seconds, qa_thirds, qa_nextOf, qa_shownBy, qa_left, qa_right, qa_endOf, qa_cutCount, qa_cutSize, qa_cutLeaf, qa_cutDepth, qa_depthOf, qa_needed, qa_tableOf, qa_rows, qa_joined, qa_tableBits, qa_cellSource, qa_placeOf, qa_cellAt, qa_used, qa_worn, qa_inTree, qa_treeFrom, qa_farness, qa_cameFrom, qa_settled, qa_trackTaken, qa_trackOf, qa_switchBits, qa_pinTrack, qa_outTrack, qa_padTrack, qa_deviceTable, qa_hasFlip, qa_registerPlace, qa_outputPlace, qa_wireRoot, qa_wireLevel, qa_flip, qa_tableOut) => wX_outputs_17 post qf_gates qf_nodes qf_joinedSize qf_cells qf_chanceState qf_isBuilt qf_levels qa_kinds qa_firsts qa_seconds qa_thirds qa_nextOf qa_shownBy qa_left qa_right qa_endOf qa_cutCount qa_cutSize qa_cutLeaf qa_cutDepth qa_depthOf qa_needed qa_tableOf qa_rows qa_joined qa_tableBits qa_cellSource qa_placeOf qa_cellAt qa_used qa_worn qa_inTree qa_treeFrom qa_farness qa_cameFrom qa_settled qa_trackTaken qa_trackOf qa_switchBits qa_pinTrack qa_outTrack qa_padTrack qa_deviceTable qa_hasFlip qa_registerPlace qa_outputPlace qa_wireRoot qa_wireLevel qa_flip qa_tableOut n x1 x2
theorem cx_outputs_17 (post : Int32 → SX → Prop) (n : Nat) (x1 : Int32) (x2 : Int32) (u : SX) : kx_outputs_17 post (n + 1) x1 x2 u = (((4 ≤ x2 → (post x1 u)) ∧ (¬ 4 ≤ x2 → (vp_in x2 4 ∧ (vp_in ((ao u 45) x2.toNatClampNeg) 36 ∧ (∀ x1_56 : Int32, x1_56 = x1 ||| (((ao u 49) ((ao u 45) x2.toNatClampNeg).toNatClampNeg) <<< (x2 &&& 31)) → (∀ x2_57 : Int32, x2_57 = x2 + 1 → (kx_outputs_17 post n x1_56 x2_57 u)))))))) := rfl
theorem cx_outputs (post : Int32 → SX → Prop) (u : SX) : wpX_outputs post u = ((((fo u 5) = 0 → (post (- 1) u)) ∧ (¬ (fo u 5) = 0 → (wpX_settle (fun u1 => (∃ n17 : Nat, kx_outputs_17 post n17 0 0 u1)) u)))) := rfl
def Rp (u : SX) (r : Nat) : Nat := (ao u 44 r).toNatClampNeg
def Op (u : SX) (o : Nat) : Nat := (ao u 45 o).toNatClampNeg
def Rg (u : SX) (f : Nat → Bool) : Prop := ∀ r, r < 6 → ao u 48 (Rp u r) = bI (f r)
/-- inputs and registers as one set of signals -/
def ek (L S s : Nat) : Bool := if s < 6 then L.testBit s else S.testBit (s - 6)
def nS (nxt : (Nat → Bool) → Nat → Bool) (L S : Nat) : Nat := rk (fun r => nxt (ek L S) r) 6
theorem rk6_a : ∀ a b c d e f : Bool, ((if a then 1 else 0) + (if b then 2 else 0) + (if c then 4 else 0) + (if d then 8 else 0) + (if e then 16 else 0) + (if f then 32 else 0) : Nat).testBit 0 = a ∧ ((if a then 1 else 0) + (if b then 2 else 0) + (if c then 4 else 0) + (if d then 8 else 0) + (if e then 16 else 0) + (if f then 32 else 0) : Nat).testBit 1 = b ∧
    ((if a then 1 else 0) + (if b then 2 else 0) + (if c then 4 else 0) + (if d then 8 else 0) + (if e then 16 else 0) + (if f then 32 else 0) : Nat).testBit 2 = c ∧ ((if a then 1 else 0) + (if b then 2 else 0) + (if c then 4 else 0) + (if d then 8 else 0) + (if e then 16 else 0) + (if f then 32 else 0) : Nat).testBit 3 = d ∧
    ((if a then 1 else 0) + (if b then 2 else 0) + (if c then 4 else 0) + (if d then 8 else 0) + (if e then 16 else 0) + (if f then 32 else 0) : Nat).testBit 4 = e ∧ ((if a then 1 else 0) + (if b then 2 else 0) + (if c then 4 else 0) + (if d then 8 else 0) + (if e then 16 else 0) + (if f then 32 else 0) : Nat).testBit 5 = f := by decide +kernel
theorem rk6_b (f : Nat → Bool) {r : Nat} (hr : r < 6) : (rk f 6).testBit r = f r := by
  have h := rk6_a (f 0) (f 1) (f 2) (f 3) (f 4) (f 5)
  have e : rk f 6 = ((if f 0 then 1 else 0) + (if f 1 then 2 else 0) + (if f 2 then 4 else 0) + (if f 3 then 8 else 0) + (if f 4 then 16 else 0) + (if f 5 then 32 else 0) : Nat) := by
    simp only [rk, show 2 ^ 0 = 1 from rfl, show 2 ^ 1 = 2 from rfl, show 2 ^ 2 = 4 from rfl, show 2 ^ 3 = 8 from rfl, show 2 ^ 4 = 16 from rfl, show 2 ^ 5 = 32 from rfl]; omega
  rw [e]
  have : r = 0 ∨ r = 1 ∨ r = 2 ∨ r = 3 ∨ r = 4 ∨ r = 5 := by omega
  rcases this with rfl | rfl | rfl | rfl | rfl | rfl
  · exact h.1
  · exact h.2.1
  · exact h.2.2.1
  · exact h.2.2.2.1
  · exact h.2.2.2.2.1
  · exact h.2.2.2.2.2
theorem nS_lt (nxt : (Nat → Bool) → Nat → Bool) (L S : Nat) : nS nxt L S < 64 := rk_lt _ 6
theorem rk_cg {f g : Nat → Bool} : ∀ {k}, (∀ i, i < k → f i = g i) → rk f k = rk g k
  | 0, _ => rfl
  | k + 1, h => by
    have := rk_cg (fun i hi => h i (by omega) : ∀ i, i < k → f i = g i)
    simp only [rk, this, h k (by omega)]
theorem rk_S : ∀ S, S < 64 → rk (fun r => S.testBit r) 6 = S := by decide +kernel
theorem bt_n {n i : Nat} (h : i < 32) : bt (nI n) i = n.testBit i := by
  unfold bt nI
  show (BitVec.ofNat 32 n).getLsbD i = _
  rw [BitVec.getLsbD_ofNat, decide_eq_true h, Bool.true_and]
/-- the device is there, its levels are 0 or 1, L the inputs, S the registers -/
def Ds (u : SX) (nxt out : (Nat → Bool) → Nat → Bool) (L S : Nat) : Prop := Dv u nxt out ∧ (∃ wl, Wl u wl) ∧ fo u 6 = nI L ∧ L < 64 ∧ Rg u (fun r => S.testBit r) ∧ S < 64
theorem Dv_R {u : SX} {nxt out : (Nat → Bool) → Nat → Bool} (h : Dv u nxt out) : (∀ r, r < 6 → ao u 44 r = nI (Rp u r) ∧ Rp u r < 36 ∧ ao u 43 (Rp u r) = bI true) ∧ (∀ r r', r < 6 → r' < 6 → Rp u r = Rp u r' → r = r') ∧ ∀ o, o < 4 → ao u 45 o = nI (Op u o) ∧ Op u o < 36 := by
  obtain ⟨C, P, pl, T, wv, d1, d2, d3, d4, d5, d6, d7, d8, d9, d10, d11, d12, d13, d14⟩ := h
  have e1 : ∀ r, r < 6 → Rp u r = pl r := fun r hr => by
    unfold Rp
    rw [d12 r hr, clI (by have := d3 r (by omega); omega)]
  have e2 : ∀ o, o < 4 → Op u o = pl (6 + o) := fun o ho => by
    unfold Op
    rw [d13 o ho, clI (by have := d3 (6 + o) (by omega); omega)]
  refine ⟨fun r hr => ⟨by rw [e1 r hr]; exact d12 r hr, by rw [e1 r hr]; exact d3 r (by omega), by rw [e1 r hr, (d11 r (by omega)).2, decide_eq_true hr]⟩, fun r r' hr hr' e => ?_, fun o ho => ⟨by rw [e2 o ho]; exact d13 o ho, by rw [e2 o ho]; exact d3 _ (by omega)⟩⟩
  rw [e1 r hr, e1 r' hr'] at e
  exact d4 r r' (by omega) (by omega) e
theorem Rp_fr {M : List Nat} {u v : SX} (hf : fr M u v) (h1 : 44 ∉ M := by decide) (r : Nat) : Rp v r = Rp u r := by
  unfold Rp
  rw [fr_ao hf 44 h1]
theorem hx_settleD {post : SX → Prop} {u : SX} {nxt out : (Nat → Bool) → Nat → Bool} {L S : Nat} (h : Ds u nxt out L S)
    (K : ∀ u', fr [47, 49] u u' → Ds u' nxt out L S → (∀ r, r < 6 → ao u' 49 (Rp u r) = bI (nxt (ek L S) r)) → (∀ o, o < 4 → ao u' 49 (Op u o) = bI (out (ek L S) o)) → post u') : wpX_settle post u := by
  obtain ⟨hDv, ⟨wl, hW⟩, hL, hL64, hR, hS⟩ := h
  have hDv0 := hDv
  obtain ⟨C, P, pl, T, wv, d1, d2, d3, d4, d5, d6, d7, d8, d9, d10, d11, d12, d13, d14⟩ := hDv
  have e1 : ∀ r, r < 6 → Rp u r = pl r := fun r hr => by
    unfold Rp
    rw [d12 r hr, clI (by have := d3 r (by omega); omega)]
  have e2 : ∀ o, o < 4 → Op u o = pl (6 + o) := fun o ho => by
    unfold Op
    rw [d13 o ho, clI (by have := d3 (6 + o) (by omega); omega)]
  obtain ⟨sv, s1, s2, s3, s4⟩ := d14 (ek L S)
  refine hx_settle (C := C) (P := P) (pl := pl) (T := T) (wv := wv) ⟨d1, d2, d3, d4, d5, d6, d7, d8, d9, d10, d11⟩ (sv := sv) s2 (fun r hr => ?_) (fun i hi => ?_) hW (fun u' wl' f1 f2 f3 => ?_)
  · rw [← e1 r hr, hR r hr, s1 (6 + r) (by omega)]
    unfold ek
    rw [if_neg (by omega), Nat.add_sub_cancel_left]
  · rw [hL, bit_at _ (by omega), bt_n (by omega), s1 i (by omega)]
    unfold ek
    rw [if_pos hi]
  · refine K u' f1 ⟨Dv_fr hDv0 f1, ⟨wl', f2⟩, by rw [fr_fo f1 6]; exact hL, hL64, fun r hr => ?_, hS⟩ (fun r hr => ?_) (fun o ho => ?_)
    · rw [fr_ao f1 48, Rp_fr f1]; exact hR r hr
    · rw [e1 r hr, f3 r (by omega), s3 r hr]; rfl
    · rw [e2 o ho, f3 (6 + o) (by omega), s4 o ho]; rfl
theorem hx_tick {post : SX → Prop} {u : SX} {nxt out : (Nat → Bool) → Nat → Bool} {L S : Nat} (h : Ds u nxt out L S) (K : ∀ u', fr [47, 48, 49] u u' → Ds u' nxt out L (nS nxt L S) → post u') : wpX_tick post u := by
  rw [cx_tick]
  refine hx_settleD h (fun u1 f1 h1 t1 t2 => ?_)
  refine pk_loop (fun a p s => kx_tick_6 post a (nI p) s) (fun p s => fr [48] u1 s ∧ ∀ p', p' < p → ao u1 43 p' = bI true → ao s 48 p' = vp_nar .byte (ao u1 49 p')) 36 0 u1 (Nat.zero_le _) ⟨fr_rf, fun p hp => by omega⟩ ?_ ?_
  · rintro a s ⟨g1, g2⟩
    show kx_tick_6 _ _ _ _
    rw [cx_tick_6]
    refine pk_le 36 36 (fun _ => K s (fr_tr (fr_mn f1 (by decide)) (fr_mn g1 (by decide))) ⟨Dv_fr h1.1 g1, ?_, by rw [fr_fo g1 6]; exact h1.2.2.1, h1.2.2.2.1, fun r hr => ?_, nS_lt _ _ _⟩) (fun h => absurd h (by omega))
    · obtain ⟨wl, hW⟩ := h1.2.1
      exact ⟨wl, fun w hw => by rw [fr_ao g1 47]; exact hW w hw⟩
    · have hd := (Dv_R h1.1).1 r hr
      rw [Rp_fr g1, g2 _ hd.2.1 hd.2.2, Rp_fr f1, t1 r hr, bI_vb]
      unfold nS
      dsimp only
      rw [rk6_b _ hr]
  · rintro a p s hp ⟨g1, g2⟩ hr
    show kx_tick_6 _ _ _ _
    rw [cx_tick_6]
    simp only [clI (show p < 2 ^ 31 by omega), fr_ao g1 43, fr_ao g1 49]
    refine pk_le 36 p (fun h => absurd h (by omega)) (fun _ => ⟨pk_in p 36 hp, br_c (fun e => ⟨pk_in p 36 hp, nm_e (nm_r (nI_1 p) (hr _ ⟨fr_a g1 (by decide), fun p' hp' h' => ?_⟩))⟩) (fun e => ⟨pk_in p 36 hp, pk_in p 36 hp, nm_e (nm_r (nI_1 p) (hr _ ⟨fr_a g1 (by decide), fun p' hp' h' => ?_⟩))⟩)⟩)
    · show upd (ao s 48) p _ p' = _
      by_cases ep : p' = p
      · rw [ep, e] at h'; exact absurd h' (by decide)
      · rw [u_n ep]; exact g2 p' (by omega) h'
    · show upd (ao s 48) p _ p' = _
      by_cases ep : p' = p
      · rw [ep, u_s]
      · rw [u_n ep]; exact g2 p' (by omega) h'
theorem or_2 : ∀ r, r < 6 → ∀ a, a < 64 → a < 2 ^ r → ∀ b : Bool, nI a ||| (bI b <<< (nI r &&& 31)) = nI (a + if b then 2 ^ r else 0) := by decide +kernel
theorem p2_64 : ∀ i, i < 6 → 2 ^ i ≤ 64 := by decide
theorem hx_readRegisters {post : Int32 → Prop} {u : SX} {nxt out : (Nat → Bool) → Nat → Bool} {L S : Nat} (h : Ds u nxt out L S) (K : post (nI S)) : wpX_readRegisters post u := by
  have hd := (Dv_R h.1).1
  rw [cx_readRegisters]
  refine pk_loop (fun a r (x : Int32) => kx_readRegisters_4 post a x (nI r) u) (fun r x => x = nI (rk (fun r => S.testBit r) r)) 6 0 0 (Nat.zero_le _) rfl ?_ ?_
  · rintro a x rfl
    show kx_readRegisters_4 _ _ _ _ _
    rw [cx_readRegisters_4, rk_S S h.2.2.2.2.2]
    exact pk_le 6 6 (fun _ => K) (fun h => absurd h (by omega))
  · rintro a r x hr rfl hk
    have hlt := rk_lt (fun r => S.testBit r) r
    have hdr := hd r hr
    show kx_readRegisters_4 _ _ _ _ _
    rw [cx_readRegisters_4]
    simp only [clI (show r < 2 ^ 31 by omega)]
    have e1 : (ao u 44 r).toNatClampNeg = Rp u r := rfl
    rw [e1, h.2.2.2.2.1 r hr, or_2 r hr _ (Nat.lt_of_lt_of_le hlt (p2_64 r hr)) hlt]
    refine pk_le 6 r (fun h => absurd h (by omega)) (fun _ => ⟨pk_in r 6 hr, ?_, nm_e (nm_r (nI_1 r) (hk _ rfl))⟩)
    rw [hdr.1]; exact pk_in (Rp u r) 36 hdr.2.1
theorem hx_writeRegisters {post : SX → Prop} {u : SX} {nxt out : (Nat → Bool) → Nat → Bool} {L S S' : Nat} (h : Ds u nxt out L S) (hS' : S' < 64) (K : ∀ u', fr [48] u u' → Ds u' nxt out L S' → post u') : wpX_writeRegisters post u (nI S') := by
  obtain ⟨hd, hi, _⟩ := Dv_R h.1
  rw [cx_writeRegisters]
  refine pk_loop (fun a r s => kx_writeRegisters_2 post (nI S') a (nI r) s) (fun r s => fr [48] u s ∧ ∀ r', r' < r → ao s 48 (Rp u r') = bI (S'.testBit r')) 6 0 u (Nat.zero_le _) ⟨fr_rf, fun r hr => by omega⟩ ?_ ?_
  · rintro a s ⟨g1, g2⟩
    show kx_writeRegisters_2 _ _ _ _ _
    rw [cx_writeRegisters_2]
    refine pk_le 6 6 (fun _ => K s g1 ⟨Dv_fr h.1 g1, ?_, by rw [fr_fo g1 6]; exact h.2.2.1, h.2.2.2.1, fun r hr => by rw [Rp_fr g1]; exact g2 r hr, hS'⟩) (fun h => absurd h (by omega))
    obtain ⟨wl, hW⟩ := h.2.1
    exact ⟨wl, fun w hw => by rw [fr_ao g1 47]; exact hW w hw⟩
  · rintro a r s hr ⟨g1, g2⟩ hk
    have hdr := hd r hr
    show kx_writeRegisters_2 _ _ _ _ _
    rw [cx_writeRegisters_2]
    simp only [clI (show r < 2 ^ 31 by omega), fr_ao g1 44, hdr.1, clI (show Rp u r < 2 ^ 31 by omega), bit_at (nI S') (show r < 32 by omega), bt_n (show r < 32 by omega), bI_vb']
    refine pk_le 6 r (fun h => absurd h (by omega)) (fun _ => ⟨pk_in r 6 hr, pk_in (Rp u r) 36 hdr.2.1, nm_e (nm_r (nI_1 r) (hk _ ⟨fr_a g1 (by decide), fun r' hr' => ?_⟩))⟩)
    show upd (ao s 48) (Rp u r) _ (Rp u r') = _
    by_cases e : r' = r
    · rw [e, u_s]
    · rw [u_n (fun z => e (hi r' r (by omega) hr z))]; exact g2 r' (by omega)
def it (F : Nat → Nat) : Nat → Nat → Nat
  | 0, S => S
  | n + 1, S => it F n (F S)
theorem it_s (F : Nat → Nat) : ∀ n S, it F (n + 1) S = F (it F n S)
  | 0, _ => rfl
  | n + 1, S => it_s F n (F S)
theorem it_a (F : Nat → Nat) (m : Nat) : ∀ n S, it F (m + n) S = it F m (it F n S)
  | 0, _ => rfl
  | n + 1, S => it_a F m n (F S)
theorem hx_ahead {post : Int32 → SX → Prop} {u : SX} {nxt out : (Nat → Bool) → Nat → Bool} {L S : Nat} (h : Ds u nxt out L S) {n : Nat} (hn : n < 2 ^ 31) (K : ∀ u', fr [47, 48, 49] u u' → Ds u' nxt out L S → post (nI (it (nS nxt L) n S)) u') : wpX_ahead post u (nI n) := by
  rw [cx_ahead]
  refine hx_readRegisters h ?_
  refine pk_loop (fun a k s => kx_ahead_7 post (nI n) (nI S) a (nI k) s) (fun k s => fr [47, 48, 49] u s ∧ Ds s nxt out L (it (nS nxt L) k S)) n 0 u (Nat.zero_le _) ⟨fr_rf, h⟩ ?_ ?_
  · rintro a s ⟨g1, g2⟩
    show kx_ahead_7 _ _ _ _ _ _
    rw [cx_ahead_7]
    exact pk_le n n (fun _ => hx_readRegisters g2 (hx_writeRegisters g2 h.2.2.2.2.2 (fun u' k1 k2 => K u' (fr_tr g1 (fr_mn k1 (by decide))) k2))) (fun h => absurd h (by omega))
  · rintro a k s hk ⟨g1, g2⟩ hr
    show kx_ahead_7 _ _ _ _ _ _
    rw [cx_ahead_7]
    refine pk_le n k (fun h => absurd h (by omega)) (fun _ => hx_tick g2 (fun u' k1 k2 => nm_r (nI_1 k) (hr u' ⟨fr_tr g1 k1, ?_⟩)))
    rw [it_s]; exact k2
theorem or_3 : ∀ r, r < 4 → ∀ a, a < 16 → a < 2 ^ r → ∀ b : Bool, nI a ||| (bI b <<< (nI r &&& 31)) = nI (a + if b then 2 ^ r else 0) := by decide +kernel
def oS (out : (Nat → Bool) → Nat → Bool) (L S : Nat) : Nat := rk (fun o => out (ek L S) o) 4
theorem hx_outputs {post : Int32 → SX → Prop} {u : SX} {nxt out : (Nat → Bool) → Nat → Bool} {L S : Nat} (hb : ¬ fo u 5 = 0) (h : Ds u nxt out L S) (K : ∀ u', fr [47, 49] u u' → Ds u' nxt out L S → post (nI (oS out L S)) u') : wpX_outputs post u := by
  rw [cx_outputs]
  refine br_f hb (hx_settleD h (fun u1 f1 h1 t1 t2 => ?_))
  have hd := (Dv_R h1.1).2.2
  refine pk_loop (fun a o (x : Int32) => kx_outputs_17 post a x (nI o) u1) (fun o x => x = nI (rk (fun o => out (ek L S) o) o)) 4 0 0 (Nat.zero_le _) rfl ?_ ?_
  · rintro a x rfl
    show kx_outputs_17 _ _ _ _ _
    rw [cx_outputs_17]
    exact pk_le 4 4 (fun _ => K u1 f1 h1) (fun h => absurd h (by omega))
  · rintro a o x ho rfl hk
    have hlt := rk_lt (fun o => out (ek L S) o) o
    have hdo := hd o ho
    show kx_outputs_17 _ _ _ _ _
    rw [cx_outputs_17]
    simp only [clI (show o < 2 ^ 31 by omega)]
    have e1 : (ao u1 45 o).toNatClampNeg = Op u1 o := rfl
    have e2 : Op u1 o = Op u o := by unfold Op; rw [fr_ao f1 45]
    rw [e1, e2, t2 o ho, or_3 o ho _ (Nat.lt_of_lt_of_le hlt (p2_16 o ho)) hlt]
    refine pk_le 4 o (fun h => absurd h (by omega)) (fun _ => ⟨pk_in o 4 ho, ?_, nm_e (nm_r (nI_1 o) (hk _ rfl))⟩)
    rw [hdo.1]; exact pk_in (Op u1 o) 36 hdo.2
end
section
/-! ===== the whole of build ===== -/
def kx_build_65 (post : Int32 → SX → Prop) (n : Nat) (x2 : Int32) (u : SX) : Prop := match u with
  | (qf_gates, qf_nodes, qf_joinedSize, qf_cells, qf_chanceState, qf_isBuilt, qf_levels, qa_kinds, qa_firsts, qa_seconds, qa_thirds, qa_nextOf, qa_shownBy, qa_left, qa_right, qa_endOf, qa_cutCount, qa_cutSize, qa_cutLeaf, qa_cutDepth, qa_depthOf, qa_needed, qa_tableOf, qa_rows, qa_joined, qa_tableBits, qa_cellSource, qa_placeOf, qa_cellAt, qa_used, qa_worn, qa_inTree, qa_treeFrom, qa_farness, qa_cameFrom, qa_settled, qa_trackTaken, qa_trackOf, qa_switchBits, qa_pinTrack, qa_outTrack, qa_padTrack, qa_deviceTable, qa_hasFlip, qa_registerPlace, qa_outputPlace, qa_wireRoot, qa_wireLevel, qa_flip, qa_tableOut) => wX_build_65 post qf_gates qf_nodes qf_joinedSize qf_cells qf_chanceState qf_isBuilt qf_levels n x2 qa_kinds qa_firsts qa_seconds qa_thirds qa_nextOf qa_shownBy qa_left qa_right qa_endOf qa_cutCount qa_cutSize qa_cutLeaf qa_cutDepth qa_depthOf qa_needed qa_tableOf qa_rows qa_joined qa_tableBits qa_cellSource qa_placeOf qa_cellAt qa_used qa_worn qa_inTree qa_treeFrom qa_farness qa_cameFrom qa_settled qa_trackTaken qa_trackOf qa_switchBits qa_pinTrack qa_outTrack qa_padTrack qa_deviceTable qa_hasFlip qa_registerPlace qa_outputPlace qa_wireRoot qa_wireLevel qa_flip qa_tableOut
theorem cx_build_65 (post : Int32 → SX → Prop) (n : Nat) (x2 : Int32) (u : SX) : kx_build_65 post (n + 1) x2 u = (((3192 ≤ x2 → (post 1 (sf u 5 1))) ∧ (¬ 3192 ≤ x2 → (vp_in x2 3192 ∧ ∀ a_wireLevel_363 : Nat → Int32, a_wireLevel_363 = upd (ao u 47) x2.toNatClampNeg (vp_nar .byte 0) → (∀ x2_364 : Int32, x2_364 = x2 + 1 → (kx_build_65 post n x2_364 (sa u 47 a_wireLevel_363))))))) := rfl
def kx_build_44 (post : Int32 → SX → Prop) (n : Nat) (x2 : Int32) (u : SX) : Prop := match u with
  | (qf_gates, qf_nodes, qf_joinedSize, qf_cells, qf_chanceState, qf_isBuilt, qf_levels, qa_kinds, qa_firsts, qa_seconds, qa_thirds, qa_nextOf, qa_shownBy, qa_left, qa_right, qa_endOf, qa_cutCount, qa_cutSize, qa_cutLeaf, qa_cutDepth, qa_depthOf, qa_needed, qa_tableOf, qa_rows, qa_joined, qa_tableBits, qa_cellSource, qa_placeOf, qa_cellAt, qa_used, qa_worn, qa_inTree, qa_treeFrom, qa_farness, qa_cameFrom, qa_settled, qa_trackTaken, qa_trackOf, qa_switchBits, qa_pinTrack, qa_outTrack, qa_padTrack, qa_deviceTable, qa_hasFlip, qa_registerPlace, qa_outputPlace, qa_wireRoot, qa_wireLevel, qa_flip, qa_tableOut) => wX_build_44 post qf_gates qf_nodes qf_joinedSize qf_cells qf_chanceState qf_isBuilt qf_levels n x2 qa_kinds qa_firsts qa_seconds qa_thirds qa_nextOf qa_shownBy qa_left qa_right qa_endOf qa_cutCount qa_cutSize qa_cutLeaf qa_cutDepth qa_depthOf qa_needed qa_tableOf qa_rows qa_joined qa_tableBits qa_cellSource qa_placeOf qa_cellAt qa_used qa_worn qa_inTree qa_treeFrom qa_farness qa_cameFrom qa_settled qa_trackTaken qa_trackOf qa_switchBits qa_pinTrack qa_outTrack qa_padTrack qa_deviceTable qa_hasFlip qa_registerPlace qa_outputPlace qa_wireRoot qa_wireLevel qa_flip qa_tableOut
theorem cx_build_44 (post : Int32 → SX → Prop) (n : Nat) (x2 : Int32) (u : SX) : kx_build_44 post (n + 1) x2 u = (((36 ≤ x2 → (∃ n65 : Nat, kx_build_65 post n65 0 u)) ∧ (¬ 36 ≤ x2 → (vp_in x2 36 ∧ ∀ a_flip_366 : Nat → Int32, a_flip_366 = upd (ao u 48) x2.toNatClampNeg (vp_nar .byte 0) → (∀ x2_367 : Int32, x2_367 = x2 + 1 → (kx_build_44 post n x2_367 (sa u 48 a_flip_366))))))) := rfl
theorem cx_build (post : Int32 → SX → Prop) (u : SX) (p0 : Int32) : wpX_build post u p0 = (((p0 < 0 → (post 0 u)) ∧ (¬ p0 < 0 → (((p0 ≤ 1000 → (wpX_makeGraph (fun u1 => (wpX_findCuts (fun u2 => (wpX_makeCells (fun u3 => (wpX_placeCells (fun u4 => (wpX_wireAll (fun u5 => (wpX_writeBits (fun u6 => (wpX_readSwitches (fun u7 => (∃ n44 : Nat, kx_build_44 post n44 0 u7)) u6)) u5)) u4)) u3 p0)) u2)) u1)) u)) ∧ (¬ p0 ≤ 1000 → (post 0 u))))))) := rfl
theorem Cq_fr {M : List Nat} {u v : SX} {G : Nat} {kd fi se th nx sh : Nat → Nat} (h : Cq u G kd fi se th nx sh) (hf : fr M u v) (h0 : 0 ∉ M := by decide) (h1 : 7 ∉ M := by decide) (h2 : 8 ∉ M := by decide) (h3 : 9 ∉ M := by decide) (h4 : 10 ∉ M := by decide) (h5 : 11 ∉ M := by decide) (h6 : 12 ∉ M := by decide) : Cq v G kd fi se th nx sh := by
  unfold Cq
  rw [fr_fo hf 0 h0, fr_ao hf 7 h1, fr_ao hf 8 h2, fr_ao hf 9 h3, fr_ao hf 10 h4, fr_ao hf 11 h5, fr_ao hf 12 h6]
  exact h
theorem Eq_fr {M : List Nat} {u v : SX} {N S : Nat} {V : (Nat → Bool) → Nat → Bool} {val : (Nat → Bool) → Nat → Bool} (h : Eq_ u N V S val) (hf : fr M u v) (h0 : 15 ∉ M := by decide) : Eq_ v N V S val := by
  unfold Eq_
  rw [fr_ao hf 15 h0]
  exact h
theorem hx_bu44 {post : Int32 → SX → Prop} {u : SX} (K : ∀ u', fr [5, 48, 47] u u' → fo u' 5 = 1 → (∀ p, p < 36 → ao u' 48 p = bI false) → Wl u' (fun _ => false) → post 1 u') : ∃ a, kx_build_44 post a 0 u := by
  refine pk_loop (fun a p s => kx_build_44 post a (nI p) s) (fun p s => fr [48] u s ∧ ∀ p', p' < p → ao s 48 p' = bI false) 36 0 u (Nat.zero_le _) ⟨fr_rf, fun p hp => by omega⟩ ?_ ?_
  · rintro a s ⟨f1, f2⟩
    show kx_build_44 _ _ _ _
    rw [cx_build_44]
    refine pk_le 36 36 (fun _ => ?_) (fun h => absurd h (by omega))
    refine pk_loop (fun a w v => kx_build_65 post a (nI w) v) (fun w v => fr [47] s v ∧ ∀ w', w' < w → ao v 47 w' = bI false) 3192 0 s (Nat.zero_le _) ⟨fr_rf, fun p hp => by omega⟩ ?_ ?_
    · rintro a v ⟨g1, g2⟩
      show kx_build_65 _ _ _ _
      rw [cx_build_65]
      exact pk_le 3192 3192 (fun _ => K _ (fr_f (fr_tr (fr_mn f1 (by decide)) (fr_mn g1 (by decide))) (by decide)) rfl (fun p hp => by show ao v 48 p = _; rw [fr_ao g1 48]; exact f2 p hp) g2) (fun h => absurd h (by omega))
    · rintro a w v hw ⟨g1, g2⟩ hr
      show kx_build_65 _ _ _ _
      rw [cx_build_65]
      simp only [clI (show w < 2 ^ 31 by omega)]
      refine pk_le 3192 w (fun h => absurd h (by omega)) (fun _ => ⟨pk_in w 3192 hw, nm_e (nm_r (nI_1 w) (hr _ ⟨fr_a g1 (by decide), fun w' hw' => ?_⟩))⟩)
      show upd (ao v 47) w _ w' = _
      by_cases e : w' = w
      · rw [e, u_s]; exact vbn (m := 0) (by omega)
      · rw [u_n e]; exact g2 w' (by omega)
  · rintro a p s hp ⟨f1, f2⟩ hr
    show kx_build_44 _ _ _ _
    rw [cx_build_44]
    simp only [clI (show p < 2 ^ 31 by omega)]
    refine pk_le 36 p (fun h => absurd h (by omega)) (fun _ => ⟨pk_in p 36 hp, nm_e (nm_r (nI_1 p) (hr _ ⟨fr_a f1 (by decide), fun w' hw' => ?_⟩))⟩)
    show upd (ao s 48) p _ w' = _
    by_cases e : w' = p
    · rw [e, u_s]; exact vbn (m := 0) (by omega)
    · rw [u_n e]; exact f2 w' (by omega)
/-- what the circuit gives to registers; what it shows -/
def nxC (G : Nat) (kd fi se th nx sh : Nat → Nat) (e : Nat → Bool) (c : Nat) : Bool := cv kd fi se th e G (sgx nx sh c)
def otC (G : Nat) (kd fi se th nx sh : Nat → Nat) (e : Nat → Bool) (o : Nat) : Bool := cv kd fi se th e G (sgx nx sh (6 + o))
def LB : List Nat := [1, 2, 3, 4, 5, 13, 14, 15, 16, 17, 18, 19, 20, 21, 22, 23, 24, 25, 26, 27, 28, 29, 30, 31, 32, 33, 34, 35, 36, 37, 38, 39, 40, 41, 42, 43, 44, 45, 46, 47, 48, 49]
theorem hx_build {post : Int32 → SX → Prop} {u : SX} {G : Nat} {kd fi se th nx sh : Nat → Nat} (hC : Cq u G kd fi se th nx sh) {x : Nat} (hx : x ≤ 1000)
    (K : ∀ u', fr LB u u' → fo u' 5 = 1 → Dv u' (nxC G kd fi se th nx sh) (otC G kd fi se th nx sh) → (∀ p, p < 36 → ao u' 48 p = bI false) → Wl u' (fun _ => false) → post 1 u') : wpX_build post u (nI x) := by
  rw [cx_build]
  refine br_f (nI_pos (by omega)) (pk_le x 1000 (fun _ => ?_) (fun h => absurd h (by omega)))
  refine hx_makeGraph hC (fun u1 N V f1 g1 hN hE1 => ?_)
  obtain ⟨L, R, hq1, hv⟩ := g1
  refine hx_findCuts hq1 hN (fun u2 f2 hF2 => ?_)
  have hq2 := Gq_fr hq1 f2
  have hE2 := Eq_fr hE1 f2
  have hC2 := Cq_fr (Cq_fr hC f1) f2
  refine hx_makeCells hC2 hN hq2 hv hF2 hE2 (fun u3 C P f3 hNL => ?_)
  obtain ⟨n1, n2, n3, n4, n5⟩ := hNL
  have hP3 : Pn u3 C P := ⟨n1, n2, n3, fun c i hc hi => ⟨(n4 c i hc hi).1, (n4 c i hc hi).2.1⟩⟩
  refine hx_placeCells hP3 (fun u4 pl f4 hl4 hinj => ?_)
  have hP4 := Pn_fr hP3 f4
  refine hx_wireAll hP4 hl4 (fun u5 ib tr f5 hI5 hT5 htr5 hD5 => ?_)
  have hP5 := Pn_fr hP4 f5
  have hl5 := Pl_fr hl4 f5
  refine hx_writeBits hP5 hl5 hinj hI5 (fun n hn => (hT5 n hn).1) htr5 (fun u6 sw f6 hS6 hW6 => ?_)
  refine hx_readSwitches hS6 hD5 (fun n hn => (htr5 n hn).2) (fun u7 rp f7 hr7 hO7 hL7 => ?_)
  have hW7 : WB u7 C P pl ib tr (ao u5 25) := by
    unfold WB
    rw [fr_ao f7 39, fr_ao f7 41, fr_ao f7 40, fr_ao f7 42, fr_ao f7 43, fr_ao f7 44, fr_ao f7 45]
    exact hW6
  have eT : ao u5 25 = ao u3 25 := by rw [fr_ao f5 25, fr_ao f4 25]
  have hDv := Dv_of (root := fun e c => cv kd fi se th e G (sgx nx sh c)) n2 n3 (fun c hc => (hl4 c hc).2) hinj (fun c i hc hi => (n4 c i hc hi).2) hT5 (fun n hn => (htr5 n hn).2) hD5 hW7 hr7 hO7 hL7 (by rw [eT]; exact n5)
  refine hx_bu44 (fun u8 f8 b1 b2 b3 => K u8 ?_ b1 (Dv_fr hDv f8) b2 b3)
  have q1 : fr LB u u1 := fr_mn f1 (by decide)
  have q2 : fr LB u1 u2 := fr_mn f2 (by decide)
  have q3 : fr LB u2 u3 := fr_mn f3 (by decide)
  have q4 : fr LB u3 u4 := fr_mn f4 (by decide)
  have q5 : fr LB u4 u5 := fr_mn f5 (by decide)
  have q6 : fr LB u5 u6 := fr_mn f6 (by decide)
  have q7 : fr LB u6 u7 := fr_mn f7 (by decide)
  have q8 : fr LB u7 u8 := fr_mn f8 (by decide)
  exact fr_tr q1 (fr_tr q2 (fr_tr q3 (fr_tr q4 (fr_tr q5 (fr_tr q6 (fr_tr q7 q8))))))
end
section
/-! ===== the plain form ===== -/
theorem cy_made (post : Int32 → Prop) (u : SY) (p0 : Int32) (p1 : Int32) (p2 : Int32) (p3 : Int32) : wpY_made post u p0 p1 p2 p3 = (∀ x5_1 : Int32, x5_1 = (p1 + p2) + p3 → (((p0 = 0 → (post (p1 * p2))) ∧ (¬ p0 = 0 → (((p0 = 1 → ((((p1 + p2) ≤ 0 → (post 0)) ∧ (¬ (p1 + p2) ≤ 0 → (post 1))))) ∧ (¬ p0 = 1 → (((p0 = 2 → (post (p1 ^^^ p2))) ∧ (¬ p0 = 2 → (((p0 = 3 → (post (1 - (p1 * p2)))) ∧ (¬ p0 = 3 → (((p0 = 4 → ((((p1 + p2) ≤ 0 → (post 1)) ∧ (¬ (p1 + p2) ≤ 0 → (post 0))))) ∧ (¬ p0 = 4 → (((p0 = 5 → (post (1 - (p1 ^^^ p2)))) ∧ (¬ p0 = 5 → (((p0 = 6 → (((p1 ≤ p2 → (post 1)) ∧ (¬ p1 ≤ p2 → (post 0))))) ∧ (¬ p0 = 6 → (((p0 = 7 → (((p1 = 1 → (post p2)) ∧ (¬ p1 = 1 → (post p3))))) ∧ (¬ p0 = 7 → (((p0 = 8 → (¬ (2 : Int32) = 0 ∧ (post (x5_1 / 2)))) ∧ (¬ p0 = 8 → (¬ (2 : Int32) = 0 ∧ (post (x5_1 - x5_1 / 2 * 2))))))))))))))))))))))))))))))) := rfl
def ky_work_44 (post : SY → Prop) (n : Nat) (x2 : Int32) (u : SY) : Prop := match u with
  | (qf_size, qf_builtSize, qf_isBuilt, qf_given, qf_state, qa_gates, qa_wires, qa_values, qa_seen) => wY_work_44 post qf_size qf_builtSize qf_isBuilt qf_given qf_state n x2 qa_gates qa_wires qa_values qa_seen
theorem cy_work_44 (post : SY → Prop) (n : Nat) (x2 : Int32) (u : SY) : ky_work_44 post (n + 1) x2 u = ((((fy u 1) ≤ x2 → (post u)) ∧ (¬ (fy u 1) ≤ x2 → (∀ x3_3 : Int32, x3_3 = 80 + (4 * x2) → (vp_in x3_3 160 ∧ (vp_in (x3_3 + 1) 160 ∧ (vp_in ((ay u 5) (x3_3 + 1).toNatClampNeg) 32 ∧ (vp_in (x3_3 + 2) 160 ∧ (vp_in ((ay u 5) (x3_3 + 2).toNatClampNeg) 32 ∧ (vp_in (x3_3 + 3) 160 ∧ (vp_in ((ay u 5) (x3_3 + 3).toNatClampNeg) 32 ∧ (wpY_made (fun r_11 => (vp_in (12 + x2) 32 ∧ ∀ a_values_22 : Nat → Int32, a_values_22 = upd (ay u 7) (12 + x2).toNatClampNeg r_11 → (∀ x2_23 : Int32, x2_23 = x2 + 1 → (ky_work_44 post n x2_23 (say u 7 a_values_22))))) u ((ay u 5) x3_3.toNatClampNeg) ((ay u 7) ((ay u 5) (x3_3 + 1).toNatClampNeg).toNatClampNeg) ((ay u 7) ((ay u 5) (x3_3 + 2).toNatClampNeg).toNatClampNeg) ((ay u 7) ((ay u 5) (x3_3 + 3).toNatClampNeg).toNatClampNeg))))))))))))) := rfl
def ky_work_2 (post : SY → Prop) (x1 : Int32) (n : Nat) (x2 : Int32) (u : SY) : Prop := match u with
  | (qf_size, qf_builtSize, qf_isBuilt, qf_given, qf_state, qa_gates, qa_wires, qa_values, qa_seen) => wY_work_2 post x1 qf_size qf_builtSize qf_isBuilt qf_given qf_state n x2 qa_gates qa_wires qa_values qa_seen
theorem cy_work_2 (post : SY → Prop) (x1 : Int32) (n : Nat) (x2 : Int32) (u : SY) : ky_work_2 post x1 (n + 1) x2 u = (((6 ≤ x2 → (∃ n44 : Nat, ky_work_44 post n44 0 u)) ∧ (¬ 6 ≤ x2 → (vp_in x2 32 ∧ ∀ a_values_25 : Nat → Int32, a_values_25 = upd (ay u 7) x2.toNatClampNeg (((fy u 3) >>> (x2 &&& 31)) &&& 1) → (vp_in (6 + x2) 32 ∧ ∀ a_values_27 : Nat → Int32, a_values_27 = upd a_values_25 (6 + x2).toNatClampNeg ((x1 >>> (x2 &&& 31)) &&& 1) → (∀ x2_28 : Int32, x2_28 = x2 + 1 → (ky_work_2 post x1 n x2_28 (say u 7 a_values_27)))))))) := rfl
theorem cy_work (post : SY → Prop) (u : SY) (p0 : Int32) : wpY_work post u p0 = (∃ n2 : Nat, ky_work_2 post p0 n2 0 u) := rfl
def ky_following_9 (post : Int32 → SY → Prop) (n : Nat) (x2 : Int32) (x3 : Int32) (u : SY) : Prop := match u with
  | (qf_size, qf_builtSize, qf_isBuilt, qf_given, qf_state, qa_gates, qa_wires, qa_values, qa_seen) => wY_following_9 post qf_size qf_builtSize qf_isBuilt qf_given qf_state qa_gates qa_wires qa_values qa_seen n x2 x3
theorem cy_following_9 (post : Int32 → SY → Prop) (n : Nat) (x2 : Int32) (x3 : Int32) (u : SY) : ky_following_9 post (n + 1) x2 x3 u = (((6 ≤ x3 → (post x2 u)) ∧ (¬ 6 ≤ x3 → (vp_in (10 + x3) 20 ∧ (vp_in ((ay u 6) (10 + x3).toNatClampNeg) 32 ∧ (∀ x2_14 : Int32, x2_14 = x2 ||| (((ay u 7) ((ay u 6) (10 + x3).toNatClampNeg).toNatClampNeg) <<< (x3 &&& 31)) → (∀ x3_15 : Int32, x3_15 = x3 + 1 → (ky_following_9 post n x2_14 x3_15 u)))))))) := rfl
theorem cy_following (post : Int32 → SY → Prop) (u : SY) (p0 : Int32) : wpY_following post u p0 = (wpY_work (fun u1 => (∃ n9 : Nat, ky_following_9 post n9 0 0 u1)) u p0) := rfl
def ky_outputs_21 (post : Int32 → SY → Prop) (n : Nat) (x1 : Int32) (x2 : Int32) (u : SY) : Prop := match u with
  | (qf_size, qf_builtSize, qf_isBuilt, qf_given, qf_state, qa_gates, qa_wires, qa_values, qa_seen) => wY_outputs_21 post qf_size qf_builtSize qf_isBuilt qf_given qf_state qa_gates qa_wires qa_values qa_seen n x1 x2
theorem cy_outputs_21 (post : Int32 → SY → Prop) (n : Nat) (x1 : Int32) (x2 : Int32) (u : SY) : ky_outputs_21 post (n + 1) x1 x2 u = (((4 ≤ x2 → (post x1 u)) ∧ (¬ 4 ≤ x2 → (vp_in (16 + x2) 20 ∧ (vp_in ((ay u 6) (16 + x2).toNatClampNeg) 32 ∧ (∀ x1_15 : Int32, x1_15 = x1 ||| (((ay u 7) ((ay u 6) (16 + x2).toNatClampNeg).toNatClampNeg) <<< (x2 &&& 31)) → (∀ x2_16 : Int32, x2_16 = x2 + 1 → (ky_outputs_21 post n x1_15 x2_16 u)))))))) := rfl
theorem cy_outputs (post : Int32 → SY → Prop) (u : SY) : wpY_outputs post u = ((((fy u 2) = 0 → (post (- 1) u)) ∧ (¬ (fy u 2) = 0 → (wpY_work (fun u1 => (∃ n21 : Nat, ky_outputs_21 post n21 0 0 u1)) u (fy u 4))))) := rfl
def ky_circle_28 (post : Int32 → SY → Prop) (n : Nat) (x1 : Int32) (x2 : Int32) (u : SY) : Prop := match u with
  | (qf_size, qf_builtSize, qf_isBuilt, qf_given, qf_state, qa_gates, qa_wires, qa_values, qa_seen) => wY_circle_28 post n x1 x2 qf_size qf_builtSize qf_isBuilt qf_given qf_state qa_gates qa_wires qa_values qa_seen
theorem cy_circle_28 (post : Int32 → SY → Prop) (n : Nat) (x1 : Int32) (x2 : Int32) (u : SY) : ky_circle_28 post (n + 1) x1 x2 u = (vp_in x1 64 ∧ (((0 ≤ ((ay u 8) x1.toNatClampNeg) → (vp_in x1 64 ∧ (vp_in x1 64 ∧ (post (((ay u 8) x1.toNatClampNeg) + (1024 * (x2 - ((ay u 8) x1.toNatClampNeg)))) u)))) ∧ (¬ 0 ≤ ((ay u 8) x1.toNatClampNeg) → (vp_in x1 64 ∧ ∀ a_seen_7 : Nat → Int32, a_seen_7 = upd (ay u 8) x1.toNatClampNeg x2 → (∀ x2_8 : Int32, x2_8 = x2 + 1 → (wpY_following (fun r_9 u1 => (ky_circle_28 post n r_9 x2_8 u1)) (say u 8 a_seen_7) x1))))))) := rfl
def ky_circle_2 (post : Int32 → SY → Prop) (n : Nat) (x1 : Int32) (u : SY) : Prop := match u with
  | (qf_size, qf_builtSize, qf_isBuilt, qf_given, qf_state, qa_gates, qa_wires, qa_values, qa_seen) => wY_circle_2 post qf_size qf_builtSize qf_isBuilt qf_given qf_state n x1 qa_gates qa_wires qa_values qa_seen
theorem cy_circle_2 (post : Int32 → SY → Prop) (n : Nat) (x1 : Int32) (u : SY) : ky_circle_2 post (n + 1) x1 u = (((64 ≤ x1 → (∃ n28 : Nat, ky_circle_28 post n28 (fy u 4) 0 u)) ∧ (¬ 64 ≤ x1 → (vp_in x1 64 ∧ ∀ a_seen_20 : Nat → Int32, a_seen_20 = upd (ay u 8) x1.toNatClampNeg (- 1) → (∀ x1_21 : Int32, x1_21 = x1 + 1 → (ky_circle_2 post n x1_21 (say u 8 a_seen_20))))))) := rfl
theorem cy_circle (post : Int32 → SY → Prop) (u : SY) : wpY_circle post u = (∃ n2 : Nat, ky_circle_2 post n2 0 u) := rfl
theorem ay_ne (u : SY) {k j : Nat} (a : Nat → Int32) (h : j ≠ k) : ay (say u k a) j = ay u j := by
  by_cases h1 : 5 ≤ j ∧ j < 9
  · rw [say, ay_mk _ _ j h1.1 h1.2, if_neg h]
  · rw [ay_o _ j (by omega), ay_o _ j (by omega)]
theorem fy_a (u : SY) (k j : Nat) (a : Nat → Int32) : fy (say u k a) j = fy u j := by
  by_cases h1 : j < 5
  · rw [say, fy_mk _ _ j h1]
  · rw [fy_o _ j (by omega), fy_o _ j (by omega)]
theorem ay_f (u : SY) (k j : Nat) (x : Int32) : ay (sfy u k x) j = ay u j := by
  by_cases h1 : 5 ≤ j ∧ j < 9
  · rw [sfy, ay_mk _ _ j h1.1 h1.2]
  · rw [ay_o _ j (by omega), ay_o _ j (by omega)]
theorem fy_ne (u : SY) {k j : Nat} (x : Int32) (h : j ≠ k) : fy (sfy u k x) j = fy u j := by
  by_cases h1 : j < 5
  · rw [sfy, fy_mk _ _ j h1, if_neg h]
  · rw [fy_o _ j (by omega), fy_o _ j (by omega)]
def ry (L : List Nat) (u v : SY) : Prop := ∀ k, k ∉ L → ay v k = ay u k ∧ fy v k = fy u k
theorem ry_rf {L : List Nat} {u : SY} : ry L u u := fun _ _ => ⟨rfl, rfl⟩
theorem ry_tr {L : List Nat} {u v w : SY} (h : ry L u v) (g : ry L v w) : ry L u w :=
  fun k hk => ⟨(g k hk).1.trans (h k hk).1, (g k hk).2.trans (h k hk).2⟩
theorem ry_mn {L M : List Nat} {u v : SY} (h : ry L u v) (hs : ∀ k ∈ L, k ∈ M) : ry M u v :=
  fun k hk => h k (fun z => hk (hs k z))
theorem ry_a {L : List Nat} {u v : SY} {k : Nat} {a : Nat → Int32} (h : ry L u v) (hk : k ∈ L) : ry L u (say v k a) :=
  fun j hj => have e : j ≠ k := fun z => hj (z ▸ hk)
    ⟨(ay_ne v a e).trans (h j hj).1, (fy_a v k j a).trans (h j hj).2⟩
theorem ry_f {L : List Nat} {u v : SY} {k : Nat} {x : Int32} (h : ry L u v) (hk : k ∈ L) : ry L u (sfy v k x) :=
  fun j hj => have e : j ≠ k := fun z => hj (z ▸ hk)
    ⟨(ay_f v k j x).trans (h j hj).1, (fy_ne v x e).trans (h j hj).2⟩
theorem ry_ay {L : List Nat} {u v : SY} (h : ry L u v) (k : Nat) (hk : k ∉ L := by decide) : ay v k = ay u k := (h k hk).1
theorem ry_fy {L : List Nat} {u v : SY} (h : ry L u v) (k : Nat) (hk : k ∉ L := by decide) : fy v k = fy u k := (h k hk).2
theorem hy_made {post : Int32 → Prop} {v : SY} {k : Nat} (hk : k ≤ 9) {a b c : Bool} (K : post (bI (gv k a b c))) : wpY_made post v (nI k) (bI a) (bI b) (bI c) := by
  rw [cy_made]
  refine nm_e ?_
  have hk' : k = 0 ∨ k = 1 ∨ k = 2 ∨ k = 3 ∨ k = 4 ∨ k = 5 ∨ k = 6 ∨ k = 7 ∨ k = 8 ∨ k = 9 := by omega
  rcases hk' with rfl | rfl | rfl | rfl | rfl | rfl | rfl | rfl | rfl | rfl
  · refine br_t (by decide) ?_
    cases a <;> cases b <;> exact K
  · refine br_f (by decide) (br_t (by decide) ?_)
    cases a <;> cases b <;> first | exact br_t (by decide) K | exact br_f (by decide) K
  · refine br_f (by decide) (br_f (by decide) (br_t (by decide) ?_))
    cases a <;> cases b <;> exact K
  · refine br_f (by decide) (br_f (by decide) (br_f (by decide) (br_t (by decide) ?_)))
    cases a <;> cases b <;> exact K
  · refine br_f (by decide) (br_f (by decide) (br_f (by decide) (br_f (by decide) (br_t (by decide) ?_))))
    cases a <;> cases b <;> first | exact br_t (by decide) K | exact br_f (by decide) K
  · refine br_f (by decide) (br_f (by decide) (br_f (by decide) (br_f (by decide) (br_f (by decide) (br_t (by decide) ?_)))))
    cases a <;> cases b <;> exact K
  · refine br_f (by decide) (br_f (by decide) (br_f (by decide) (br_f (by decide) (br_f (by decide) (br_f (by decide) (br_t (by decide) ?_))))))
    cases a <;> cases b <;> first | exact br_t (by decide) K | exact br_f (by decide) K
  · refine br_f (by decide) (br_f (by decide) (br_f (by decide) (br_f (by decide) (br_f (by decide) (br_f (by decide) (br_f (by decide) (br_t (by decide) ?_)))))))
    cases a <;> cases b <;> cases c <;> first | exact br_t (by decide) K | exact br_f (by decide) K
  · refine br_f (by decide) (br_f (by decide) (br_f (by decide) (br_f (by decide) (br_f (by decide) (br_f (by decide) (br_f (by decide) (br_f (by decide) (br_t (by decide) ⟨by decide, ?_⟩))))))))
    cases a <;> cases b <;> cases c <;> exact K
  · refine br_f (by decide) (br_f (by decide) (br_f (by decide) (br_f (by decide) (br_f (by decide) (br_f (by decide) (br_f (by decide) (br_f (by decide) (br_f (by decide) ⟨by decide, ?_⟩))))))))
    cases a <;> cases b <;> cases c <;> exact K
/-- the device as the plain form holds it -/
def Yd (v : SY) (G : Nat) (kd fi se th nx sh : Nat → Nat) : Prop := fy v 1 = nI G ∧ G ≤ 20 ∧ (∀ g, g < G → ay v 5 (80 + 4 * g) = nI (kd g) ∧ kd g ≤ 9 ∧ ay v 5 (80 + 4 * g + 1) = nI (fi g) ∧ fi g < 12 + g ∧ ay v 5 (80 + 4 * g + 2) = nI (se g) ∧ se g < 12 + g ∧ ay v 5 (80 + 4 * g + 3) = nI (th g) ∧ th g < 12 + g) ∧
  (∀ r, r < 6 → ay v 6 (10 + r) = nI (nx r) ∧ nx r < 12 + G) ∧ ∀ o, o < 4 → ay v 6 (16 + o) = nI (sh o) ∧ sh o < 12 + G
theorem Yd_fr {M : List Nat} {u v : SY} {G : Nat} {kd fi se th nx sh : Nat → Nat} (h : Yd u G kd fi se th nx sh) (hf : ry M u v) (h0 : 1 ∉ M := by decide) (h1 : 5 ∉ M := by decide) (h2 : 6 ∉ M := by decide) : Yd v G kd fi se th nx sh := by
  unfold Yd
  rw [ry_fy hf 1 h0, ry_ay hf 5 h1, ry_ay hf 6 h2]
  exact h
theorem hy_work {post : SY → Prop} {v : SY} {G : Nat} {kd fi se th nx sh : Nat → Nat} (hY : Yd v G kd fi se th nx sh) {L S : Nat} (hL : fy v 3 = nI L)
    (K : ∀ v', ry [7] v v' → (∀ s, s < 12 + G → ay v' 7 s = bI (cv kd fi se th (ek L S) G s)) → post v') : wpY_work post v (nI S) := by
  have hG := hY.2.1
  rw [cy_work]
  refine pk_loop (fun a i w => ky_work_2 post (nI S) a (nI i) w) (fun i w => ry [7] v w ∧ ∀ s, s < i → ay w 7 s = bI (ek L S s) ∧ ay w 7 (6 + s) = bI (ek L S (6 + s))) 6 0 v (Nat.zero_le _) ⟨ry_rf, fun s hs => by omega⟩ ?_ ?_
  · rintro a w ⟨f1, f2⟩
    show ky_work_2 _ _ _ _ _
    rw [cy_work_2]
    refine pk_le 6 6 (fun _ => ?_) (fun h => absurd h (by omega))
    refine pk_loop (fun a g x => ky_work_44 post a (nI g) x) (fun g x => ry [7] v x ∧ ∀ s, s < 12 + g → ay x 7 s = bI (cv kd fi se th (ek L S) g s)) G 0 w (Nat.zero_le _) ⟨f1, fun s hs => ?_⟩ ?_ ?_
    · show _ = bI (ek L S s)
      by_cases h6 : s < 6
      · exact (f2 s h6).1
      · have := (f2 (s - 6) (by omega)).2
        rw [show 6 + (s - 6) = s from by omega] at this
        exact this
    · rintro a x ⟨g1, g2⟩
      show ky_work_44 _ _ _ _
      rw [cy_work_44, ry_fy g1 1, hY.1]
      exact pk_le G G (fun _ => K x g1 g2) (fun h => absurd h (by omega))
    · rintro a g x hg ⟨g1, g2⟩ hr
      obtain ⟨c1, c2, c3, c4, c5, c6, c7, c8⟩ := hY.2.2.1 g hg
      have e80 : (80 : Int32) + 4 * nI g = nI (80 + 4 * g) := by
        show nI 80 + nI 4 * nI g = _
        rw [pk_mul, nI_add]
      have ea : nI (80 + 4 * g) + 1 = nI (80 + 4 * g + 1) := nI_add _ 1
      have eb : nI (80 + 4 * g) + 2 = nI (80 + 4 * g + 2) := nI_add _ 2
      have ec : nI (80 + 4 * g) + 3 = nI (80 + 4 * g + 3) := nI_add _ 3
      have e12 : (12 : Int32) + nI g = nI (12 + g) := nI_add 12 g
      show ky_work_44 _ _ _ _
      rw [cy_work_44]
      simp only [ry_fy g1 1, hY.1, e80, e12]
      refine pk_le G g (fun h => absurd h (by omega)) (fun _ => nm_e ?_)
      simp only [ea, eb, ec, clI (show 80 + 4 * g < 2 ^ 31 by omega), clI (show 80 + 4 * g + 1 < 2 ^ 31 by omega), clI (show 80 + 4 * g + 2 < 2 ^ 31 by omega), clI (show 80 + 4 * g + 3 < 2 ^ 31 by omega), clI (show 12 + g < 2 ^ 31 by omega), ry_ay g1 5, c1, c3, c5, c7, clI (show fi g < 2 ^ 31 by omega), clI (show se g < 2 ^ 31 by omega), clI (show th g < 2 ^ 31 by omega), g2 (fi g) (by omega), g2 (se g) (by omega), g2 (th g) (by omega)]
      refine ⟨pk_in (80 + 4 * g) 160 (by omega), pk_in (80 + 4 * g + 1) 160 (by omega), pk_in (fi g) 32 (by omega), pk_in (80 + 4 * g + 2) 160 (by omega), pk_in (se g) 32 (by omega), pk_in (80 + 4 * g + 3) 160 (by omega), pk_in (th g) 32 (by omega), hy_made c2 ⟨pk_in (12 + g) 32 (by omega), nm_e (nm_r (nI_1 g) (hr _ ⟨ry_a g1 (by decide), fun s hs => ?_⟩))⟩⟩
      show upd (ay x 7) (12 + g) _ s = bI (if s = 12 + g then _ else cv kd fi se th (ek L S) g s)
      by_cases e : s = 12 + g
      · rw [e, u_s, if_pos rfl]
      · rw [u_n e, if_neg e]; exact g2 s (by omega)
  · rintro a i w hi ⟨f1, f2⟩ hr
    have e6 : (6 : Int32) + nI i = nI (6 + i) := nI_add 6 i
    show ky_work_2 _ _ _ _ _
    rw [cy_work_2]
    simp only [ry_fy f1 3, hL, bit_at _ (show i < 32 by omega), bt_n (show i < 32 by omega), e6, clI (show i < 2 ^ 31 by omega), clI (show 6 + i < 2 ^ 31 by omega)]
    refine pk_le 6 i (fun h => absurd h (by omega)) (fun _ => ⟨pk_in i 32 (by omega), nm_e ⟨pk_in (6 + i) 32 (by omega), nm_e (nm_r (nI_1 i) (hr _ ⟨ry_a f1 (by decide), fun s hs => ?_⟩))⟩⟩)
    show upd (upd (ay w 7) i _) (6 + i) _ s = _ ∧ upd (upd (ay w 7) i _) (6 + i) _ (6 + s) = _
    by_cases e : s = i
    · subst e
      rw [u_n (by omega), u_s, u_s]
      unfold ek
      rw [if_pos hi, if_neg (by omega), Nat.add_sub_cancel_left]
      exact ⟨rfl, rfl⟩
    · rw [u_n (by omega), u_n e, u_n (by omega), u_n (by omega)]; exact f2 s (by omega)
theorem hy_following {post : Int32 → SY → Prop} {v : SY} {G : Nat} {kd fi se th nx sh : Nat → Nat} (hY : Yd v G kd fi se th nx sh) {L S : Nat} (hL : fy v 3 = nI L)
    (K : ∀ v', ry [7] v v' → post (nI (nS (nxC G kd fi se th nx sh) L S)) v') : wpY_following post v (nI S) := by
  have hG := hY.2.1
  rw [cy_following]
  refine hy_work hY hL (fun w f1 f2 => ?_)
  refine pk_loop (fun a r (x : Int32) => ky_following_9 post a x (nI r) w) (fun r x => x = nI (rk (fun r => nxC G kd fi se th nx sh (ek L S) r) r)) 6 0 0 (Nat.zero_le _) rfl ?_ ?_
  · rintro a x rfl
    show ky_following_9 _ _ _ _ _
    rw [cy_following_9]
    exact pk_le 6 6 (fun _ => K w f1) (fun h => absurd h (by omega))
  · rintro a r x hr rfl hk
    have hlt := rk_lt (fun r => nxC G kd fi se th nx sh (ek L S) r) r
    have hn := hY.2.2.2.1 r hr
    have e10 : (10 : Int32) + nI r = nI (10 + r) := nI_add 10 r
    have ev' : cv kd fi se th (ek L S) G (nx r) = nxC G kd fi se th nx sh (ek L S) r := by
      unfold nxC sgx
      rw [if_pos hr]
    show ky_following_9 _ _ _ _ _
    rw [cy_following_9]
    simp only [e10, clI (show 10 + r < 2 ^ 31 by omega), ry_ay f1 6, hn.1, clI (show nx r < 2 ^ 31 by omega), f2 (nx r) hn.2, ev']
    rw [or_2 r hr _ (Nat.lt_of_lt_of_le hlt (p2_64 r hr)) hlt]
    exact pk_le 6 r (fun h => absurd h (by omega)) (fun _ => ⟨pk_in (10 + r) 20 (by omega), pk_in (nx r) 32 (by omega), nm_e (nm_r (nI_1 r) (hk _ rfl))⟩)
theorem hy_outputs {post : Int32 → SY → Prop} {v : SY} {G : Nat} {kd fi se th nx sh : Nat → Nat} (hb : ¬ fy v 2 = 0) (hY : Yd v G kd fi se th nx sh) {L S : Nat} (hL : fy v 3 = nI L) (hS : fy v 4 = nI S)
    (K : ∀ v', ry [7] v v' → post (nI (oS (otC G kd fi se th nx sh) L S)) v') : wpY_outputs post v := by
  have hG := hY.2.1
  rw [cy_outputs, hS]
  refine br_f hb (hy_work hY hL (fun w f1 f2 => ?_))
  refine pk_loop (fun a r (x : Int32) => ky_outputs_21 post a x (nI r) w) (fun r x => x = nI (rk (fun r => otC G kd fi se th nx sh (ek L S) r) r)) 4 0 0 (Nat.zero_le _) rfl ?_ ?_
  · rintro a x rfl
    show ky_outputs_21 _ _ _ _ _
    rw [cy_outputs_21]
    exact pk_le 4 4 (fun _ => K w f1) (fun h => absurd h (by omega))
  · rintro a r x hr rfl hk
    have hlt := rk_lt (fun r => otC G kd fi se th nx sh (ek L S) r) r
    have hn := hY.2.2.2.2 r hr
    have e10 : (16 : Int32) + nI r = nI (16 + r) := nI_add 16 r
    have ev' : cv kd fi se th (ek L S) G (sh r) = otC G kd fi se th nx sh (ek L S) r := by
      unfold otC sgx
      rw [if_neg (by omega), Nat.add_sub_cancel_left]
    show ky_outputs_21 _ _ _ _ _
    rw [cy_outputs_21]
    simp only [e10, clI (show 16 + r < 2 ^ 31 by omega), ry_ay f1 6, hn.1, clI (show sh r < 2 ^ 31 by omega), f2 (sh r) hn.2, ev']
    rw [or_3 r hr _ (Nat.lt_of_lt_of_le hlt (p2_16 r hr)) hlt]
    exact pk_le 4 r (fun h => absurd h (by omega)) (fun _ => ⟨pk_in (16 + r) 20 (by omega), pk_in (sh r) 32 (by omega), nm_e (nm_r (nI_1 r) (hk _ rfl))⟩)
end
section
/-! ===== rings ===== -/
def kx_period_73 (post : Int32 → SX → Prop) (x1 : Int32) (x3 : Int32) (u : SX) : Prop := match u with
  | (qf_gates, qf_nodes, qf_joinedSize, qf_cells, qf_chanceState, qf_isBuilt, qf_levels, qa_kinds, qa_firsts, qa_seconds, qa_thirds, qa_nextOf, qa_shownBy, qa_left, qa_right, qa_endOf, qa_cutCount, qa_cutSize, qa_cutLeaf, qa_cutDepth, qa_depthOf, qa_needed, qa_tableOf, qa_rows, qa_joined, qa_tableBits, qa_cellSource, qa_placeOf, qa_cellAt, qa_used, qa_worn, qa_inTree, qa_treeFrom, qa_farness, qa_cameFrom, qa_settled, qa_trackTaken, qa_trackOf, qa_switchBits, qa_pinTrack, qa_outTrack, qa_padTrack, qa_deviceTable, qa_hasFlip, qa_registerPlace, qa_outputPlace, qa_wireRoot, qa_wireLevel, qa_flip, qa_tableOut) => wX_period_73 post x1 x3 qf_gates qf_nodes qf_joinedSize qf_cells qf_chanceState qf_isBuilt qf_levels qa_kinds qa_firsts qa_seconds qa_thirds qa_nextOf qa_shownBy qa_left qa_right qa_endOf qa_cutCount qa_cutSize qa_cutLeaf qa_cutDepth qa_depthOf qa_needed qa_tableOf qa_rows qa_joined qa_tableBits qa_cellSource qa_placeOf qa_cellAt qa_used qa_worn qa_inTree qa_treeFrom qa_farness qa_cameFrom qa_settled qa_trackTaken qa_trackOf qa_switchBits qa_pinTrack qa_outTrack qa_padTrack qa_deviceTable qa_hasFlip qa_registerPlace qa_outputPlace qa_wireRoot qa_wireLevel qa_flip qa_tableOut
theorem cx_period_73 (post : Int32 → SX → Prop) (x1 : Int32) (x3 : Int32) (u : SX) : kx_period_73 post x1 x3 u = (wpX_writeRegisters (fun u1 => (post x3 u1)) u x1) := rfl
def kx_period_38 (post : Int32 → SX → Prop) (x1 : Int32) (x2 : Int32) (n : Nat) (x3 : Int32) (x4 : Int32) (x5 : Int32) (u : SX) : Prop := match u with
  | (qf_gates, qf_nodes, qf_joinedSize, qf_cells, qf_chanceState, qf_isBuilt, qf_levels, qa_kinds, qa_firsts, qa_seconds, qa_thirds, qa_nextOf, qa_shownBy, qa_left, qa_right, qa_endOf, qa_cutCount, qa_cutSize, qa_cutLeaf, qa_cutDepth, qa_depthOf, qa_needed, qa_tableOf, qa_rows, qa_joined, qa_tableBits, qa_cellSource, qa_placeOf, qa_cellAt, qa_used, qa_worn, qa_inTree, qa_treeFrom, qa_farness, qa_cameFrom, qa_settled, qa_trackTaken, qa_trackOf, qa_switchBits, qa_pinTrack, qa_outTrack, qa_padTrack, qa_deviceTable, qa_hasFlip, qa_registerPlace, qa_outputPlace, qa_wireRoot, qa_wireLevel, qa_flip, qa_tableOut) => wX_period_38 post x1 x2 n x3 x4 x5 qf_gates qf_nodes qf_joinedSize qf_cells qf_chanceState qf_isBuilt qf_levels qa_kinds qa_firsts qa_seconds qa_thirds qa_nextOf qa_shownBy qa_left qa_right qa_endOf qa_cutCount qa_cutSize qa_cutLeaf qa_cutDepth qa_depthOf qa_needed qa_tableOf qa_rows qa_joined qa_tableBits qa_cellSource qa_placeOf qa_cellAt qa_used qa_worn qa_inTree qa_treeFrom qa_farness qa_cameFrom qa_settled qa_trackTaken qa_trackOf qa_switchBits qa_pinTrack qa_outTrack qa_padTrack qa_deviceTable qa_hasFlip qa_registerPlace qa_outputPlace qa_wireRoot qa_wireLevel qa_flip qa_tableOut
theorem cx_period_38 (post : Int32 → SX → Prop) (x1 : Int32) (x2 : Int32) (n : Nat) (x3 : Int32) (x4 : Int32) (x5 : Int32) (u : SX) : kx_period_38 post x1 x2 (n + 1) x3 x4 x5 u = (((64 ≤ x5 → (kx_period_73 post x1 x3 u)) ∧ (¬ 64 ≤ x5 → (((x4 = x2 → (kx_period_73 post x1 x3 u)) ∧ (¬ x4 = x2 → (wpX_writeRegisters (fun u1 => (wpX_ahead (fun r_310 u2 => (∀ x3_361 : Int32, x3_361 = x3 + 1 → (∀ x5_362 : Int32, x5_362 = x5 + 1 → (kx_period_38 post x1 x2 n x3_361 r_310 x5_362 u2)))) u1 1)) u x4))))))) := rfl
theorem cx_period (post : Int32 → SX → Prop) (u : SX) : wpX_period post u = ((((fo u 5) = 0 → (post (- 1) u)) ∧ (¬ (fo u 5) = 0 → (wpX_readRegisters (fun r_2 => (wpX_ahead (fun r_53 u1 => (wpX_writeRegisters (fun u2 => (wpX_ahead (fun r_155 u3 => (∃ n38 : Nat, kx_period_38 post r_2 r_53 n38 1 r_155 0 u3)) u2 1)) u1 r_53)) u 64)) u)))) := rfl
def kx_tail_80 (post : Int32 → SX → Prop) (x1 : Int32) (x5 : Int32) (u : SX) : Prop := match u with
  | (qf_gates, qf_nodes, qf_joinedSize, qf_cells, qf_chanceState, qf_isBuilt, qf_levels, qa_kinds, qa_firsts, qa_seconds, qa_thirds, qa_nextOf, qa_shownBy, qa_left, qa_right, qa_endOf, qa_cutCount, qa_cutSize, qa_cutLeaf, qa_cutDepth, qa_depthOf, qa_needed, qa_tableOf, qa_rows, qa_joined, qa_tableBits, qa_cellSource, qa_placeOf, qa_cellAt, qa_used, qa_worn, qa_inTree, qa_treeFrom, qa_farness, qa_cameFrom, qa_settled, qa_trackTaken, qa_trackOf, qa_switchBits, qa_pinTrack, qa_outTrack, qa_padTrack, qa_deviceTable, qa_hasFlip, qa_registerPlace, qa_outputPlace, qa_wireRoot, qa_wireLevel, qa_flip, qa_tableOut) => wX_tail_80 post x1 x5 qf_gates qf_nodes qf_joinedSize qf_cells qf_chanceState qf_isBuilt qf_levels qa_kinds qa_firsts qa_seconds qa_thirds qa_nextOf qa_shownBy qa_left qa_right qa_endOf qa_cutCount qa_cutSize qa_cutLeaf qa_cutDepth qa_depthOf qa_needed qa_tableOf qa_rows qa_joined qa_tableBits qa_cellSource qa_placeOf qa_cellAt qa_used qa_worn qa_inTree qa_treeFrom qa_farness qa_cameFrom qa_settled qa_trackTaken qa_trackOf qa_switchBits qa_pinTrack qa_outTrack qa_padTrack qa_deviceTable qa_hasFlip qa_registerPlace qa_outputPlace qa_wireRoot qa_wireLevel qa_flip qa_tableOut
theorem cx_tail_80 (post : Int32 → SX → Prop) (x1 : Int32) (x5 : Int32) (u : SX) : kx_tail_80 post x1 x5 u = (wpX_writeRegisters (fun u1 => (post x5 u1)) u x1) := rfl
def kx_tail_34 (post : Int32 → SX → Prop) (x1 : Int32) (n : Nat) (x3 : Int32) (x4 : Int32) (x5 : Int32) (x6 : Int32) (u : SX) : Prop := match u with
  | (qf_gates, qf_nodes, qf_joinedSize, qf_cells, qf_chanceState, qf_isBuilt, qf_levels, qa_kinds, qa_firsts, qa_seconds, qa_thirds, qa_nextOf, qa_shownBy, qa_left, qa_right, qa_endOf, qa_cutCount, qa_cutSize, qa_cutLeaf, qa_cutDepth, qa_depthOf, qa_needed, qa_tableOf, qa_rows, qa_joined, qa_tableBits, qa_cellSource, qa_placeOf, qa_cellAt, qa_used, qa_worn, qa_inTree, qa_treeFrom, qa_farness, qa_cameFrom, qa_settled, qa_trackTaken, qa_trackOf, qa_switchBits, qa_pinTrack, qa_outTrack, qa_padTrack, qa_deviceTable, qa_hasFlip, qa_registerPlace, qa_outputPlace, qa_wireRoot, qa_wireLevel, qa_flip, qa_tableOut) => wX_tail_34 post x1 n x3 x4 x5 x6 qf_gates qf_nodes qf_joinedSize qf_cells qf_chanceState qf_isBuilt qf_levels qa_kinds qa_firsts qa_seconds qa_thirds qa_nextOf qa_shownBy qa_left qa_right qa_endOf qa_cutCount qa_cutSize qa_cutLeaf qa_cutDepth qa_depthOf qa_needed qa_tableOf qa_rows qa_joined qa_tableBits qa_cellSource qa_placeOf qa_cellAt qa_used qa_worn qa_inTree qa_treeFrom qa_farness qa_cameFrom qa_settled qa_trackTaken qa_trackOf qa_switchBits qa_pinTrack qa_outTrack qa_padTrack qa_deviceTable qa_hasFlip qa_registerPlace qa_outputPlace qa_wireRoot qa_wireLevel qa_flip qa_tableOut
theorem cx_tail_34 (post : Int32 → SX → Prop) (x1 : Int32) (n : Nat) (x3 : Int32) (x4 : Int32) (x5 : Int32) (x6 : Int32) (u : SX) : kx_tail_34 post x1 (n + 1) x3 x4 x5 x6 u = (((64 ≤ x6 → (kx_tail_80 post x1 x5 u)) ∧ (¬ 64 ≤ x6 → (((x3 = x4 → (kx_tail_80 post x1 x5 u)) ∧ (¬ x3 = x4 → (wpX_writeRegisters (fun u1 => (wpX_ahead (fun r_259 u2 => (wpX_writeRegisters (fun u3 => (wpX_ahead (fun r_361 u4 => (∀ x5_412 : Int32, x5_412 = x5 + 1 → (∀ x6_413 : Int32, x6_413 = x6 + 1 → (kx_tail_34 post x1 n r_259 r_361 x5_412 x6_413 u4)))) u3 1)) u2 x4)) u1 1)) u x3))))))) := rfl
theorem cx_tail (post : Int32 → SX → Prop) (u : SX) : wpX_tail post u = ((((fo u 5) = 0 → (post (- 1) u)) ∧ (¬ (fo u 5) = 0 → (wpX_readRegisters (fun r_2 => (wpX_period (fun r_53 u1 => (wpX_ahead (fun r_104 u2 => (∃ n34 : Nat, kx_tail_34 post r_2 n34 r_2 r_104 0 0 u2)) u1 r_53)) u)) u)))) := rfl
/-- m steps before the ring, l steps in it -/
def Cy (F : Nat → Nat) (S m l : Nat) : Prop := 1 ≤ l ∧ m + l ≤ 64 ∧ (∀ i j, i < j → j < m + l → it F i S ≠ it F j S) ∧ it F (m + l) S = it F m S
theorem it_lt {F : Nat → Nat} (hF : ∀ x, F x < 64) {S : Nat} (hS : S < 64) : ∀ n, it F n S < 64
  | 0 => hS
  | n + 1 => by rw [it_s]; exact hF _
theorem Cy_l {F : Nat → Nat} {S m l : Nat} (h : Cy F S m l) : ∀ j, it F (m + j + l) S = it F (m + j) S := by
  intro j
  rw [show m + j + l = j + (m + l) from by omega, it_a, h.2.2.2, ← it_a, show j + m = m + j from by omega]
theorem Cy_c {F : Nat → Nat} {S m l : Nat} (h : Cy F S m l) (j : Nat) : ∀ c, it F (m + j + c * l) S = it F (m + j) S
  | 0 => by rw [Nat.zero_mul, Nat.add_zero]
  | c + 1 => by
    have e : m + j + (c + 1) * l = m + (j + c * l) + l := by rw [Nat.succ_mul]; omega
    rw [e, Cy_l h, show m + (j + c * l) = m + j + c * l from by omega, Cy_c h j c]
theorem Cy_p1 {F : Nat → Nat} {S m l : Nat} (h : Cy F S m l) : it F (64 + l) S = it F 64 S := by
  have := Cy_l h (64 - m)
  have h1 := h.2.1
  rw [show m + (64 - m) = 64 from by omega] at this
  exact this
theorem Cy_p2 {F : Nat → Nat} {S m l : Nat} (h : Cy F S m l) {p : Nat} (hp : 1 ≤ p) (hpl : p < l) : it F (64 + p) S ≠ it F 64 S := by
  intro e
  have h1 := h.2.1
  -- from 64 on, i steps further, till m and some rings
  have e2 : ∀ i, it F (64 + i + p) S = it F (64 + i) S := by
    intro i
    rw [show 64 + i + p = i + (64 + p) from by omega, it_a, e, ← it_a, show i + 64 = 64 + i from by omega]
  obtain ⟨c, hc⟩ : ∃ c, 64 ≤ m + c * l := ⟨64, by have : 64 * 1 ≤ 64 * l := Nat.mul_le_mul_left 64 h.1; omega⟩
  have k := e2 (m + c * l - 64)
  have a1 := Cy_c h 0 c
  have a2 := Cy_c h p c
  rw [Nat.add_zero] at a1
  rw [show 64 + (m + c * l - 64) + p = m + p + c * l from by omega, show 64 + (m + c * l - 64) = m + c * l from by omega, a1, a2] at k
  exact h.2.2.1 m (m + p) (by omega) (by omega) k.symm
theorem hy_ci28 {post : Int32 → SY → Prop} {v v0 : SY} {G : Nat} {kd fi se th nx sh : Nat → Nat} (hY : Yd v G kd fi se th nx sh) {L S : Nat} (hL : fy v 3 = nI L) (hS : S < 64) (hf : ry [7, 8] v v0) (h0 : ∀ t, t < 64 → ay v0 8 t = pI 0)
    (K : ∀ v' m l, ry [7, 8] v v' → Cy (nS (nxC G kd fi se th nx sh) L) S m l → post (nI (m + 1024 * l)) v') : ∃ a, ky_circle_28 post a (nI S) 0 v0 := by
  refine lp2 (fun a (n : Nat) (w : SY) => ky_circle_28 post a (nI (it (nS (nxC G kd fi se th nx sh) L) n S)) (nI n) w) (fun n w => ry [7, 8] v w ∧ (∀ i, i < n → ay w 8 (it (nS (nxC G kd fi se th nx sh) L) i S) = nI i) ∧ ∃ sn : Nat → Bool, cn sn 64 = n ∧ (∀ t, t < 64 → sn t = false → ay w 8 t = pI 0) ∧ (∀ i, i < n → sn (it (nS (nxC G kd fi se th nx sh) L) i S) = true) ∧ ∀ t, t < 64 → sn t = true → ∃ i, i < n ∧ it (nS (nxC G kd fi se th nx sh) L) i S = t) (fun n _ => 64 - n) ?_ 0 v0
    ⟨hf, fun i hi => by omega, fun _ => false, cn_0 (fun _ _ => rfl), fun t ht _ => h0 t ht, fun i hi => by omega, fun t _ h => (Bool.false_ne_true h).elim⟩
  rintro a n w ⟨f1, f2, sn, f3, f4, f5, f6⟩ hr
  have hlt : ∀ i, it (nS (nxC G kd fi se th nx sh) L) i S < 64 := fun i => it_lt (fun x => nS_lt _ _ _) hS i
  have hn64 : n ≤ 64 := by rw [← f3]; exact cn_le sn 64
  show ky_circle_28 _ _ _ _ _
  rw [cy_circle_28]
  generalize hs : it (nS (nxC G kd fi se th nx sh) L) n S = s at *
  have hs64 : s < 64 := by rw [← hs]; exact hlt n
  simp only [clI (show s < 2 ^ 31 by omega)]
  refine ⟨pk_in s 64 hs64, ?_⟩
  cases hsn : sn s with
  | true =>
    obtain ⟨i, hi, e⟩ := f6 s hs64 hsn
    have ei := f2 i hi
    rw [e] at ei
    rw [ei]
    refine br_t (nI_pos' (by omega)) ⟨pk_in s 64 hs64, pk_in s 64 hs64, ?_⟩
    have ee : nI i + 1024 * (nI n - nI i) = nI (i + 1024 * (n - i)) := by
      rw [pk_sub (by omega)]
      show nI i + nI 1024 * nI (n - i) = _
      rw [pk_mul, nI_add]
    rw [ee]
    refine K w i (n - i) f1 ⟨by omega, by omega, fun p q hpq hq e' => ?_, ?_⟩
    · have a1 := f2 p (by omega)
      have a2 := f2 q (by omega)
      rw [e', a2, nI_eq (by omega) (by omega)] at a1
      omega
    · rw [show i + (n - i) = n from by omega, hs, e]
  | false =>
    have es := f4 s hs64 hsn
    have hn : n < 64 := by
      rcases Nat.lt_or_ge n 64 with h | h
      · exact h
      · have := cn_all (f := sn) (k := 64) (by omega) s hs64
        rw [hsn] at this
        exact absurd this (by decide)
    rw [es]
    refine br_f (by decide) ⟨pk_in s 64 hs64, nm_e (nm_r (nI_1 n) ?_)⟩
    have w1 : ry [8] w (say w 8 (upd (ay w 8) s (nI n))) := ry_a ry_rf (by decide)
    have g1 : ry [7, 8] v (say w 8 (upd (ay w 8) s (nI n))) := ry_tr f1 (ry_mn w1 (by decide))
    refine hy_following (Yd_fr hY g1) (L := L) (S := s) (by rw [ry_fy g1 3]; exact hL) (fun v' k1 => ?_)
    have hit : nS (nxC G kd fi se th nx sh) L s = it (nS (nxC G kd fi se th nx sh) L) (n + 1) S := by rw [it_s, hs]
    rw [hit]
    have hse : ay v' 8 = upd (ay w 8) s (nI n) := by rw [ry_ay k1 8]; rfl
    have hne : ∀ i, i < n → it (nS (nxC G kd fi se th nx sh) L) i S ≠ s := fun i hi e => by
      have := f5 i hi
      rw [e, hsn] at this
      exact absurd this (by decide)
    refine hr (n + 1) v' ⟨ry_tr g1 (ry_mn k1 (by decide)), fun i hi => ?_, fun t => if t = s then true else sn t, ?_, fun t ht h => ?_, fun i hi => ?_, fun t ht h => ?_⟩ (by omega)
    · rw [hse]
      by_cases e : i = n
      · rw [e, hs, u_s]
      · rw [u_n (hne i (by omega))]; exact f2 i (by omega)
    · rw [← f3]
      exact cn_up hs64 hsn (if_pos rfl) (fun i hi hne => if_neg hne)
    · dsimp only at h
      by_cases e : t = s
      · rw [if_pos e] at h; exact absurd h (by decide)
      · rw [if_neg e] at h
        rw [hse, u_n e]; exact f4 t ht h
    · dsimp only
      by_cases e : i = n
      · rw [e, hs, if_pos rfl]
      · rw [if_neg (hne i (by omega))]; exact f5 i (by omega)
    · dsimp only at h
      by_cases e : t = s
      · exact ⟨n, by omega, by rw [hs, e]⟩
      · rw [if_neg e] at h
        obtain ⟨i, hi, e'⟩ := f6 t ht h
        exact ⟨i, by omega, e'⟩
theorem hy_circle {post : Int32 → SY → Prop} {v : SY} {G : Nat} {kd fi se th nx sh : Nat → Nat} (hY : Yd v G kd fi se th nx sh) {L S : Nat} (hL : fy v 3 = nI L) (hSt : fy v 4 = nI S) (hS : S < 64)
    (K : ∀ v' m l, ry [7, 8] v v' → Cy (nS (nxC G kd fi se th nx sh) L) S m l → post (nI (m + 1024 * l)) v') : wpY_circle post v := by
  rw [cy_circle]
  refine pk_loop (fun a i w => ky_circle_2 post a (nI i) w) (fun i w => ry [7, 8] v w ∧ ∀ t, t < i → ay w 8 t = pI 0) 64 0 v (Nat.zero_le _) ⟨ry_rf, fun t ht => by omega⟩ ?_ ?_
  · rintro a w ⟨f1, f2⟩
    show ky_circle_2 _ _ _ _
    rw [cy_circle_2, ry_fy f1 4, hSt]
    exact pk_le 64 64 (fun _ => hy_ci28 hY hL hS f1 f2 K) (fun h => absurd h (by omega))
  · rintro a i w hi ⟨f1, f2⟩ hr
    show ky_circle_2 _ _ _ _
    rw [cy_circle_2]
    simp only [clI (show i < 2 ^ 31 by omega)]
    refine pk_le 64 i (fun h => absurd h (by omega)) (fun _ => ⟨pk_in i 64 hi, nm_e (nm_r (nI_1 i) (hr _ ⟨ry_a f1 (by decide), fun t ht => ?_⟩))⟩)
    show upd (ay w 8) i _ t = _
    by_cases e : t = i
    · rw [e, u_s]; rfl
    · rw [u_n e]; exact f2 t (by omega)
theorem hx_period {post : Int32 → SX → Prop} {u : SX} {nxt out : (Nat → Bool) → Nat → Bool} {L S : Nat} (hb : ¬ fo u 5 = 0) (h : Ds u nxt out L S) {m l : Nat} (hc : Cy (nS nxt L) S m l)
    (K : ∀ u', fr [47, 48, 49] u u' → Ds u' nxt out L S → post (nI l) u') : wpX_period post u := by
  have hS := h.2.2.2.2.2
  have hlt : ∀ i, it (nS nxt L) i S < 64 := fun i => it_lt (fun x => nS_lt _ _ _) hS i
  have hl64 := hc.2.1
  rw [cx_period]
  refine br_f hb (hx_readRegisters h (hx_ahead (n := 64) h (by omega) (fun u1 f1 h1 => ?_)))
  refine hx_writeRegisters h1 (hlt 64) (fun u2 f2 h2 => hx_ahead (n := 1) h2 (by omega) (fun u3 f3 h3 => ?_))
  have e1 : it (nS nxt L) 1 (it (nS nxt L) 64 S) = it (nS nxt L) (64 + 1) S := by rw [show 64 + 1 = 1 + 64 from rfl, it_a]
  rw [e1]
  have g3 : fr [47, 48, 49] u u3 := fr_tr f1 (fr_tr (fr_mn f2 (by decide)) f3)
  refine lp2 (fun a (j : Nat) (s : SX) => kx_period_38 post (nI S) (nI (it (nS nxt L) 64 S)) a (nI (j + 1)) (nI (it (nS nxt L) (64 + (j + 1)) S)) (nI j) s) (fun j s => j < l ∧ fr [47, 48, 49] u s ∧ ∃ S', Ds s nxt out L S') (fun j _ => 64 - j) ?_ 0 u3 ⟨hc.1, g3, _, h3⟩
  rintro a j s ⟨hj, g1, S', g2⟩ hr
  have H73 : j + 1 = l → kx_period_73 post (nI S) (nI (j + 1)) s := by
    intro e
    rw [cx_period_73]
    refine hx_writeRegisters g2 hS (fun u' k1 k2 => ?_)
    rw [e]
    exact K u' (fr_tr g1 (fr_mn k1 (by decide))) k2
  show kx_period_38 _ _ _ _ _ _ _ _
  rw [cx_period_38]
  refine pk_le 64 j (fun h => by omega) (fun _ => pk_eq (it (nS nxt L) (64 + (j + 1)) S) (it (nS nxt L) 64 S) (fun e => H73 ?_) (fun e => ?_) (ha := by have := hlt (64 + (j + 1)); omega) (hb := by have := hlt 64; omega))
  · rcases Nat.lt_or_ge (j + 1) l with hh | hh
    · exact absurd e (Cy_p2 hc (by omega) hh)
    · omega
  · have hjl : j + 1 < l := by
      rcases Nat.lt_or_ge (j + 1) l with hh | hh
      · exact hh
      · exfalso
        rw [show j + 1 = l from by omega] at e
        exact e (Cy_p1 hc)
    refine hx_writeRegisters g2 (hlt _) (fun u' k1 k2 => hx_ahead (n := 1) k2 (by omega) (fun u'' k3 k4 => ?_))
    rw [show it (nS nxt L) 1 (it (nS nxt L) (64 + (j + 1)) S) = it (nS nxt L) (64 + (j + 1 + 1)) S from (it_s _ (64 + (j + 1)) S).symm]
    exact nm_r (nI_1 (j + 1)) (nm_r (nI_1 j) (hr (j + 1) u'' ⟨hjl, fr_tr g1 (fr_tr (fr_mn k1 (by decide)) k3), _, k4⟩ (by omega)))
theorem hx_tail {post : Int32 → SX → Prop} {u : SX} {nxt out : (Nat → Bool) → Nat → Bool} {L S : Nat} (hb : ¬ fo u 5 = 0) (h : Ds u nxt out L S) {m l : Nat} (hc : Cy (nS nxt L) S m l)
    (K : ∀ u', fr [47, 48, 49] u u' → Ds u' nxt out L S → post (nI m) u') : wpX_tail post u := by
  have hS := h.2.2.2.2.2
  have hlt : ∀ i, it (nS nxt L) i S < 64 := fun i => it_lt (fun x => nS_lt _ _ _) hS i
  have hl64 := hc.2.1
  have hl1 := hc.1
  rw [cx_tail]
  refine br_f hb (hx_readRegisters h (hx_period hb h hc (fun u1 f1 h1 => hx_ahead (n := l) h1 (by omega) (fun u2 f2 h2 => ?_))))
  have g2 : fr [47, 48, 49] u u2 := fr_tr f1 f2
  suffices hh : ∃ a, (fun a (j : Nat) (s : SX) => kx_tail_34 post (nI S) a (nI (it (nS nxt L) j S)) (nI (it (nS nxt L) (j + l) S)) (nI j) (nI j) s) a 0 u2 by
    obtain ⟨a, ha⟩ := hh
    rw [Nat.zero_add] at ha
    exact ⟨a, ha⟩
  refine lp2 (fun a (j : Nat) (s : SX) => kx_tail_34 post (nI S) a (nI (it (nS nxt L) j S)) (nI (it (nS nxt L) (j + l) S)) (nI j) (nI j) s) (fun j s => j ≤ m ∧ fr [47, 48, 49] u s ∧ ∃ S', Ds s nxt out L S') (fun j _ => 64 - j) ?_ 0 u2 ⟨Nat.zero_le _, g2, _, h2⟩
  rintro a j s ⟨hj, g1, S', g3⟩ hr
  show kx_tail_34 _ _ _ _ _ _ _ _
  rw [cx_tail_34]
  refine pk_le 64 j (fun h => by omega) (fun _ => pk_eq (it (nS nxt L) j S) (it (nS nxt L) (j + l) S) (fun e => ?_) (fun e => ?_) (ha := by have := hlt j; omega) (hb := by have := hlt (j + l); omega))
  · rw [cx_tail_80]
    refine hx_writeRegisters g3 hS (fun u' k1 k2 => ?_)
    have : j = m := by
      rcases Nat.lt_or_ge j m with hh | hh
      · exact absurd e (hc.2.2.1 j (j + l) (by omega) (by omega))
      · omega
    rw [this]
    exact K u' (fr_tr g1 (fr_mn k1 (by decide))) k2
  · have hjm : j < m := by
      rcases Nat.lt_or_ge j m with hh | hh
      · exact hh
      · exfalso
        rw [show j = m from by omega] at e
        exact e hc.2.2.2.symm
    refine hx_writeRegisters g3 (hlt _) (fun v1 k1 k2 => hx_ahead (n := 1) k2 (by omega) (fun v2 k3 k4 => hx_writeRegisters k4 (hlt _) (fun v3 k5 k6 => hx_ahead (n := 1) k6 (by omega) (fun v4 k7 k8 => ?_))))
    rw [show it (nS nxt L) 1 (it (nS nxt L) j S) = it (nS nxt L) (j + 1) S from (it_s _ j S).symm, show it (nS nxt L) 1 (it (nS nxt L) (j + l) S) = it (nS nxt L) (j + 1 + l) S from by rw [show j + 1 + l = (j + l) + 1 from by omega]; exact (it_s _ (j + l) S).symm]
    exact nm_r (nI_1 j) (nm_r (nI_1 j) (hr (j + 1) v4 ⟨by omega, fr_tr g1 (fr_tr (fr_mn k1 (by decide)) (fr_tr k3 (fr_tr (fr_mn k5 (by decide)) k7))), _, k8⟩ (by omega)))
end
section
/-! ===== the relation; the circuit's own methods ===== -/
def kx_init_366 (post : SX → Prop) (n : Nat) (x1 : Int32) (u : SX) : Prop := match u with
  | (qf_gates, qf_nodes, qf_joinedSize, qf_cells, qf_chanceState, qf_isBuilt, qf_levels, qa_kinds, qa_firsts, qa_seconds, qa_thirds, qa_nextOf, qa_shownBy, qa_left, qa_right, qa_endOf, qa_cutCount, qa_cutSize, qa_cutLeaf, qa_cutDepth, qa_depthOf, qa_needed, qa_tableOf, qa_rows, qa_joined, qa_tableBits, qa_cellSource, qa_placeOf, qa_cellAt, qa_used, qa_worn, qa_inTree, qa_treeFrom, qa_farness, qa_cameFrom, qa_settled, qa_trackTaken, qa_trackOf, qa_switchBits, qa_pinTrack, qa_outTrack, qa_padTrack, qa_deviceTable, qa_hasFlip, qa_registerPlace, qa_outputPlace, qa_wireRoot, qa_wireLevel, qa_flip, qa_tableOut) => wX_init_366 post qf_gates qf_nodes qf_joinedSize qf_cells qf_chanceState qf_isBuilt qf_levels n x1 qa_kinds qa_firsts qa_seconds qa_thirds qa_nextOf qa_shownBy qa_left qa_right qa_endOf qa_cutCount qa_cutSize qa_cutLeaf qa_cutDepth qa_depthOf qa_needed qa_tableOf qa_rows qa_joined qa_tableBits qa_cellSource qa_placeOf qa_cellAt qa_used qa_worn qa_inTree qa_treeFrom qa_farness qa_cameFrom qa_settled qa_trackTaken qa_trackOf qa_switchBits qa_pinTrack qa_outTrack qa_padTrack qa_deviceTable qa_hasFlip qa_registerPlace qa_outputPlace qa_wireRoot qa_wireLevel qa_flip qa_tableOut
theorem cx_init_366 (post : SX → Prop) (n : Nat) (x1 : Int32) (u : SX) : kx_init_366 post (n + 1) x1 u = (((6 ≤ x1 → (post u)) ∧ (¬ 6 ≤ x1 → (vp_in x1 6 ∧ ∀ a_nextOf_3 : Nat → Int32, a_nextOf_3 = upd (ao u 11) x1.toNatClampNeg (vp_nar .byte ((6 + x1).toInt8.toInt32)) → (∀ x1_4 : Int32, x1_4 = x1 + 1 → (kx_init_366 post n x1_4 (sa u 11 a_nextOf_3))))))) := rfl
def kx_gate_108 (post : Int32 → SX → Prop) (z0 : Int32) (z1 : Int32) (u : SX) : Prop := match u with
  | (qf_gates, qf_nodes, qf_joinedSize, qf_cells, qf_chanceState, qf_isBuilt, qf_levels, qa_kinds, qa_firsts, qa_seconds, qa_thirds, qa_nextOf, qa_shownBy, qa_left, qa_right, qa_endOf, qa_cutCount, qa_cutSize, qa_cutLeaf, qa_cutDepth, qa_depthOf, qa_needed, qa_tableOf, qa_rows, qa_joined, qa_tableBits, qa_cellSource, qa_placeOf, qa_cellAt, qa_used, qa_worn, qa_inTree, qa_treeFrom, qa_farness, qa_cameFrom, qa_settled, qa_trackTaken, qa_trackOf, qa_switchBits, qa_pinTrack, qa_outTrack, qa_padTrack, qa_deviceTable, qa_hasFlip, qa_registerPlace, qa_outputPlace, qa_wireRoot, qa_wireLevel, qa_flip, qa_tableOut) => wX_gate_108 post z0 z1 qf_gates qf_nodes qf_joinedSize qf_cells qf_chanceState qf_isBuilt qf_levels qa_kinds qa_firsts qa_seconds qa_thirds qa_nextOf qa_shownBy qa_left qa_right qa_endOf qa_cutCount qa_cutSize qa_cutLeaf qa_cutDepth qa_depthOf qa_needed qa_tableOf qa_rows qa_joined qa_tableBits qa_cellSource qa_placeOf qa_cellAt qa_used qa_worn qa_inTree qa_treeFrom qa_farness qa_cameFrom qa_settled qa_trackTaken qa_trackOf qa_switchBits qa_pinTrack qa_outTrack qa_padTrack qa_deviceTable qa_hasFlip qa_registerPlace qa_outputPlace qa_wireRoot qa_wireLevel qa_flip qa_tableOut
theorem cx_gate_108 (post : Int32 → SX → Prop) (z0 : Int32) (z1 : Int32) (u : SX) : kx_gate_108 post z0 z1 u = (vp_in z1 20 ∧ ∀ a_thirds_117 : Nat → Int32, a_thirds_117 = upd (ao u 10) z1.toNatClampNeg (vp_nar .byte z0.toInt8.toInt32) → (∀ f_gates_118 : Int32, f_gates_118 = (fo u 0) + 1 → (post ((12 + f_gates_118) - 1) (sa (sf u 0 f_gates_118) 10 a_thirds_117)))) := by simp only [n_ffx, n_afx, n_aax, n_fmx, n_amx]; rfl
def kx_gate_43 (post : Int32 → SX → Prop) (x1 : Int32) (x2 : Int32) (x3 : Int32) (x4 : Int32) (u : SX) : Prop := match u with
  | (qf_gates, qf_nodes, qf_joinedSize, qf_cells, qf_chanceState, qf_isBuilt, qf_levels, qa_kinds, qa_firsts, qa_seconds, qa_thirds, qa_nextOf, qa_shownBy, qa_left, qa_right, qa_endOf, qa_cutCount, qa_cutSize, qa_cutLeaf, qa_cutDepth, qa_depthOf, qa_needed, qa_tableOf, qa_rows, qa_joined, qa_tableBits, qa_cellSource, qa_placeOf, qa_cellAt, qa_used, qa_worn, qa_inTree, qa_treeFrom, qa_farness, qa_cameFrom, qa_settled, qa_trackTaken, qa_trackOf, qa_switchBits, qa_pinTrack, qa_outTrack, qa_padTrack, qa_deviceTable, qa_hasFlip, qa_registerPlace, qa_outputPlace, qa_wireRoot, qa_wireLevel, qa_flip, qa_tableOut) => wX_gate_43 post x1 x2 x3 x4 qf_gates qf_nodes qf_joinedSize qf_cells qf_chanceState qf_isBuilt qf_levels qa_kinds qa_firsts qa_seconds qa_thirds qa_nextOf qa_shownBy qa_left qa_right qa_endOf qa_cutCount qa_cutSize qa_cutLeaf qa_cutDepth qa_depthOf qa_needed qa_tableOf qa_rows qa_joined qa_tableBits qa_cellSource qa_placeOf qa_cellAt qa_used qa_worn qa_inTree qa_treeFrom qa_farness qa_cameFrom qa_settled qa_trackTaken qa_trackOf qa_switchBits qa_pinTrack qa_outTrack qa_padTrack qa_deviceTable qa_hasFlip qa_registerPlace qa_outputPlace qa_wireRoot qa_wireLevel qa_flip qa_tableOut
theorem cx_gate_43 (post : Int32 → SX → Prop) (x1 : Int32) (x2 : Int32) (x3 : Int32) (x4 : Int32) (u : SX) : kx_gate_43 post x1 x2 x3 x4 u = ((((fo u 0) < 20 → (vp_in (fo u 0) 20 ∧ ∀ a_kinds_110 : Nat → Int32, a_kinds_110 = upd (ao u 7) (fo u 0).toNatClampNeg (vp_nar .byte x1.toInt8.toInt32) → (vp_in (fo u 0) 20 ∧ ∀ a_firsts_112 : Nat → Int32, a_firsts_112 = upd (ao u 8) (fo u 0).toNatClampNeg (vp_nar .byte x2.toInt8.toInt32) → (vp_in (fo u 0) 20 ∧ ∀ a_seconds_114 : Nat → Int32, a_seconds_114 = upd (ao u 9) (fo u 0).toNatClampNeg (vp_nar .byte x3.toInt8.toInt32) → (((x1 < 7 → (kx_gate_108 post 0 (fo u 0) (sa (sa (sa u 7 a_kinds_110) 8 a_firsts_112) 9 a_seconds_114))) ∧ (¬ x1 < 7 → (kx_gate_108 post x4 (fo u 0) (sa (sa (sa u 7 a_kinds_110) 8 a_firsts_112) 9 a_seconds_114))))))))) ∧ (¬ (fo u 0) < 20 → (post (- 2) u)))) := by simp only [n_ffx, n_afx, n_aax, n_fmx, n_amx]; rfl
theorem cx_gate (post : Int32 → SX → Prop) (u : SX) (p0 : Int32) (p1 : Int32) (p2 : Int32) (p3 : Int32) : wpX_gate post u p0 p1 p2 p3 = (((p0 < 0 → (post (- 1) u)) ∧ (¬ p0 < 0 → (((9 < p0 → (post (- 1) u)) ∧ (¬ 9 < p0 → (wpX_isSignal (fun r_3 => (((r_3 = 0 → (post (- 1) u)) ∧ (¬ r_3 = 0 → (wpX_isSignal (fun r_55 => (((r_55 = 0 → (post (- 1) u)) ∧ (¬ r_55 = 0 → (((p0 < 7 → (kx_gate_43 post p0 p1 p2 p3 u)) ∧ (¬ p0 < 7 → (wpX_isSignal (fun r_119 => (((r_119 = 0 → (post (- 1) u)) ∧ (¬ r_119 = 0 → (kx_gate_43 post p0 p1 p2 p3 u))))) u p3)))))))) u p2))))) u p1))))))) := rfl
def kx_drop_71 (post : Int32 → SX → Prop) (n : Nat) (x1 : Int32) (u : SX) : Prop := match u with
  | (qf_gates, qf_nodes, qf_joinedSize, qf_cells, qf_chanceState, qf_isBuilt, qf_levels, qa_kinds, qa_firsts, qa_seconds, qa_thirds, qa_nextOf, qa_shownBy, qa_left, qa_right, qa_endOf, qa_cutCount, qa_cutSize, qa_cutLeaf, qa_cutDepth, qa_depthOf, qa_needed, qa_tableOf, qa_rows, qa_joined, qa_tableBits, qa_cellSource, qa_placeOf, qa_cellAt, qa_used, qa_worn, qa_inTree, qa_treeFrom, qa_farness, qa_cameFrom, qa_settled, qa_trackTaken, qa_trackOf, qa_switchBits, qa_pinTrack, qa_outTrack, qa_padTrack, qa_deviceTable, qa_hasFlip, qa_registerPlace, qa_outputPlace, qa_wireRoot, qa_wireLevel, qa_flip, qa_tableOut) => wX_drop_71 post qf_gates qf_nodes qf_joinedSize qf_cells qf_chanceState qf_isBuilt qf_levels n x1 qa_kinds qa_firsts qa_seconds qa_thirds qa_nextOf qa_shownBy qa_left qa_right qa_endOf qa_cutCount qa_cutSize qa_cutLeaf qa_cutDepth qa_depthOf qa_needed qa_tableOf qa_rows qa_joined qa_tableBits qa_cellSource qa_placeOf qa_cellAt qa_used qa_worn qa_inTree qa_treeFrom qa_farness qa_cameFrom qa_settled qa_trackTaken qa_trackOf qa_switchBits qa_pinTrack qa_outTrack qa_padTrack qa_deviceTable qa_hasFlip qa_registerPlace qa_outputPlace qa_wireRoot qa_wireLevel qa_flip qa_tableOut
theorem cx_drop_71 (post : Int32 → SX → Prop) (n : Nat) (x1 : Int32) (u : SX) : kx_drop_71 post (n + 1) x1 u = (((4 ≤ x1 → (post (12 + (fo u 0)) u)) ∧ (¬ 4 ≤ x1 → (vp_in x1 4 ∧ (((((ao u 12) x1.toNatClampNeg) = (12 + (fo u 0)) → (vp_in x1 4 ∧ ∀ a_shownBy_12 : Nat → Int32, a_shownBy_12 = upd (ao u 12) x1.toNatClampNeg (vp_nar .byte 0) → (∀ x1_13 : Int32, x1_13 = x1 + 1 → (kx_drop_71 post n x1_13 (sa u 12 a_shownBy_12))))) ∧ (¬ ((ao u 12) x1.toNatClampNeg) = (12 + (fo u 0)) → (vp_in x1 4 ∧ (vp_in x1 4 ∧ ∀ a_shownBy_9 : Nat → Int32, a_shownBy_9 = upd (ao u 12) x1.toNatClampNeg (vp_nar .byte ((ao u 12) x1.toNatClampNeg)) → (∀ x1_10 : Int32, x1_10 = x1 + 1 → (kx_drop_71 post n x1_10 (sa u 12 a_shownBy_9)))))))))))) := rfl
def kx_drop_21 (post : Int32 → SX → Prop) (n : Nat) (x1 : Int32) (u : SX) : Prop := match u with
  | (qf_gates, qf_nodes, qf_joinedSize, qf_cells, qf_chanceState, qf_isBuilt, qf_levels, qa_kinds, qa_firsts, qa_seconds, qa_thirds, qa_nextOf, qa_shownBy, qa_left, qa_right, qa_endOf, qa_cutCount, qa_cutSize, qa_cutLeaf, qa_cutDepth, qa_depthOf, qa_needed, qa_tableOf, qa_rows, qa_joined, qa_tableBits, qa_cellSource, qa_placeOf, qa_cellAt, qa_used, qa_worn, qa_inTree, qa_treeFrom, qa_farness, qa_cameFrom, qa_settled, qa_trackTaken, qa_trackOf, qa_switchBits, qa_pinTrack, qa_outTrack, qa_padTrack, qa_deviceTable, qa_hasFlip, qa_registerPlace, qa_outputPlace, qa_wireRoot, qa_wireLevel, qa_flip, qa_tableOut) => wX_drop_21 post qf_gates qf_nodes qf_joinedSize qf_cells qf_chanceState qf_isBuilt qf_levels n x1 qa_kinds qa_firsts qa_seconds qa_thirds qa_nextOf qa_shownBy qa_left qa_right qa_endOf qa_cutCount qa_cutSize qa_cutLeaf qa_cutDepth qa_depthOf qa_needed qa_tableOf qa_rows qa_joined qa_tableBits qa_cellSource qa_placeOf qa_cellAt qa_used qa_worn qa_inTree qa_treeFrom qa_farness qa_cameFrom qa_settled qa_trackTaken qa_trackOf qa_switchBits qa_pinTrack qa_outTrack qa_padTrack qa_deviceTable qa_hasFlip qa_registerPlace qa_outputPlace qa_wireRoot qa_wireLevel qa_flip qa_tableOut
theorem cx_drop_21 (post : Int32 → SX → Prop) (n : Nat) (x1 : Int32) (u : SX) : kx_drop_21 post (n + 1) x1 u = (((6 ≤ x1 → (∃ n71 : Nat, kx_drop_71 post n71 0 u)) ∧ (¬ 6 ≤ x1 → (vp_in x1 6 ∧ (((((ao u 11) x1.toNatClampNeg) = (12 + (fo u 0)) → (vp_in x1 6 ∧ ∀ a_nextOf_21 : Nat → Int32, a_nextOf_21 = upd (ao u 11) x1.toNatClampNeg (vp_nar .byte ((6 + x1).toInt8.toInt32)) → (∀ x1_22 : Int32, x1_22 = x1 + 1 → (kx_drop_21 post n x1_22 (sa u 11 a_nextOf_21))))) ∧ (¬ ((ao u 11) x1.toNatClampNeg) = (12 + (fo u 0)) → (vp_in x1 6 ∧ (vp_in x1 6 ∧ ∀ a_nextOf_18 : Nat → Int32, a_nextOf_18 = upd (ao u 11) x1.toNatClampNeg (vp_nar .byte ((ao u 11) x1.toNatClampNeg)) → (∀ x1_19 : Int32, x1_19 = x1 + 1 → (kx_drop_21 post n x1_19 (sa u 11 a_nextOf_18)))))))))))) := rfl
theorem cx_drop (post : Int32 → SX → Prop) (u : SX) : wpX_drop post u = ((((fo u 0) = 0 → (post (- 1) u)) ∧ (¬ (fo u 0) = 0 → (∀ f_gates_2 : Int32, f_gates_2 = (fo u 0) - 1 → (∃ n21 : Nat, kx_drop_21 post n21 0 (sf u 0 f_gates_2)))))) := rfl
theorem cx_signals (post : Int32 → Prop) (u : SX) : wpX_signals post u = (post (12 + (fo u 0))) := rfl
theorem cx_next (post : Int32 → SX → Prop) (u : SX) (p0 : Int32) (p1 : Int32) : wpX_next post u p0 p1 = (((p0 < 0 → (post 0 u)) ∧ (¬ p0 < 0 → (((6 ≤ p0 → (post 0 u)) ∧ (¬ 6 ≤ p0 → (wpX_isSignal (fun r_3 => (((r_3 = 0 → (post 0 u)) ∧ (¬ r_3 = 0 → (vp_in p0 6 ∧ ∀ a_nextOf_56 : Nat → Int32, a_nextOf_56 = upd (ao u 11) p0.toNatClampNeg (vp_nar .byte p1.toInt8.toInt32) → (post 1 (sa u 11 a_nextOf_56))))))) u p1))))))) := rfl
theorem cx_show (post : Int32 → SX → Prop) (u : SX) (p0 : Int32) (p1 : Int32) : wpX_show post u p0 p1 = (((p0 < 0 → (post 0 u)) ∧ (¬ p0 < 0 → (((4 ≤ p0 → (post 0 u)) ∧ (¬ 4 ≤ p0 → (wpX_isSignal (fun r_3 => (((r_3 = 0 → (post 0 u)) ∧ (¬ r_3 = 0 → (vp_in p0 4 ∧ ∀ a_shownBy_56 : Nat → Int32, a_shownBy_56 = upd (ao u 12) p0.toNatClampNeg (vp_nar .byte p1.toInt8.toInt32) → (post 1 (sa u 12 a_shownBy_56))))))) u p1))))))) := rfl
theorem cx_built (post : Int32 → Prop) (u : SX) : wpX_built post u = (narrow .boolean (.int (fo u 5)) = .int (fo u 5) ∧ (post (fo u 5))) := rfl
theorem cx_set (post : Int32 → SX → Prop) (u : SX) (p0 : Int32) (p1 : Int32) : wpX_set post u p0 p1 = (((p0 < 0 → (post 0 u)) ∧ (¬ p0 < 0 → (((6 ≤ p0 → (post 0 u)) ∧ (¬ 6 ≤ p0 → (((p1 < 0 → (post 0 u)) ∧ (¬ p1 < 0 → (((p1 ≤ 1 → (∀ f_levels_5 : Int32, f_levels_5 = ((fo u 6) &&& (((1 : Int32) <<< (p0 &&& 31)) ^^^ (- 1))) ||| (p1 <<< (p0 &&& 31)) → (post 1 (sf u 6 f_levels_5)))) ∧ (¬ p1 ≤ 1 → (post 0 u))))))))))))) := rfl
theorem cx_inputs (post : Int32 → Prop) (u : SX) : wpX_inputs post u = (post (fo u 6)) := rfl
def ky_init_39 (post : SY → Prop) (n : Nat) (x1 : Int32) (u : SY) : Prop := match u with
  | (qf_size, qf_builtSize, qf_isBuilt, qf_given, qf_state, qa_gates, qa_wires, qa_values, qa_seen) => wY_init_39 post qf_size qf_builtSize qf_isBuilt qf_given qf_state n x1 qa_gates qa_wires qa_values qa_seen
theorem cy_init_39 (post : SY → Prop) (n : Nat) (x1 : Int32) (u : SY) : ky_init_39 post (n + 1) x1 u = (((6 ≤ x1 → (post u)) ∧ (¬ 6 ≤ x1 → (vp_in x1 20 ∧ ∀ a_wires_3 : Nat → Int32, a_wires_3 = upd (ay u 6) x1.toNatClampNeg (6 + x1) → (∀ x1_4 : Int32, x1_4 = x1 + 1 → (ky_init_39 post n x1_4 (say u 6 a_wires_3))))))) := rfl
theorem cy_signal (post : Int32 → Prop) (u : SY) (p0 : Int32) : wpY_signal post u p0 = (((p0 < 0 → (post 0)) ∧ (¬ p0 < 0 → ((((12 + (fy u 0)) ≤ p0 → (post 0)) ∧ (¬ (12 + (fy u 0)) ≤ p0 → (post 1))))))) := rfl
def ky_gate_119 (post : Int32 → SY → Prop) (z0 : Int32) (z1 : Int32) (u : SY) : Prop := match u with
  | (qf_size, qf_builtSize, qf_isBuilt, qf_given, qf_state, qa_gates, qa_wires, qa_values, qa_seen) => wY_gate_119 post z0 z1 qf_size qf_builtSize qf_isBuilt qf_given qf_state qa_gates qa_wires qa_values qa_seen
theorem cy_gate_119 (post : Int32 → SY → Prop) (z0 : Int32) (z1 : Int32) (u : SY) : ky_gate_119 post z0 z1 u = (vp_in z1 160 ∧ ∀ a_gates_35 : Nat → Int32, a_gates_35 = upd (ay u 5) z1.toNatClampNeg z0 → (∀ f_size_36 : Int32, f_size_36 = (fy u 0) + 1 → (post (11 + f_size_36) (say (sfy u 0 f_size_36) 5 a_gates_35)))) := by simp only [n_ffy, n_afy, n_aay, n_fmy, n_amy]; rfl
def ky_gate_43 (post : Int32 → SY → Prop) (x1 : Int32) (x2 : Int32) (x3 : Int32) (x4 : Int32) (u : SY) : Prop := match u with
  | (qf_size, qf_builtSize, qf_isBuilt, qf_given, qf_state, qa_gates, qa_wires, qa_values, qa_seen) => wY_gate_43 post x1 x2 x3 x4 qf_size qf_builtSize qf_isBuilt qf_given qf_state qa_gates qa_wires qa_values qa_seen
theorem cy_gate_43 (post : Int32 → SY → Prop) (x1 : Int32) (x2 : Int32) (x3 : Int32) (x4 : Int32) (u : SY) : ky_gate_43 post x1 x2 x3 x4 u = ((((fy u 0) < 20 → (vp_in (4 * (fy u 0)) 160 ∧ ∀ a_gates_28 : Nat → Int32, a_gates_28 = upd (ay u 5) (4 * (fy u 0)).toNatClampNeg x1 → (vp_in ((4 * (fy u 0)) + 1) 160 ∧ ∀ a_gates_30 : Nat → Int32, a_gates_30 = upd a_gates_28 ((4 * (fy u 0)) + 1).toNatClampNeg x2 → (vp_in ((4 * (fy u 0)) + 2) 160 ∧ ∀ a_gates_32 : Nat → Int32, a_gates_32 = upd a_gates_30 ((4 * (fy u 0)) + 2).toNatClampNeg x3 → (((x1 < 7 → (ky_gate_119 post 0 ((4 * (fy u 0)) + 3) (say u 5 a_gates_32))) ∧ (¬ x1 < 7 → (ky_gate_119 post x4 ((4 * (fy u 0)) + 3) (say u 5 a_gates_32))))))))) ∧ (¬ (fy u 0) < 20 → (post (- 2) u)))) := rfl
theorem cy_gate (post : Int32 → SY → Prop) (u : SY) (p0 : Int32) (p1 : Int32) (p2 : Int32) (p3 : Int32) : wpY_gate post u p0 p1 p2 p3 = (((p0 < 0 → (post (- 1) u)) ∧ (¬ p0 < 0 → (((9 < p0 → (post (- 1) u)) ∧ (¬ 9 < p0 → (wpY_signal (fun r_3 => (((r_3 = 0 → (post (- 1) u)) ∧ (¬ r_3 = 0 → (wpY_signal (fun r_14 => (((r_14 = 0 → (post (- 1) u)) ∧ (¬ r_14 = 0 → (((p0 < 7 → (ky_gate_43 post p0 p1 p2 p3 u)) ∧ (¬ p0 < 7 → (wpY_signal (fun r_37 => (((r_37 = 0 → (post (- 1) u)) ∧ (¬ r_37 = 0 → (ky_gate_43 post p0 p1 p2 p3 u))))) u p3)))))))) u p2))))) u p1))))))) := rfl
def ky_drop_21 (post : Int32 → SY → Prop) (n : Nat) (x1 : Int32) (u : SY) : Prop := match u with
  | (qf_size, qf_builtSize, qf_isBuilt, qf_given, qf_state, qa_gates, qa_wires, qa_values, qa_seen) => wY_drop_21 post qf_size qf_builtSize qf_isBuilt qf_given qf_state n x1 qa_gates qa_wires qa_values qa_seen
theorem cy_drop_21 (post : Int32 → SY → Prop) (n : Nat) (x1 : Int32) (u : SY) : ky_drop_21 post (n + 1) x1 u = (((10 ≤ x1 → (post (12 + (fy u 0)) u)) ∧ (¬ 10 ≤ x1 → (vp_in x1 20 ∧ (((((ay u 6) x1.toNatClampNeg) = (12 + (fy u 0)) → (((6 ≤ x1 → (vp_in x1 20 ∧ ∀ a_wires_12 : Nat → Int32, a_wires_12 = upd (ay u 6) x1.toNatClampNeg 0 → (∀ x1_13 : Int32, x1_13 = x1 + 1 → (ky_drop_21 post n x1_13 (say u 6 a_wires_12))))) ∧ (¬ 6 ≤ x1 → (vp_in x1 20 ∧ ∀ a_wires_15 : Nat → Int32, a_wires_15 = upd (ay u 6) x1.toNatClampNeg (6 + x1) → (∀ x1_16 : Int32, x1_16 = x1 + 1 → (ky_drop_21 post n x1_16 (say u 6 a_wires_15)))))))) ∧ (¬ ((ay u 6) x1.toNatClampNeg) = (12 + (fy u 0)) → (vp_in x1 20 ∧ (vp_in x1 20 ∧ ∀ a_wires_8 : Nat → Int32, a_wires_8 = upd (ay u 6) x1.toNatClampNeg ((ay u 6) x1.toNatClampNeg) → (∀ x1_9 : Int32, x1_9 = x1 + 1 → (ky_drop_21 post n x1_9 (say u 6 a_wires_8)))))))))))) := rfl
theorem cy_drop (post : Int32 → SY → Prop) (u : SY) : wpY_drop post u = ((((fy u 0) = 0 → (post (- 1) u)) ∧ (¬ (fy u 0) = 0 → (∀ f_size_2 : Int32, f_size_2 = (fy u 0) - 1 → (∃ n21 : Nat, ky_drop_21 post n21 0 (sfy u 0 f_size_2)))))) := rfl
theorem cy_signals (post : Int32 → Prop) (u : SY) : wpY_signals post u = (post (12 + (fy u 0))) := rfl
theorem cy_next (post : Int32 → SY → Prop) (u : SY) (p0 : Int32) (p1 : Int32) : wpY_next post u p0 p1 = (((p0 < 0 → (post 0 u)) ∧ (¬ p0 < 0 → (((5 < p0 → (post 0 u)) ∧ (¬ 5 < p0 → (wpY_signal (fun r_3 => (((r_3 = 0 → (post 0 u)) ∧ (¬ r_3 = 0 → (vp_in p0 20 ∧ ∀ a_wires_15 : Nat → Int32, a_wires_15 = upd (ay u 6) p0.toNatClampNeg p1 → (post 1 (say u 6 a_wires_15))))))) u p1))))))) := rfl
theorem cy_show (post : Int32 → SY → Prop) (u : SY) (p0 : Int32) (p1 : Int32) : wpY_show post u p0 p1 = (((p0 < 0 → (post 0 u)) ∧ (¬ p0 < 0 → (((3 < p0 → (post 0 u)) ∧ (¬ 3 < p0 → (wpY_signal (fun r_3 => (((r_3 = 0 → (post 0 u)) ∧ (¬ r_3 = 0 → (vp_in (6 + p0) 20 ∧ ∀ a_wires_15 : Nat → Int32, a_wires_15 = upd (ay u 6) (6 + p0).toNatClampNeg p1 → (post 1 (say u 6 a_wires_15))))))) u p1))))))) := rfl
theorem cy_built (post : Int32 → Prop) (u : SY) : wpY_built post u = (narrow .boolean (.int (fy u 2)) = .int (fy u 2) ∧ (post (fy u 2))) := rfl
theorem cy_set (post : Int32 → SY → Prop) (u : SY) (p0 : Int32) (p1 : Int32) : wpY_set post u p0 p1 = (((p0 < 0 → (post 0 u)) ∧ (¬ p0 < 0 → (((5 < p0 → (post 0 u)) ∧ (¬ 5 < p0 → (((p1 < 0 → (post 0 u)) ∧ (¬ p1 < 0 → (((p1 ≤ 1 → (∀ f_given_5 : Int32, f_given_5 = ((fy u 3) &&& (((1 : Int32) <<< (p0 &&& 31)) ^^^ (- 1))) ||| (p1 <<< (p0 &&& 31)) → (post 1 (sfy u 3 f_given_5)))) ∧ (¬ p1 ≤ 1 → (post 0 u))))))))))))) := rfl
theorem cy_inputs (post : Int32 → Prop) (u : SY) : wpY_inputs post u = (post (fy u 3)) := rfl
/-- the circuit as the plain form holds it -/
def Cz (v : SY) (G : Nat) (kd fi se th nx sh : Nat → Nat) : Prop := fy v 0 = nI G ∧ (∀ g, g < G → ay v 5 (4 * g) = nI (kd g) ∧ ay v 5 (4 * g + 1) = nI (fi g) ∧ ay v 5 (4 * g + 2) = nI (se g) ∧ ay v 5 (4 * g + 3) = nI (th g)) ∧
  (∀ r, r < 6 → ay v 6 r = nI (nx r)) ∧ ∀ o, o < 4 → ay v 6 (6 + o) = nI (sh o)
def Rc (u : SX) (v : SY) : Prop := ∃ G kd fi se th nx sh, Cq u G kd fi se th nx sh ∧ Cz v G kd fi se th nx sh
def Rb (u : SX) (v : SY) (L : Nat) : Prop := (fo u 5 = 0 ∧ fy v 2 = 0) ∨ (fo u 5 = 1 ∧ fy v 2 = 1 ∧ ∃ G kd fi se th nx sh S, Yd v G kd fi se th nx sh ∧ Ds u (nxC G kd fi se th nx sh) (otC G kd fi se th nx sh) L S ∧ fy v 4 = nI S)
def Rd (u : SX) (v : SY) : Prop := ∃ L, fo u 6 = nI L ∧ fy v 3 = nI L ∧ L < 64 ∧ Rb u v L
def i_Rel (k : Nat) (u : SX) (v : SY) : Prop := Rc u v ∧ Rd u v
theorem i_up {k : Nat} {u : SX} {v : SY} (h : i_Rel k u v) : i_Rel (k + 5) u v := h
/-- the circuit's parts, for a new state of the circuit: the device is kept -/
theorem Rd_fr {M : List Nat} {M' : List Nat} {u u' : SX} {v v' : SY} (h : Rd u v) (hf : fr M u u') (hg : ry M' v v') (hM : ∀ k ∈ M, k ∈ [0, 7, 8, 9, 10, 11, 12]) (hY : ∀ G kd fi se th nx sh, Yd v G kd fi se th nx sh → Yd v' G kd fi se th nx sh) (hM' : ∀ k ∈ M', k ∈ [0, 5, 6]) : Rd u' v' := by
  obtain ⟨L, h1, h2, h3, h4⟩ := h
  have f := fr_mn hf hM
  have g := ry_mn hg hM'
  refine ⟨L, by rw [fr_fo f 6]; exact h1, by rw [ry_fy g 3]; exact h2, h3, ?_⟩
  rcases h4 with ⟨a, b⟩ | ⟨a, b, G, kd, fi, se, th, nx, sh, S, c, d, e⟩
  · exact Or.inl ⟨by rw [fr_fo f 5]; exact a, by rw [ry_fy g 2]; exact b⟩
  · refine Or.inr ⟨by rw [fr_fo f 5]; exact a, by rw [ry_fy g 2]; exact b, G, kd, fi, se, th, nx, sh, S, hY _ _ _ _ _ _ _ c, ?_, by rw [ry_fy g 4]; exact e⟩
    obtain ⟨d1, ⟨wl, d2⟩, d3, d4, d5, d6⟩ := d
    exact ⟨Dv_fr d1 f, ⟨wl, fun w hw => by rw [fr_ao f 47]; exact d2 w hw⟩, by rw [fr_fo f 6]; exact d3, d4, fun r hr => by rw [fr_ao f 48, Rp_fr f]; exact d5 r hr, d6⟩
theorem i_vc0 : wpX_init (fun u => wpY_init (fun v => i_Rel 0 u v)) := by
  show ∃ n, kx_init_366 _ n 0 (mkx (fun _ => 0) (fun _ _ => 0))
  refine pk_loop (fun a r s => kx_init_366 (fun u => wpY_init (fun v => i_Rel 0 u v)) a (nI r) s) (fun r s => fr [11] (mkx (fun _ => 0) (fun _ _ => 0)) s ∧ ∀ r', r' < r → ao s 11 r' = nI (6 + r')) 6 0 _ (Nat.zero_le _) ⟨fr_rf, fun r hr => by omega⟩ ?_ ?_
  · rintro a u ⟨f1, f2⟩
    show kx_init_366 _ _ _ _
    rw [cx_init_366]
    refine pk_le 6 6 (fun _ => ?_) (fun h => absurd h (by omega))
    show ∃ n, ky_init_39 _ n 0 (mky (fun _ => 0) (fun _ _ => 0))
    refine pk_loop (fun a r s => ky_init_39 (fun v => i_Rel 0 u v) a (nI r) s) (fun r s => ry [6] (mky (fun _ => 0) (fun _ _ => 0)) s ∧ (∀ r', r' < r → ay s 6 r' = nI (6 + r')) ∧ ∀ r', 6 ≤ r' → ay s 6 r' = nI 0) 6 0 _ (Nat.zero_le _) ⟨ry_rf, fun r hr => by omega, fun r hr => rfl⟩ ?_ ?_
    · rintro a v ⟨g1, g2, g3⟩
      show ky_init_39 _ _ _ _
      rw [cy_init_39]
      refine pk_le 6 6 (fun _ => ⟨⟨0, fun _ => 0, fun _ => 0, fun _ => 0, fun _ => 0, fun r => 6 + r, fun _ => 0, ⟨?_, by omega, fun g hg => by omega, fun r hr => ⟨f2 r hr, by dsimp only; omega⟩, fun o ho => ⟨?_, by dsimp only; omega⟩⟩, ?_, fun g hg => by omega, g2, fun o ho => g3 _ (by omega)⟩, 0, ?_, ?_, by omega, Or.inl ⟨?_, ?_⟩⟩) (fun h => absurd h (by omega))
      · rw [fr_fo f1 0]; rfl
      · rw [fr_ao f1 12]; rfl
      · rw [ry_fy g1 0]; rfl
      · rw [fr_fo f1 6]; rfl
      · rw [ry_fy g1 3]; rfl
      · rw [fr_fo f1 5]; rfl
      · rw [ry_fy g1 2]; rfl
    · rintro a r s hr ⟨g1, g2, g3⟩ hk
      have e6 : (6 : Int32) + nI r = nI (6 + r) := nI_add 6 r
      show ky_init_39 _ _ _ _
      rw [cy_init_39]
      simp only [e6, clI (show r < 2 ^ 31 by omega)]
      refine pk_le 6 r (fun h => absurd h (by omega)) (fun _ => ⟨pk_in r 20 (by omega), nm_e (nm_r (nI_1 r) (hk _ ⟨ry_a g1 (by decide), fun r' hr' => ?_, fun r' hr' => ?_⟩))⟩)
      · show upd (ay s 6) r _ r' = _
        by_cases e : r' = r
        · rw [e, u_s]
        · rw [u_n e]; exact g2 r' (by omega)
      · show upd (ay s 6) r _ r' = _
        rw [u_n (by omega)]; exact g3 r' hr'
  · rintro a r s hr ⟨f1, f2⟩ hk
    have e6 : (6 : Int32) + nI r = nI (6 + r) := nI_add 6 r
    show kx_init_366 _ _ _ _
    rw [cx_init_366]
    simp only [e6, clI (show r < 2 ^ 31 by omega), vby (show 6 + r < 128 by omega)]
    refine pk_le 6 r (fun h => absurd h (by omega)) (fun _ => ⟨pk_in r 6 hr, nm_e (nm_r (nI_1 r) (hk _ ⟨fr_a f1 (by decide), fun r' hr' => ?_⟩))⟩)
    show upd (ao s 11) r _ r' = _
    by_cases e : r' = r
    · rw [e, u_s]
    · rw [u_n e]; exact f2 r' (by omega)
/-- not a signal -/
def NS (G : Nat) (x : Int32) : Prop := x < 0 ∨ nI (12 + G) ≤ x
theorem NS_n {G : Nat} (hG : G ≤ 20) {x : Int32} (h : ¬ NS G x) : ∃ j, j < 12 + G ∧ x = nI j := by
  rcases pk_ix x (n := 12 + G) (by omega) with h1 | h1 | h1
  · exact absurd (Or.inl h1) h
  · exact absurd (Or.inr h1) h
  · exact h1
theorem hx_isSignal {post : Int32 → Prop} {u : SX} {G : Nat} (hG : fo u 0 = nI G) {x : Int32} (K0 : NS G x → post 0) (K1 : ¬ NS G x → post 1) : wpX_isSignal post u x := by
  rw [cx_isSignal, hG, show (12 : Int32) + nI G = nI (12 + G) from nI_add 12 G]
  exact br_c (fun h => K0 (Or.inl h)) (fun h0 => br_c (fun h => K0 (Or.inr h)) (fun h => K1 (fun z => z.elim h0 h)))
theorem hy_signal {post : Int32 → Prop} {v : SY} {G : Nat} (hG : fy v 0 = nI G) {x : Int32} (K0 : NS G x → post 0) (K1 : ¬ NS G x → post 1) : wpY_signal post v x := by
  rw [cy_signal, hG, show (12 : Int32) + nI G = nI (12 + G) from nI_add 12 G]
  exact br_c (fun h => K0 (Or.inl h)) (fun h0 => br_c (fun h => K0 (Or.inr h)) (fun h => K1 (fun z => z.elim h0 h)))
theorem i_vc_signals {k : Nat} {u : SX} {v : SY} (I : i_Rel k u v) (hk : k + 5 ≤ 2560) : wpX_signals (fun r => wpY_signals (fun r' => r' = r ∧ i_Rel (k + 5) u v) v) u := by
  obtain ⟨G, kd, fi, se, th, nx, sh, hC, hZ⟩ := I.1
  rw [cx_signals, cy_signals, hC.1, hZ.1]
  exact ⟨rfl, I⟩
theorem i_vc_inputs {k : Nat} {u : SX} {v : SY} (I : i_Rel k u v) (hk : k + 5 ≤ 2560) : wpX_inputs (fun r => wpY_inputs (fun r' => r' = r ∧ i_Rel (k + 5) u v) v) u := by
  obtain ⟨L, h1, h2, _⟩ := I.2
  rw [cx_inputs, cy_inputs, h1, h2]
  exact ⟨rfl, I⟩
theorem i_vc_built {k : Nat} {u : SX} {v : SY} (I : i_Rel k u v) (hk : k + 5 ≤ 2560) : wpX_built (fun r => wpY_built (fun r' => r' = r ∧ i_Rel (k + 5) u v) v) u := by
  obtain ⟨L, h1, h2, h3, h4⟩ := I.2
  rw [cx_built, cy_built]
  rcases h4 with ⟨a, b⟩ | ⟨a, b, _⟩
  · rw [a, b]; exact ⟨rfl, rfl, rfl, I⟩
  · rw [a, b]; exact ⟨rfl, rfl, rfl, I⟩
theorem i_vc_next {k : Nat} {u : SX} {v : SY} (I : i_Rel k u v) (hk : k + 5 ≤ 2560) (v1 : Int32) (v2 : Int32) : wpX_next (fun r u' => wpY_next (fun r' v' => r' = r ∧ i_Rel (k + 5) u' v') v v1 v2) u v1 v2 := by
  obtain ⟨G, kd, fi, se, th, nx, sh, hC, hZ⟩ := I.1
  have hG := hC.2.1
  have e5 : (5 : Int32) < v1 ↔ (6 : Int32) ≤ v1 := by
    rw [Int32.lt_iff_toInt_lt, Int32.le_iff_toInt_le, show (5 : Int32).toInt = 5 from by decide, show (6 : Int32).toInt = 6 from by decide]; omega
  rw [cx_next, cy_next]
  refine br_c (fun h => br_t h ⟨rfl, I⟩) (fun h0 => br_c (fun h => br_f h0 (br_t (e5.mpr h) ⟨rfl, I⟩)) (fun h6 => ?_))
  have h5 : ¬ (5 : Int32) < v1 := fun z => h6 (e5.mp z)
  refine hx_isSignal hC.1 (fun hn => br_t rfl (br_f h0 (br_f h5 (hy_signal hZ.1 (fun _ => br_t rfl ⟨rfl, I⟩) (fun hs => absurd hn hs))))) (fun hs => br_f (by decide) ?_)
  obtain ⟨j, hj, rfl⟩ := NS_n hG hs
  rcases pk_ix v1 (n := 6) (by omega) with z | z | ⟨r, hr, rfl⟩
  · exact absurd z h0
  · exact absurd z h6
  rw [clI (by omega), vby (by omega)]
  refine ⟨pk_in r 6 hr, nm_e ?_⟩
  rw [cy_next, clI (by omega)]
  refine br_f h0 (br_f h5 (hy_signal hZ.1 (fun hn => absurd hn hs) (fun _ => br_f (by decide) ⟨pk_in r 20 (by omega), nm_e ⟨rfl, ?_⟩⟩)))
  have w1 : fr [11] u (sa u 11 (upd (ao u 11) r (nI j))) := fr_a fr_rf (by decide)
  have w2 : ry [6] v (say v 6 (upd (ay v 6) r (nI j))) := ry_a ry_rf (by decide)
  refine ⟨⟨G, kd, fi, se, th, fun x => if x = r then j else nx x, sh, ⟨hC.1, hG, hC.2.2.1, fun x hx => ?_, hC.2.2.2.2⟩, hZ.1, hZ.2.1, fun x hx => ?_, fun o ho => ?_⟩, Rd_fr I.2 w1 w2 (by decide) (fun G kd fi se th nx sh h => ⟨h.1, h.2.1, h.2.2.1, fun x hx => ?_, fun x hx => ?_⟩) (by decide)⟩
  · show upd (ao u 11) r (nI j) x = nI (if x = r then j else nx x) ∧ (if x = r then j else nx x) < _
    by_cases e : x = r
    · rw [e, u_s, if_pos rfl]; exact ⟨rfl, hj⟩
    · rw [u_n e, if_neg e]; exact hC.2.2.2.1 x hx
  · show upd (ay v 6) r (nI j) x = nI (if x = r then j else nx x)
    by_cases e : x = r
    · rw [e, u_s, if_pos rfl]
    · rw [u_n e, if_neg e]; exact hZ.2.2.1 x hx
  · show upd (ay v 6) r (nI j) (6 + o) = _
    rw [u_n (by omega)]; exact hZ.2.2.2 o ho
  · show upd (ay v 6) r (nI j) (10 + x) = _ ∧ _
    rw [u_n (by omega)]; exact h.2.2.2.1 x hx
  · show upd (ay v 6) r (nI j) (16 + x) = _ ∧ _
    rw [u_n (by omega)]; exact h.2.2.2.2 x hx
theorem i_vc_show {k : Nat} {u : SX} {v : SY} (I : i_Rel k u v) (hk : k + 5 ≤ 2560) (v1 : Int32) (v2 : Int32) : wpX_show (fun r u' => wpY_show (fun r' v' => r' = r ∧ i_Rel (k + 5) u' v') v v1 v2) u v1 v2 := by
  obtain ⟨G, kd, fi, se, th, nx, sh, hC, hZ⟩ := I.1
  have hG := hC.2.1
  have e5 : (3 : Int32) < v1 ↔ (4 : Int32) ≤ v1 := by
    rw [Int32.lt_iff_toInt_lt, Int32.le_iff_toInt_le, show (3 : Int32).toInt = 3 from by decide, show (4 : Int32).toInt = 4 from by decide]; omega
  rw [cx_show, cy_show]
  refine br_c (fun h => br_t h ⟨rfl, I⟩) (fun h0 => br_c (fun h => br_f h0 (br_t (e5.mpr h) ⟨rfl, I⟩)) (fun h6 => ?_))
  have h5 : ¬ (3 : Int32) < v1 := fun z => h6 (e5.mp z)
  refine hx_isSignal hC.1 (fun hn => br_t rfl (br_f h0 (br_f h5 (hy_signal hZ.1 (fun _ => br_t rfl ⟨rfl, I⟩) (fun hs => absurd hn hs))))) (fun hs => br_f (by decide) ?_)
  obtain ⟨j, hj, rfl⟩ := NS_n hG hs
  rcases pk_ix v1 (n := 4) (by omega) with z | z | ⟨r, hr, rfl⟩
  · exact absurd z h0
  · exact absurd z h6
  rw [clI (by omega), vby (by omega)]
  refine ⟨pk_in r 4 hr, nm_e ?_⟩
  rw [cy_show, show (6 : Int32) + nI r = nI (6 + r) from nI_add 6 r, clI (show 6 + r < 2 ^ 31 by omega)]
  refine br_f h0 (br_f h5 (hy_signal hZ.1 (fun hn => absurd hn hs) (fun _ => br_f (by decide) ⟨pk_in (6 + r) 20 (by omega), nm_e ⟨rfl, ?_⟩⟩)))
  have w1 : fr [12] u (sa u 12 (upd (ao u 12) r (nI j))) := fr_a fr_rf (by decide)
  have w2 : ry [6] v (say v 6 (upd (ay v 6) (6 + r) (nI j))) := ry_a ry_rf (by decide)
  refine ⟨⟨G, kd, fi, se, th, nx, fun x => if x = r then j else sh x, ⟨hC.1, hG, hC.2.2.1, hC.2.2.2.1, fun x hx => ?_⟩, hZ.1, hZ.2.1, fun x hx => ?_, fun o ho => ?_⟩, Rd_fr I.2 w1 w2 (by decide) (fun G kd fi se th nx sh h => ⟨h.1, h.2.1, h.2.2.1, fun x hx => ?_, fun x hx => ?_⟩) (by decide)⟩
  · show upd (ao u 12) r (nI j) x = nI (if x = r then j else sh x) ∧ (if x = r then j else sh x) < _
    by_cases e : x = r
    · rw [e, u_s, if_pos rfl]; exact ⟨rfl, hj⟩
    · rw [u_n e, if_neg e]; exact hC.2.2.2.2 x hx
  · show upd (ay v 6) (6 + r) (nI j) x = _
    rw [u_n (by omega)]; exact hZ.2.2.1 x hx
  · show upd (ay v 6) (6 + r) (nI j) (6 + o) = nI (if o = r then j else sh o)
    by_cases e : o = r
    · rw [e, u_s, if_pos rfl]
    · rw [u_n (by omega), if_neg e]; exact hZ.2.2.2 o ho
  · show upd (ay v 6) (6 + r) (nI j) (10 + x) = _ ∧ _
    rw [u_n (by omega)]; exact h.2.2.2.1 x hx
  · show upd (ay v 6) (6 + r) (nI j) (16 + x) = _ ∧ _
    rw [u_n (by omega)]; exact h.2.2.2.2 x hx
end
section
def stb (S i b : Nat) : Nat := if b = 1 then S ||| 2 ^ i else S &&& (63 - 2 ^ i)
theorem stb_I : ∀ i, i < 6 → ∀ b, b < 2 → ∀ S, S < 64 → (nI S &&& (((1 : Int32) <<< (nI i &&& 31)) ^^^ (-1))) ||| (nI b <<< (nI i &&& 31)) = nI (stb S i b) ∧ stb S i b < 64 := by decide +kernel
theorem stb_b : ∀ i, i < 6 → ∀ b, b < 2 → ∀ S, S < 64 → ∀ j, j < 6 → (stb S i b).testBit j = if j = i then decide (b = 1) else S.testBit j := by decide +kernel
theorem i_vc_set {k : Nat} {u : SX} {v : SY} (I : i_Rel k u v) (hk : k + 5 ≤ 2560) (v1 : Int32) (v2 : Int32) : wpX_set (fun r u' => wpY_set (fun r' v' => r' = r ∧ i_Rel (k + 5) u' v') v v1 v2) u v1 v2 := by
  have e5 : (5 : Int32) < v1 ↔ (6 : Int32) ≤ v1 := by
    rw [Int32.lt_iff_toInt_lt, Int32.le_iff_toInt_le, show (5 : Int32).toInt = 5 from by decide, show (6 : Int32).toInt = 6 from by decide]; omega
  rw [cx_set]
  refine br_c (fun h => ?_) (fun h0 => br_c (fun h => ?_) (fun h6 => br_c (fun h => ?_) (fun hv0 => br_c (fun hv1 => ?_) (fun h => ?_))))
  · rw [cy_set]; exact br_t h ⟨rfl, I⟩
  · rw [cy_set]; exact br_f h0 (br_t (e5.mpr h) ⟨rfl, I⟩)
  · rw [cy_set]; exact br_f h0 (br_f (fun z => h6 (e5.mp z)) (br_t h ⟨rfl, I⟩))
  · refine nm_e ?_
    rw [cy_set]
    refine br_f h0 (br_f (fun z => h6 (e5.mp z)) (br_f hv0 (br_t hv1 (nm_e ?_))))
    rcases pk_ix v1 (n := 6) (by omega) with z | z | ⟨i, hi, rfl⟩
    · exact absurd z h0
    · exact absurd z h6
    obtain ⟨b, hb, rfl⟩ := nI_of2 (M := 1) (n := 1) (by decide) hv0 hv1
    obtain ⟨L, l1, l2, l3, l4⟩ := I.2
    have hs := stb_I i hi b (by omega) L l3
    rw [l1, l2, hs.1]
    have w1 : fr [6] u (sf u 6 (nI (stb L i b))) := fr_f fr_rf (by decide)
    have w2 : ry [3] v (sfy v 3 (nI (stb L i b))) := ry_f ry_rf (by decide)
    obtain ⟨G, kd, fi, se, th, nx, sh, hC, hZ⟩ := I.1
    refine ⟨rfl, ⟨G, kd, fi, se, th, nx, sh, hC, hZ⟩, stb L i b, rfl, rfl, hs.2, ?_⟩
    rcases l4 with ⟨a, b⟩ | ⟨a, b, G, kd, fi, se, th, nx, sh, S, c, d, e⟩
    · exact Or.inl ⟨a, b⟩
    · obtain ⟨d1, d2, d3, d4, d5, d6⟩ := d
      exact Or.inr ⟨a, b, G, kd, fi, se, th, nx, sh, S, c, ⟨Dv_fr d1 w1, d2, rfl, hs.2, d5, d6⟩, e⟩
  · rw [cy_set]; exact br_f h0 (br_f (fun z => h6 (e5.mp z)) (br_f hv0 (br_f h ⟨rfl, I⟩)))
def Bd (G : Nat) (v1 v2 v3 v4 : Int32) : Prop := v1 < 0 ∨ 9 < v1 ∨ NS G v2 ∨ NS G v3 ∨ (¬ v1 < 7 ∧ NS G v4)
theorem hx_gate {post : Int32 → SX → Prop} {u : SX} {G : Nat} (hG : fo u 0 = nI G) {v1 v2 v3 v4 : Int32} (K0 : Bd G v1 v2 v3 v4 → post (-1) u) (K1 : ¬ Bd G v1 v2 v3 v4 → kx_gate_43 post v1 v2 v3 v4 u) : wpX_gate post u v1 v2 v3 v4 := by
  rw [cx_gate]
  refine br_c (fun h => K0 (Or.inl h)) (fun h0 => br_c (fun h => K0 (Or.inr (Or.inl h))) (fun h9 => hx_isSignal hG (fun h => br_t rfl (K0 (Or.inr (Or.inr (Or.inl h))))) (fun ha => br_f (by decide) (hx_isSignal hG (fun h => br_t rfl (K0 (Or.inr (Or.inr (Or.inr (Or.inl h)))))) (fun hb => br_f (by decide) (br_c (fun h7 => K1 ?_) (fun h7 => hx_isSignal hG (fun h => br_t rfl (K0 (Or.inr (Or.inr (Or.inr (Or.inr ⟨h7, h⟩)))))) (fun hc => br_f (by decide) (K1 ?_)))))))))
  · exact fun z => z.elim h0 (fun z => z.elim h9 (fun z => z.elim ha (fun z => z.elim hb (fun z => z.1 h7))))
  · exact fun z => z.elim h0 (fun z => z.elim h9 (fun z => z.elim ha (fun z => z.elim hb (fun z => hc z.2))))
theorem hy_gate {post : Int32 → SY → Prop} {v : SY} {G : Nat} (hG : fy v 0 = nI G) {v1 v2 v3 v4 : Int32} (K0 : Bd G v1 v2 v3 v4 → post (-1) v) (K1 : ¬ Bd G v1 v2 v3 v4 → ky_gate_43 post v1 v2 v3 v4 v) : wpY_gate post v v1 v2 v3 v4 := by
  rw [cy_gate]
  refine br_c (fun h => K0 (Or.inl h)) (fun h0 => br_c (fun h => K0 (Or.inr (Or.inl h))) (fun h9 => hy_signal hG (fun h => br_t rfl (K0 (Or.inr (Or.inr (Or.inl h))))) (fun ha => br_f (by decide) (hy_signal hG (fun h => br_t rfl (K0 (Or.inr (Or.inr (Or.inr (Or.inl h)))))) (fun hb => br_f (by decide) (br_c (fun h7 => K1 ?_) (fun h7 => hy_signal hG (fun h => br_t rfl (K0 (Or.inr (Or.inr (Or.inr (Or.inr ⟨h7, h⟩)))))) (fun hc => br_f (by decide) (K1 ?_)))))))))
  · exact fun z => z.elim h0 (fun z => z.elim h9 (fun z => z.elim ha (fun z => z.elim hb (fun z => z.1 h7))))
  · exact fun z => z.elim h0 (fun z => z.elim h9 (fun z => z.elim ha (fun z => z.elim hb (fun z => hc z.2))))
theorem hx_gate43 {post : Int32 → SX → Prop} {u : SX} {G : Nat} (hG : fo u 0 = nI G) (hlt : G < 20) {kk a b c : Nat} {v4 : Int32} (hkk : kk < 128) (ha : a < 128) (hb : b < 128) (hc : c < 128) (hc0 : kk < 7 → c = 0) (hc4 : 7 ≤ kk → v4 = nI c)
    (K : ∀ u', fr [0, 7, 8, 9, 10] u u' → fo u' 0 = nI (G + 1) → ao u' 7 = upd (ao u 7) G (nI kk) → ao u' 8 = upd (ao u 8) G (nI a) → ao u' 9 = upd (ao u 9) G (nI b) → ao u' 10 = upd (ao u 10) G (nI c) → post (nI (12 + G)) u') :
    kx_gate_43 post (nI kk) (nI a) (nI b) v4 u := by
  have e12 : (12 : Int32) + nI (G + 1) - 1 = nI (12 + G) := by
    show nI 12 + nI (G + 1) - nI 1 = _
    rw [nI_add, pk_sub (by omega)]
    exact congrArg nI (by omega)
  have fin : ∀ (w : SX) (x : Int32), x = nI c → fr [7, 8, 9] u w → ao w 7 = upd (ao u 7) G (nI kk) → ao w 8 = upd (ao u 8) G (nI a) → ao w 9 = upd (ao u 9) G (nI b) → kx_gate_108 post x (nI G) w := by
    intro w x hx f1 g1 g2 g3
    rw [cx_gate_108, hx, clI (by omega), vby hc, fr_fo f1 0, hG, fr_ao f1 10]
    refine ⟨pk_in G 20 hlt, nm_e (nm_r (nI_1 G) ?_)⟩
    rw [e12]
    refine K _ (fr_a (fr_f (fr_mn f1 (by decide)) (by decide)) (by decide)) ?_ ?_ ?_ ?_ ?_
    · rw [fo_a, fo_eq _ _ (by decide)]
    · rw [ao_ne _ _ (by decide), ao_f]; exact g1
    · rw [ao_ne _ _ (by decide), ao_f]; exact g2
    · rw [ao_ne _ _ (by decide), ao_f]; exact g3
    · rw [ao_eq _ _ (by decide) (by decide)]
  rw [cx_gate_43, hG, clI (by omega), vby hkk, vby ha, vby hb]
  refine br_t (nI_lt (b := 20) hlt (by omega)) ⟨pk_in G 20 hlt, nm_e ⟨pk_in G 20 hlt, nm_e ⟨pk_in G 20 hlt, nm_e ?_⟩⟩⟩
  have go : ∀ x : Int32, x = nI c → kx_gate_108 post x (nI G) (sa (sa (sa u 7 (upd (ao u 7) G (nI kk))) 8 (upd (ao u 8) G (nI a))) 9 (upd (ao u 9) G (nI b))) := by
    intro x hx
    refine fin _ x hx (fr_a (fr_a (fr_a fr_rf (by decide)) (by decide)) (by decide)) ?_ ?_ ?_
    · rw [ao_ne _ _ (by decide), ao_ne _ _ (by decide), ao_eq _ _ (by decide) (by decide)]
    · rw [ao_ne _ _ (by decide), ao_eq _ _ (by decide) (by decide)]
    · rw [ao_eq _ _ (by decide) (by decide)]
  exact pk_lt kk 7 (fun h7 => go _ (by rw [hc0 h7]; rfl)) (fun h7 => go _ (hc4 h7))
theorem hy_gate43 {post : Int32 → SY → Prop} {v : SY} {G : Nat} (hG : fy v 0 = nI G) (hlt : G < 20) {kk a b c : Nat} {v4 : Int32} (hkk : kk < 128) (hc0 : kk < 7 → c = 0) (hc4 : 7 ≤ kk → v4 = nI c)
    (K : ∀ v', ry [0, 5] v v' → fy v' 0 = nI (G + 1) → ay v' 5 = upd (upd (upd (upd (ay v 5) (4 * G) (nI kk)) (4 * G + 1) (nI a)) (4 * G + 2) (nI b)) (4 * G + 3) (nI c) → post (nI (12 + G)) v') :
    ky_gate_43 post (nI kk) (nI a) (nI b) v4 v := by
  have e12 : (11 : Int32) + nI (G + 1) = nI (12 + G) := by
    show nI 11 + nI (G + 1) = _
    rw [nI_add]
    exact congrArg nI (by omega)
  have e4 : (4 : Int32) * nI G = nI (4 * G) := pk_mul 4 G
  have e41 : nI (4 * G) + 1 = nI (4 * G + 1) := nI_add _ 1
  have e42 : nI (4 * G) + 2 = nI (4 * G + 2) := nI_add _ 2
  have e43 : nI (4 * G) + 3 = nI (4 * G + 3) := nI_add _ 3
  have fin : ∀ (w : SY) (x : Int32), x = nI c → ry [5] v w → ay w 5 = upd (upd (upd (ay v 5) (4 * G) (nI kk)) (4 * G + 1) (nI a)) (4 * G + 2) (nI b) → ky_gate_119 post x (nI (4 * G + 3)) w := by
    intro w x hx f1 g1
    rw [cy_gate_119, hx, clI (by omega), ry_fy f1 0, hG]
    refine ⟨pk_in (4 * G + 3) 160 (by omega), nm_e (nm_r (nI_1 G) ?_)⟩
    rw [e12]
    refine K _ (ry_a (ry_f (ry_mn f1 (by decide)) (by decide)) (by decide)) ?_ ?_
    · rw [fy_a]; rfl
    · rw [← g1]; rfl
  rw [cy_gate_43]
  simp only [hG, e4, e41, e42, e43, clI (show 4 * G < 2 ^ 31 by omega), clI (show 4 * G + 1 < 2 ^ 31 by omega), clI (show 4 * G + 2 < 2 ^ 31 by omega)]
  refine br_t (nI_lt (b := 20) hlt (by omega)) ⟨pk_in (4 * G) 160 (by omega), nm_e ⟨pk_in (4 * G + 1) 160 (by omega), nm_e ⟨pk_in (4 * G + 2) 160 (by omega), nm_e ?_⟩⟩⟩
  exact pk_lt kk 7 (fun h7 => fin _ _ (by rw [hc0 h7]; rfl) (ry_a ry_rf (by decide)) rfl) (fun h7 => fin _ _ (hc4 h7) (ry_a ry_rf (by decide)) rfl)
theorem i_vc_gate {k : Nat} {u : SX} {v : SY} (I : i_Rel k u v) (hk : k + 5 ≤ 2560) (v1 : Int32) (v2 : Int32) (v3 : Int32) (v4 : Int32) : wpX_gate (fun r u' => wpY_gate (fun r' v' => r' = r ∧ i_Rel (k + 5) u' v') v v1 v2 v3 v4) u v1 v2 v3 v4 := by
  obtain ⟨G, kd, fi, se, th, nx, sh, hC, hZ⟩ := I.1
  have hG := hC.2.1
  refine hx_gate hC.1 (fun hb => hy_gate hZ.1 (fun _ => ⟨rfl, I⟩) (fun hn => absurd hb hn)) (fun hn => ?_)
  by_cases hlt : G < 20
  · have n0 : ¬ v1 < 0 := fun z => hn (Or.inl z)
    have n9 : ¬ 9 < v1 := fun z => hn (Or.inr (Or.inl z))
    obtain ⟨kk, hkk, rfl⟩ : ∃ j, j < 10 ∧ v1 = nI j := by
      rcases pk_ix v1 (n := 10) (by omega) with z | z | z
      · exact absurd z n0
      · exfalso
        refine n9 ?_
        rw [Int32.lt_iff_toInt_lt, show (9 : Int32).toInt = 9 from by decide]
        rw [Int32.le_iff_toInt_le, nI_toInt (by omega)] at z
        omega
      · exact z
    obtain ⟨a, ha, rfl⟩ := NS_n hG (fun z => hn (Or.inr (Or.inr (Or.inl z))))
    obtain ⟨b, hb, rfl⟩ := NS_n hG (fun z => hn (Or.inr (Or.inr (Or.inr (Or.inl z)))))
    obtain ⟨c, hc, hc0, hc4⟩ : ∃ c, c < 12 + G ∧ (kk < 7 → c = 0) ∧ (7 ≤ kk → v4 = nI c) := by
      by_cases h7 : kk < 7
      · exact ⟨0, by omega, fun _ => rfl, fun h => absurd h (by omega)⟩
      · obtain ⟨c, hc, ec⟩ := NS_n hG (x := v4) (fun z => hn (Or.inr (Or.inr (Or.inr (Or.inr ⟨nI_nlt (b := 7) (by omega) (by omega), z⟩)))))
        exact ⟨c, hc, fun h => absurd h h7, fun _ => ec⟩
    refine hx_gate43 hC.1 hlt (by omega) (by omega) (by omega) (by omega) hc0 hc4 (fun u' w1 x0 x1 x2 x3 x4 => ?_)
    refine hy_gate hZ.1 (fun z => absurd z hn) (fun _ => hy_gate43 hZ.1 hlt (by omega) hc0 hc4 (fun v' w2 y0 y1 => ⟨rfl, ?_⟩))
    refine ⟨⟨G + 1, fun g => if g = G then kk else kd g, fun g => if g = G then a else fi g, fun g => if g = G then b else se g, fun g => if g = G then c else th g, nx, sh, ⟨x0, by omega, fun g hg => ?_, fun r hr => ?_, fun o ho => ?_⟩, y0, fun g hg => ?_, fun r hr => ?_, fun o ho => ?_⟩, Rd_fr I.2 w1 w2 (by decide) (fun G' kd' fi' se' th' nx' sh' h => ⟨?_, h.2.1, fun g hg => ?_, ?_⟩) (by decide)⟩
    · rw [x1, x2, x3, x4]
      dsimp only
      by_cases e : g = G
      · rw [e, u_s, u_s, u_s, u_s, if_pos rfl, if_pos rfl, if_pos rfl, if_pos rfl]
        exact ⟨rfl, by omega, rfl, ha, rfl, hb, rfl, hc⟩
      · rw [u_n e, u_n e, u_n e, u_n e, if_neg e, if_neg e, if_neg e, if_neg e]
        exact hC.2.2.1 g (by omega)
    · rw [fr_ao w1 11]
      exact ⟨(hC.2.2.2.1 r hr).1, by have := (hC.2.2.2.1 r hr).2; omega⟩
    · rw [fr_ao w1 12]
      exact ⟨(hC.2.2.2.2 o ho).1, by have := (hC.2.2.2.2 o ho).2; omega⟩
    · rw [y1]
      dsimp only
      by_cases e : g = G
      · rw [e, if_pos rfl, if_pos rfl, if_pos rfl, if_pos rfl]
        refine ⟨?_, ?_, ?_, u_s⟩
        · rw [u_n (by omega), u_n (by omega), u_n (by omega), u_s]
        · rw [u_n (by omega), u_n (by omega), u_s]
        · rw [u_n (by omega), u_s]
      · rw [if_neg e, if_neg e, if_neg e, if_neg e]
        have hz := hZ.2.1 g (by omega)
        refine ⟨?_, ?_, ?_, ?_⟩
        · rw [u_n (by omega), u_n (by omega), u_n (by omega), u_n (by omega)]; exact hz.1
        · rw [u_n (by omega), u_n (by omega), u_n (by omega), u_n (by omega)]; exact hz.2.1
        · rw [u_n (by omega), u_n (by omega), u_n (by omega), u_n (by omega)]; exact hz.2.2.1
        · rw [u_n (by omega), u_n (by omega), u_n (by omega), u_n (by omega)]; exact hz.2.2.2
    · rw [ry_ay w2 6]; exact hZ.2.2.1 r hr
    · rw [ry_ay w2 6]; exact hZ.2.2.2 o ho
    · rw [ry_fy w2 1]; exact h.1
    · have old : ∀ j, 80 ≤ j → ay v' 5 j = ay v 5 j := fun j hj => by
        rw [y1, u_n (by omega), u_n (by omega), u_n (by omega), u_n (by omega)]
      rw [old _ (by omega), old _ (by omega), old _ (by omega), old _ (by omega)]
      exact h.2.2.1 g hg
    · rw [ry_ay w2 6]; exact h.2.2.2
  · rw [cx_gate_43, hC.1]
    refine br_f (nI_nlt (b := 20) (by omega) (by omega)) ?_
    refine hy_gate hZ.1 (fun z => absurd z hn) (fun _ => ?_)
    rw [cy_gate_43, hZ.1]
    exact br_f (nI_nlt (b := 20) (by omega) (by omega)) ⟨rfl, I⟩
end
section
theorem hx_drop {post : Int32 → SX → Prop} {u : SX} {G : Nat} {nx sh : Nat → Nat} (hG : fo u 0 = nI (G + 1)) (hG20 : G < 20) (hn : ∀ r, r < 6 → ao u 11 r = nI (nx r) ∧ nx r < 128) (hs : ∀ o, o < 4 → ao u 12 o = nI (sh o) ∧ sh o < 128)
    (K : ∀ u', fr [0, 11, 12] u u' → fo u' 0 = nI G → (∀ r, r < 6 → ao u' 11 r = nI (if nx r = 12 + G then 6 + r else nx r)) → (∀ o, o < 4 → ao u' 12 o = nI (if sh o = 12 + G then 0 else sh o)) → post (nI (12 + G)) u') : wpX_drop post u := by
  rw [cx_drop, hG]
  refine br_f (nI_ne0 (by omega) (by omega)) (nm_r (nI_pred G) ?_)
  have e12 : (12 : Int32) + nI G = nI (12 + G) := nI_add 12 G
  refine pk_loop (fun a r s => kx_drop_21 post a (nI r) s) (fun r s => fr [0, 11] u s ∧ fo s 0 = nI G ∧ (∀ r', r' < r → ao s 11 r' = nI (if nx r' = 12 + G then 6 + r' else nx r')) ∧ ∀ r', r ≤ r' → ao s 11 r' = ao u 11 r') 6 0 _ (Nat.zero_le _) ⟨fr_f fr_rf (by decide), rfl, fun r hr => by omega, fun r _ => rfl⟩ ?_ ?_
  · rintro a s ⟨f1, f2, f3, _⟩
    show kx_drop_21 _ _ _ _
    rw [cx_drop_21]
    refine pk_le 6 6 (fun _ => ?_) (fun h => absurd h (by omega))
    refine pk_loop (fun a o w => kx_drop_71 post a (nI o) w) (fun o w => fr [12] s w ∧ (∀ o', o' < o → ao w 12 o' = nI (if sh o' = 12 + G then 0 else sh o')) ∧ ∀ o', o ≤ o' → ao w 12 o' = ao s 12 o') 4 0 s (Nat.zero_le _) ⟨fr_rf, fun r hr => by omega, fun r _ => rfl⟩ ?_ ?_
    · rintro a w ⟨g1, g2, _⟩
      show kx_drop_71 _ _ _ _
      rw [cx_drop_71, fr_fo g1 0, f2, e12]
      exact pk_le 4 4 (fun _ => K w (fr_tr (fr_mn f1 (by decide)) (fr_mn g1 (by decide))) (by rw [fr_fo g1 0]; exact f2) (fun r hr => by rw [fr_ao g1 11]; exact f3 r hr) g2) (fun h => absurd h (by omega))
    · rintro a o w ho ⟨g1, g2, g3⟩ hr
      have hso := hs o ho
      have eo : ao w 12 o = nI (sh o) := by rw [g3 o (Nat.le_refl _), fr_ao f1 12]; exact hso.1
      have put : ∀ x : Int32, x = nI (if sh o = 12 + G then 0 else sh o) → kx_drop_71 post a (nI (o + 1)) (sa w 12 (upd (ao w 12) o x)) := by
        intro x hx
        refine hr _ ⟨fr_a g1 (by decide), fun o' ho' => ?_, fun o' ho' => ?_⟩
        · show upd (ao w 12) o x o' = _
          by_cases e : o' = o
          · rw [e, u_s]; exact hx
          · rw [u_n e]; exact g2 o' (by omega)
        · show upd (ao w 12) o x o' = _
          rw [u_n (by omega)]; exact g3 o' (by omega)
      show kx_drop_71 _ _ _ _
      rw [cx_drop_71]
      simp only [fr_fo g1 0, f2, e12, clI (show o < 2 ^ 31 by omega), eo, vbn hso.2]
      refine pk_le 4 o (fun h => absurd h (by omega)) (fun _ => ⟨pk_in o 4 ho, pk_eq (sh o) (12 + G) (fun e => ⟨pk_in o 4 ho, nm_e (nm_r (nI_1 o) (put _ ?_))⟩) (fun e => ⟨pk_in o 4 ho, pk_in o 4 ho, nm_e (nm_r (nI_1 o) (put _ ?_))⟩)⟩)
      · rw [if_pos e]; exact vbn (m := 0) (by omega)
      · rw [if_neg e]
  · rintro a r s hr ⟨f1, f2, f3, f4⟩ hk
    have hnr := hn r hr
    have er : ao s 11 r = nI (nx r) := by rw [f4 r (Nat.le_refl _)]; exact hnr.1
    have e6 : (6 : Int32) + nI r = nI (6 + r) := nI_add 6 r
    have put : ∀ x : Int32, x = nI (if nx r = 12 + G then 6 + r else nx r) → kx_drop_21 post a (nI (r + 1)) (sa s 11 (upd (ao s 11) r x)) := by
      intro x hx
      refine hk _ ⟨fr_a f1 (by decide), f2, fun o' ho' => ?_, fun o' ho' => ?_⟩
      · show upd (ao s 11) r x o' = _
        by_cases e : o' = r
        · rw [e, u_s]; exact hx
        · rw [u_n e]; exact f3 o' (by omega)
      · show upd (ao s 11) r x o' = _
        rw [u_n (by omega)]; exact f4 o' (by omega)
    show kx_drop_21 _ _ _ _
    rw [cx_drop_21]
    simp only [f2, e12, e6, clI (show r < 2 ^ 31 by omega), er, vbn hnr.2, vby (show 6 + r < 128 by omega)]
    refine pk_le 6 r (fun h => absurd h (by omega)) (fun _ => ⟨pk_in r 6 hr, pk_eq (nx r) (12 + G) (fun e => ⟨pk_in r 6 hr, nm_e (nm_r (nI_1 r) (put _ (by rw [if_pos e])))⟩) (fun e => ⟨pk_in r 6 hr, pk_in r 6 hr, nm_e (nm_r (nI_1 r) (put _ (by rw [if_neg e])))⟩)⟩)
theorem hy_drop {post : Int32 → SY → Prop} {v : SY} {G : Nat} {W : Nat → Nat} (hG : fy v 0 = nI (G + 1)) (hG20 : G < 20) (hw : ∀ w, w < 10 → ay v 6 w = nI (W w) ∧ W w < 128)
    (K : ∀ v', ry [0, 6] v v' → fy v' 0 = nI G → (∀ w, w < 10 → ay v' 6 w = nI (if W w = 12 + G then (if w < 6 then 6 + w else 0) else W w)) → (∀ w, 10 ≤ w → ay v' 6 w = ay v 6 w) → post (nI (12 + G)) v') : wpY_drop post v := by
  rw [cy_drop, hG]
  refine br_f (nI_ne0 (by omega) (by omega)) (nm_r (nI_pred G) ?_)
  have e12 : (12 : Int32) + nI G = nI (12 + G) := nI_add 12 G
  refine pk_loop (fun a w s => ky_drop_21 post a (nI w) s) (fun w s => ry [0, 6] v s ∧ fy s 0 = nI G ∧ (∀ w', w' < w → ay s 6 w' = nI (if W w' = 12 + G then (if w' < 6 then 6 + w' else 0) else W w')) ∧ ∀ w', w ≤ w' → ay s 6 w' = ay v 6 w') 10 0 _ (Nat.zero_le _) ⟨ry_f ry_rf (by decide), rfl, fun r hr => by omega, fun r _ => rfl⟩ ?_ ?_
  · rintro a s ⟨f1, f2, f3, f4⟩
    show ky_drop_21 _ _ _ _
    rw [cy_drop_21, f2, e12]
    exact pk_le 10 10 (fun _ => K s f1 f2 f3 f4) (fun h => absurd h (by omega))
  · rintro a w s hw10 ⟨f1, f2, f3, f4⟩ hk
    have hnr := hw w hw10
    have er : ay s 6 w = nI (W w) := by rw [f4 w (Nat.le_refl _)]; exact hnr.1
    have e6 : (6 : Int32) + nI w = nI (6 + w) := nI_add 6 w
    have put : ∀ x : Int32, x = nI (if W w = 12 + G then (if w < 6 then 6 + w else 0) else W w) → ky_drop_21 post a (nI (w + 1)) (say s 6 (upd (ay s 6) w x)) := by
      intro x hx
      refine hk _ ⟨ry_a f1 (by decide), f2, fun o' ho' => ?_, fun o' ho' => ?_⟩
      · show upd (ay s 6) w x o' = _
        by_cases e : o' = w
        · rw [e, u_s]; exact hx
        · rw [u_n e]; exact f3 o' (by omega)
      · show upd (ay s 6) w x o' = _
        rw [u_n (by omega)]; exact f4 o' (by omega)
    show ky_drop_21 _ _ _ _
    rw [cy_drop_21]
    simp only [f2, e12, e6, clI (show w < 2 ^ 31 by omega), er]
    refine pk_le 10 w (fun h => absurd h (by omega)) (fun _ => ⟨pk_in w 20 (by omega), pk_eq (W w) (12 + G) (fun e => pk_le 6 w (fun h6 => ⟨pk_in w 20 (by omega), nm_e (nm_r (nI_1 w) (put _ ?_))⟩) (fun h6 => ⟨pk_in w 20 (by omega), nm_e (nm_r (nI_1 w) (put _ (by rw [if_pos e, if_pos h6])))⟩)) (fun e => ⟨pk_in w 20 (by omega), pk_in w 20 (by omega), nm_e (nm_r (nI_1 w) (put _ (by rw [if_neg e])))⟩)⟩)
    rw [if_pos e, if_neg (by omega)]; rfl
theorem i_vc_drop {k : Nat} {u : SX} {v : SY} (I : i_Rel k u v) (hk : k + 5 ≤ 2560) : wpX_drop (fun r u' => wpY_drop (fun r' v' => r' = r ∧ i_Rel (k + 5) u' v') v) u := by
  obtain ⟨G, kd, fi, se, th, nx, sh, hC, hZ⟩ := I.1
  have hG := hC.2.1
  cases G with
  | zero =>
    rw [cx_drop, hC.1]
    refine br_t (by decide) ?_
    rw [cy_drop, hZ.1]
    exact br_t (by decide) ⟨rfl, I⟩
  | succ G =>
    refine hx_drop hC.1 (by omega) (fun r hr => ⟨(hC.2.2.2.1 r hr).1, by have := (hC.2.2.2.1 r hr).2; omega⟩) (fun o ho => ⟨(hC.2.2.2.2 o ho).1, by have := (hC.2.2.2.2 o ho).2; omega⟩) (fun u' f1 f2 f3 f4 => ?_)
    have hs : ∀ c, c < 10 → sgx nx sh c < 12 + (G + 1) := by
      intro c hc
      unfold sgx
      split
      · next h6 => exact (hC.2.2.2.1 c h6).2
      · exact (hC.2.2.2.2 (c - 6) (by omega)).2
    have hw : ∀ w, w < 10 → ay v 6 w = nI (sgx nx sh w) := by
      intro w hw
      unfold sgx
      by_cases h6 : w < 6
      · rw [if_pos h6]; exact hZ.2.2.1 w h6
      · rw [if_neg h6]
        have := hZ.2.2.2 (w - 6) (by omega)
        rw [show 6 + (w - 6) = w from by omega] at this
        exact this
    refine hy_drop (W := sgx nx sh) hZ.1 (by omega) (fun w h => ⟨hw w h, by have := hs w h; omega⟩) (fun v' g1 g2 g3 g4 => ⟨rfl, ?_⟩)
    refine ⟨⟨G, kd, fi, se, th, fun r => if nx r = 12 + G then 6 + r else nx r, fun o => if sh o = 12 + G then 0 else sh o, ⟨f2, by omega, fun g hg => ?_, fun r hr => ⟨f3 r hr, ?_⟩, fun o ho => ⟨f4 o ho, ?_⟩⟩, g2, fun g hg => ?_, fun r hr => ?_, fun o ho => ?_⟩, Rd_fr I.2 f1 g1 (by decide) (fun G' kd' fi' se' th' nx' sh' h => ⟨?_, h.2.1, ?_, fun x hx => ?_, fun x hx => ?_⟩) (by decide)⟩
    · rw [fr_ao f1 7, fr_ao f1 8, fr_ao f1 9, fr_ao f1 10]; exact hC.2.2.1 g (by omega)
    · have := (hC.2.2.2.1 r hr).2
      dsimp only
      split <;> omega
    · have := (hC.2.2.2.2 o ho).2
      dsimp only
      split <;> omega
    · rw [ry_ay g1 5]; exact hZ.2.1 g (by omega)
    · have := g3 r (by omega)
      unfold sgx at this
      rw [if_pos hr, if_pos hr] at this
      exact this
    · have := g3 (6 + o) (by omega)
      have es : sgx nx sh (6 + o) = sh o := by unfold sgx; rw [if_neg (by omega), Nat.add_sub_cancel_left]
      rw [es, if_neg (show ¬ 6 + o < 6 by omega)] at this
      exact this
    · rw [ry_fy g1 1]; exact h.1
    · rw [ry_ay g1 5]; exact h.2.2.1
    · rw [g4 _ (by omega)]; exact h.2.2.2.1 x hx
    · rw [g4 _ (by omega)]; exact h.2.2.2.2 x hx
end
section
def kx_clock_21 (post : Int32 → SX → Prop) (x1 : Int32) (n : Nat) (x2 : Int32) (u : SX) : Prop := match u with
  | (qf_gates, qf_nodes, qf_joinedSize, qf_cells, qf_chanceState, qf_isBuilt, qf_levels, qa_kinds, qa_firsts, qa_seconds, qa_thirds, qa_nextOf, qa_shownBy, qa_left, qa_right, qa_endOf, qa_cutCount, qa_cutSize, qa_cutLeaf, qa_cutDepth, qa_depthOf, qa_needed, qa_tableOf, qa_rows, qa_joined, qa_tableBits, qa_cellSource, qa_placeOf, qa_cellAt, qa_used, qa_worn, qa_inTree, qa_treeFrom, qa_farness, qa_cameFrom, qa_settled, qa_trackTaken, qa_trackOf, qa_switchBits, qa_pinTrack, qa_outTrack, qa_padTrack, qa_deviceTable, qa_hasFlip, qa_registerPlace, qa_outputPlace, qa_wireRoot, qa_wireLevel, qa_flip, qa_tableOut) => wX_clock_21 post x1 n x2 qf_gates qf_nodes qf_joinedSize qf_cells qf_chanceState qf_isBuilt qf_levels qa_kinds qa_firsts qa_seconds qa_thirds qa_nextOf qa_shownBy qa_left qa_right qa_endOf qa_cutCount qa_cutSize qa_cutLeaf qa_cutDepth qa_depthOf qa_needed qa_tableOf qa_rows qa_joined qa_tableBits qa_cellSource qa_placeOf qa_cellAt qa_used qa_worn qa_inTree qa_treeFrom qa_farness qa_cameFrom qa_settled qa_trackTaken qa_trackOf qa_switchBits qa_pinTrack qa_outTrack qa_padTrack qa_deviceTable qa_hasFlip qa_registerPlace qa_outputPlace qa_wireRoot qa_wireLevel qa_flip qa_tableOut
theorem cx_clock_21 (post : Int32 → SX → Prop) (x1 : Int32) (n : Nat) (x2 : Int32) (u : SX) : kx_clock_21 post x1 (n + 1) x2 u = (((x1 ≤ x2 → (wpX_readRegisters (fun r_5 => (post r_5 u)) u)) ∧ (¬ x1 ≤ x2 → (wpX_tick (fun u1 => (∀ x2_107 : Int32, x2_107 = x2 + 1 → (kx_clock_21 post x1 n x2_107 u1))) u)))) := rfl
theorem cx_clock (post : Int32 → SX → Prop) (u : SX) (p0 : Int32) : wpX_clock post u p0 = ((((fo u 5) = 0 → (post (- 1) u)) ∧ (¬ (fo u 5) = 0 → (((p0 < 0 → (post (- 1) u)) ∧ (¬ p0 < 0 → (((p0 ≤ 20 → (∃ n21 : Nat, kx_clock_21 post p0 n21 0 u)) ∧ (¬ p0 ≤ 20 → (post (- 1) u)))))))))) := rfl
theorem cx_registers (post : Int32 → Prop) (u : SX) : wpX_registers post u = ((((fo u 5) = 0 → (post (- 1))) ∧ (¬ (fo u 5) = 0 → (wpX_readRegisters (fun r_2 => (post r_2)) u)))) := rfl
theorem cx_load (post : Int32 → SX → Prop) (u : SX) (p0 : Int32) (p1 : Int32) : wpX_load post u p0 p1 = ((((fo u 5) = 0 → (post 0 u)) ∧ (¬ (fo u 5) = 0 → (((p0 < 0 → (post 0 u)) ∧ (¬ p0 < 0 → (((6 ≤ p0 → (post 0 u)) ∧ (¬ 6 ≤ p0 → (((p1 < 0 → (post 0 u)) ∧ (¬ p1 < 0 → (((p1 ≤ 1 → (vp_in p0 6 ∧ (vp_in ((ao u 44) p0.toNatClampNeg) 36 ∧ ∀ a_flip_8 : Nat → Int32, a_flip_8 = upd (ao u 48) ((ao u 44) p0.toNatClampNeg).toNatClampNeg (vp_nar .byte p1.toInt8.toInt32) → (post 1 (sa u 48 a_flip_8))))) ∧ (¬ p1 ≤ 1 → (post 0 u)))))))))))))))) := rfl
theorem cx_feed (post : Int32 → SX → Prop) (u : SX) (p0 : Int32) : wpX_feed post u p0 = ((((fo u 5) = 0 → (post (- 1) u)) ∧ (¬ (fo u 5) = 0 → (((p0 < 0 → (post (- 1) u)) ∧ (¬ p0 < 0 → (((p0 ≤ 63 → (wpX_outputs (fun r_4 u1 => (wpX_tick (fun u2 => (post r_4 u2)) u1)) (sf u 6 p0))) ∧ (¬ p0 ≤ 63 → (post (- 1) u)))))))))) := rfl
def ky_build_44 (post : Int32 → SY → Prop) (n : Nat) (x2 : Int32) (u : SY) : Prop := match u with
  | (qf_size, qf_builtSize, qf_isBuilt, qf_given, qf_state, qa_gates, qa_wires, qa_values, qa_seen) => wY_build_44 post qf_size qf_builtSize qf_isBuilt qf_given qf_state n x2 qa_gates qa_wires qa_values qa_seen
theorem cy_build_44 (post : Int32 → SY → Prop) (n : Nat) (x2 : Int32) (u : SY) : ky_build_44 post (n + 1) x2 u = (((10 ≤ x2 → (post 1 (sfy (sfy (sfy u 1 (fy u 0)) 2 1) 4 0))) ∧ (¬ 10 ≤ x2 → (vp_in x2 20 ∧ (vp_in (10 + x2) 20 ∧ ∀ a_wires_7 : Nat → Int32, a_wires_7 = upd (ay u 6) (10 + x2).toNatClampNeg ((ay u 6) x2.toNatClampNeg) → (∀ x2_8 : Int32, x2_8 = x2 + 1 → (ky_build_44 post n x2_8 (say u 6 a_wires_7)))))))) := by simp only [n_ffy, n_afy, n_aay, n_fmy, n_amy]; rfl
def ky_build_15 (post : Int32 → SY → Prop) (n : Nat) (x2 : Int32) (u : SY) : Prop := match u with
  | (qf_size, qf_builtSize, qf_isBuilt, qf_given, qf_state, qa_gates, qa_wires, qa_values, qa_seen) => wY_build_15 post qf_size qf_builtSize qf_isBuilt qf_given qf_state n x2 qa_gates qa_wires qa_values qa_seen
theorem cy_build_15 (post : Int32 → SY → Prop) (n : Nat) (x2 : Int32) (u : SY) : ky_build_15 post (n + 1) x2 u = (((80 ≤ x2 → (∃ n44 : Nat, ky_build_44 post n44 0 u)) ∧ (¬ 80 ≤ x2 → (vp_in x2 160 ∧ (vp_in (80 + x2) 160 ∧ ∀ a_gates_11 : Nat → Int32, a_gates_11 = upd (ay u 5) (80 + x2).toNatClampNeg ((ay u 5) x2.toNatClampNeg) → (∀ x2_12 : Int32, x2_12 = x2 + 1 → (ky_build_15 post n x2_12 (say u 5 a_gates_11)))))))) := rfl
theorem cy_build (post : Int32 → SY → Prop) (u : SY) (p0 : Int32) : wpY_build post u p0 = (((p0 < 0 → (post 0 u)) ∧ (¬ p0 < 0 → (((p0 ≤ 1000 → (∃ n15 : Nat, ky_build_15 post n15 0 u)) ∧ (¬ p0 ≤ 1000 → (post 0 u))))))) := rfl
def ky_clock_21 (post : Int32 → SY → Prop) (x1 : Int32) (n : Nat) (x2 : Int32) (u : SY) : Prop := match u with
  | (qf_size, qf_builtSize, qf_isBuilt, qf_given, qf_state, qa_gates, qa_wires, qa_values, qa_seen) => wY_clock_21 post x1 n x2 qf_size qf_builtSize qf_isBuilt qf_given qf_state qa_gates qa_wires qa_values qa_seen
theorem cy_clock_21 (post : Int32 → SY → Prop) (x1 : Int32) (n : Nat) (x2 : Int32) (u : SY) : ky_clock_21 post x1 (n + 1) x2 u = (((x1 ≤ x2 → (post (fy u 4) u)) ∧ (¬ x1 ≤ x2 → (wpY_following (fun r_5 u1 => (∀ x2_15 : Int32, x2_15 = x2 + 1 → (ky_clock_21 post x1 n x2_15 (sfy u1 4 r_5)))) u (fy u 4))))) := rfl
theorem cy_clock (post : Int32 → SY → Prop) (u : SY) (p0 : Int32) : wpY_clock post u p0 = ((((fy u 2) = 0 → (post (- 1) u)) ∧ (¬ (fy u 2) = 0 → (((p0 < 0 → (post (- 1) u)) ∧ (¬ p0 < 0 → (((p0 ≤ 20 → (∃ n21 : Nat, ky_clock_21 post p0 n21 0 u)) ∧ (¬ p0 ≤ 20 → (post (- 1) u)))))))))) := rfl
theorem cy_registers (post : Int32 → Prop) (u : SY) : wpY_registers post u = ((((fy u 2) = 0 → (post (- 1))) ∧ (¬ (fy u 2) = 0 → (post (fy u 4))))) := rfl
theorem cy_load (post : Int32 → SY → Prop) (u : SY) (p0 : Int32) (p1 : Int32) : wpY_load post u p0 p1 = ((((fy u 2) = 0 → (post 0 u)) ∧ (¬ (fy u 2) = 0 → (((p0 < 0 → (post 0 u)) ∧ (¬ p0 < 0 → (((5 < p0 → (post 0 u)) ∧ (¬ 5 < p0 → (((p1 < 0 → (post 0 u)) ∧ (¬ p1 < 0 → (((p1 ≤ 1 → (∀ f_state_6 : Int32, f_state_6 = ((fy u 4) &&& (((1 : Int32) <<< (p0 &&& 31)) ^^^ (- 1))) ||| (p1 <<< (p0 &&& 31)) → (post 1 (sfy u 4 f_state_6)))) ∧ (¬ p1 ≤ 1 → (post 0 u)))))))))))))))) := rfl
theorem cy_feed (post : Int32 → SY → Prop) (u : SY) (p0 : Int32) : wpY_feed post u p0 = ((((fy u 2) = 0 → (post (- 1) u)) ∧ (¬ (fy u 2) = 0 → (((p0 < 0 → (post (- 1) u)) ∧ (¬ p0 < 0 → (((p0 ≤ 63 → (wpY_outputs (fun r_4 u1 => (wpY_following (fun r_14 u2 => (post r_4 (sfy u2 4 r_14))) u1 (fy u1 4))) (sfy u 3 p0))) ∧ (¬ p0 ≤ 63 → (post (- 1) u)))))))))) := rfl
theorem cy_tail (post : Int32 → SY → Prop) (u : SY) : wpY_tail post u = ((((fy u 2) = 0 → (post (- 1) u)) ∧ (¬ (fy u 2) = 0 → (wpY_circle (fun r_2 u1 => (¬ (1024 : Int32) = 0 ∧ (post (r_2 - r_2 / 1024 * 1024) u1))) u)))) := rfl
theorem cy_period (post : Int32 → SY → Prop) (u : SY) : wpY_period post u = ((((fy u 2) = 0 → (post (- 1) u)) ∧ (¬ (fy u 2) = 0 → (wpY_circle (fun r_2 u1 => (¬ (1024 : Int32) = 0 ∧ (post (r_2 / 1024) u1))) u)))) := rfl
theorem hy_build {post : Int32 → SY → Prop} {v : SY} (K : ∀ v', ry [1, 2, 4, 5, 6] v v' → fy v' 1 = fy v 0 → fy v' 2 = 1 → fy v' 4 = nI 0 → (∀ j, j < 80 → ay v' 5 j = ay v 5 j ∧ ay v' 5 (80 + j) = ay v 5 j) → (∀ w, w < 10 → ay v' 6 w = ay v 6 w ∧ ay v' 6 (10 + w) = ay v 6 w) → post 1 v') : ∃ a, ky_build_15 post a 0 v := by
  refine pk_loop (fun a j s => ky_build_15 post a (nI j) s) (fun j s => ry [5] v s ∧ (∀ j', j' < j → ay s 5 (80 + j') = ay v 5 j') ∧ ∀ j', j' < 80 → ay s 5 j' = ay v 5 j') 80 0 v (Nat.zero_le _) ⟨ry_rf, fun j hj => by omega, fun _ _ => rfl⟩ ?_ ?_
  · rintro a s ⟨f1, f2, f3⟩
    show ky_build_15 _ _ _ _
    rw [cy_build_15]
    refine pk_le 80 80 (fun _ => ?_) (fun h => absurd h (by omega))
    refine pk_loop (fun a w x => ky_build_44 post a (nI w) x) (fun w x => ry [6] s x ∧ (∀ w', w' < w → ay x 6 (10 + w') = ay s 6 w') ∧ ∀ w', w' < 10 → ay x 6 w' = ay s 6 w') 10 0 s (Nat.zero_le _) ⟨ry_rf, fun j hj => by omega, fun _ _ => rfl⟩ ?_ ?_
    · rintro a x ⟨g1, g2, g3⟩
      show ky_build_44 _ _ _ _
      rw [cy_build_44]
      refine pk_le 10 10 (fun _ => K _ (ry_f (ry_f (ry_f (ry_tr (ry_mn f1 (by decide)) (ry_mn g1 (by decide))) (by decide)) (by decide)) (by decide)) ?_ rfl rfl (fun j hj => ?_) (fun w hw => ?_)) (fun h => absurd h (by omega))
      · show fy x 0 = _
        rw [ry_fy g1 0, ry_fy f1 0]
      · show ay x 5 j = _ ∧ ay x 5 (80 + j) = _
        rw [ry_ay g1 5]; exact ⟨f3 j hj, f2 j hj⟩
      · show ay x 6 w = _ ∧ ay x 6 (10 + w) = _
        rw [g2 w hw, g3 w hw, ry_ay f1 6]; exact ⟨rfl, rfl⟩
    · rintro a w x hw ⟨g1, g2, g3⟩ hr
      have e10 : (10 : Int32) + nI w = nI (10 + w) := nI_add 10 w
      show ky_build_44 _ _ _ _
      rw [cy_build_44]
      simp only [e10, clI (show w < 2 ^ 31 by omega), clI (show 10 + w < 2 ^ 31 by omega)]
      refine pk_le 10 w (fun h => absurd h (by omega)) (fun _ => ⟨pk_in w 20 (by omega), pk_in (10 + w) 20 (by omega), nm_e (nm_r (nI_1 w) (hr _ ⟨ry_a g1 (by decide), fun w' hw' => ?_, fun w' hw' => ?_⟩))⟩)
      · show upd (ay x 6) (10 + w) _ (10 + w') = _
        by_cases e : w' = w
        · rw [e, u_s, g3 w hw]
        · rw [u_n (by omega)]; exact g2 w' (by omega)
      · show upd (ay x 6) (10 + w) _ w' = _
        rw [u_n (by omega)]; exact g3 w' hw'
  · rintro a j s hj ⟨f1, f2, f3⟩ hr
    have e80 : (80 : Int32) + nI j = nI (80 + j) := nI_add 80 j
    show ky_build_15 _ _ _ _
    rw [cy_build_15]
    simp only [e80, clI (show j < 2 ^ 31 by omega), clI (show 80 + j < 2 ^ 31 by omega)]
    refine pk_le 80 j (fun h => absurd h (by omega)) (fun _ => ⟨pk_in j 160 (by omega), pk_in (80 + j) 160 (by omega), nm_e (nm_r (nI_1 j) (hr _ ⟨ry_a f1 (by decide), fun w' hw' => ?_, fun w' hw' => ?_⟩))⟩)
    · show upd (ay s 5) (80 + j) _ (80 + w') = _
      by_cases e : w' = j
      · rw [e, u_s, f3 j hj]
      · rw [u_n (by omega)]; exact f2 w' (by omega)
    · show upd (ay s 5) (80 + j) _ w' = _
      rw [u_n (by omega)]; exact f3 w' hw'
theorem i_vc_build {k : Nat} {u : SX} {v : SY} (I : i_Rel k u v) (hk : k + 5 ≤ 2560) (v1 : Int32) : wpX_build (fun r u' => wpY_build (fun r' v' => r' = r ∧ i_Rel (k + 5) u' v') v v1) u v1 := by
  by_cases h0 : v1 < 0
  · rw [cx_build]
    refine br_t h0 ?_
    rw [cy_build]
    exact br_t h0 ⟨rfl, I⟩
  by_cases h1 : v1 ≤ 1000
  · obtain ⟨x, hx, rfl⟩ := nI_of2 (M := 1000) (n := 1000) (by decide) h0 h1
    obtain ⟨G, kd, fi, se, th, nx, sh, hC, hZ⟩ := I.1
    obtain ⟨L, l1, l2, l3, _⟩ := I.2
    refine hx_build hC hx (fun u' f1 b1 b2 b3 b4 => ?_)
    rw [cy_build]
    refine br_f h0 (br_t h1 (hy_build (fun v' g1 y1 y2 y3 y4 y5 => ⟨rfl, ?_⟩)))
    have hR := (Dv_R b2).1
    have hYd : Yd v' G kd fi se th nx sh := by
      refine ⟨by rw [y1]; exact hZ.1, hC.2.1, fun g hg => ?_, fun r hr => ⟨?_, (hC.2.2.2.1 r hr).2⟩, fun o ho => ⟨?_, (hC.2.2.2.2 o ho).2⟩⟩
      · have hc := hC.2.2.1 g hg
        have hz := hZ.2.1 g hg
        have hG := hC.2.1
        refine ⟨?_, hc.2.1, ?_, hc.2.2.2.1, ?_, hc.2.2.2.2.2.1, ?_, hc.2.2.2.2.2.2.2⟩
        · rw [(y4 (4 * g) (by omega)).2]; exact hz.1
        · rw [show 80 + 4 * g + 1 = 80 + (4 * g + 1) from by omega, (y4 (4 * g + 1) (by omega)).2]; exact hz.2.1
        · rw [show 80 + 4 * g + 2 = 80 + (4 * g + 2) from by omega, (y4 (4 * g + 2) (by omega)).2]; exact hz.2.2.1
        · rw [show 80 + 4 * g + 3 = 80 + (4 * g + 3) from by omega, (y4 (4 * g + 3) (by omega)).2]; exact hz.2.2.2
      · rw [(y5 r (by omega)).2]; exact hZ.2.2.1 r hr
      · rw [show 16 + o = 10 + (6 + o) from by omega, (y5 (6 + o) (by omega)).2]; exact hZ.2.2.2 o ho
    have e1 : fo u' 6 = nI L := by rw [fr_fo f1 6 (by unfold LB; decide)]; exact l1
    refine ⟨⟨G, kd, fi, se, th, nx, sh, ?_, ?_, fun g hg => ?_, fun r hr => ?_, fun o ho => ?_⟩, L, e1, by rw [ry_fy g1 3]; exact l2, l3, Or.inr ⟨b1, y2, G, kd, fi, se, th, nx, sh, 0, hYd, ⟨b2, ⟨_, b4⟩, e1, l3, fun r hr => ?_, by omega⟩, y3⟩⟩
    · exact Cq_fr hC f1 (by unfold LB; decide) (by unfold LB; decide) (by unfold LB; decide) (by unfold LB; decide) (by unfold LB; decide) (by unfold LB; decide) (by unfold LB; decide)
    · rw [ry_fy g1 0]; exact hZ.1
    · have hz := hZ.2.1 g hg
      have hG := hC.2.1
      rw [(y4 (4 * g) (by omega)).1, (y4 (4 * g + 1) (by omega)).1, (y4 (4 * g + 2) (by omega)).1, (y4 (4 * g + 3) (by omega)).1]
      exact hz
    · rw [(y5 r (by omega)).1]; exact hZ.2.2.1 r hr
    · rw [(y5 (6 + o) (by omega)).1]; exact hZ.2.2.2 o ho
    · rw [b3 _ (hR r hr).2.1]
      dsimp only
      rw [Nat.zero_testBit]
  · rw [cx_build]
    refine br_f h0 (br_f h1 ?_)
    rw [cy_build]
    exact br_f h0 (br_f h1 ⟨rfl, I⟩)
/-- a step of the device alone -/
theorem Rel_n {k : Nat} {u u' : SX} {v v' : SY} (hc : Rc u v) (hf : fr [6, 47, 48, 49] u u') (hg : ry [3, 4, 7, 8] v v') {L S G : Nat} {kd fi se th nx sh : Nat → Nat} (a : fo u 5 = 1) (b : fy v 2 = 1) (hY : Yd v G kd fi se th nx sh)
    (hD : Ds u' (nxC G kd fi se th nx sh) (otC G kd fi se th nx sh) L S) (hL : fy v' 3 = nI L) (hS : fy v' 4 = nI S) : i_Rel k u' v' := by
  obtain ⟨G', kd', fi', se', th', nx', sh', hC, hZ⟩ := hc
  refine ⟨⟨G', kd', fi', se', th', nx', sh', Cq_fr hC hf, ?_⟩, L, hD.2.2.1, hL, hD.2.2.2.1, Or.inr ⟨by rw [fr_fo hf 5]; exact a, by rw [ry_fy hg 2]; exact b, G, kd, fi, se, th, nx, sh, S, Yd_fr hY hg, hD, hS⟩⟩
  unfold Cz
  rw [ry_fy hg 0, ry_ay hg 5, ry_ay hg 6]
  exact hZ
theorem i_vc_registers {k : Nat} {u : SX} {v : SY} (I : i_Rel k u v) (hk : k + 5 ≤ 2560) : wpX_registers (fun r => wpY_registers (fun r' => r' = r ∧ i_Rel (k + 5) u v) v) u := by
  obtain ⟨L, l1, l2, l3, l4⟩ := I.2
  rw [cx_registers]
  rcases l4 with ⟨a, b⟩ | ⟨a, b, G, kd, fi, se, th, nx, sh, S, c, d, e⟩
  · refine br_t a ?_
    rw [cy_registers]
    exact br_t b ⟨rfl, I⟩
  · refine br_f (by rw [a]; decide) (hx_readRegisters d ?_)
    rw [cy_registers, e]
    exact br_f (by rw [b]; decide) ⟨rfl, I⟩
theorem i_vc_outputs {k : Nat} {u : SX} {v : SY} (I : i_Rel k u v) (hk : k + 5 ≤ 2560) : wpX_outputs (fun r u' => wpY_outputs (fun r' v' => r' = r ∧ i_Rel (k + 5) u' v') v) u := by
  obtain ⟨L, l1, l2, l3, l4⟩ := I.2
  rcases l4 with ⟨a, b⟩ | ⟨a, b, G, kd, fi, se, th, nx, sh, S, c, d, e⟩
  · rw [cx_outputs]
    refine br_t a ?_
    rw [cy_outputs]
    exact br_t b ⟨rfl, I⟩
  · refine hx_outputs (by rw [a]; decide) d (fun u' f1 d1 => hy_outputs (by rw [b]; decide) c l2 e (fun v' g1 => ⟨rfl, ?_⟩))
    exact Rel_n I.1 (fr_mn f1 (by decide)) (ry_mn g1 (by decide)) a b c d1 (by rw [ry_fy g1 3]; exact l2) (by rw [ry_fy g1 4]; exact e)
theorem Cy_u {F : Nat → Nat} {S m l m' l' : Nat} (h : Cy F S m l) (h' : Cy F S m' l') : m = m' ∧ l = l' := by
  obtain ⟨a1, a2, a3, a4⟩ := h
  obtain ⟨b1, b2, b3, b4⟩ := h'
  have e : m + l = m' + l' := by
    rcases Nat.lt_trichotomy (m + l) (m' + l') with z | z | z
    · exact absurd a4.symm (b3 m (m + l) (by omega) z)
    · exact z
    · exact absurd b4.symm (a3 m' (m' + l') (by omega) z)
  have em : m = m' := by
    rw [e, b4] at a4
    rcases Nat.lt_trichotomy m m' with z | z | z
    · exact absurd a4.symm (a3 m m' z (by omega))
    · exact z
    · exact absurd a4 (a3 m' m z (by omega))
  omega
theorem Cy_e {F : Nat → Nat} {S : Nat} (hlt : ∀ i, it F i S < 64) : ∀ d n, d + n = 64 → (∃ sn : Nat → Bool, cn sn 64 = n ∧ (∀ i, i < n → sn (it F i S) = true) ∧ ∀ t, t < 64 → sn t = true → ∃ i, i < n ∧ it F i S = t) → (∀ i j, i < j → j < n → it F i S ≠ it F j S) → ∃ m l, Cy F S m l := by
  intro d
  induction d with
  | zero =>
    rintro n hn ⟨sn, f1, f2, f3⟩ f4
    obtain ⟨i, hi, e⟩ := f3 (it F n S) (hlt n) (cn_all (by omega) _ (hlt n))
    exact ⟨i, n - i, by omega, by omega, fun p q hpq hq => f4 p q hpq (by omega), by rw [show i + (n - i) = n from by omega, e]⟩
  | succ d ih =>
    rintro n hn ⟨sn, f1, f2, f3⟩ f4
    cases hs : sn (it F n S) with
    | true =>
      obtain ⟨i, hi, e⟩ := f3 (it F n S) (hlt n) hs
      exact ⟨i, n - i, by omega, by omega, fun p q hpq hq => f4 p q hpq (by omega), by rw [show i + (n - i) = n from by omega, e]⟩
    | false =>
      have hne : ∀ i, i < n → it F i S ≠ it F n S := fun i hi e => by
        have := f2 i hi
        rw [e, hs] at this
        exact absurd this (by decide)
      refine ih (n + 1) (by omega) ⟨fun t => if t = it F n S then true else sn t, ?_, fun i hi => ?_, fun t ht h => ?_⟩ (fun i j hij hj => ?_)
      · exact (cn_up (hlt n) hs (if_pos rfl) (fun i hi hne => if_neg hne)).trans (by rw [f1])
      · dsimp only
        by_cases e : i = n
        · rw [e, if_pos rfl]
        · rw [if_neg (hne i (by omega))]; exact f2 i (by omega)
      · dsimp only at h
        by_cases e : t = it F n S
        · exact ⟨n, by omega, e.symm⟩
        · rw [if_neg e] at h
          obtain ⟨i, hi, e'⟩ := f3 t ht h
          exact ⟨i, by omega, e'⟩
      · by_cases e : j = n
        · rw [e]; exact hne i (by omega)
        · exact f4 i j hij (by omega)
theorem Cy_ex {nxt : (Nat → Bool) → Nat → Bool} {L S : Nat} (hS : S < 64) : ∃ m l, Cy (nS nxt L) S m l :=
  Cy_e (fun i => it_lt (fun x => nS_lt _ _ _) hS i) 64 0 rfl ⟨fun _ => false, cn_0 (fun _ _ => rfl), fun i hi => by omega, fun t _ h => (Bool.false_ne_true h).elim⟩ (fun i j _ hj => by omega)
theorem i_vc_period {k : Nat} {u : SX} {v : SY} (I : i_Rel k u v) (hk : k + 5 ≤ 2560) : wpX_period (fun r u' => wpY_period (fun r' v' => r' = r ∧ i_Rel (k + 5) u' v') v) u := by
  obtain ⟨L, l1, l2, l3, l4⟩ := I.2
  rcases l4 with ⟨a, b⟩ | ⟨a, b, G, kd, fi, se, th, nx, sh, S, c, d, e⟩
  · rw [cx_period]
    refine br_t a ?_
    rw [cy_period]
    exact br_t b ⟨rfl, I⟩
  · have hS := d.2.2.2.2.2
    obtain ⟨m, l, hcy⟩ := Cy_ex (nxt := nxC G kd fi se th nx sh) (L := L) hS
    refine hx_period (by rw [a]; decide) d hcy (fun u' f1 d1 => ?_)
    rw [cy_period]
    refine br_f (by rw [b]; decide) (hy_circle c l2 e hS (fun v' m' l' g1 hcy' => ⟨by decide, ?_⟩))
    obtain ⟨rfl, rfl⟩ := Cy_u hcy hcy'
    have hb := hcy.2.1
    refine ⟨?_, Rel_n I.1 (fr_mn f1 (by decide)) (ry_mn g1 (by decide)) a b c d1 (by rw [ry_fy g1 3]; exact l2) (by rw [ry_fy g1 4]; exact e)⟩
    show nI (m + 1024 * l) / nI 1024 = _
    rw [pk_div (by omega) (by omega) (by omega)]
    exact congrArg nI (by omega)
theorem i_vc_tail {k : Nat} {u : SX} {v : SY} (I : i_Rel k u v) (hk : k + 5 ≤ 2560) : wpX_tail (fun r u' => wpY_tail (fun r' v' => r' = r ∧ i_Rel (k + 5) u' v') v) u := by
  obtain ⟨L, l1, l2, l3, l4⟩ := I.2
  rcases l4 with ⟨a, b⟩ | ⟨a, b, G, kd, fi, se, th, nx, sh, S, c, d, e⟩
  · rw [cx_tail]
    refine br_t a ?_
    rw [cy_tail]
    exact br_t b ⟨rfl, I⟩
  · have hS := d.2.2.2.2.2
    obtain ⟨m, l, hcy⟩ := Cy_ex (nxt := nxC G kd fi se th nx sh) (L := L) hS
    refine hx_tail (by rw [a]; decide) d hcy (fun u' f1 d1 => ?_)
    rw [cy_tail]
    refine br_f (by rw [b]; decide) (hy_circle c l2 e hS (fun v' m' l' g1 hcy' => ⟨by decide, ?_⟩))
    obtain ⟨rfl, rfl⟩ := Cy_u hcy hcy'
    have hb := hcy.2.1
    refine ⟨?_, Rel_n I.1 (fr_mn f1 (by decide)) (ry_mn g1 (by decide)) a b c d1 (by rw [ry_fy g1 3]; exact l2) (by rw [ry_fy g1 4]; exact e)⟩
    show nI (m + 1024 * l) - nI (m + 1024 * l) / nI 1024 * nI 1024 = _
    rw [pk_rem (by omega) (by omega) (by omega)]
    exact congrArg nI (by have := hcy.1; omega)
theorem i_vc_clock {k : Nat} {u : SX} {v : SY} (I : i_Rel k u v) (hk : k + 5 ≤ 2560) (v1 : Int32) : wpX_clock (fun r u' => wpY_clock (fun r' v' => r' = r ∧ i_Rel (k + 5) u' v') v v1) u v1 := by
  obtain ⟨L, l1, l2, l3, l4⟩ := I.2
  rw [cx_clock]
  rcases l4 with ⟨a, b⟩ | ⟨a, b, G, kd, fi, se, th, nx, sh, S, c, d, e⟩
  · refine br_t a ?_
    rw [cy_clock]
    exact br_t b ⟨rfl, I⟩
  · have hbx : ¬ fo u 5 = 0 := by rw [a]; decide
    have hby : ¬ fy v 2 = 0 := by rw [b]; decide
    refine br_f hbx (br_c (fun h => ?_) (fun h0 => br_c (fun h1 => ?_) (fun h => ?_)))
    · rw [cy_clock]; exact br_f hby (br_t h ⟨rfl, I⟩)
    · obtain ⟨n, hn, rfl⟩ := nI_of2 (M := 20) (n := 20) (by decide) h0 h1
      refine pk_loop (fun x j s => kx_clock_21 (fun r u' => wpY_clock (fun r' v' => r' = r ∧ i_Rel (k + 5) u' v') v (nI n)) (nI n) x (nI j) s) (fun j s => fr [47, 48, 49] u s ∧ Ds s (nxC G kd fi se th nx sh) (otC G kd fi se th nx sh) L (it (nS (nxC G kd fi se th nx sh) L) j S)) n 0 u (Nat.zero_le _) ⟨fr_rf, d⟩ ?_ ?_
      · rintro x s ⟨g1, g2⟩
        show kx_clock_21 _ _ _ _ _
        rw [cx_clock_21]
        refine pk_le n n (fun _ => hx_readRegisters g2 ?_) (fun h => absurd h (by omega))
        rw [cy_clock]
        refine br_f hby (br_f h0 (br_t h1 ?_))
        refine pk_loop (fun x j w => ky_clock_21 (fun r' v' => r' = nI (it (nS (nxC G kd fi se th nx sh) L) n S) ∧ i_Rel (k + 5) s v') (nI n) x (nI j) w) (fun j w => ry [4, 7] v w ∧ fy w 4 = nI (it (nS (nxC G kd fi se th nx sh) L) j S)) n 0 v (Nat.zero_le _) ⟨ry_rf, e⟩ ?_ ?_
        · rintro x w ⟨q1, q2⟩
          show ky_clock_21 _ _ _ _ _
          rw [cy_clock_21, q2]
          exact pk_le n n (fun _ => ⟨rfl, Rel_n I.1 (fr_mn g1 (by decide)) (ry_mn q1 (by decide)) a b c g2 (by rw [ry_fy q1 3]; exact l2) q2⟩) (fun h => absurd h (by omega))
        · rintro x j w hj ⟨q1, q2⟩ hr
          show ky_clock_21 _ _ _ _ _
          rw [cy_clock_21, q2]
          refine pk_le n j (fun h => absurd h (by omega)) (fun _ => hy_following (Yd_fr c q1) (L := L) (by rw [ry_fy q1 3]; exact l2) (fun v' k1 => nm_r (nI_1 j) (hr _ ⟨ry_f (ry_tr q1 (ry_mn k1 (by decide))) (by decide), ?_⟩)))
          rw [it_s]; rfl
      · rintro x j s hj ⟨g1, g2⟩ hr
        show kx_clock_21 _ _ _ _ _
        rw [cx_clock_21]
        refine pk_le n j (fun h => absurd h (by omega)) (fun _ => hx_tick g2 (fun u' k1 k2 => nm_r (nI_1 j) (hr u' ⟨fr_tr g1 k1, ?_⟩)))
        rw [it_s]; exact k2
    · rw [cy_clock]; exact br_f hby (br_f h0 (br_f h ⟨rfl, I⟩))
theorem i_vc_load {k : Nat} {u : SX} {v : SY} (I : i_Rel k u v) (hk : k + 5 ≤ 2560) (v1 : Int32) (v2 : Int32) : wpX_load (fun r u' => wpY_load (fun r' v' => r' = r ∧ i_Rel (k + 5) u' v') v v1 v2) u v1 v2 := by
  obtain ⟨L, l1, l2, l3, l4⟩ := I.2
  have e5 : (5 : Int32) < v1 ↔ (6 : Int32) ≤ v1 := by
    rw [Int32.lt_iff_toInt_lt, Int32.le_iff_toInt_le, show (5 : Int32).toInt = 5 from by decide, show (6 : Int32).toInt = 6 from by decide]; omega
  rw [cx_load]
  rcases l4 with ⟨a, b⟩ | ⟨a, b, G, kd, fi, se, th, nx, sh, S, c, d, e⟩
  · refine br_t a ?_
    rw [cy_load]
    exact br_t b ⟨rfl, I⟩
  · have hby : ¬ fy v 2 = 0 := by rw [b]; decide
    refine br_f (by rw [a]; decide) (br_c (fun h => ?_) (fun h0 => br_c (fun h => ?_) (fun h6 => br_c (fun h => ?_) (fun hv0 => br_c (fun hv1 => ?_) (fun h => ?_)))))
    · rw [cy_load]; exact br_f hby (br_t h ⟨rfl, I⟩)
    · rw [cy_load]; exact br_f hby (br_f h0 (br_t (e5.mpr h) ⟨rfl, I⟩))
    · rw [cy_load]; exact br_f hby (br_f h0 (br_f (fun z => h6 (e5.mp z)) (br_t h ⟨rfl, I⟩)))
    · rcases pk_ix v1 (n := 6) (by omega) with z | z | ⟨r, hr, rfl⟩
      · exact absurd z h0
      · exact absurd z h6
      obtain ⟨x, hx, rfl⟩ := nI_of2 (M := 1) (n := 1) (by decide) hv0 hv1
      obtain ⟨d1, d2, d3, d4, d5, d6⟩ := d
      obtain ⟨hR, hi, _⟩ := Dv_R d1
      have hRr := hR r hr
      have hst := stb_I r hr x (by omega) S d6
      rw [clI (by omega), hRr.1, clI (by omega), vby (by omega)]
      refine ⟨pk_in r 6 hr, pk_in (Rp u r) 36 hRr.2.1, nm_e ?_⟩
      rw [cy_load, e]
      refine br_f hby (br_f h0 (br_f (fun z => h6 (e5.mp z)) (br_f hv0 (br_t hv1 (nm_r hst.1 ⟨rfl, ?_⟩)))))
      have w1 : fr [48] u (sa u 48 (upd (ao u 48) (Rp u r) (nI x))) := fr_a fr_rf (by decide)
      have w2 : ry [4] v (sfy v 4 (nI (stb S r x))) := ry_f ry_rf (by decide)
      refine Rel_n I.1 (fr_mn w1 (by decide)) (ry_mn w2 (by decide)) a b c (S := stb S r x) ⟨Dv_fr d1 w1, d2, d3, d4, fun r' hr' => ?_, hst.2⟩ l2 rfl
      rw [Rp_fr w1]
      show upd (ao u 48) (Rp u r) (nI x) (Rp u r') = bI ((stb S r x).testBit r')
      rw [stb_b r hr x (by omega) S d6 r' hr']
      by_cases er : r' = r
      · rw [er, u_s, if_pos rfl]
        have : x = 0 ∨ x = 1 := by omega
        rcases this with rfl | rfl <;> rfl
      · rw [u_n (fun z => er (hi r' r hr' hr z)), if_neg er]; exact d5 r' hr'
    · rw [cy_load]; exact br_f hby (br_f h0 (br_f (fun z => h6 (e5.mp z)) (br_f hv0 (br_f h ⟨rfl, I⟩))))
theorem i_vc_feed {k : Nat} {u : SX} {v : SY} (I : i_Rel k u v) (hk : k + 5 ≤ 2560) (v1 : Int32) : wpX_feed (fun r u' => wpY_feed (fun r' v' => r' = r ∧ i_Rel (k + 5) u' v') v v1) u v1 := by
  obtain ⟨L, l1, l2, l3, l4⟩ := I.2
  rw [cx_feed]
  rcases l4 with ⟨a, b⟩ | ⟨a, b, G, kd, fi, se, th, nx, sh, S, c, d, e⟩
  · refine br_t a ?_
    rw [cy_feed]
    exact br_t b ⟨rfl, I⟩
  · have hbx : ¬ fo u 5 = 0 := by rw [a]; decide
    have hby : ¬ fy v 2 = 0 := by rw [b]; decide
    refine br_f hbx (br_c (fun h => ?_) (fun h0 => br_c (fun h1 => ?_) (fun h => ?_)))
    · rw [cy_feed]; exact br_f hby (br_t h ⟨rfl, I⟩)
    · obtain ⟨n, hn, rfl⟩ := nI_of2 (M := 63) (n := 63) (by decide) h0 h1
      have w1 : fr [6] u (sf u 6 (nI n)) := fr_f fr_rf (by decide)
      have w2 : ry [3] v (sfy v 3 (nI n)) := ry_f ry_rf (by decide)
      obtain ⟨d1, ⟨wl, d2⟩, d3, d4, d5, d6⟩ := d
      have dn : Ds (sf u 6 (nI n)) (nxC G kd fi se th nx sh) (otC G kd fi se th nx sh) n S := ⟨Dv_fr d1 w1, ⟨wl, d2⟩, rfl, by omega, d5, d6⟩
      refine hx_outputs (u := sf u 6 (nI n)) hbx dn (fun u1 f1 e1 => hx_tick e1 (fun u2 f2 e2 => ?_))
      rw [cy_feed]
      refine br_f hby (br_f h0 (br_t h1 ?_))
      refine hy_outputs (v := sfy v 3 (nI n)) hby (Yd_fr c w2) (L := n) (S := S) rfl e (fun v1 g1 => ?_)
      have es : fy v1 4 = nI S := by rw [ry_fy g1 4]; exact e
      rw [es]
      refine hy_following (Yd_fr (Yd_fr c w2) g1) (L := n) (by rw [ry_fy g1 3]; rfl) (fun v2 g2 => ⟨rfl, ?_⟩)
      have q1 : ry [3, 4, 7, 8] v (sfy v2 4 (nI (nS (nxC G kd fi se th nx sh) n S))) := ry_f (ry_tr (ry_mn w2 (by decide)) (ry_tr (ry_mn g1 (by decide)) (ry_mn g2 (by decide)))) (by decide)
      refine Rel_n I.1 (fr_tr (fr_mn w1 (by decide)) (fr_tr (fr_mn f1 (by decide)) (fr_mn f2 (by decide)))) q1 a b c e2 ?_ rfl
      show fy v2 3 = nI n
      rw [ry_fy g2 3, ry_fy g1 3]; rfl
    · rw [cy_feed]; exact br_f hby (br_f h0 (br_f h ⟨rfl, I⟩))
end
