section
/-! pure rows to paste: stores, nI and lN arithmetic, masks, shifts, narrowing, branches by naturals (pk_le, pk_lt, pk_eq), loops (lp1 .. lp16: the measure of the state; rp1 ..: recursion), negatives. Take what you need -/
theorem pk_us {f : Nat → Int32} {k : Nat} {x : Int32} : upd f k x k = x := if_pos rfl
theorem pk_un {f : Nat → Int32} {k j : Nat} {x : Int32} (h : j ≠ k) : upd f k x j = f j := if_neg h
theorem pk_uLs {f : Nat → Int64} {k : Nat} {x : Int64} : vp_updL f k x k = x := if_pos rfl
theorem pk_uLn {f : Nat → Int64} {k j : Nat} {x : Int64} (h : j ≠ k) : vp_updL f k x j = f j := if_neg h
theorem pk_sub {a b : Nat} (h : b ≤ a) : nI a - nI b = nI (a - b) := by
  obtain ⟨c, rfl⟩ : ∃ c, a = c + b := ⟨a - b, by omega⟩
  rw [← nI_add, Int32.add_sub_cancel, Nat.add_sub_cancel]
theorem pk_m1 (n : Nat) : nI (n + 1) + (-1) = nI n := by
  rw [← nI_1, Int32.add_assoc, show (1 : Int32) + (-1) = 0 from rfl, Int32.add_zero]
theorem pk_mul (a b : Nat) : nI a * nI b = nI (a * b) := (Int32.ofNat_mul a b).symm
theorem pk_div {a d : Nat} (ha : a < 2 ^ 31) (h0 : 0 < d) (hd : d < 2 ^ 31) : nI a / nI d = nI (a / d) := by
  apply Int32.toInt_inj.mp
  rw [lg_idiv_nonneg (by rw [nI_toInt ha]; omega) (by rw [nI_toInt hd]; omega), nI_toInt ha, nI_toInt hd, nI_toInt (Nat.lt_of_le_of_lt (Nat.div_le_self a d) ha)]
  first | rfl | exact (Int.natCast_ediv _ _).symm
theorem pk_rem {a d : Nat} (ha : a < 2 ^ 31) (h0 : 0 < d) (hd : d < 2 ^ 31) : nI a - nI a / nI d * nI d = nI (a % d) := by
  rw [pk_div ha h0 hd, pk_mul, pk_sub (Nat.div_mul_le_self a d)]
  exact congrArg nI (by have := Nat.div_add_mod' a d; omega)
theorem pk_sub_toInt {a b : Nat} (ha : a < 2 ^ 30) (hb : b < 2 ^ 30) : (nI a - nI b).toInt = (a : Int) - b := by
  rw [Int32.toInt_sub, nI_toInt (by omega), nI_toInt (by omega)]
  exact Int.bmod_eq_of_le (by omega) (by omega)
theorem pk_sneg {a b : Nat} (hb : b < 2 ^ 30) (h : a < b) : nI a - nI b < 0 := by
  rw [Int32.lt_iff_toInt_lt, pk_sub_toInt (by omega) hb, show (0 : Int32).toInt = 0 from by decide]
  omega
theorem pk_ix (x : Int32) {n : Nat} (hn : n < 2 ^ 31) : x < 0 ∨ nI n ≤ x ∨ ∃ j : Nat, j < n ∧ x = nI j := by
  by_cases h : x < 0
  · exact Or.inl h
  · obtain ⟨j, hj, rfl⟩ := nI_of h
    by_cases h2 : j < n
    · exact Or.inr (Or.inr ⟨j, h2, rfl⟩)
    · exact Or.inr (Or.inl (nI_le (by omega) hj))
theorem pk_le {x y : Int32} {A B : Prop} (a b : Nat) (f : a ≤ b → A) (g : b < a → B) (hx : x = nI a := by rfl) (hy : y = nI b := by rfl) (ha : a < 2 ^ 31 := by omega) (hb : b < 2 ^ 31 := by omega) : (x ≤ y → A) ∧ (¬ x ≤ y → B) := by
  subst hx hy
  rw [nI_leI ha hb]
  exact ⟨f, fun z => g (by omega)⟩
theorem pk_lt {x y : Int32} {A B : Prop} (a b : Nat) (f : a < b → A) (g : b ≤ a → B) (hx : x = nI a := by rfl) (hy : y = nI b := by rfl) (ha : a < 2 ^ 31 := by omega) (hb : b < 2 ^ 31 := by omega) : (x < y → A) ∧ (¬ x < y → B) := by
  subst hx hy
  rw [nI_ltI ha hb]
  exact ⟨f, fun z => g (by omega)⟩
theorem pk_eq {x y : Int32} {A B : Prop} (a b : Nat) (f : a = b → A) (g : a ≠ b → B) (hx : x = nI a := by rfl) (hy : y = nI b := by rfl) (ha : a < 2 ^ 31 := by omega) (hb : b < 2 ^ 31 := by omega) : (x = y → A) ∧ (¬ x = y → B) := by
  subst hx hy
  rw [nI_eq ha hb]
  exact ⟨f, g⟩
theorem pk_in {x : Int32} (n N : Nat) (h : n < N) (hx : x = nI n := by rfl) (hN : N < 2 ^ 31 := by omega) : vp_in x N := by
  subst hx
  exact vp_in_nI h hN
theorem pk_cl {x : Int32} (n : Nat) (hx : x = nI n := by rfl) (h : n < 2 ^ 31 := by omega) : x.toNatClampNeg = n := by
  subst hx
  exact nI_clamp h
theorem pk_tn {n : Nat} (h : n < 2 ^ 32) : (nI n).toBitVec.toNat = n := Nat.mod_eq_of_lt h
theorem pk_and (x : Int32) {m : Int32} (k : Nat) (hm : m.toBitVec.toNat = 2 ^ k - 1) : x &&& m = nI (x.toBitVec.toNat % 2 ^ k) := by
  apply Int32.toBitVec_inj.mp
  apply BitVec.eq_of_toNat_eq
  rw [Int32.toBitVec_and, BitVec.toNat_and, hm, Nat.and_two_pow_sub_one_eq_mod]
  show _ = (BitVec.ofNat 32 _).toNat
  rw [BitVec.toNat_ofNat]
  exact (Nat.mod_eq_of_lt (Nat.lt_of_le_of_lt (Nat.mod_le _ _) x.toBitVec.isLt)).symm
theorem pk_andN {n : Nat} (h : n < 2 ^ 32) {m : Int32} (k : Nat) (hm : m.toBitVec.toNat = 2 ^ k - 1) : nI n &&& m = nI (n % 2 ^ k) := by
  rw [pk_and _ k hm, pk_tn h]
theorem pk_andE (x : Int32) {m : Int32} (k : Nat) (hm : m.toBitVec.toNat = 2 ^ k - 1) : ∃ j : Nat, j < 2 ^ k ∧ x &&& m = nI j := ⟨_, Nat.mod_lt _ (Nat.two_pow_pos k), pk_and x k hm⟩
theorem pk_andIn (x : Int32) {m : Int32} (k : Nat) (hm : m.toBitVec.toNat = 2 ^ k - 1) (hk : k ≤ 30) : vp_in (x &&& m) (2 ^ k) := by
  obtain ⟨j, hj, e⟩ := pk_andE x k hm
  rw [e]
  exact vp_in_nI hj (Nat.lt_of_le_of_lt (Nat.pow_le_pow_right (by decide) hk) (by decide))
theorem pk_shl (a s : Int32) (k : Nat) (hs : (s.toBitVec.smod 32).toNat = k) : (a <<< s).toBitVec.toNat = a.toBitVec.toNat * 2 ^ k % 2 ^ 32 := by
  show (a.toBitVec <<< (s.toBitVec.smod 32).toNat).toNat = _
  rw [hs, BitVec.toNat_shiftLeft, Nat.shiftLeft_eq]
theorem pk_shlN {n : Nat} (s : Int32) (k : Nat) (hs : (s.toBitVec.smod 32).toNat = k) (h : n * 2 ^ k < 2 ^ 32) : nI n <<< s = nI (n * 2 ^ k) := by
  apply Int32.toBitVec_inj.mp
  apply BitVec.eq_of_toNat_eq
  have hn : n < 2 ^ 32 := Nat.lt_of_le_of_lt (Nat.le_mul_of_pos_right n (Nat.two_pow_pos k)) h
  rw [pk_shl _ _ k hs, pk_tn hn, pk_tn h, Nat.mod_eq_of_lt h]
theorem pk_shr (a s : Int32) (k : Nat) (hs : (s.toBitVec.smod 32).toNat = k) : (a >>> s).toInt = a.toInt >>> k := by
  show (a.toBitVec.sshiftRight (s.toBitVec.smod 32).toNat).toInt = _
  rw [hs, BitVec.toInt_sshiftRight]
  rfl
theorem pk_shrN {n : Nat} (h : n < 2 ^ 31) (s : Int32) (k : Nat) (hs : (s.toBitVec.smod 32).toNat = k) : nI n >>> s = nI (n / 2 ^ k) := by
  apply Int32.toInt_inj.mp
  have h2 : n / 2 ^ k ≤ n := Nat.div_le_self _ _
  rw [pk_shr _ _ k hs, nI_toInt h, nI_toInt (by omega), Int.shiftRight_eq_div_pow]
  rfl
theorem pk_ushr (x s : Int32) (k : Nat) (hs : ((s.toUInt32 &&& Int32.toUInt32 31).toBitVec % 32).toNat = k) : (x.toUInt32 >>> (s.toUInt32 &&& Int32.toUInt32 31)).toInt32.toBitVec.toNat = x.toBitVec.toNat / 2 ^ k := by
  have e : (x.toUInt32 >>> (s.toUInt32 &&& Int32.toUInt32 31)).toInt32.toBitVec = x.toBitVec >>> k := by
    rw [← hs]
    exact UInt32.toBitVec_shiftRight _ _
  rw [e, BitVec.toNat_ushiftRight, Nat.shiftRight_eq_div_pow]
theorem pk_ushrN {n : Nat} (hn : n < 2 ^ 32) (s : Int32) (k : Nat) (hs : ((s.toUInt32 &&& Int32.toUInt32 31).toBitVec % 32).toNat = k) : ((nI n).toUInt32 >>> (s.toUInt32 &&& Int32.toUInt32 31)).toInt32 = nI (n / 2 ^ k) := by
  apply Int32.toBitVec_inj.mp
  apply BitVec.eq_of_toNat_eq
  rw [pk_ushr _ s k hs, pk_tn hn, pk_tn (Nat.lt_of_le_of_lt (Nat.div_le_self _ _) hn)]
theorem pk_nb (z : Int32) : narrow .byte (.int z.toInt8.toInt32) = .int z.toInt8.toInt32 := congrArg Value.int (by simp)
theorem pk_ns (z : Int32) : narrow .short (.int z.toInt16.toInt32) = .int z.toInt16.toInt32 := congrArg Value.int (by simp)
theorem pk_fb (r : Int32) : fits .byte (.int r.toInt8.toInt32) = true := by
  have ⟨a, b⟩ := lg_i2b_range r
  have h1 : (-128 : Int32).toInt = -128 := by decide
  have h2 : (127 : Int32).toInt = 127 := by decide
  simp only [fits, Bool.and_eq_true, decide_eq_true_eq, Int32.le_iff_toInt_le, h1, h2]
  omega
theorem pk_fs (r : Int32) : fits .short (.int r.toInt16.toInt32) = true := by
  have ⟨a, b⟩ := lg_i2s_range r
  have h1 : (-32768 : Int32).toInt = -32768 := by decide
  have h2 : (32767 : Int32).toInt = 32767 := by decide
  simp only [fits, Bool.and_eq_true, decide_eq_true_eq, Int32.le_iff_toInt_le, h1, h2]
  omega
theorem pk_charN {q : Nat} (hq : q < 65536) : narrow .char (.int (nI q)) = .int (nI q) ∧ fits .char (.int (nI q)) = true := by
  constructor
  · have e : (nI q).toUInt32.toUInt16.toUInt32.toInt32 = nI q := by
      apply Int32.toBitVec_inj.mp
      apply BitVec.eq_of_toNat_eq
      show (nI q).toUInt32.toUInt16.toUInt32.toNat = q % 2 ^ 32
      rw [UInt16.toNat_toUInt32, UInt32.toNat_toUInt16, show (nI q).toUInt32.toNat = q % 2 ^ 32 from rfl]
      omega
    exact congrArg Value.int e
  · have a : (0 : Int32) ≤ nI q := nI_pos' (by omega)
    have b : nI q ≤ 65535 := nI_le (b := 65535) (by omega) (by decide)
    show (decide ((0 : Int32) ≤ nI q) && decide (nI q ≤ 65535)) = true
    rw [decide_eq_true a, decide_eq_true b]
    rfl
theorem pk_char (x : Int32) : (x.toUInt32 % 65536).toInt32 = nI (x.toBitVec.toNat % 65536) := by
  apply Int32.toBitVec_inj.mp
  apply BitVec.eq_of_toNat_eq
  rw [pk_tn (by omega)]
  show (x.toUInt32 % 65536).toNat = _
  rw [UInt32.toNat_mod]
  rfl
theorem pk_nc (x : Int32) : narrow .char (.int (x.toUInt32 % 65536).toInt32) = .int (x.toUInt32 % 65536).toInt32 := by
  rw [pk_char]
  exact (pk_charN (Nat.mod_lt _ (by decide))).1
theorem pk_fc (x : Int32) : fits .char (.int (x.toUInt32 % 65536).toInt32) = true := by
  rw [pk_char]
  exact (pk_charN (Nat.mod_lt _ (by decide))).2
theorem pk_vb (z : Int32) : vp_nar .byte z.toInt8.toInt32 = z.toInt8.toInt32 := by rw [vp_nar_byte]; simp
theorem pk_vs (z : Int32) : vp_nar .short z.toInt16.toInt32 = z.toInt16.toInt32 := by rw [vp_nar_short]; simp
theorem pk_vc (z : Int32) : vp_nar .char (z.toUInt32 % 65536).toInt32 = (z.toUInt32 % 65536).toInt32 := Value.int.inj (pk_nc z)
theorem pk_lT {n : Nat} (h : n < 2 ^ 63) : (lN n).toInt = (n : Int) := lg_ofNat_toInt h
theorem pk_lLT {a b : Nat} (ha : a < 2 ^ 63) (hb : b < 2 ^ 63) : lN a < lN b ↔ a < b := by
  rw [Int64.lt_iff_toInt_lt, pk_lT ha, pk_lT hb]; omega
theorem pk_lLE {a b : Nat} (ha : a < 2 ^ 63) (hb : b < 2 ^ 63) : lN a ≤ lN b ↔ a ≤ b := by
  rw [Int64.le_iff_toInt_le, pk_lT ha, pk_lT hb]; omega
theorem pk_lEQ {a b : Nat} (ha : a < 2 ^ 63) (hb : b < 2 ^ 63) : lN a = lN b ↔ a = b := by
  rw [← Int64.toInt_inj, pk_lT ha, pk_lT hb]; omega
theorem pk_lOf {x : Int64} (h : ¬ x < 0) : ∃ k : Nat, k < 2 ^ 63 ∧ x = lN k := by
  rw [Int64.lt_iff_toInt_lt] at h
  have h0 : (0 : Int64).toInt = 0 := by decide
  have hx := Int64.toInt_lt x
  refine ⟨x.toInt.toNat, by omega, Int64.toInt_inj.mp ?_⟩
  rw [pk_lT (by omega)]
  omega
theorem pk_lDiv {a b : Nat} (ha : a < 2 ^ 63) (h0 : 0 < b) (hb : b < 2 ^ 63) : lN a / lN b = lN (a / b) := by
  apply Int64.toInt_inj.mp
  rw [lg_ldiv_nonneg (by rw [pk_lT ha]; omega) (by rw [pk_lT hb]; omega), pk_lT ha, pk_lT hb, pk_lT (Nat.lt_of_le_of_lt (Nat.div_le_self a b) ha)]
  rfl
theorem pk_lRem {a b : Nat} (ha : a < 2 ^ 63) (h0 : 0 < b) (hb : b < 2 ^ 63) : lN a - lN a / lN b * lN b = lN (a % b) := by
  rw [pk_lDiv ha h0 hb, lN_mul, lN_sub (Nat.div_mul_le_self a b)]
  exact congrArg lN (by have := Nat.div_add_mod' a b; omega)
theorem pk_loop {σ : Type} (W : Nat → Nat → σ → Prop) (I : Nat → σ → Prop) (e i0 : Nat) (s : σ) (hi : i0 ≤ e) (h0 : I i0 s) (hx : ∀ n s, I e s → W (n + 1) e s)
    (hs : ∀ n i s, i < e → I i s → (∀ s', I (i + 1) s' → W n (i + 1) s') → W (n + 1) i s) : ∃ n, W n i0 s :=
  ⟨e + 1, loop_i W I e hx hs (e + 1) i0 s hi (by omega) h0⟩
theorem pk_loopD {σ : Type} (W : Nat → Nat → σ → Prop) (I : Nat → σ → Prop) (hx : ∀ n s, I 0 s → W (n + 1) 0 s)
    (hs : ∀ n i s, I (i + 1) s → (∀ s', I i s' → W n i s') → W (n + 1) (i + 1) s) : ∀ (e : Nat) (s : σ), I e s → W (e + 1) e s := by
  intro e
  induction e with
  | zero => exact fun s h => hx 0 s h
  | succ e ih => exact fun s h => hs (e + 1) e s h (fun s' h' => ih s' h')
theorem lp1 {A1 : Type} (W : Nat → A1 → Prop) (I : A1 → Prop) (μ : A1 → Nat) (hs : ∀ (n : Nat) (a1 : A1), I a1 → (∀ (b1 : A1), I b1 → μ b1 < μ a1 → W n b1) → W (n + 1) a1) (a1 : A1) (h : I a1) : ∃ n, W n a1 :=
  loop_m (σ := A1) (fun n s => W n s) (fun s => I s) (fun s => μ s) (fun n s hI hk => hs n s hI (fun b1 h9 hm => hk b1 h9 hm)) a1 h
theorem lp2 {A1 A2 : Type} (W : Nat → A1 → A2 → Prop) (I : A1 → A2 → Prop) (μ : A1 → A2 → Nat) (hs : ∀ (n : Nat) (a1 : A1) (a2 : A2), I a1 a2 → (∀ (b1 : A1) (b2 : A2), I b1 b2 → μ b1 b2 < μ a1 a2 → W n b1 b2) → W (n + 1) a1 a2) (a1 : A1) (a2 : A2) (h : I a1 a2) : ∃ n, W n a1 a2 :=
  loop_m (σ := A1 × A2) (fun n s => W n s.1 s.2) (fun s => I s.1 s.2) (fun s => μ s.1 s.2) (fun n s hI hk => hs n s.1 s.2 hI (fun b1 b2 h9 hm => hk (b1, b2) h9 hm)) (a1, a2) h
theorem lp3 {A1 A2 A3 : Type} (W : Nat → A1 → A2 → A3 → Prop) (I : A1 → A2 → A3 → Prop) (μ : A1 → A2 → A3 → Nat) (hs : ∀ (n : Nat) (a1 : A1) (a2 : A2) (a3 : A3), I a1 a2 a3 → (∀ (b1 : A1) (b2 : A2) (b3 : A3), I b1 b2 b3 → μ b1 b2 b3 < μ a1 a2 a3 → W n b1 b2 b3) → W (n + 1) a1 a2 a3) (a1 : A1) (a2 : A2) (a3 : A3) (h : I a1 a2 a3) : ∃ n, W n a1 a2 a3 :=
  loop_m (σ := A1 × A2 × A3) (fun n s => W n s.1 s.2.1 s.2.2) (fun s => I s.1 s.2.1 s.2.2) (fun s => μ s.1 s.2.1 s.2.2) (fun n s hI hk => hs n s.1 s.2.1 s.2.2 hI (fun b1 b2 b3 h9 hm => hk (b1, b2, b3) h9 hm)) (a1, a2, a3) h
theorem lp4 {A1 A2 A3 A4 : Type} (W : Nat → A1 → A2 → A3 → A4 → Prop) (I : A1 → A2 → A3 → A4 → Prop) (μ : A1 → A2 → A3 → A4 → Nat) (hs : ∀ (n : Nat) (a1 : A1) (a2 : A2) (a3 : A3) (a4 : A4), I a1 a2 a3 a4 → (∀ (b1 : A1) (b2 : A2) (b3 : A3) (b4 : A4), I b1 b2 b3 b4 → μ b1 b2 b3 b4 < μ a1 a2 a3 a4 → W n b1 b2 b3 b4) → W (n + 1) a1 a2 a3 a4) (a1 : A1) (a2 : A2) (a3 : A3) (a4 : A4) (h : I a1 a2 a3 a4) : ∃ n, W n a1 a2 a3 a4 :=
  loop_m (σ := A1 × A2 × A3 × A4) (fun n s => W n s.1 s.2.1 s.2.2.1 s.2.2.2) (fun s => I s.1 s.2.1 s.2.2.1 s.2.2.2) (fun s => μ s.1 s.2.1 s.2.2.1 s.2.2.2) (fun n s hI hk => hs n s.1 s.2.1 s.2.2.1 s.2.2.2 hI (fun b1 b2 b3 b4 h9 hm => hk (b1, b2, b3, b4) h9 hm)) (a1, a2, a3, a4) h
theorem lp5 {A1 A2 A3 A4 A5 : Type} (W : Nat → A1 → A2 → A3 → A4 → A5 → Prop) (I : A1 → A2 → A3 → A4 → A5 → Prop) (μ : A1 → A2 → A3 → A4 → A5 → Nat) (hs : ∀ (n : Nat) (a1 : A1) (a2 : A2) (a3 : A3) (a4 : A4) (a5 : A5), I a1 a2 a3 a4 a5 → (∀ (b1 : A1) (b2 : A2) (b3 : A3) (b4 : A4) (b5 : A5), I b1 b2 b3 b4 b5 → μ b1 b2 b3 b4 b5 < μ a1 a2 a3 a4 a5 → W n b1 b2 b3 b4 b5) → W (n + 1) a1 a2 a3 a4 a5) (a1 : A1) (a2 : A2) (a3 : A3) (a4 : A4) (a5 : A5) (h : I a1 a2 a3 a4 a5) : ∃ n, W n a1 a2 a3 a4 a5 :=
  loop_m (σ := A1 × A2 × A3 × A4 × A5) (fun n s => W n s.1 s.2.1 s.2.2.1 s.2.2.2.1 s.2.2.2.2) (fun s => I s.1 s.2.1 s.2.2.1 s.2.2.2.1 s.2.2.2.2) (fun s => μ s.1 s.2.1 s.2.2.1 s.2.2.2.1 s.2.2.2.2) (fun n s hI hk => hs n s.1 s.2.1 s.2.2.1 s.2.2.2.1 s.2.2.2.2 hI (fun b1 b2 b3 b4 b5 h9 hm => hk (b1, b2, b3, b4, b5) h9 hm)) (a1, a2, a3, a4, a5) h
theorem lp6 {A1 A2 A3 A4 A5 A6 : Type} (W : Nat → A1 → A2 → A3 → A4 → A5 → A6 → Prop) (I : A1 → A2 → A3 → A4 → A5 → A6 → Prop) (μ : A1 → A2 → A3 → A4 → A5 → A6 → Nat) (hs : ∀ (n : Nat) (a1 : A1) (a2 : A2) (a3 : A3) (a4 : A4) (a5 : A5) (a6 : A6), I a1 a2 a3 a4 a5 a6 → (∀ (b1 : A1) (b2 : A2) (b3 : A3) (b4 : A4) (b5 : A5) (b6 : A6), I b1 b2 b3 b4 b5 b6 → μ b1 b2 b3 b4 b5 b6 < μ a1 a2 a3 a4 a5 a6 → W n b1 b2 b3 b4 b5 b6) → W (n + 1) a1 a2 a3 a4 a5 a6) (a1 : A1) (a2 : A2) (a3 : A3) (a4 : A4) (a5 : A5) (a6 : A6) (h : I a1 a2 a3 a4 a5 a6) : ∃ n, W n a1 a2 a3 a4 a5 a6 :=
  loop_m (σ := A1 × A2 × A3 × A4 × A5 × A6) (fun n s => W n s.1 s.2.1 s.2.2.1 s.2.2.2.1 s.2.2.2.2.1 s.2.2.2.2.2) (fun s => I s.1 s.2.1 s.2.2.1 s.2.2.2.1 s.2.2.2.2.1 s.2.2.2.2.2) (fun s => μ s.1 s.2.1 s.2.2.1 s.2.2.2.1 s.2.2.2.2.1 s.2.2.2.2.2) (fun n s hI hk => hs n s.1 s.2.1 s.2.2.1 s.2.2.2.1 s.2.2.2.2.1 s.2.2.2.2.2 hI (fun b1 b2 b3 b4 b5 b6 h9 hm => hk (b1, b2, b3, b4, b5, b6) h9 hm)) (a1, a2, a3, a4, a5, a6) h
theorem lp7 {A1 A2 A3 A4 A5 A6 A7 : Type} (W : Nat → A1 → A2 → A3 → A4 → A5 → A6 → A7 → Prop) (I : A1 → A2 → A3 → A4 → A5 → A6 → A7 → Prop) (μ : A1 → A2 → A3 → A4 → A5 → A6 → A7 → Nat) (hs : ∀ (n : Nat) (a1 : A1) (a2 : A2) (a3 : A3) (a4 : A4) (a5 : A5) (a6 : A6) (a7 : A7), I a1 a2 a3 a4 a5 a6 a7 → (∀ (b1 : A1) (b2 : A2) (b3 : A3) (b4 : A4) (b5 : A5) (b6 : A6) (b7 : A7), I b1 b2 b3 b4 b5 b6 b7 → μ b1 b2 b3 b4 b5 b6 b7 < μ a1 a2 a3 a4 a5 a6 a7 → W n b1 b2 b3 b4 b5 b6 b7) → W (n + 1) a1 a2 a3 a4 a5 a6 a7) (a1 : A1) (a2 : A2) (a3 : A3) (a4 : A4) (a5 : A5) (a6 : A6) (a7 : A7) (h : I a1 a2 a3 a4 a5 a6 a7) : ∃ n, W n a1 a2 a3 a4 a5 a6 a7 :=
  loop_m (σ := A1 × A2 × A3 × A4 × A5 × A6 × A7) (fun n s => W n s.1 s.2.1 s.2.2.1 s.2.2.2.1 s.2.2.2.2.1 s.2.2.2.2.2.1 s.2.2.2.2.2.2) (fun s => I s.1 s.2.1 s.2.2.1 s.2.2.2.1 s.2.2.2.2.1 s.2.2.2.2.2.1 s.2.2.2.2.2.2) (fun s => μ s.1 s.2.1 s.2.2.1 s.2.2.2.1 s.2.2.2.2.1 s.2.2.2.2.2.1 s.2.2.2.2.2.2) (fun n s hI hk => hs n s.1 s.2.1 s.2.2.1 s.2.2.2.1 s.2.2.2.2.1 s.2.2.2.2.2.1 s.2.2.2.2.2.2 hI (fun b1 b2 b3 b4 b5 b6 b7 h9 hm => hk (b1, b2, b3, b4, b5, b6, b7) h9 hm)) (a1, a2, a3, a4, a5, a6, a7) h
theorem lp8 {A1 A2 A3 A4 A5 A6 A7 A8 : Type} (W : Nat → A1 → A2 → A3 → A4 → A5 → A6 → A7 → A8 → Prop) (I : A1 → A2 → A3 → A4 → A5 → A6 → A7 → A8 → Prop) (μ : A1 → A2 → A3 → A4 → A5 → A6 → A7 → A8 → Nat) (hs : ∀ (n : Nat) (a1 : A1) (a2 : A2) (a3 : A3) (a4 : A4) (a5 : A5) (a6 : A6) (a7 : A7) (a8 : A8), I a1 a2 a3 a4 a5 a6 a7 a8 → (∀ (b1 : A1) (b2 : A2) (b3 : A3) (b4 : A4) (b5 : A5) (b6 : A6) (b7 : A7) (b8 : A8), I b1 b2 b3 b4 b5 b6 b7 b8 → μ b1 b2 b3 b4 b5 b6 b7 b8 < μ a1 a2 a3 a4 a5 a6 a7 a8 → W n b1 b2 b3 b4 b5 b6 b7 b8) → W (n + 1) a1 a2 a3 a4 a5 a6 a7 a8) (a1 : A1) (a2 : A2) (a3 : A3) (a4 : A4) (a5 : A5) (a6 : A6) (a7 : A7) (a8 : A8) (h : I a1 a2 a3 a4 a5 a6 a7 a8) : ∃ n, W n a1 a2 a3 a4 a5 a6 a7 a8 :=
  loop_m (σ := A1 × A2 × A3 × A4 × A5 × A6 × A7 × A8) (fun n s => W n s.1 s.2.1 s.2.2.1 s.2.2.2.1 s.2.2.2.2.1 s.2.2.2.2.2.1 s.2.2.2.2.2.2.1 s.2.2.2.2.2.2.2) (fun s => I s.1 s.2.1 s.2.2.1 s.2.2.2.1 s.2.2.2.2.1 s.2.2.2.2.2.1 s.2.2.2.2.2.2.1 s.2.2.2.2.2.2.2) (fun s => μ s.1 s.2.1 s.2.2.1 s.2.2.2.1 s.2.2.2.2.1 s.2.2.2.2.2.1 s.2.2.2.2.2.2.1 s.2.2.2.2.2.2.2) (fun n s hI hk => hs n s.1 s.2.1 s.2.2.1 s.2.2.2.1 s.2.2.2.2.1 s.2.2.2.2.2.1 s.2.2.2.2.2.2.1 s.2.2.2.2.2.2.2 hI (fun b1 b2 b3 b4 b5 b6 b7 b8 h9 hm => hk (b1, b2, b3, b4, b5, b6, b7, b8) h9 hm)) (a1, a2, a3, a4, a5, a6, a7, a8) h
theorem lp9 {A1 A2 A3 A4 A5 A6 A7 A8 A9 : Type} (W : Nat → A1 → A2 → A3 → A4 → A5 → A6 → A7 → A8 → A9 → Prop) (I : A1 → A2 → A3 → A4 → A5 → A6 → A7 → A8 → A9 → Prop) (μ : A1 → A2 → A3 → A4 → A5 → A6 → A7 → A8 → A9 → Nat) (hs : ∀ (n : Nat) (a1 : A1) (a2 : A2) (a3 : A3) (a4 : A4) (a5 : A5) (a6 : A6) (a7 : A7) (a8 : A8) (a9 : A9), I a1 a2 a3 a4 a5 a6 a7 a8 a9 → (∀ (b1 : A1) (b2 : A2) (b3 : A3) (b4 : A4) (b5 : A5) (b6 : A6) (b7 : A7) (b8 : A8) (b9 : A9), I b1 b2 b3 b4 b5 b6 b7 b8 b9 → μ b1 b2 b3 b4 b5 b6 b7 b8 b9 < μ a1 a2 a3 a4 a5 a6 a7 a8 a9 → W n b1 b2 b3 b4 b5 b6 b7 b8 b9) → W (n + 1) a1 a2 a3 a4 a5 a6 a7 a8 a9) (a1 : A1) (a2 : A2) (a3 : A3) (a4 : A4) (a5 : A5) (a6 : A6) (a7 : A7) (a8 : A8) (a9 : A9) (h : I a1 a2 a3 a4 a5 a6 a7 a8 a9) : ∃ n, W n a1 a2 a3 a4 a5 a6 a7 a8 a9 :=
  loop_m (σ := A1 × A2 × A3 × A4 × A5 × A6 × A7 × A8 × A9) (fun n s => W n s.1 s.2.1 s.2.2.1 s.2.2.2.1 s.2.2.2.2.1 s.2.2.2.2.2.1 s.2.2.2.2.2.2.1 s.2.2.2.2.2.2.2.1 s.2.2.2.2.2.2.2.2) (fun s => I s.1 s.2.1 s.2.2.1 s.2.2.2.1 s.2.2.2.2.1 s.2.2.2.2.2.1 s.2.2.2.2.2.2.1 s.2.2.2.2.2.2.2.1 s.2.2.2.2.2.2.2.2) (fun s => μ s.1 s.2.1 s.2.2.1 s.2.2.2.1 s.2.2.2.2.1 s.2.2.2.2.2.1 s.2.2.2.2.2.2.1 s.2.2.2.2.2.2.2.1 s.2.2.2.2.2.2.2.2) (fun n s hI hk => hs n s.1 s.2.1 s.2.2.1 s.2.2.2.1 s.2.2.2.2.1 s.2.2.2.2.2.1 s.2.2.2.2.2.2.1 s.2.2.2.2.2.2.2.1 s.2.2.2.2.2.2.2.2 hI (fun b1 b2 b3 b4 b5 b6 b7 b8 b9 h9 hm => hk (b1, b2, b3, b4, b5, b6, b7, b8, b9) h9 hm)) (a1, a2, a3, a4, a5, a6, a7, a8, a9) h
theorem lp10 {A1 A2 A3 A4 A5 A6 A7 A8 A9 A10 : Type} (W : Nat → A1 → A2 → A3 → A4 → A5 → A6 → A7 → A8 → A9 → A10 → Prop) (I : A1 → A2 → A3 → A4 → A5 → A6 → A7 → A8 → A9 → A10 → Prop) (μ : A1 → A2 → A3 → A4 → A5 → A6 → A7 → A8 → A9 → A10 → Nat) (hs : ∀ (n : Nat) (a1 : A1) (a2 : A2) (a3 : A3) (a4 : A4) (a5 : A5) (a6 : A6) (a7 : A7) (a8 : A8) (a9 : A9) (a10 : A10), I a1 a2 a3 a4 a5 a6 a7 a8 a9 a10 → (∀ (b1 : A1) (b2 : A2) (b3 : A3) (b4 : A4) (b5 : A5) (b6 : A6) (b7 : A7) (b8 : A8) (b9 : A9) (b10 : A10), I b1 b2 b3 b4 b5 b6 b7 b8 b9 b10 → μ b1 b2 b3 b4 b5 b6 b7 b8 b9 b10 < μ a1 a2 a3 a4 a5 a6 a7 a8 a9 a10 → W n b1 b2 b3 b4 b5 b6 b7 b8 b9 b10) → W (n + 1) a1 a2 a3 a4 a5 a6 a7 a8 a9 a10) (a1 : A1) (a2 : A2) (a3 : A3) (a4 : A4) (a5 : A5) (a6 : A6) (a7 : A7) (a8 : A8) (a9 : A9) (a10 : A10) (h : I a1 a2 a3 a4 a5 a6 a7 a8 a9 a10) : ∃ n, W n a1 a2 a3 a4 a5 a6 a7 a8 a9 a10 :=
  loop_m (σ := A1 × A2 × A3 × A4 × A5 × A6 × A7 × A8 × A9 × A10) (fun n s => W n s.1 s.2.1 s.2.2.1 s.2.2.2.1 s.2.2.2.2.1 s.2.2.2.2.2.1 s.2.2.2.2.2.2.1 s.2.2.2.2.2.2.2.1 s.2.2.2.2.2.2.2.2.1 s.2.2.2.2.2.2.2.2.2) (fun s => I s.1 s.2.1 s.2.2.1 s.2.2.2.1 s.2.2.2.2.1 s.2.2.2.2.2.1 s.2.2.2.2.2.2.1 s.2.2.2.2.2.2.2.1 s.2.2.2.2.2.2.2.2.1 s.2.2.2.2.2.2.2.2.2) (fun s => μ s.1 s.2.1 s.2.2.1 s.2.2.2.1 s.2.2.2.2.1 s.2.2.2.2.2.1 s.2.2.2.2.2.2.1 s.2.2.2.2.2.2.2.1 s.2.2.2.2.2.2.2.2.1 s.2.2.2.2.2.2.2.2.2) (fun n s hI hk => hs n s.1 s.2.1 s.2.2.1 s.2.2.2.1 s.2.2.2.2.1 s.2.2.2.2.2.1 s.2.2.2.2.2.2.1 s.2.2.2.2.2.2.2.1 s.2.2.2.2.2.2.2.2.1 s.2.2.2.2.2.2.2.2.2 hI (fun b1 b2 b3 b4 b5 b6 b7 b8 b9 b10 h9 hm => hk (b1, b2, b3, b4, b5, b6, b7, b8, b9, b10) h9 hm)) (a1, a2, a3, a4, a5, a6, a7, a8, a9, a10) h
theorem lp11 {A1 A2 A3 A4 A5 A6 A7 A8 A9 A10 A11 : Type} (W : Nat → A1 → A2 → A3 → A4 → A5 → A6 → A7 → A8 → A9 → A10 → A11 → Prop) (I : A1 → A2 → A3 → A4 → A5 → A6 → A7 → A8 → A9 → A10 → A11 → Prop) (μ : A1 → A2 → A3 → A4 → A5 → A6 → A7 → A8 → A9 → A10 → A11 → Nat) (hs : ∀ (n : Nat) (a1 : A1) (a2 : A2) (a3 : A3) (a4 : A4) (a5 : A5) (a6 : A6) (a7 : A7) (a8 : A8) (a9 : A9) (a10 : A10) (a11 : A11), I a1 a2 a3 a4 a5 a6 a7 a8 a9 a10 a11 → (∀ (b1 : A1) (b2 : A2) (b3 : A3) (b4 : A4) (b5 : A5) (b6 : A6) (b7 : A7) (b8 : A8) (b9 : A9) (b10 : A10) (b11 : A11), I b1 b2 b3 b4 b5 b6 b7 b8 b9 b10 b11 → μ b1 b2 b3 b4 b5 b6 b7 b8 b9 b10 b11 < μ a1 a2 a3 a4 a5 a6 a7 a8 a9 a10 a11 → W n b1 b2 b3 b4 b5 b6 b7 b8 b9 b10 b11) → W (n + 1) a1 a2 a3 a4 a5 a6 a7 a8 a9 a10 a11) (a1 : A1) (a2 : A2) (a3 : A3) (a4 : A4) (a5 : A5) (a6 : A6) (a7 : A7) (a8 : A8) (a9 : A9) (a10 : A10) (a11 : A11) (h : I a1 a2 a3 a4 a5 a6 a7 a8 a9 a10 a11) : ∃ n, W n a1 a2 a3 a4 a5 a6 a7 a8 a9 a10 a11 :=
  loop_m (σ := A1 × A2 × A3 × A4 × A5 × A6 × A7 × A8 × A9 × A10 × A11) (fun n s => W n s.1 s.2.1 s.2.2.1 s.2.2.2.1 s.2.2.2.2.1 s.2.2.2.2.2.1 s.2.2.2.2.2.2.1 s.2.2.2.2.2.2.2.1 s.2.2.2.2.2.2.2.2.1 s.2.2.2.2.2.2.2.2.2.1 s.2.2.2.2.2.2.2.2.2.2) (fun s => I s.1 s.2.1 s.2.2.1 s.2.2.2.1 s.2.2.2.2.1 s.2.2.2.2.2.1 s.2.2.2.2.2.2.1 s.2.2.2.2.2.2.2.1 s.2.2.2.2.2.2.2.2.1 s.2.2.2.2.2.2.2.2.2.1 s.2.2.2.2.2.2.2.2.2.2) (fun s => μ s.1 s.2.1 s.2.2.1 s.2.2.2.1 s.2.2.2.2.1 s.2.2.2.2.2.1 s.2.2.2.2.2.2.1 s.2.2.2.2.2.2.2.1 s.2.2.2.2.2.2.2.2.1 s.2.2.2.2.2.2.2.2.2.1 s.2.2.2.2.2.2.2.2.2.2) (fun n s hI hk => hs n s.1 s.2.1 s.2.2.1 s.2.2.2.1 s.2.2.2.2.1 s.2.2.2.2.2.1 s.2.2.2.2.2.2.1 s.2.2.2.2.2.2.2.1 s.2.2.2.2.2.2.2.2.1 s.2.2.2.2.2.2.2.2.2.1 s.2.2.2.2.2.2.2.2.2.2 hI (fun b1 b2 b3 b4 b5 b6 b7 b8 b9 b10 b11 h9 hm => hk (b1, b2, b3, b4, b5, b6, b7, b8, b9, b10, b11) h9 hm)) (a1, a2, a3, a4, a5, a6, a7, a8, a9, a10, a11) h
theorem lp12 {A1 A2 A3 A4 A5 A6 A7 A8 A9 A10 A11 A12 : Type} (W : Nat → A1 → A2 → A3 → A4 → A5 → A6 → A7 → A8 → A9 → A10 → A11 → A12 → Prop) (I : A1 → A2 → A3 → A4 → A5 → A6 → A7 → A8 → A9 → A10 → A11 → A12 → Prop) (μ : A1 → A2 → A3 → A4 → A5 → A6 → A7 → A8 → A9 → A10 → A11 → A12 → Nat) (hs : ∀ (n : Nat) (a1 : A1) (a2 : A2) (a3 : A3) (a4 : A4) (a5 : A5) (a6 : A6) (a7 : A7) (a8 : A8) (a9 : A9) (a10 : A10) (a11 : A11) (a12 : A12), I a1 a2 a3 a4 a5 a6 a7 a8 a9 a10 a11 a12 → (∀ (b1 : A1) (b2 : A2) (b3 : A3) (b4 : A4) (b5 : A5) (b6 : A6) (b7 : A7) (b8 : A8) (b9 : A9) (b10 : A10) (b11 : A11) (b12 : A12), I b1 b2 b3 b4 b5 b6 b7 b8 b9 b10 b11 b12 → μ b1 b2 b3 b4 b5 b6 b7 b8 b9 b10 b11 b12 < μ a1 a2 a3 a4 a5 a6 a7 a8 a9 a10 a11 a12 → W n b1 b2 b3 b4 b5 b6 b7 b8 b9 b10 b11 b12) → W (n + 1) a1 a2 a3 a4 a5 a6 a7 a8 a9 a10 a11 a12) (a1 : A1) (a2 : A2) (a3 : A3) (a4 : A4) (a5 : A5) (a6 : A6) (a7 : A7) (a8 : A8) (a9 : A9) (a10 : A10) (a11 : A11) (a12 : A12) (h : I a1 a2 a3 a4 a5 a6 a7 a8 a9 a10 a11 a12) : ∃ n, W n a1 a2 a3 a4 a5 a6 a7 a8 a9 a10 a11 a12 :=
  loop_m (σ := A1 × A2 × A3 × A4 × A5 × A6 × A7 × A8 × A9 × A10 × A11 × A12) (fun n s => W n s.1 s.2.1 s.2.2.1 s.2.2.2.1 s.2.2.2.2.1 s.2.2.2.2.2.1 s.2.2.2.2.2.2.1 s.2.2.2.2.2.2.2.1 s.2.2.2.2.2.2.2.2.1 s.2.2.2.2.2.2.2.2.2.1 s.2.2.2.2.2.2.2.2.2.2.1 s.2.2.2.2.2.2.2.2.2.2.2) (fun s => I s.1 s.2.1 s.2.2.1 s.2.2.2.1 s.2.2.2.2.1 s.2.2.2.2.2.1 s.2.2.2.2.2.2.1 s.2.2.2.2.2.2.2.1 s.2.2.2.2.2.2.2.2.1 s.2.2.2.2.2.2.2.2.2.1 s.2.2.2.2.2.2.2.2.2.2.1 s.2.2.2.2.2.2.2.2.2.2.2) (fun s => μ s.1 s.2.1 s.2.2.1 s.2.2.2.1 s.2.2.2.2.1 s.2.2.2.2.2.1 s.2.2.2.2.2.2.1 s.2.2.2.2.2.2.2.1 s.2.2.2.2.2.2.2.2.1 s.2.2.2.2.2.2.2.2.2.1 s.2.2.2.2.2.2.2.2.2.2.1 s.2.2.2.2.2.2.2.2.2.2.2) (fun n s hI hk => hs n s.1 s.2.1 s.2.2.1 s.2.2.2.1 s.2.2.2.2.1 s.2.2.2.2.2.1 s.2.2.2.2.2.2.1 s.2.2.2.2.2.2.2.1 s.2.2.2.2.2.2.2.2.1 s.2.2.2.2.2.2.2.2.2.1 s.2.2.2.2.2.2.2.2.2.2.1 s.2.2.2.2.2.2.2.2.2.2.2 hI (fun b1 b2 b3 b4 b5 b6 b7 b8 b9 b10 b11 b12 h9 hm => hk (b1, b2, b3, b4, b5, b6, b7, b8, b9, b10, b11, b12) h9 hm)) (a1, a2, a3, a4, a5, a6, a7, a8, a9, a10, a11, a12) h
theorem lp13 {A1 A2 A3 A4 A5 A6 A7 A8 A9 A10 A11 A12 A13 : Type} (W : Nat → A1 → A2 → A3 → A4 → A5 → A6 → A7 → A8 → A9 → A10 → A11 → A12 → A13 → Prop) (I : A1 → A2 → A3 → A4 → A5 → A6 → A7 → A8 → A9 → A10 → A11 → A12 → A13 → Prop) (μ : A1 → A2 → A3 → A4 → A5 → A6 → A7 → A8 → A9 → A10 → A11 → A12 → A13 → Nat) (hs : ∀ (n : Nat) (a1 : A1) (a2 : A2) (a3 : A3) (a4 : A4) (a5 : A5) (a6 : A6) (a7 : A7) (a8 : A8) (a9 : A9) (a10 : A10) (a11 : A11) (a12 : A12) (a13 : A13), I a1 a2 a3 a4 a5 a6 a7 a8 a9 a10 a11 a12 a13 → (∀ (b1 : A1) (b2 : A2) (b3 : A3) (b4 : A4) (b5 : A5) (b6 : A6) (b7 : A7) (b8 : A8) (b9 : A9) (b10 : A10) (b11 : A11) (b12 : A12) (b13 : A13), I b1 b2 b3 b4 b5 b6 b7 b8 b9 b10 b11 b12 b13 → μ b1 b2 b3 b4 b5 b6 b7 b8 b9 b10 b11 b12 b13 < μ a1 a2 a3 a4 a5 a6 a7 a8 a9 a10 a11 a12 a13 → W n b1 b2 b3 b4 b5 b6 b7 b8 b9 b10 b11 b12 b13) → W (n + 1) a1 a2 a3 a4 a5 a6 a7 a8 a9 a10 a11 a12 a13) (a1 : A1) (a2 : A2) (a3 : A3) (a4 : A4) (a5 : A5) (a6 : A6) (a7 : A7) (a8 : A8) (a9 : A9) (a10 : A10) (a11 : A11) (a12 : A12) (a13 : A13) (h : I a1 a2 a3 a4 a5 a6 a7 a8 a9 a10 a11 a12 a13) : ∃ n, W n a1 a2 a3 a4 a5 a6 a7 a8 a9 a10 a11 a12 a13 :=
  loop_m (σ := A1 × A2 × A3 × A4 × A5 × A6 × A7 × A8 × A9 × A10 × A11 × A12 × A13) (fun n s => W n s.1 s.2.1 s.2.2.1 s.2.2.2.1 s.2.2.2.2.1 s.2.2.2.2.2.1 s.2.2.2.2.2.2.1 s.2.2.2.2.2.2.2.1 s.2.2.2.2.2.2.2.2.1 s.2.2.2.2.2.2.2.2.2.1 s.2.2.2.2.2.2.2.2.2.2.1 s.2.2.2.2.2.2.2.2.2.2.2.1 s.2.2.2.2.2.2.2.2.2.2.2.2) (fun s => I s.1 s.2.1 s.2.2.1 s.2.2.2.1 s.2.2.2.2.1 s.2.2.2.2.2.1 s.2.2.2.2.2.2.1 s.2.2.2.2.2.2.2.1 s.2.2.2.2.2.2.2.2.1 s.2.2.2.2.2.2.2.2.2.1 s.2.2.2.2.2.2.2.2.2.2.1 s.2.2.2.2.2.2.2.2.2.2.2.1 s.2.2.2.2.2.2.2.2.2.2.2.2) (fun s => μ s.1 s.2.1 s.2.2.1 s.2.2.2.1 s.2.2.2.2.1 s.2.2.2.2.2.1 s.2.2.2.2.2.2.1 s.2.2.2.2.2.2.2.1 s.2.2.2.2.2.2.2.2.1 s.2.2.2.2.2.2.2.2.2.1 s.2.2.2.2.2.2.2.2.2.2.1 s.2.2.2.2.2.2.2.2.2.2.2.1 s.2.2.2.2.2.2.2.2.2.2.2.2) (fun n s hI hk => hs n s.1 s.2.1 s.2.2.1 s.2.2.2.1 s.2.2.2.2.1 s.2.2.2.2.2.1 s.2.2.2.2.2.2.1 s.2.2.2.2.2.2.2.1 s.2.2.2.2.2.2.2.2.1 s.2.2.2.2.2.2.2.2.2.1 s.2.2.2.2.2.2.2.2.2.2.1 s.2.2.2.2.2.2.2.2.2.2.2.1 s.2.2.2.2.2.2.2.2.2.2.2.2 hI (fun b1 b2 b3 b4 b5 b6 b7 b8 b9 b10 b11 b12 b13 h9 hm => hk (b1, b2, b3, b4, b5, b6, b7, b8, b9, b10, b11, b12, b13) h9 hm)) (a1, a2, a3, a4, a5, a6, a7, a8, a9, a10, a11, a12, a13) h
theorem lp14 {A1 A2 A3 A4 A5 A6 A7 A8 A9 A10 A11 A12 A13 A14 : Type} (W : Nat → A1 → A2 → A3 → A4 → A5 → A6 → A7 → A8 → A9 → A10 → A11 → A12 → A13 → A14 → Prop) (I : A1 → A2 → A3 → A4 → A5 → A6 → A7 → A8 → A9 → A10 → A11 → A12 → A13 → A14 → Prop) (μ : A1 → A2 → A3 → A4 → A5 → A6 → A7 → A8 → A9 → A10 → A11 → A12 → A13 → A14 → Nat) (hs : ∀ (n : Nat) (a1 : A1) (a2 : A2) (a3 : A3) (a4 : A4) (a5 : A5) (a6 : A6) (a7 : A7) (a8 : A8) (a9 : A9) (a10 : A10) (a11 : A11) (a12 : A12) (a13 : A13) (a14 : A14), I a1 a2 a3 a4 a5 a6 a7 a8 a9 a10 a11 a12 a13 a14 → (∀ (b1 : A1) (b2 : A2) (b3 : A3) (b4 : A4) (b5 : A5) (b6 : A6) (b7 : A7) (b8 : A8) (b9 : A9) (b10 : A10) (b11 : A11) (b12 : A12) (b13 : A13) (b14 : A14), I b1 b2 b3 b4 b5 b6 b7 b8 b9 b10 b11 b12 b13 b14 → μ b1 b2 b3 b4 b5 b6 b7 b8 b9 b10 b11 b12 b13 b14 < μ a1 a2 a3 a4 a5 a6 a7 a8 a9 a10 a11 a12 a13 a14 → W n b1 b2 b3 b4 b5 b6 b7 b8 b9 b10 b11 b12 b13 b14) → W (n + 1) a1 a2 a3 a4 a5 a6 a7 a8 a9 a10 a11 a12 a13 a14) (a1 : A1) (a2 : A2) (a3 : A3) (a4 : A4) (a5 : A5) (a6 : A6) (a7 : A7) (a8 : A8) (a9 : A9) (a10 : A10) (a11 : A11) (a12 : A12) (a13 : A13) (a14 : A14) (h : I a1 a2 a3 a4 a5 a6 a7 a8 a9 a10 a11 a12 a13 a14) : ∃ n, W n a1 a2 a3 a4 a5 a6 a7 a8 a9 a10 a11 a12 a13 a14 :=
  loop_m (σ := A1 × A2 × A3 × A4 × A5 × A6 × A7 × A8 × A9 × A10 × A11 × A12 × A13 × A14) (fun n s => W n s.1 s.2.1 s.2.2.1 s.2.2.2.1 s.2.2.2.2.1 s.2.2.2.2.2.1 s.2.2.2.2.2.2.1 s.2.2.2.2.2.2.2.1 s.2.2.2.2.2.2.2.2.1 s.2.2.2.2.2.2.2.2.2.1 s.2.2.2.2.2.2.2.2.2.2.1 s.2.2.2.2.2.2.2.2.2.2.2.1 s.2.2.2.2.2.2.2.2.2.2.2.2.1 s.2.2.2.2.2.2.2.2.2.2.2.2.2) (fun s => I s.1 s.2.1 s.2.2.1 s.2.2.2.1 s.2.2.2.2.1 s.2.2.2.2.2.1 s.2.2.2.2.2.2.1 s.2.2.2.2.2.2.2.1 s.2.2.2.2.2.2.2.2.1 s.2.2.2.2.2.2.2.2.2.1 s.2.2.2.2.2.2.2.2.2.2.1 s.2.2.2.2.2.2.2.2.2.2.2.1 s.2.2.2.2.2.2.2.2.2.2.2.2.1 s.2.2.2.2.2.2.2.2.2.2.2.2.2) (fun s => μ s.1 s.2.1 s.2.2.1 s.2.2.2.1 s.2.2.2.2.1 s.2.2.2.2.2.1 s.2.2.2.2.2.2.1 s.2.2.2.2.2.2.2.1 s.2.2.2.2.2.2.2.2.1 s.2.2.2.2.2.2.2.2.2.1 s.2.2.2.2.2.2.2.2.2.2.1 s.2.2.2.2.2.2.2.2.2.2.2.1 s.2.2.2.2.2.2.2.2.2.2.2.2.1 s.2.2.2.2.2.2.2.2.2.2.2.2.2) (fun n s hI hk => hs n s.1 s.2.1 s.2.2.1 s.2.2.2.1 s.2.2.2.2.1 s.2.2.2.2.2.1 s.2.2.2.2.2.2.1 s.2.2.2.2.2.2.2.1 s.2.2.2.2.2.2.2.2.1 s.2.2.2.2.2.2.2.2.2.1 s.2.2.2.2.2.2.2.2.2.2.1 s.2.2.2.2.2.2.2.2.2.2.2.1 s.2.2.2.2.2.2.2.2.2.2.2.2.1 s.2.2.2.2.2.2.2.2.2.2.2.2.2 hI (fun b1 b2 b3 b4 b5 b6 b7 b8 b9 b10 b11 b12 b13 b14 h9 hm => hk (b1, b2, b3, b4, b5, b6, b7, b8, b9, b10, b11, b12, b13, b14) h9 hm)) (a1, a2, a3, a4, a5, a6, a7, a8, a9, a10, a11, a12, a13, a14) h
theorem lp15 {A1 A2 A3 A4 A5 A6 A7 A8 A9 A10 A11 A12 A13 A14 A15 : Type} (W : Nat → A1 → A2 → A3 → A4 → A5 → A6 → A7 → A8 → A9 → A10 → A11 → A12 → A13 → A14 → A15 → Prop) (I : A1 → A2 → A3 → A4 → A5 → A6 → A7 → A8 → A9 → A10 → A11 → A12 → A13 → A14 → A15 → Prop) (μ : A1 → A2 → A3 → A4 → A5 → A6 → A7 → A8 → A9 → A10 → A11 → A12 → A13 → A14 → A15 → Nat) (hs : ∀ (n : Nat) (a1 : A1) (a2 : A2) (a3 : A3) (a4 : A4) (a5 : A5) (a6 : A6) (a7 : A7) (a8 : A8) (a9 : A9) (a10 : A10) (a11 : A11) (a12 : A12) (a13 : A13) (a14 : A14) (a15 : A15), I a1 a2 a3 a4 a5 a6 a7 a8 a9 a10 a11 a12 a13 a14 a15 → (∀ (b1 : A1) (b2 : A2) (b3 : A3) (b4 : A4) (b5 : A5) (b6 : A6) (b7 : A7) (b8 : A8) (b9 : A9) (b10 : A10) (b11 : A11) (b12 : A12) (b13 : A13) (b14 : A14) (b15 : A15), I b1 b2 b3 b4 b5 b6 b7 b8 b9 b10 b11 b12 b13 b14 b15 → μ b1 b2 b3 b4 b5 b6 b7 b8 b9 b10 b11 b12 b13 b14 b15 < μ a1 a2 a3 a4 a5 a6 a7 a8 a9 a10 a11 a12 a13 a14 a15 → W n b1 b2 b3 b4 b5 b6 b7 b8 b9 b10 b11 b12 b13 b14 b15) → W (n + 1) a1 a2 a3 a4 a5 a6 a7 a8 a9 a10 a11 a12 a13 a14 a15) (a1 : A1) (a2 : A2) (a3 : A3) (a4 : A4) (a5 : A5) (a6 : A6) (a7 : A7) (a8 : A8) (a9 : A9) (a10 : A10) (a11 : A11) (a12 : A12) (a13 : A13) (a14 : A14) (a15 : A15) (h : I a1 a2 a3 a4 a5 a6 a7 a8 a9 a10 a11 a12 a13 a14 a15) : ∃ n, W n a1 a2 a3 a4 a5 a6 a7 a8 a9 a10 a11 a12 a13 a14 a15 :=
  loop_m (σ := A1 × A2 × A3 × A4 × A5 × A6 × A7 × A8 × A9 × A10 × A11 × A12 × A13 × A14 × A15) (fun n s => W n s.1 s.2.1 s.2.2.1 s.2.2.2.1 s.2.2.2.2.1 s.2.2.2.2.2.1 s.2.2.2.2.2.2.1 s.2.2.2.2.2.2.2.1 s.2.2.2.2.2.2.2.2.1 s.2.2.2.2.2.2.2.2.2.1 s.2.2.2.2.2.2.2.2.2.2.1 s.2.2.2.2.2.2.2.2.2.2.2.1 s.2.2.2.2.2.2.2.2.2.2.2.2.1 s.2.2.2.2.2.2.2.2.2.2.2.2.2.1 s.2.2.2.2.2.2.2.2.2.2.2.2.2.2) (fun s => I s.1 s.2.1 s.2.2.1 s.2.2.2.1 s.2.2.2.2.1 s.2.2.2.2.2.1 s.2.2.2.2.2.2.1 s.2.2.2.2.2.2.2.1 s.2.2.2.2.2.2.2.2.1 s.2.2.2.2.2.2.2.2.2.1 s.2.2.2.2.2.2.2.2.2.2.1 s.2.2.2.2.2.2.2.2.2.2.2.1 s.2.2.2.2.2.2.2.2.2.2.2.2.1 s.2.2.2.2.2.2.2.2.2.2.2.2.2.1 s.2.2.2.2.2.2.2.2.2.2.2.2.2.2) (fun s => μ s.1 s.2.1 s.2.2.1 s.2.2.2.1 s.2.2.2.2.1 s.2.2.2.2.2.1 s.2.2.2.2.2.2.1 s.2.2.2.2.2.2.2.1 s.2.2.2.2.2.2.2.2.1 s.2.2.2.2.2.2.2.2.2.1 s.2.2.2.2.2.2.2.2.2.2.1 s.2.2.2.2.2.2.2.2.2.2.2.1 s.2.2.2.2.2.2.2.2.2.2.2.2.1 s.2.2.2.2.2.2.2.2.2.2.2.2.2.1 s.2.2.2.2.2.2.2.2.2.2.2.2.2.2) (fun n s hI hk => hs n s.1 s.2.1 s.2.2.1 s.2.2.2.1 s.2.2.2.2.1 s.2.2.2.2.2.1 s.2.2.2.2.2.2.1 s.2.2.2.2.2.2.2.1 s.2.2.2.2.2.2.2.2.1 s.2.2.2.2.2.2.2.2.2.1 s.2.2.2.2.2.2.2.2.2.2.1 s.2.2.2.2.2.2.2.2.2.2.2.1 s.2.2.2.2.2.2.2.2.2.2.2.2.1 s.2.2.2.2.2.2.2.2.2.2.2.2.2.1 s.2.2.2.2.2.2.2.2.2.2.2.2.2.2 hI (fun b1 b2 b3 b4 b5 b6 b7 b8 b9 b10 b11 b12 b13 b14 b15 h9 hm => hk (b1, b2, b3, b4, b5, b6, b7, b8, b9, b10, b11, b12, b13, b14, b15) h9 hm)) (a1, a2, a3, a4, a5, a6, a7, a8, a9, a10, a11, a12, a13, a14, a15) h
theorem lp16 {A1 A2 A3 A4 A5 A6 A7 A8 A9 A10 A11 A12 A13 A14 A15 A16 : Type} (W : Nat → A1 → A2 → A3 → A4 → A5 → A6 → A7 → A8 → A9 → A10 → A11 → A12 → A13 → A14 → A15 → A16 → Prop) (I : A1 → A2 → A3 → A4 → A5 → A6 → A7 → A8 → A9 → A10 → A11 → A12 → A13 → A14 → A15 → A16 → Prop) (μ : A1 → A2 → A3 → A4 → A5 → A6 → A7 → A8 → A9 → A10 → A11 → A12 → A13 → A14 → A15 → A16 → Nat) (hs : ∀ (n : Nat) (a1 : A1) (a2 : A2) (a3 : A3) (a4 : A4) (a5 : A5) (a6 : A6) (a7 : A7) (a8 : A8) (a9 : A9) (a10 : A10) (a11 : A11) (a12 : A12) (a13 : A13) (a14 : A14) (a15 : A15) (a16 : A16), I a1 a2 a3 a4 a5 a6 a7 a8 a9 a10 a11 a12 a13 a14 a15 a16 → (∀ (b1 : A1) (b2 : A2) (b3 : A3) (b4 : A4) (b5 : A5) (b6 : A6) (b7 : A7) (b8 : A8) (b9 : A9) (b10 : A10) (b11 : A11) (b12 : A12) (b13 : A13) (b14 : A14) (b15 : A15) (b16 : A16), I b1 b2 b3 b4 b5 b6 b7 b8 b9 b10 b11 b12 b13 b14 b15 b16 → μ b1 b2 b3 b4 b5 b6 b7 b8 b9 b10 b11 b12 b13 b14 b15 b16 < μ a1 a2 a3 a4 a5 a6 a7 a8 a9 a10 a11 a12 a13 a14 a15 a16 → W n b1 b2 b3 b4 b5 b6 b7 b8 b9 b10 b11 b12 b13 b14 b15 b16) → W (n + 1) a1 a2 a3 a4 a5 a6 a7 a8 a9 a10 a11 a12 a13 a14 a15 a16) (a1 : A1) (a2 : A2) (a3 : A3) (a4 : A4) (a5 : A5) (a6 : A6) (a7 : A7) (a8 : A8) (a9 : A9) (a10 : A10) (a11 : A11) (a12 : A12) (a13 : A13) (a14 : A14) (a15 : A15) (a16 : A16) (h : I a1 a2 a3 a4 a5 a6 a7 a8 a9 a10 a11 a12 a13 a14 a15 a16) : ∃ n, W n a1 a2 a3 a4 a5 a6 a7 a8 a9 a10 a11 a12 a13 a14 a15 a16 :=
  loop_m (σ := A1 × A2 × A3 × A4 × A5 × A6 × A7 × A8 × A9 × A10 × A11 × A12 × A13 × A14 × A15 × A16) (fun n s => W n s.1 s.2.1 s.2.2.1 s.2.2.2.1 s.2.2.2.2.1 s.2.2.2.2.2.1 s.2.2.2.2.2.2.1 s.2.2.2.2.2.2.2.1 s.2.2.2.2.2.2.2.2.1 s.2.2.2.2.2.2.2.2.2.1 s.2.2.2.2.2.2.2.2.2.2.1 s.2.2.2.2.2.2.2.2.2.2.2.1 s.2.2.2.2.2.2.2.2.2.2.2.2.1 s.2.2.2.2.2.2.2.2.2.2.2.2.2.1 s.2.2.2.2.2.2.2.2.2.2.2.2.2.2.1 s.2.2.2.2.2.2.2.2.2.2.2.2.2.2.2) (fun s => I s.1 s.2.1 s.2.2.1 s.2.2.2.1 s.2.2.2.2.1 s.2.2.2.2.2.1 s.2.2.2.2.2.2.1 s.2.2.2.2.2.2.2.1 s.2.2.2.2.2.2.2.2.1 s.2.2.2.2.2.2.2.2.2.1 s.2.2.2.2.2.2.2.2.2.2.1 s.2.2.2.2.2.2.2.2.2.2.2.1 s.2.2.2.2.2.2.2.2.2.2.2.2.1 s.2.2.2.2.2.2.2.2.2.2.2.2.2.1 s.2.2.2.2.2.2.2.2.2.2.2.2.2.2.1 s.2.2.2.2.2.2.2.2.2.2.2.2.2.2.2) (fun s => μ s.1 s.2.1 s.2.2.1 s.2.2.2.1 s.2.2.2.2.1 s.2.2.2.2.2.1 s.2.2.2.2.2.2.1 s.2.2.2.2.2.2.2.1 s.2.2.2.2.2.2.2.2.1 s.2.2.2.2.2.2.2.2.2.1 s.2.2.2.2.2.2.2.2.2.2.1 s.2.2.2.2.2.2.2.2.2.2.2.1 s.2.2.2.2.2.2.2.2.2.2.2.2.1 s.2.2.2.2.2.2.2.2.2.2.2.2.2.1 s.2.2.2.2.2.2.2.2.2.2.2.2.2.2.1 s.2.2.2.2.2.2.2.2.2.2.2.2.2.2.2) (fun n s hI hk => hs n s.1 s.2.1 s.2.2.1 s.2.2.2.1 s.2.2.2.2.1 s.2.2.2.2.2.1 s.2.2.2.2.2.2.1 s.2.2.2.2.2.2.2.1 s.2.2.2.2.2.2.2.2.1 s.2.2.2.2.2.2.2.2.2.1 s.2.2.2.2.2.2.2.2.2.2.1 s.2.2.2.2.2.2.2.2.2.2.2.1 s.2.2.2.2.2.2.2.2.2.2.2.2.1 s.2.2.2.2.2.2.2.2.2.2.2.2.2.1 s.2.2.2.2.2.2.2.2.2.2.2.2.2.2.1 s.2.2.2.2.2.2.2.2.2.2.2.2.2.2.2 hI (fun b1 b2 b3 b4 b5 b6 b7 b8 b9 b10 b11 b12 b13 b14 b15 b16 h9 hm => hk (b1, b2, b3, b4, b5, b6, b7, b8, b9, b10, b11, b12, b13, b14, b15, b16) h9 hm)) (a1, a2, a3, a4, a5, a6, a7, a8, a9, a10, a11, a12, a13, a14, a15, a16) h
theorem pk_least (P : Nat → Prop) (h : ∃ k, P k) : ∃ k, P k ∧ ∀ j, j < k → ¬ P j := by
  obtain ⟨k, hk⟩ := h
  induction k using Nat.strongRecOn with
  | ind k ih =>
    by_cases e : ∃ j, j < k ∧ P j
    · obtain ⟨j, hj, pj⟩ := e
      exact ih j hj pj
    · exact ⟨k, hk, fun j hj pj => e ⟨j, hj, pj⟩⟩
theorem rp1 {ρ A1 : Type} (W : Nat → (ρ → Prop) → A1 → Prop) (ok : A1 → Prop) (μ : A1 → Nat) (val : A1 → ρ)
    (hs : ∀ (d : Nat) (post : ρ → Prop) (a1 : A1), ok a1 → post (val a1) → (∀ (post' : ρ → Prop) (b1 : A1), ok b1 → μ b1 < μ a1 → post' (val b1) → W d post' b1) → W (d + 1) post a1) :
    ∀ (d : Nat) (post : ρ → Prop) (a1 : A1), ok a1 → μ a1 < d → post (val a1) → W d post a1 := by
  intro d
  induction d with
  | zero => intro post a1 _ h; omega
  | succ d ih =>
    intro post a1 ho hm hp
    exact hs d post a1 ho hp (fun post' b1 ho' hm' hp' => ih post' b1 ho' (by omega) hp')
theorem rp2 {ρ A1 A2 : Type} (W : Nat → (ρ → Prop) → A1 → A2 → Prop) (ok : A1 → A2 → Prop) (μ : A1 → A2 → Nat) (val : A1 → A2 → ρ)
    (hs : ∀ (d : Nat) (post : ρ → Prop) (a1 : A1) (a2 : A2), ok a1 a2 → post (val a1 a2) → (∀ (post' : ρ → Prop) (b1 : A1) (b2 : A2), ok b1 b2 → μ b1 b2 < μ a1 a2 → post' (val b1 b2) → W d post' b1 b2) → W (d + 1) post a1 a2) :
    ∀ (d : Nat) (post : ρ → Prop) (a1 : A1) (a2 : A2), ok a1 a2 → μ a1 a2 < d → post (val a1 a2) → W d post a1 a2 := by
  intro d
  induction d with
  | zero => intro post a1 a2 _ h; omega
  | succ d ih =>
    intro post a1 a2 ho hm hp
    exact hs d post a1 a2 ho hp (fun post' b1 b2 ho' hm' hp' => ih post' b1 b2 ho' (by omega) hp')
theorem rp3 {ρ A1 A2 A3 : Type} (W : Nat → (ρ → Prop) → A1 → A2 → A3 → Prop) (ok : A1 → A2 → A3 → Prop) (μ : A1 → A2 → A3 → Nat) (val : A1 → A2 → A3 → ρ)
    (hs : ∀ (d : Nat) (post : ρ → Prop) (a1 : A1) (a2 : A2) (a3 : A3), ok a1 a2 a3 → post (val a1 a2 a3) → (∀ (post' : ρ → Prop) (b1 : A1) (b2 : A2) (b3 : A3), ok b1 b2 b3 → μ b1 b2 b3 < μ a1 a2 a3 → post' (val b1 b2 b3) → W d post' b1 b2 b3) → W (d + 1) post a1 a2 a3) :
    ∀ (d : Nat) (post : ρ → Prop) (a1 : A1) (a2 : A2) (a3 : A3), ok a1 a2 a3 → μ a1 a2 a3 < d → post (val a1 a2 a3) → W d post a1 a2 a3 := by
  intro d
  induction d with
  | zero => intro post a1 a2 a3 _ h; omega
  | succ d ih =>
    intro post a1 a2 a3 ho hm hp
    exact hs d post a1 a2 a3 ho hp (fun post' b1 b2 b3 ho' hm' hp' => ih post' b1 b2 b3 ho' (by omega) hp')
theorem rp4 {ρ A1 A2 A3 A4 : Type} (W : Nat → (ρ → Prop) → A1 → A2 → A3 → A4 → Prop) (ok : A1 → A2 → A3 → A4 → Prop) (μ : A1 → A2 → A3 → A4 → Nat) (val : A1 → A2 → A3 → A4 → ρ)
    (hs : ∀ (d : Nat) (post : ρ → Prop) (a1 : A1) (a2 : A2) (a3 : A3) (a4 : A4), ok a1 a2 a3 a4 → post (val a1 a2 a3 a4) → (∀ (post' : ρ → Prop) (b1 : A1) (b2 : A2) (b3 : A3) (b4 : A4), ok b1 b2 b3 b4 → μ b1 b2 b3 b4 < μ a1 a2 a3 a4 → post' (val b1 b2 b3 b4) → W d post' b1 b2 b3 b4) → W (d + 1) post a1 a2 a3 a4) :
    ∀ (d : Nat) (post : ρ → Prop) (a1 : A1) (a2 : A2) (a3 : A3) (a4 : A4), ok a1 a2 a3 a4 → μ a1 a2 a3 a4 < d → post (val a1 a2 a3 a4) → W d post a1 a2 a3 a4 := by
  intro d
  induction d with
  | zero => intro post a1 a2 a3 a4 _ h; omega
  | succ d ih =>
    intro post a1 a2 a3 a4 ho hm hp
    exact hs d post a1 a2 a3 a4 ho hp (fun post' b1 b2 b3 b4 ho' hm' hp' => ih post' b1 b2 b3 b4 ho' (by omega) hp')
theorem rp5 {ρ A1 A2 A3 A4 A5 : Type} (W : Nat → (ρ → Prop) → A1 → A2 → A3 → A4 → A5 → Prop) (ok : A1 → A2 → A3 → A4 → A5 → Prop) (μ : A1 → A2 → A3 → A4 → A5 → Nat) (val : A1 → A2 → A3 → A4 → A5 → ρ)
    (hs : ∀ (d : Nat) (post : ρ → Prop) (a1 : A1) (a2 : A2) (a3 : A3) (a4 : A4) (a5 : A5), ok a1 a2 a3 a4 a5 → post (val a1 a2 a3 a4 a5) → (∀ (post' : ρ → Prop) (b1 : A1) (b2 : A2) (b3 : A3) (b4 : A4) (b5 : A5), ok b1 b2 b3 b4 b5 → μ b1 b2 b3 b4 b5 < μ a1 a2 a3 a4 a5 → post' (val b1 b2 b3 b4 b5) → W d post' b1 b2 b3 b4 b5) → W (d + 1) post a1 a2 a3 a4 a5) :
    ∀ (d : Nat) (post : ρ → Prop) (a1 : A1) (a2 : A2) (a3 : A3) (a4 : A4) (a5 : A5), ok a1 a2 a3 a4 a5 → μ a1 a2 a3 a4 a5 < d → post (val a1 a2 a3 a4 a5) → W d post a1 a2 a3 a4 a5 := by
  intro d
  induction d with
  | zero => intro post a1 a2 a3 a4 a5 _ h; omega
  | succ d ih =>
    intro post a1 a2 a3 a4 a5 ho hm hp
    exact hs d post a1 a2 a3 a4 a5 ho hp (fun post' b1 b2 b3 b4 b5 ho' hm' hp' => ih post' b1 b2 b3 b4 b5 ho' (by omega) hp')
theorem rp6 {ρ A1 A2 A3 A4 A5 A6 : Type} (W : Nat → (ρ → Prop) → A1 → A2 → A3 → A4 → A5 → A6 → Prop) (ok : A1 → A2 → A3 → A4 → A5 → A6 → Prop) (μ : A1 → A2 → A3 → A4 → A5 → A6 → Nat) (val : A1 → A2 → A3 → A4 → A5 → A6 → ρ)
    (hs : ∀ (d : Nat) (post : ρ → Prop) (a1 : A1) (a2 : A2) (a3 : A3) (a4 : A4) (a5 : A5) (a6 : A6), ok a1 a2 a3 a4 a5 a6 → post (val a1 a2 a3 a4 a5 a6) → (∀ (post' : ρ → Prop) (b1 : A1) (b2 : A2) (b3 : A3) (b4 : A4) (b5 : A5) (b6 : A6), ok b1 b2 b3 b4 b5 b6 → μ b1 b2 b3 b4 b5 b6 < μ a1 a2 a3 a4 a5 a6 → post' (val b1 b2 b3 b4 b5 b6) → W d post' b1 b2 b3 b4 b5 b6) → W (d + 1) post a1 a2 a3 a4 a5 a6) :
    ∀ (d : Nat) (post : ρ → Prop) (a1 : A1) (a2 : A2) (a3 : A3) (a4 : A4) (a5 : A5) (a6 : A6), ok a1 a2 a3 a4 a5 a6 → μ a1 a2 a3 a4 a5 a6 < d → post (val a1 a2 a3 a4 a5 a6) → W d post a1 a2 a3 a4 a5 a6 := by
  intro d
  induction d with
  | zero => intro post a1 a2 a3 a4 a5 a6 _ h; omega
  | succ d ih =>
    intro post a1 a2 a3 a4 a5 a6 ho hm hp
    exact hs d post a1 a2 a3 a4 a5 a6 ho hp (fun post' b1 b2 b3 b4 b5 b6 ho' hm' hp' => ih post' b1 b2 b3 b4 b5 b6 ho' (by omega) hp')
theorem rec_p {σ ρ : Type} (W : Nat → (ρ → Prop) → σ → Prop) (ok : σ → Prop) (μ : σ → Nat) (val : σ → ρ)
    (hs : ∀ d s post, ok s → post (val s) → (∀ s' post', ok s' → μ s' < μ s → post' (val s') → W d post' s') → W (d + 1) post s) :
    ∀ d s post, ok s → μ s < d → post (val s) → W d post s := by
  intro d
  induction d with
  | zero => intro s post _ h; omega
  | succ d ih =>
    intro s post ho hm hp
    exact hs d s post ho hp (fun s' post' ho' hm' hp' => ih s' post' ho' (by omega) hp')
theorem rec_q {σ ρ : Type} (W : Nat → (ρ → Prop) → σ → Prop) (ok : σ → Prop) (μ : σ → Nat) (Q : σ → ρ → Prop)
    (hs : ∀ d s post, ok s → (∀ r, Q s r → post r) → (∀ s' post', ok s' → μ s' < μ s → (∀ r, Q s' r → post' r) → W d post' s') → W (d + 1) post s) :
    ∀ d s post, ok s → μ s < d → (∀ r, Q s r → post r) → W d post s := by
  intro d
  induction d with
  | zero => intro s post _ h; omega
  | succ d ih =>
    intro s post ho hm hp
    exact hs d s post ho hp (fun s' post' ho' hm' hp' => ih s' post' ho' (by omega) hp')
def bx_sum (f : Nat → Int32) : Nat → Int32
  | 0 => 0
  | n + 1 => bx_sum f n + f n
theorem ek_u {A : Prop} {B : Nat → Prop} {k N : Nat} (hk : k < N) (h : B k) : (some k = none → A) ∧ (∀ y : Nat, some k = some y → (y < N ∧ B y)) :=
  ⟨fun z => absurd z (Option.some_ne_none k), fun _ e => (by cases e; exact ⟨hk, h⟩)⟩
theorem ek_nu {A : Prop} {B : Nat → Prop} (h : A) : ((none : Option Nat) = none → A) ∧ (∀ y : Nat, (none : Option Nat) = some y → B y) :=
  ⟨fun _ => h, fun _ e => (by cases e)⟩
theorem ek_if {c d A B : Prop} (e : c ↔ d) (f : d → A) (g : ¬ d → B) : (c → A) ∧ (¬ c → B) :=
  ⟨fun z => f (e.mp z), fun z => g (fun y => z (e.mpr y))⟩
theorem ek_v {α : Sort _} {P : α → Prop} {a b : α} (e : a = b) (h : P b) : P a := e ▸ h
theorem co_some {x : Option Nat} {A : Prop} {B : Nat → Prop} (i : Nat) (h : B i) (hx : x = some i := by rfl) : (x = none → A) ∧ (∀ y : Nat, x = some y → B y) := by
  subst hx
  exact ⟨fun e => (nomatch e), fun y e => Option.some.inj e ▸ h⟩
theorem co_none {x : Option Nat} {A : Prop} {B : Nat → Prop} (h : A) (hx : x = none := by rfl) : (x = none → A) ∧ (∀ y : Nat, x = some y → B y) := by
  subst hx
  exact ⟨fun _ => h, fun y e => (nomatch e)⟩
theorem co_any {x : Option Nat} {A : Prop} {B : Nat → Prop} (hn : x = none → A) (hs : ∀ i : Nat, x = some i → B i) : (x = none → A) ∧ (∀ y : Nat, x = some y → B y) := ⟨hn, hs⟩
theorem co_2 {P : Nat → Prop} (h0 : P 0) (h1 : P 1) {i : Nat} (hi : i < 2) : P i :=
  match i, hi with
  | 0, _ => h0
  | 1, _ => h1
theorem co_3 {P : Nat → Prop} (h0 : P 0) (h1 : P 1) (h2 : P 2) {i : Nat} (hi : i < 3) : P i :=
  match i, hi with
  | 0, _ => h0
  | 1, _ => h1
  | 2, _ => h2
theorem co_4 {P : Nat → Prop} (h0 : P 0) (h1 : P 1) (h2 : P 2) (h3 : P 3) {i : Nat} (hi : i < 4) : P i :=
  match i, hi with
  | 0, _ => h0
  | 1, _ => h1
  | 2, _ => h2
  | 3, _ => h3
theorem co_dec {N : Nat} {P : Nat → Prop} [DecidablePred P] (h : (List.range N).all (fun i => decide (P i)) = true) {i : Nat} (hi : i < N) : P i := by
  have := List.all_eq_true.mp h i (List.mem_range.mpr hi)
  exact of_decide_eq_true this
theorem co_tab {α : Type} {l : List α} {d : α} {P : α → Prop} (h : ∀ a, a ∈ l → P a) {i : Nat} (hi : i < l.length) : P (l.getD i d) := by
  rw [List.getD_eq_getElem?_getD, List.getElem?_eq_getElem hi]
  exact h _ (List.getElem_mem hi)
theorem pk_mu {x : Int32} {L : Nat} (h0 : ¬ x < 0) (h : ¬ nI L ≤ x) (hL : L < 2 ^ 31) : ∃ j : Nat, j < L ∧ x = nI j ∧ x + 1 = nI (j + 1) ∧ x.toNatClampNeg = j ∧ L - (x + 1).toNatClampNeg < L - x.toNatClampNeg := by
  obtain ⟨j, hj, rfl⟩ := nI_of h0
  have hl : j < L := Nat.not_le.mp fun q => h (nI_le q hj)
  refine ⟨j, hl, rfl, nI_1 j, nI_clamp hj, ?_⟩
  rw [nI_1, nI_clamp (by omega), nI_clamp hj]
  omega
theorem op_s {α : Type} {r : Option α} {A : Prop} {B : α → Prop} {y : α} (h : r = some y) (b : B y) : (r = none → A) ∧ ∀ z, r = some z → B z :=
  ⟨fun e => (by rw [h] at e; cases e), fun z e => (by rw [h] at e; cases e; exact b)⟩
def l_holds {α : Type} (a : Nat → Option Nat) (LP : List Nat) (p : Nat → α) (c : Nat) (b : Nat → α) : Prop :=
  ∀ j, j < c → ∃ y, a j = some y ∧ y ∈ LP ∧ p y = b j
theorem l_holds_0 {α : Type} {a : Nat → Option Nat} {LP : List Nat} {p b : Nat → α} : l_holds a LP p 0 b := fun j h => absurd h (Nat.not_lt_zero j)
theorem l_in_new (LP : List Nat) (q : Nat) : q ∈ LP ++ [q] := List.mem_append.mpr (Or.inr (List.mem_singleton.mpr rfl))
def l_sum (b : Nat → Int32) : Nat → Int32
  | 0 => 0
  | k + 1 => l_sum b k + b k
theorem sb_shr0 (x : Int32) : x >>> ((0 : Int32) &&& 31) = x := by
  rw [show ((0 : Int32) &&& 31) = 0 by decide]
  simp
theorem sb_shl0 (x : Int32) : x <<< ((0 : Int32) &&& 31) = x := by
  rw [show ((0 : Int32) &&& 31) = 0 by decide]
  simp
theorem sb_cl0 : (0 : Int32).toNatClampNeg = 0 := by decide
theorem sb_m1 {p : Nat} (h : 0 < p) : nI p + (-1) = nI (p - 1) := by
  obtain ⟨q, rfl⟩ : ∃ q, p = q + 1 := ⟨p - 1, by omega⟩
  exact pk_m1 q
def sb_b (c : Nat) : Int32 := (nI c).toInt8.toInt32
theorem sb_byte : ∀ c, c < 256 → sb_b c &&& 255 = nI c ∧ ((nI c).toUInt32 % 65536).toInt32 = nI c ∧ nI c ≤ 255 := by decide +kernel
def sb_Fit (a : Nat → Int32) : Prop := ∀ j, fits .byte (.int (a j)) = true
def sb_Lat (t : Nat → Nat) (n : Nat) (a : Nat → Int32) : Prop := ∀ j, j < n → t j < 256 ∧ a j = sb_b (t j)
theorem sb_fitB (c : Nat) : fits .byte (.int (sb_b c)) = true := pk_fb _
theorem sb_fit0 : sb_Fit (fun _ => 0) := fun _ => by
  show fits .byte (.int 0) = true
  decide
theorem sb_fitU {a : Nat → Int32} {k : Nat} {x : Int32} (h : sb_Fit a) (hx : fits .byte (.int x) = true) : sb_Fit (upd a k x) := by
  intro j
  by_cases e : j = k
  · subst e
    rw [pk_us]
    exact hx
  · rw [pk_un e]
    exact h j
def sb_cat (t : Nat → Nat) (n : Nat) (s : Nat → Nat) : Nat → Nat := fun j => if j < n then t j else s (j - n)
theorem sb_cat_lo {t s : Nat → Nat} {n j : Nat} (h : j < n) : sb_cat t n s j = t j := if_pos h
theorem sb_cat_hi {t s : Nat → Nat} {n j : Nat} : sb_cat t n s (n + j) = s j := by
  show (if n + j < n then t (n + j) else s (n + j - n)) = s j
  rw [if_neg (by omega), Nat.add_sub_cancel_left]
theorem sb_latPut {t s : Nat → Nat} {n w : Nat} {a a' : Nat → Int32} (h : sb_Lat t n a) (hk : ∀ j, j < n → a' j = a j) (hs : ∀ i, i < w → s i < 256 ∧ a' (n + i) = sb_b (s i)) : sb_Lat (sb_cat t n s) (n + w) a' := by
  intro j hj
  by_cases e : j < n
  · rw [sb_cat_lo e, hk j e]
    exact h j e
  · obtain ⟨i, rfl⟩ : ∃ i, j = n + i := ⟨j - n, by omega⟩
    rw [sb_cat_hi]
    exact hs i (by omega)
theorem sb_latKeep {t : Nat → Nat} {n : Nat} {a a' : Nat → Int32} (h : sb_Lat t n a) (hk : ∀ j, j < n → a' j = a j) : sb_Lat t n a' := fun j hj => by
  rw [hk j hj]
  exact h j hj
def sb_cap (q m : Nat) : Nat := if q ≤ m then m else if 2 * m + 2 < q then q else 2 * m + 2
def sb_Room (q m mc ms : Nat) : Prop := q ≤ m ∨ (1 ≤ mc ∧ sb_cap q m ≤ ms ∧ sb_cap q m ≤ 65536)
theorem sb_cap_ge (q m : Nat) : q ≤ sb_cap q m := by
  unfold sb_cap
  split
  · omega
  · split <;> omega
theorem sb_cap_gem (q m : Nat) : m ≤ sb_cap q m := by
  unfold sb_cap
  split
  · omega
  · split <;> omega
theorem sb_cap_le {q m mc ms : Nat} (hm : m ≤ 65536) (hr : sb_Room q m mc ms) : sb_cap q m ≤ 65536 := by
  rcases hr with h | h
  · rw [sb_cap, if_pos h]
    exact hm
  · exact h.2.2
theorem sb_at {P : Int32 → Prop} {x y : Int32} (e : x = y) (h : P y) : P x := e ▸ h
def sb_dg (w : Nat) : Nat := if w < 10 then 1 else if w < 100 then 2 else if w < 1000 then 3 else if w < 10000 then 4 else if w < 100000 then 5 else if w < 1000000 then 6 else if w < 10000000 then 7 else if w < 100000000 then 8 else if w < 1000000000 then 9 else 10
def sb_dec (v : Nat) : Nat → Nat := fun i => 48 + v / 10 ^ (sb_dg v - 1 - i) % 10
theorem sb_dg_in (w : Nat) : 1 ≤ sb_dg w ∧ sb_dg w ≤ 10 := by
  unfold sb_dg
  constructor <;> (repeat' split) <;> omega
theorem sb_dg100 {w : Nat} (h : 100 ≤ w) (hw : w < 2 ^ 31) : sb_dg w = sb_dg (w / 100) + 2 := by
  rw [sb_dg, sb_dg, if_neg (show ¬ w < 10 by omega), if_neg (show ¬ w < 100 by omega)]
  by_cases h3 : w < 1000
  · rw [if_pos h3, if_pos (show w / 100 < 10 by omega)]
  rw [if_neg h3, if_neg (show ¬ w / 100 < 10 by omega)]
  by_cases h4 : w < 10000
  · rw [if_pos h4, if_pos (show w / 100 < 100 by omega)]
  rw [if_neg h4, if_neg (show ¬ w / 100 < 100 by omega)]
  by_cases h5 : w < 100000
  · rw [if_pos h5, if_pos (show w / 100 < 1000 by omega)]
  rw [if_neg h5, if_neg (show ¬ w / 100 < 1000 by omega)]
  by_cases h6 : w < 1000000
  · rw [if_pos h6, if_pos (show w / 100 < 10000 by omega)]
  rw [if_neg h6, if_neg (show ¬ w / 100 < 10000 by omega)]
  by_cases h7 : w < 10000000
  · rw [if_pos h7, if_pos (show w / 100 < 100000 by omega)]
  rw [if_neg h7, if_neg (show ¬ w / 100 < 100000 by omega)]
  by_cases h8 : w < 100000000
  · rw [if_pos h8, if_pos (show w / 100 < 1000000 by omega)]
  rw [if_neg h8, if_neg (show ¬ w / 100 < 1000000 by omega)]
  by_cases h9 : w < 1000000000
  · rw [if_pos h9, if_pos (show w / 100 < 10000000 by omega)]
  rw [if_neg h9, if_neg (show ¬ w / 100 < 10000000 by omega)]
  rw [if_pos (show w / 100 < 100000000 by omega)]
theorem sb_negT {w : Nat} (h : w < 2 ^ 31) : (-nI w).toInt = -(w : Int) := by
  rw [Int32.toInt_neg, nI_toInt h]
  exact Int.bmod_eq_of_le (by omega) (by omega)
theorem sb_nle {a b : Nat} (ha : a < 2 ^ 31) (hb : b < 2 ^ 31) : -nI a ≤ -nI b ↔ b ≤ a := by
  rw [Int32.le_iff_toInt_le, sb_negT ha, sb_negT hb]
  omega
theorem sb_nlt {a b : Nat} (ha : a < 2 ^ 31) (hb : b < 2 ^ 31) : -nI a < -nI b ↔ b < a := by
  rw [Int32.lt_iff_toInt_lt, sb_negT ha, sb_negT hb]
  omega
theorem sb_cmp {A B : Prop} {x : Int32} (v c : Nat) (f : c ≤ v → A) (g : v < c → B) (hv : v < 2 ^ 31) (hx : x = -nI c := by rfl) (hc : c < 2 ^ 31 := by omega) : (-nI v ≤ x → A) ∧ (¬ -nI v ≤ x → B) := by
  subst hx
  rw [sb_nle hv hc]
  exact ⟨f, fun z => g (by omega)⟩
theorem sb_ndiv {w : Nat} (hw : w < 2 ^ 31) : (-nI w) / 100 = -nI (w / 100) := by
  apply Int32.toInt_inj.mp
  have h100 : (100 : Int32).toInt = 100 := by decide
  rw [Int32.toInt_div, sb_negT hw, h100, sb_negT (by omega), Int.neg_tdiv, Int.tdiv_eq_ediv_of_nonneg (by omega), Int.bmod_eq_of_le (by omega) (by omega)]
  omega
theorem sb_nrem {w : Nat} (hw : w < 2 ^ 31) : (-nI (w / 100)) * 100 - (-nI w) = nI (w % 100) := by
  have h := pk_rem (a := w) (d := 100) hw (by decide) (by decide)
  rw [pk_div hw (by decide) (by decide)] at h
  rw [← h]
  show (-nI (w / 100)) * nI 100 - (-nI w) = nI w - nI (w / 100) * nI 100
  rw [Int32.neg_mul, Int32.sub_neg, Int32.add_comm, ← Int32.sub_eq_add_neg]
/-! rows on bits, shifts and unsigned numbers, to paste: each family out of a closed proof of our own, whole with what it rests on; each by itself clean at Lean in its own claim (generation 39, form 5). Take a family whole -/
/-! ===== Int32 by its bits: bt x i ===== -/
def bt (x : Int32) (i : Nat) : Bool := x.toBitVec.getLsbD i
theorem b_ext {x y : Int32} (h : ∀ i, i < 32 → bt x i = bt y i) : x = y := Int32.toBitVec_inj.mp (BitVec.eq_of_getLsbD_eq (fun i hi => h i hi))
theorem b_or (x y : Int32) (i : Nat) : bt (x ||| y) i = (bt x i || bt y i) := by unfold bt; rw [Int32.toBitVec_or, BitVec.getLsbD_or]
theorem b_and (x y : Int32) (i : Nat) : bt (x &&& y) i = (bt x i && bt y i) := by unfold bt; rw [Int32.toBitVec_and, BitVec.getLsbD_and]
theorem b_xor (x y : Int32) (i : Nat) : bt (x ^^^ y) i = (bt x i ^^ bt y i) := by unfold bt; rw [Int32.toBitVec_xor, BitVec.getLsbD_xor]
theorem b_big {x : Int32} {i : Nat} (h : 32 ≤ i) : bt x i = false := BitVec.getLsbD_of_ge _ _ h
theorem b_255 (i : Nat) : bt 255 i = decide (i < 8) := by
  rcases Nat.lt_or_ge i 32 with h | h
  · exact (by decide +kernel : ∀ i, i < 32 → bt 255 i = decide (i < 8)) i h
  · rw [b_big h, decide_eq_false (by omega)]
theorem b_65535 (i : Nat) : bt 65535 i = decide (i < 16) := by
  rcases Nat.lt_or_ge i 32 with h | h
  · exact (by decide +kernel : ∀ i, i < 32 → bt 65535 i = decide (i < 16)) i h
  · rw [b_big h, decide_eq_false (by omega)]
theorem b_m1 : ∀ i, i < 32 → bt (-1) i = true := by decide +kernel
theorem b_0 (i : Nat) : bt 0 i = false := BitVec.getLsbD_zero
theorem s_l : ∀ n, n < 32 → ((nI n &&& 31).toBitVec.smod 32).toNat = n := by decide +kernel
theorem s_u : ∀ n, n < 32 → (((nI n).toUInt32 &&& Int32.toUInt32 31).toBitVec % 32).toNat = n := by decide +kernel
theorem b_shl (n : Nat) (hn : n < 32) (x : Int32) {i : Nat} (hi : i < 32) : bt (x <<< (nI n &&& 31)) i = (decide (n ≤ i) && bt x (i - n)) := by
  unfold bt
  rw [Int32.toBitVec_shiftLeft]
  show (x.toBitVec <<< ((nI n &&& 31).toBitVec.smod 32).toNat).getLsbD i = _
  rw [s_l n hn, BitVec.getLsbD_shiftLeft]
  rcases Nat.lt_or_ge i n with h | h
  · simp [h, Nat.not_le.mpr h]
  · simp [hi, h, Nat.not_lt.mpr h]
theorem b_ushr (n : Nat) (hn : n < 32) (x : Int32) (i : Nat) : bt ((x.toUInt32 >>> ((nI n).toUInt32 &&& Int32.toUInt32 31)).toInt32) i = bt x (n + i) := by
  show (x.toUInt32 >>> ((nI n).toUInt32 &&& Int32.toUInt32 31)).toBitVec.getLsbD i = x.toUInt32.toBitVec.getLsbD (n + i)
  rw [UInt32.toBitVec_shiftRight]
  show (x.toUInt32.toBitVec >>> (((nI n).toUInt32 &&& Int32.toUInt32 31).toBitVec % 32).toNat).getLsbD i = _
  rw [s_u n hn, BitVec.getLsbD_ushiftRight]
theorem b_sshr (n : Nat) (hn : n < 32) (x : Int32) {i : Nat} (hi : i < 32) : bt (x >>> (nI n &&& 31)) i = if n + i < 32 then bt x (n + i) else bt x 31 := by
  unfold bt
  rw [Int32.toBitVec_shiftRight]
  show (x.toBitVec.sshiftRight ((nI n &&& 31).toBitVec.smod 32).toNat).getLsbD i = _
  rw [s_l n hn, BitVec.getLsbD_sshiftRight, BitVec.msb_eq_getLsbD_last]
  simp [hi]
theorem b_shl8 (x : Int32) {i : Nat} (hi : i < 32) : bt (x <<< ((8 : Int32) &&& 31)) i = (decide (8 ≤ i) && bt x (i - 8)) := b_shl 8 (by omega) x hi
theorem b_shl16 (x : Int32) {i : Nat} (hi : i < 32) : bt (x <<< ((16 : Int32) &&& 31)) i = (decide (16 ≤ i) && bt x (i - 16)) := b_shl 16 (by omega) x hi
theorem b_shl24 (x : Int32) {i : Nat} (hi : i < 32) : bt (x <<< ((24 : Int32) &&& 31)) i = (decide (24 ≤ i) && bt x (i - 24)) := b_shl 24 (by omega) x hi
theorem b_sshr8 (x : Int32) {i : Nat} (hi : i < 32) : bt (x >>> ((8 : Int32) &&& 31)) i = if 8 + i < 32 then bt x (8 + i) else bt x 31 := b_sshr 8 (by omega) x hi
/-! ===== nI under and, xor, >>>, one bit, 65535 ===== -/
theorem nx_and (a b : Nat) : nI a &&& nI b = nI (a &&& b) := by
  apply Int32.toBitVec_inj.1
  show BitVec.ofNat 32 a &&& BitVec.ofNat 32 b = BitVec.ofNat 32 (a &&& b)
  apply BitVec.eq_of_getLsbD_eq
  intro i hi
  simp [hi]
theorem nx_xor (a b : Nat) : nI a ^^^ nI b = nI (a ^^^ b) := by
  apply Int32.toBitVec_inj.1
  show BitVec.ofNat 32 a ^^^ BitVec.ofNat 32 b = BitVec.ofNat 32 (a ^^^ b)
  apply BitVec.eq_of_getLsbD_eq
  intro i hi
  simp [hi]
theorem nx_cnt : ∀ j : Fin 32, (UInt32.ofNat j.val &&& Int32.toUInt32 31).toNat % 32 = j.val := by decide +kernel
theorem nx_ush {k j : Nat} (hk : k < 65536) (hj : j < 32) : ((nI k).toUInt32 >>> ((nI j).toUInt32 &&& Int32.toUInt32 31)).toInt32 = nI (k >>> j) := by
  have hs : k >>> j ≤ k := by
    rw [Nat.shiftRight_eq_div_pow]
    exact Nat.div_le_self _ _
  have e2 : UInt32.ofNat k >>> (UInt32.ofNat j &&& Int32.toUInt32 31) = UInt32.ofNat (k >>> j) := by
    apply UInt32.toNat_inj.1
    have h1 : (UInt32.ofNat k).toNat = k := Nat.mod_eq_of_lt (by omega)
    have h2 : (UInt32.ofNat (k >>> j)).toNat = k >>> j := Nat.mod_eq_of_lt (by omega)
    rw [UInt32.toNat_shiftRight, nx_cnt ⟨j, hj⟩, h1, h2]
  show (UInt32.ofNat k >>> (UInt32.ofNat j &&& Int32.toUInt32 31)).toInt32 = _
  rw [e2]
  rfl
theorem nx_bit {k j : Nat} (hk : k < 65536) (hj : j < 16) : (((nI k).toUInt32 >>> ((nI j).toUInt32 &&& Int32.toUInt32 31)).toInt32 &&& 1) = 0 ↔ k.testBit j = false := by
  rw [nx_ush hk (by omega)]
  show nI (k >>> j) &&& nI 1 = 0 ↔ _
  rw [nx_and, Nat.and_one_is_mod, ← nI_0, nI_eq (by omega) (by omega), Nat.testBit_eq_decide_div_mod_eq, Nat.shiftRight_eq_div_pow, decide_eq_false_iff_not]
  generalize k / 2 ^ j = z
  omega
theorem nx_mod (k : Nat) : nI k &&& 65535 = nI (k % 65536) := by
  show nI k &&& nI 65535 = _
  rw [nx_and, show (65535 : Nat) = 2 ^ 16 - 1 from rfl, Nat.and_two_pow_sub_one_eq_mod]
theorem nx_m16 {k : Nat} (h : k < 65536) : nI k &&& 65535 = nI k := by rw [nx_mod, Nat.mod_eq_of_lt h]
theorem nx_mask (x : Int32) : ∃ k, k < 65536 ∧ x &&& 65535 = nI k := by
  have e : x = nI x.toBitVec.toNat := by
    apply Int32.toBitVec_inj.1
    show x.toBitVec = BitVec.ofNat 32 x.toBitVec.toNat
    simp
  refine ⟨x.toBitVec.toNat % 65536, Nat.mod_lt _ (by omega), ?_⟩
  rw [← nx_mod, ← e]
/-! ===== Int32 as a set of bits: test, set ===== -/
def nf_M (m : Int32) : Nat := 4294967296 - m.toBitVec.toNat
theorem nf_sh : ∀ l, l < 32 → ((1 : Int32) <<< (nI l &&& 31)).toBitVec = BitVec.twoPow 32 l := by decide +kernel
theorem nf_sl : ∀ l, l < 32 → (((nI l).toUInt32 &&& Int32.toUInt32 31).toBitVec % 32).toNat = l := by decide +kernel
theorem nf_tp : ∀ l, l < 32 → BitVec.twoPow 32 l ≠ 0#32 := by decide +kernel
theorem nf_bit (m : Int32) (l : Nat) (hl : l < 32) : ((m.toUInt32 >>> ((nI l).toUInt32 &&& Int32.toUInt32 31)).toInt32 &&& 1) = 0 ↔ (m &&& ((1 : Int32) <<< (nI l &&& 31))) = 0 := by
  have e : ((m.toUInt32 >>> ((nI l).toUInt32 &&& Int32.toUInt32 31)).toInt32).toBitVec = m.toBitVec >>> l := by
    show m.toBitVec >>> (((nI l).toUInt32 &&& Int32.toUInt32 31).toBitVec % 32) = m.toBitVec >>> l
    rw [BitVec.ushiftRight_eq', nf_sl l hl]
  rw [← Int32.toBitVec_inj, ← Int32.toBitVec_inj, Int32.toBitVec_and, Int32.toBitVec_and, nf_sh l hl, e, BitVec.and_twoPow]
  show (m.toBitVec >>> l &&& 1#32) = 0#32 ↔ _ = 0#32
  rw [BitVec.and_one_eq_setWidth_ofBool_getLsbD, BitVec.getLsbD_ushiftRight, Nat.add_zero]
  cases hb : m.toBitVec.getLsbD l
  · exact ⟨fun _ => by simp, fun _ => by decide⟩
  · exact ⟨fun z => absurd z (by decide), fun z => absurd ((if_pos rfl).symm.trans z) (nf_tp l hl)⟩
theorem nf_gr (m k : Int32) (h : m &&& k = 0) (hk : k ≠ 0) : nf_M (m ||| k) < nf_M m := by
  have hm := m.toBitVec.isLt
  have hm' := (m ||| k).toBitVec.isLt
  have h1 : m.toBitVec.toNat ≤ (m ||| k).toBitVec.toNat := by
    rw [Int32.toBitVec_or, BitVec.toNat_or]
    exact Nat.left_le_or
  have h2 : m.toBitVec.toNat ≠ (m ||| k).toBitVec.toNat := by
    intro e
    have e2 : m = m ||| k := Int32.toBitVec_inj.mp (BitVec.eq_of_toNat_eq e)
    apply hk
    apply Int32.toBitVec_inj.mp
    show k.toBitVec = 0#32
    apply BitVec.eq_of_getLsbD_eq
    intro i hi
    have a : m.toBitVec.getLsbD i = (m.toBitVec.getLsbD i || k.toBitVec.getLsbD i) := by rw [← BitVec.getLsbD_or, ← Int32.toBitVec_or, ← e2]
    have b : (m.toBitVec.getLsbD i && k.toBitVec.getLsbD i) = false := by
      rw [← BitVec.getLsbD_and, ← Int32.toBitVec_and, h]
      exact BitVec.getLsbD_zero
    rw [BitVec.getLsbD_zero]
    revert a b
    cases m.toBitVec.getLsbD i <;> cases k.toBitVec.getLsbD i <;> simp
  unfold nf_M
  omega
/-! ===== a byte read unsigned ===== -/
theorem bp_b (x : Int32) : x.toInt8.toInt32 &&& 255 = x &&& 255 := by
  apply Int32.toBitVec_inj.mp
  rw [Int32.toBitVec_and, Int32.toBitVec_and, Int8.toBitVec_toInt32, Int32.toBitVec_toInt8]
  apply BitVec.eq_of_getLsbD_eq
  intro i hi
  rw [BitVec.getLsbD_and, BitVec.getLsbD_and]
  have hm : ∀ i < 32, 8 ≤ i → (255 : Int32).toBitVec.getLsbD i = false := by decide
  rcases Nat.lt_or_ge i 8 with z | z
  · rw [BitVec.getLsbD_signExtend, BitVec.getLsbD_signExtend, if_pos z, if_pos hi]
    simp only [z, hi, decide_true, Bool.true_and]
  · rw [hm i hi z]; simp
/-! ===== the char cast and 65535 ===== -/
theorem em_w (v : Int32) : ∃ w : Nat, w < 65536 ∧ (v.toUInt32 % 65536).toInt32 = nI w ∧ v &&& 65535 = nI w := by
  have hr := lw_u16_r v
  have h0 : (0 : Int32).toInt = 0 := by decide
  obtain ⟨w, h1, h2⟩ := nI_of (x := lw_u16 v) (by rw [Int32.lt_iff_toInt_lt]; omega)
  have h3 : (v.toUInt32 % 65536).toInt32 = nI w := h2
  rw [h2, nI_toInt h1] at hr
  exact ⟨w, by omega, h3, by rw [← lg_i2c_mask, ← lg_i2c_nf, h3]⟩
/-! ===== Int64 as a set of bits: test, set, clear ===== -/
theorem ts_nf {x : Bool} (h : ¬ x = false) : x = true := by cases x <;> first | rfl | exact absurd rfl h
theorem ts_nt {x : Bool} (h : ¬ x = true) : x = false := by cases x <;> first | rfl | exact absurd rfl h
theorem ts_bit {w : Int64} {s : UInt64} {j : Nat} (hj : j < 64) (hs : s.toNat = j) : ((w.toUInt64 >>> s).toInt64 &&& 1) = 0 ↔ w.toBitVec.getLsbD j = false := by
  have e : (w.toUInt64 >>> s).toInt64.toBitVec = w.toBitVec >>> j := by
    apply BitVec.eq_of_toNat_eq
    show (w.toUInt64 >>> s).toNat = _
    rw [UInt64.toNat_shiftRight, hs, Nat.mod_eq_of_lt hj, BitVec.toNat_ushiftRight]
    rfl
  rw [← Int64.toBitVec_inj, Int64.toBitVec_and, e]
  show w.toBitVec >>> j &&& 1#64 = 0#64 ↔ _
  constructor
  · intro h
    have t := congrArg (fun x => x.getLsbD 0) h
    simpa using t
  · intro h
    apply BitVec.eq_of_getLsbD_eq
    intro i hi
    cases i with
    | zero => simp [h]
    | succ i => simp
theorem ts_or {w m : Int64} {j : Nat} (hj : j < 64) (hm : m.toBitVec = BitVec.twoPow 64 j) : (w ||| m) = w ↔ w.toBitVec.getLsbD j = true := by
  rw [← Int64.toBitVec_inj, Int64.toBitVec_or, hm]
  constructor
  · intro h
    have t := congrArg (fun x => x.getLsbD j) h
    simp only [BitVec.getLsbD_or, BitVec.getLsbD_twoPow] at t
    simpa [hj] using t.symm
  · intro h
    apply BitVec.eq_of_getLsbD_eq
    intro i hi
    rw [BitVec.getLsbD_or, BitVec.getLsbD_twoPow]
    by_cases e : j = i
    · subst e; rw [h, Bool.true_or]
    · simp [e]
theorem ts_and {w m : Int64} {j : Nat} (hj : j < 64) (hm : m.toBitVec = BitVec.twoPow 64 j) : (w &&& (m ^^^ (-1))) = w ↔ w.toBitVec.getLsbD j = false := by
  have ha : (-1 : Int64).toBitVec = BitVec.allOnes 64 := by decide
  rw [← Int64.toBitVec_inj, Int64.toBitVec_and, Int64.toBitVec_xor, hm, ha]
  constructor
  · intro h
    have t := congrArg (fun x => x.getLsbD j) h
    simp only [BitVec.getLsbD_and, BitVec.getLsbD_xor, BitVec.getLsbD_twoPow, BitVec.getLsbD_allOnes] at t
    simpa [hj] using t.symm
  · intro h
    apply BitVec.eq_of_getLsbD_eq
    intro i hi
    rw [BitVec.getLsbD_and, BitVec.getLsbD_xor, BitVec.getLsbD_twoPow, BitVec.getLsbD_allOnes]
    by_cases e : j = i
    · subst e; rw [h, Bool.false_and]
    · simp [e, hi]
/-! ===== lN n to 2^64: shifts, and, or, masks, one bit ===== -/
theorem wb_tb (n : Nat) : (lN n).toBitVec = BitVec.ofNat 64 n := rfl
theorem wb_inj {a b : Int64} (h : a.toBitVec = b.toBitVec) : a = b := Int64.toBitVec_inj.mp h
theorem wb_tn {n : Nat} (h : n < 2 ^ 64) : (lN n).toBitVec.toNat = n := by rw [wb_tb, BitVec.toNat_ofNat, Nat.mod_eq_of_lt h]
theorem wb_of (x : Int64) : ∃ n, n < 2 ^ 64 ∧ x = lN n := ⟨x.toBitVec.toNat, x.toBitVec.isLt, wb_inj (by rw [wb_tb]; simp)⟩
theorem wb_of32 (x : Int32) : ∃ n, n < 2 ^ 32 ∧ x = nI n := ⟨x.toBitVec.toNat, x.toBitVec.isLt, Int32.toBitVec_inj.mp (by show _ = BitVec.ofNat 32 _; simp)⟩
theorem wb_c : ∀ k, k < 64 → ((nI k).toInt64 &&& 63) = lN k := by decide +kernel
theorem wb_cu : ∀ k, k < 64 → ((nI k).toInt64.toUInt64 &&& Int64.toUInt64 63) = UInt64.ofNat k := by decide +kernel
theorem wb_sm : ∀ k, k < 64 → (BitVec.ofNat 64 k).smod 64 = BitVec.ofNat 64 k := by decide +kernel
theorem wb_pw {a b : Nat} (h : a ≤ b) : 2 ^ b = 2 ^ a * 2 ^ (b - a) := by rw [← Nat.pow_add]; congr 1; omega
theorem wb_lt2 {a b : Nat} (h : a < b) : 2 ^ a < 2 ^ b := Nat.pow_lt_pow_right (by decide) h
theorem wb_mod (n : Nat) : lN n = lN (n % 2 ^ 64) := wb_inj (by rw [wb_tb, wb_tb]; apply BitVec.eq_of_toNat_eq; rw [BitVec.toNat_ofNat, BitVec.toNat_ofNat, Nat.mod_mod])
theorem wb_shr {n k : Nat} (hn : n < 2 ^ 64) (hk : k < 64) : ((lN n).toUInt64 >>> ((nI k).toInt64.toUInt64 &&& Int64.toUInt64 63)).toInt64 = lN (n / 2 ^ k) := by
  rw [wb_cu k hk]
  apply wb_inj
  apply BitVec.eq_of_toNat_eq
  show ((lN n).toUInt64 >>> UInt64.ofNat k).toNat = (BitVec.ofNat 64 _).toNat
  have h1 : (UInt64.ofNat k).toNat = k := by
    show (BitVec.ofNat 64 k).toNat = k
    rw [BitVec.toNat_ofNat, Nat.mod_eq_of_lt (by omega)]
  have h2 : (lN n).toUInt64.toNat = n := wb_tn hn
  rw [UInt64.toNat_shiftRight, h1, h2, Nat.mod_eq_of_lt hk, Nat.shiftRight_eq_div_pow, BitVec.toNat_ofNat, Nat.mod_eq_of_lt (Nat.lt_of_le_of_lt (Nat.div_le_self _ _) hn)]
theorem wb_shl (n : Nat) {k : Nat} (hk : k < 64) : lN n <<< ((nI k).toInt64 &&& 63) = lN (n * 2 ^ k) := by
  rw [wb_c k hk]
  apply wb_inj
  rw [Int64.toBitVec_shiftLeft, wb_tb, wb_tb, wb_tb, wb_sm k hk]
  apply BitVec.eq_of_toNat_eq
  rw [BitVec.shiftLeft_eq', BitVec.toNat_shiftLeft, BitVec.toNat_ofNat, BitVec.toNat_ofNat, BitVec.toNat_ofNat, Nat.mod_eq_of_lt (show k < 2 ^ 64 by omega), Nat.shiftLeft_eq, Nat.mul_mod, Nat.mod_mod, ← Nat.mul_mod]
theorem wb_and {a b : Nat} (ha : a < 2 ^ 64) (hb : b < 2 ^ 64) : lN a &&& lN b = lN (a &&& b) := by
  apply wb_inj
  rw [Int64.toBitVec_and, wb_tb, wb_tb, wb_tb]
  apply BitVec.eq_of_toNat_eq
  rw [BitVec.toNat_and, BitVec.toNat_ofNat, BitVec.toNat_ofNat, BitVec.toNat_ofNat, Nat.mod_eq_of_lt ha, Nat.mod_eq_of_lt hb, Nat.mod_eq_of_lt (Nat.and_lt_two_pow _ hb)]
theorem wb_or {a b : Nat} (ha : a < 2 ^ 64) (hb : b < 2 ^ 64) : lN a ||| lN b = lN (a ||| b) := by
  apply wb_inj
  rw [Int64.toBitVec_or, wb_tb, wb_tb, wb_tb]
  apply BitVec.eq_of_toNat_eq
  rw [BitVec.toNat_or, BitVec.toNat_ofNat, BitVec.toNat_ofNat, BitVec.toNat_ofNat, Nat.mod_eq_of_lt ha, Nat.mod_eq_of_lt hb, Nat.mod_eq_of_lt (Nat.or_lt_two_pow ha hb)]
theorem wb_mask {n k : Nat} (hn : n < 2 ^ 64) (hk : k < 64) : lN n &&& lN (2 ^ k - 1) = lN (n % 2 ^ k) := by
  rw [wb_and hn (by have := wb_lt2 hk; omega), Nat.and_two_pow_sub_one_eq_mod]
theorem wb_a1 {n : Nat} (hn : n < 2 ^ 64) : lN n &&& 1 = lN (n % 2) := wb_mask (k := 1) hn (by decide)
theorem wb_bit {n k : Nat} (hn : n < 2 ^ 64) (hk : k < 64) : ((lN n).toUInt64 >>> ((nI k).toInt64.toUInt64 &&& Int64.toUInt64 63)).toInt64 &&& 1 = lN (n / 2 ^ k % 2) := by
  rw [wb_shr hn hk, wb_a1 (Nat.lt_of_le_of_lt (Nat.div_le_self _ _) hn)]
theorem wb_xor {q k : Nat} (hk : k < 63) (h : 2 ^ k ≤ q) (h2 : q < 2 ^ (k + 1)) : lN q ^^^ lN (2 ^ k) = lN (q - 2 ^ k) := by
  obtain ⟨r, rfl⟩ : ∃ r, q = 2 ^ k + r := ⟨q - 2 ^ k, by omega⟩
  have hr : r < 2 ^ k := by rw [Nat.pow_succ] at h2; omega
  have hx : (2 ^ k + r) ^^^ 2 ^ k = r := by
    apply Nat.eq_of_testBit_eq
    intro i
    rw [Nat.testBit_xor, Nat.testBit_two_pow]
    rcases Nat.lt_trichotomy i k with h | h | h
    · rw [Nat.testBit_two_pow_add_gt h]
      simp [show ¬ k = i by omega]
    · subst h
      rw [Nat.testBit_two_pow_add_eq]
      simp
    · have a1 : 2 ^ (k + 1) ≤ 2 ^ i := Nat.pow_le_pow_right (by decide) h
      rw [Nat.testBit_lt_two_pow (show 2 ^ k + r < 2 ^ i by omega), Nat.testBit_lt_two_pow (show r < 2 ^ i by omega)]
      simp [show ¬ k = i by omega]
  have b1 := wb_lt2 (show k + 1 < 64 by omega)
  have b2 := wb_lt2 (show k < 64 by omega)
  apply wb_inj
  rw [Int64.toBitVec_xor, wb_tb, wb_tb, wb_tb]
  apply BitVec.eq_of_toNat_eq
  rw [BitVec.toNat_xor, BitVec.toNat_ofNat, BitVec.toNat_ofNat, BitVec.toNat_ofNat, Nat.mod_eq_of_lt (by omega : 2 ^ k + r < 2 ^ 64), Nat.mod_eq_of_lt b2, hx, Nat.add_sub_cancel_left, Nat.mod_eq_of_lt (by omega)]
/-! ===== lN: masks, 'or' of parts that don't overlap is a sum ===== -/
theorem u_tn {n : Nat} (h : n < 2 ^ 64) : (UInt64.ofNat n).toNat = n := Nat.mod_eq_of_lt h
theorem g_and {a b c : Nat} (ha : a < 2 ^ 64) (hb : b < 2 ^ 64) (hc : a &&& b = c) : lN a &&& lN b = lN c := by
  subst hc
  have h : UInt64.ofNat a &&& UInt64.ofNat b = UInt64.ofNat (a &&& b) := UInt64.toNat_inj.mp (by rw [UInt64.toNat_and, u_tn ha, u_tn hb, u_tn (Nat.and_lt_two_pow a hb)])
  have h2 := congrArg UInt64.toInt64 h
  exact h2
theorem g_and1 {a : Nat} (ha : a < 2 ^ 64) : lN a &&& 1 = lN (a % 2) := g_and (b := 1) ha (by decide) (Nat.and_two_pow_sub_one_eq_mod a 1)
theorem g_mask {a s p : Nat} (hp : 2 ^ s = p) (hs : s < 64) (ha : a < 2 ^ 64) : lN a &&& lN (p - 1) = lN (a % p) := by
  subst hp
  have := Nat.pow_lt_pow_right (show 1 < 2 by decide) hs
  exact g_and ha (by omega) (Nat.and_two_pow_sub_one_eq_mod a s)
theorem g_or {k p a b : Nat} (hp : 2 ^ k = p) (ha : a < p) (h : b * p + a < 2 ^ 64) : lN (b * p) ||| lN a = lN (b * p + a) := by
  subst hp
  have h1 : b * 2 ^ k ||| a = b * 2 ^ k + a := by rw [← Nat.shiftLeft_eq, Nat.shiftLeft_add_eq_or_of_lt ha]
  have h3 : UInt64.ofNat (b * 2 ^ k) ||| UInt64.ofNat a = UInt64.ofNat (b * 2 ^ k + a) := UInt64.toNat_inj.mp (by rw [UInt64.toNat_or, u_tn (by omega), u_tn (by omega), u_tn h, h1])
  have h2 := congrArg UInt64.toInt64 h3
  exact h2
theorem g_or' {k p a b : Nat} (hp : 2 ^ k = p) (ha : a < p) (h : a + b * p < 2 ^ 64) : lN a ||| lN (b * p) = lN (a + b * p) := by
  rw [Int64.or_comm, g_or hp ha (by omega), Nat.add_comm]
theorem g_ushr {a k p : Nat} {y : UInt64} (hy : y = UInt64.ofNat k) (hk : k < 64) (hp : 2 ^ k = p) (ha : a < 2 ^ 64) : ((lN a).toUInt64 >>> y).toInt64 = lN (a / p) := by
  subst hy hp
  have h : UInt64.ofNat a >>> UInt64.ofNat k = UInt64.ofNat (a / 2 ^ k) := UInt64.toNat_inj.mp (by rw [UInt64.toNat_shiftRight, u_tn ha, u_tn (by omega), u_tn (Nat.lt_of_le_of_lt (Nat.div_le_self _ _) ha), Nat.mod_eq_of_lt hk, Nat.shiftRight_eq_div_pow])
  have h2 := congrArg UInt64.toInt64 h
  exact h2
theorem g_shl {a k p : Nat} {y : Int64} (hy : y.toBitVec.smod 64 = BitVec.ofNat 64 k) (hk : k < 64) (hp : 2 ^ k = p) (ha : a < 2 ^ 64) : lN a <<< y = lN (a * p) := by
  subst hp
  apply Int64.toBitVec_inj.mp
  rw [Int64.toBitVec_shiftLeft, hy]
  apply BitVec.eq_of_toNat_eq
  have hb : (lN a).toBitVec.toNat = a := Nat.mod_eq_of_lt ha
  have hk' : (BitVec.ofNat 64 k).toNat = k := Nat.mod_eq_of_lt (by omega)
  have h : ((lN a).toBitVec <<< BitVec.ofNat 64 k).toNat = (a * 2 ^ k) % 2 ^ 64 := by simp only [BitVec.shiftLeft_eq', BitVec.toNat_shiftLeft, hb, hk', Nat.shiftLeft_eq]
  exact h
/-! ===== lN to 2^62 under >> and >>> ===== -/
theorem pf_lI {a : Nat} (h : a < 2 ^ 63) : (lN a).toInt = (a : Int) := lg_ofNat_toInt h
theorem pf_shr {a d : Nat} {D : Int64} (hD : (D.toBitVec.smod 64).toNat = d) (h : a < 2 ^ 62) : lN a >>> D = lN (a / 2 ^ d) := by
  have hd : a / 2 ^ d ≤ a := Nat.div_le_self _ _
  apply Int64.toInt_inj.mp
  have e : (lN a >>> D).toInt = (lN a).toInt >>> d := by
    rw [← hD]
    exact BitVec.toInt_sshiftRight ..
  rw [e, Int.shiftRight_eq_div_pow, pf_lI (by omega), pf_lI (by omega)]
  rfl
theorem pf_ushr {a d : Nat} {D : UInt64} (hD : D.toNat % 64 = d) (h : a < 2 ^ 62) : ((lN a).toUInt64 >>> D).toInt64 = lN (a / 2 ^ d) := by
  have hd : a / 2 ^ d ≤ a := Nat.div_le_self _ _
  have e : (lN a).toUInt64 >>> D = UInt64.ofNat (a / 2 ^ d) := UInt64.toNat_inj.mp (by
    rw [UInt64.toNat_shiftRight, hD, Nat.shiftRight_eq_div_pow, UInt64.toNat_ofNat']
    show (UInt64.ofNat a).toNat / 2 ^ d = _
    rw [UInt64.toNat_ofNat', Nat.mod_eq_of_lt (by omega), Nat.mod_eq_of_lt (by omega)])
  rw [e]
  rfl
theorem pf_andw (x : Int64) : ∃ m, m < 2 ^ 32 ∧ x &&& 4294967295 = lN m := ⟨x.toBitVec.toNat % 2 ^ 32, Nat.mod_lt _ (by decide), Int64.toBitVec_inj.mp (BitVec.eq_of_toNat_eq (by
  show (x.toBitVec &&& 4294967295#64).toNat = (BitVec.ofNat 64 (x.toBitVec.toNat % 2 ^ 32)).toNat
  rw [BitVec.toNat_and, show (4294967295#64).toNat = 2 ^ 32 - 1 from by decide, Nat.and_two_pow_sub_one_eq_mod, BitVec.toNat_ofNat]
  omega))⟩
/-! ===== Int64 as an unsigned number: uN x ===== -/
def uN (x : Int64) : Nat := x.toUInt64.toNat
theorem uN_lt (x : Int64) : uN x < 18446744073709551616 := x.toUInt64.toNat_lt
theorem uN_inj {x y : Int64} (h : uN x = uN y) : x = y := congrArg UInt64.toInt64 (UInt64.toNat_inj.mp h)
theorem uN_add (x y : Int64) : uN (x + y) = (uN x + uN y) % 18446744073709551616 := by
  show (x.toUInt64 + y.toUInt64).toNat = _
  exact UInt64.toNat_add _ _
theorem uN_mul (x y : Int64) : uN (x * y) = (uN x * uN y) % 18446744073709551616 := by
  show (x.toUInt64 * y.toUInt64).toNat = _
  exact UInt64.toNat_mul _ _
theorem uN_shl (x : Int64) : uN (x <<< ((1 : Int32).toInt64 &&& 63)) = (2 * uN x) % 18446744073709551616 := by
  have h : (((1 : Int32).toInt64 &&& 63).toBitVec.smod 64).toNat = 1 := by decide
  show (x.toBitVec <<< (((1 : Int32).toInt64 &&& 63).toBitVec.smod 64).toNat).toNat = _
  rw [h, BitVec.toNat_shiftLeft, Nat.shiftLeft_eq, Nat.mul_comm]
  rfl
theorem uN_shr (x : Int64) (s : UInt64) : uN (x.toUInt64 >>> s).toInt64 = uN x / 2 ^ (s.toNat % 64) := by
  show (x.toUInt64 >>> s).toNat = _
  rw [UInt64.toNat_shiftRight, Nat.shiftRight_eq_div_pow]
  rfl
theorem uN_s32 (x : Int64) : uN (x.toUInt64 >>> ((32 : Int32).toInt64.toUInt64 &&& Int64.toUInt64 63)).toInt64 = uN x / 4294967296 := by
  have h : ((32 : Int32).toInt64.toUInt64 &&& Int64.toUInt64 63).toNat % 64 = 32 := by decide
  rw [uN_shr, h]
theorem uN_s63 (x : Int64) : uN (x.toUInt64 >>> ((63 : Int32).toInt64.toUInt64 &&& Int64.toUInt64 63)).toInt64 = uN x / 9223372036854775808 := by
  have h : ((63 : Int32).toInt64.toUInt64 &&& Int64.toUInt64 63).toNat % 64 = 63 := by decide
  rw [uN_shr, h]
theorem uN_lo (x : Int64) : uN (x &&& 4294967295) = uN x % 4294967296 := by
  show (x.toUInt64 &&& Int64.toUInt64 4294967295).toNat = _
  rw [UInt64.toNat_and]
  exact Nat.and_two_pow_sub_one_eq_mod _ 32
theorem uN_bit (x : Int64) : (x &&& 1) = 0 ↔ uN x % 2 = 0 := by
  have h : uN (x &&& 1) = uN x % 2 := by
    show (x.toUInt64 &&& Int64.toUInt64 1).toNat = _
    rw [UInt64.toNat_and]
    exact Nat.and_two_pow_sub_one_eq_mod _ 1
  rw [← h]
  exact ⟨fun z => by rw [z]; rfl, fun z => uN_inj (z.trans rfl)⟩
theorem uN_or {x y : Int64} (hy : uN y < 2) : uN ((x <<< ((1 : Int32).toInt64 &&& 63)) ||| y) = (2 * uN x) % 18446744073709551616 + uN y := by
  have h1 : uN ((x <<< ((1 : Int32).toInt64 &&& 63)) ||| y) = uN (x <<< ((1 : Int32).toInt64 &&& 63)) ||| uN y := UInt64.toNat_or _ _
  have h2 : (2 * uN x) % 18446744073709551616 = 2 ^ 1 * (uN x % 9223372036854775808) := by omega
  rw [h1, uN_shl, h2]
  exact (Nat.two_pow_add_eq_or_of_lt (i := 1) hy _).symm
theorem nat_xor {a : Nat} (h : a < 18446744073709551616) : a ^^^ 2 ^ 63 = (a + 9223372036854775808) % 18446744073709551616 := by
  have h1 : (a ^^^ 2 ^ 63) % 2 ^ 63 = a % 2 ^ 63 := by rw [Nat.xor_mod_two_pow, Nat.mod_self, Nat.xor_zero]
  have h2 : (a ^^^ 2 ^ 63) / 2 ^ 63 = (a / 2 ^ 63) ^^^ 1 := by rw [Nat.xor_div_two_pow, Nat.div_self (Nat.two_pow_pos 63)]
  have h3 : a / 2 ^ 63 = 0 ∨ a / 2 ^ 63 = 1 := by omega
  generalize a ^^^ 2 ^ 63 = t at h1 h2
  rcases h3 with h3 | h3
  · rw [h3] at h2
    have h2 : t / 2 ^ 63 = 1 := h2
    omega
  · rw [h3] at h2
    have h2 : t / 2 ^ 63 = 0 := h2
    omega
theorem uN_xor (x : Int64) : uN (x ^^^ (-9223372036854775808)) = (uN x + 9223372036854775808) % 18446744073709551616 := by
  rw [← nat_xor (uN_lt x)]
  exact UInt64.toNat_xor _ _
theorem uN_int (x : Int64) : x.toInt = if 2 * uN x < 18446744073709551616 then (uN x : Int) else (uN x : Int) - 18446744073709551616 := BitVec.toInt_eq_toNat_cond _
theorem uN_le (x y : Int64) : (x ^^^ (-9223372036854775808)) ≤ (y ^^^ (-9223372036854775808)) ↔ uN x ≤ uN y := by
  have hx := uN_lt x
  have hy := uN_lt y
  rw [Int64.le_iff_toInt_le, uN_int, uN_int, uN_xor, uN_xor]
  omega
theorem uN_sk (x : Int64) {k : Nat} (hk : k < 64) : uN (x.toUInt64 >>> ((nI k).toInt64.toUInt64 &&& Int64.toUInt64 63)).toInt64 = uN x / 2 ^ k := by
  have h : ((nI k).toInt64.toUInt64 &&& Int64.toUInt64 63).toNat % 64 = k := by
    rw [nI_l (by omega), UInt64.toNat_and]
    have e : (lN k).toUInt64.toNat = k % 2 ^ 64 := rfl
    have e2 : (Int64.toUInt64 63).toNat = 2 ^ 6 - 1 := by decide
    rw [e, e2, Nat.and_two_pow_sub_one_eq_mod]
    omega
  rw [uN_shr, h]
/-! ===== unsigned comparison by xor with the least ===== -/
theorem lN_bv (n : Nat) : (lN n).toBitVec = BitVec.ofNat 64 n := rfl
theorem lN_nat {n : Nat} (h : n < 2 ^ 64) : (lN n).toBitVec.toNat = n := by rw [lN_bv, BitVec.toNat_ofNat]; exact Nat.mod_eq_of_lt h
theorem lN_xor (a b : Nat) : lN a ^^^ lN b = lN (a ^^^ b) := by
  apply Int64.toBitVec_inj.mp; rw [Int64.toBitVec_xor, lN_bv, lN_bv, lN_bv]; apply BitVec.eq_of_getLsbD_eq; intro i hi; simp [BitVec.getLsbD_ofNat, Nat.testBit_xor, hi]
theorem lN_ti {m : Nat} (h : m < 2 ^ 64) : (lN m).toInt = if m < 2 ^ 63 then (m : Int) else (m : Int) - 2 ^ 64 := by
  have c := BitVec.toInt_eq_toNat_cond (lN m).toBitVec
  rw [lN_nat h] at c
  show (lN m).toBitVec.toInt = _
  rw [c]
  split <;> split <;> omega
theorem xor63 {x : Nat} (h : x < 2 ^ 63) : x ^^^ 2 ^ 63 = 2 ^ 63 + x := by
  apply Nat.eq_of_testBit_eq
  intro i
  rw [Nat.testBit_xor, Nat.testBit_two_pow]
  rcases Nat.lt_trichotomy i 63 with z | z | z
  · rw [Nat.testBit_two_pow_add_gt z, decide_eq_false (by omega)]; simp
  · subst z; rw [Nat.testBit_two_pow_add_eq]; simp
  · have hp : 2 ^ 64 ≤ 2 ^ i := Nat.pow_le_pow_right (by decide) z
    rw [Nat.testBit_lt_two_pow (show x < 2 ^ i by omega), Nat.testBit_lt_two_pow (show 2 ^ 63 + x < 2 ^ i by omega), decide_eq_false (by omega)]; rfl
theorem xorS {a : Nat} (h : a < 2 ^ 64) : (lN a ^^^ (-9223372036854775808)).toInt = (a : Int) - 2 ^ 63 := by
  rw [show (-9223372036854775808 : Int64) = lN (2 ^ 63) from by decide +kernel, lN_xor]
  rcases Nat.lt_or_ge a (2 ^ 63) with z | z
  · rw [xor63 z, lN_ti (by omega), if_neg (by omega)]; omega
  · obtain ⟨x, rfl⟩ : ∃ x, a = 2 ^ 63 + x := ⟨a - 2 ^ 63, by omega⟩
    rw [← xor63 (by omega), Nat.xor_assoc, Nat.xor_self, Nat.xor_zero, lN_ti (by omega), if_pos (by omega), xor63 (by omega)]; omega
theorem ultL {a b : Nat} (ha : a < 2 ^ 64) (hb : b < 2 ^ 64) : ((lN b ^^^ (-9223372036854775808)) ≤ (lN a ^^^ (-9223372036854775808))) ↔ b ≤ a := by
  rw [Int64.le_iff_toInt_le, xorS ha, xorS hb]; omega
/-! ===== Int64 masks of n low bits ===== -/
theorem cr_bits (W U M : BitVec 64) : ((W &&& U) &&& (U &&& (M ^^^ BitVec.allOnes 64))) = 0#64 ↔ (W &&& U) &&& M = W &&& U := by
  constructor
  · intro h
    apply BitVec.eq_of_getLsbD_eq
    intro i hi
    have e := congrArg (fun x => BitVec.getLsbD x i) h
    simp only [BitVec.getLsbD_and, BitVec.getLsbD_xor, BitVec.getLsbD_allOnes, BitVec.getLsbD_zero, hi, decide_true] at e ⊢
    revert e
    cases W.getLsbD i <;> cases U.getLsbD i <;> cases M.getLsbD i <;> decide
  · intro h
    apply BitVec.eq_of_getLsbD_eq
    intro i hi
    have e := congrArg (fun x => BitVec.getLsbD x i) h
    simp only [BitVec.getLsbD_and, BitVec.getLsbD_xor, BitVec.getLsbD_allOnes, BitVec.getLsbD_zero, hi, decide_true] at e ⊢
    revert e
    cases W.getLsbD i <;> cases U.getLsbD i <;> cases M.getLsbD i <;> decide
theorem cr_mask (w U m : Int64) (n : Nat) (hm : m.toBitVec.toNat = 2 ^ n - 1) : ((w &&& U) &&& (U &&& (m ^^^ (-1)))) = 0 ↔ (w &&& U).toBitVec.toNat < 2 ^ n := by
  have e0 : (-1 : Int64).toBitVec = BitVec.allOnes 64 := by decide
  have z0 : (0 : Int64).toBitVec = 0#64 := by decide
  rw [← Int64.toBitVec_inj, z0, Int64.toBitVec_and, Int64.toBitVec_and, Int64.toBitVec_and, Int64.toBitVec_xor, e0, cr_bits]
  generalize w.toBitVec &&& U.toBitVec = T
  rw [← BitVec.toNat_inj, BitVec.toNat_and, hm, Nat.and_two_pow_sub_one_eq_mod]
  constructor
  · intro h
    have t := Nat.mod_lt T.toNat (Nat.two_pow_pos n)
    rw [h] at t
    exact t
  · exact Nat.mod_eq_of_lt
theorem cr_shr (t : Int64) (x : UInt64) (n : Nat) (hx : x.toNat % 64 = n) : (t.toUInt64 >>> x).toInt64 = 0 ↔ t.toBitVec.toNat < 2 ^ n := by
  rw [← Int64.toBitVec_inj, ← BitVec.toNat_inj]
  show (t.toUInt64 >>> x).toNat = 0 ↔ t.toUInt64.toNat < 2 ^ n
  rw [UInt64.toNat_shiftRight, hx, Nat.shiftRight_eq_div_pow]
  constructor
  · intro h
    have d : t.toUInt64.toNat / 2 ^ n < 1 := by
      rw [h]
      decide
    have e := (Nat.div_lt_iff_lt_mul (Nat.two_pow_pos n)).mp d
    rw [Nat.one_mul] at e
    exact e
  · exact Nat.div_eq_of_lt
theorem cr_amt (s : Int64) : ∃ n, n < 64 ∧ s &&& 63 = lN n ∧ (s.toUInt64 &&& Int64.toUInt64 63).toNat % 64 = n := by
  have e : (s.toUInt64 &&& Int64.toUInt64 63).toNat = s.toUInt64.toNat % 2 ^ 6 := by
    rw [UInt64.toNat_and, show (Int64.toUInt64 63).toNat = 2 ^ 6 - 1 from by decide, Nat.and_two_pow_sub_one_eq_mod]
  refine ⟨s.toUInt64.toNat % 2 ^ 6, by omega, ?_, by omega⟩
  rw [← Int64.toBitVec_inj, ← BitVec.toNat_inj]
  show (s.toUInt64 &&& Int64.toUInt64 63).toNat = (BitVec.ofNat 64 (s.toUInt64.toNat % 2 ^ 6)).toNat
  rw [e, BitVec.toNat_ofNat]
  omega
end
section
/-! pure: nat pictures of arrays, bytes, instruction tables, keys -/
def aa_N (f : Nat → Nat) : Nat → Int32 := fun i => nI (f i)
def aa_up (f : Nat → Nat) (k v : Nat) : Nat → Nat := fun j => if j = k then v else f j
theorem aa_us {f : Nat → Nat} {k v : Nat} : aa_up f k v k = v := if_pos rfl
theorem aa_un {f : Nat → Nat} {k v j : Nat} (h : j ≠ k) : aa_up f k v j = f j := if_neg h
theorem aa_upN (f : Nat → Nat) (k v : Nat) : upd (aa_N f) k (nI v) = aa_N (aa_up f k v) := by
  funext j
  show (if j = k then nI v else nI (f j)) = nI (if j = k then v else f j)
  by_cases h : j = k
  · rw [if_pos h, if_pos h]
  · rw [if_neg h, if_neg h]
theorem aa_b8 : ∀ n, n < 128 → (nI n).toInt8.toInt32 = nI n := by decide +kernel
theorem aa_s16 : ∀ n, n < 400 → (nI n).toInt16.toInt32 = nI n := by decide +kernel
theorem aa_nb {n : Nat} (h : n < 128) : vp_nar .byte (nI n).toInt8.toInt32 = nI n := by rw [vp_nar_byte, aa_b8 n h, aa_b8 n h]
theorem aa_nb1 {n : Nat} (h : n < 128) : vp_nar .byte (nI n) = nI n := by rw [vp_nar_byte, aa_b8 n h]
theorem aa_ns {n : Nat} (h : n < 400) : vp_nar .short (nI n).toInt16.toInt32 = nI n := by rw [vp_nar_short, aa_s16 n h, aa_s16 n h]
theorem aa_nbm : vp_nar .byte (-1) = -1 := by rw [vp_nar_byte]; decide
theorem aa_nbm' : vp_nar .byte (-1 : Int32).toInt8.toInt32 = -1 := by rw [vp_nar_byte]; decide
theorem aa_nz0 : vp_nar .boolean 0 = 0 := rfl
theorem aa_nz1 : vp_nar .boolean 1 = 1 := rfl
theorem aa_c20 {o : Nat} (h : o < 20) : o = 0 ∨ o = 1 ∨ o = 2 ∨ o = 3 ∨ o = 4 ∨ o = 5 ∨ o = 6 ∨ o = 7 ∨ o = 8 ∨ o = 9 ∨ o = 10 ∨ o = 11 ∨ o = 12 ∨ o = 13 ∨ o = 14 ∨ o = 15 ∨ o = 16 ∨ o = 17 ∨ o = 18 ∨ o = 19 := by omega
def aa_tk (o : Nat) : Nat := if o < 3 then 0 else if o = 8 then 0 else if o = 12 then 0 else if 15 ≤ o ∧ o ≤ 17 then 0 else if o = 6 ∨ o = 7 then 2 else 1
def aa_pt (o : Nat) : Nat := if o < 3 then 1 else if o = 7 ∨ o = 8 ∨ o = 10 ∨ o = 15 then 1 else if o = 5 ∨ o = 6 then 2 else 0
def aa_fl (o : Nat) : Bool := decide (o ≠ 12 ∧ o < 15)
def aa_ld (o : Nat) : Bool := decide (12 ≤ o ∧ o ≤ 15)
def aa_b2 (b : Bool) : Nat := if b then 1 else 0
theorem aa_tk2 (o : Nat) : aa_tk o ≤ 2 := by unfold aa_tk; (repeat' split) <;> omega
theorem aa_pt2 (o : Nat) : aa_pt o ≤ 2 := by unfold aa_pt; (repeat' split) <;> omega
-- keys
def kk_D (n a b c i : Nat) : Nat := n * 390625 + a * 15625 + b * 625 + c * 25 + i
def kk_E (n a b c i : Nat) : Nat := n * 331776 + a * 13824 + b * 576 + c * 24 + i
def kk_c (q k : Nat) : Nat := if k = 0 then q / 15625 % 25 else if k = 1 then q / 625 % 25 else q / 25 % 25
def kk_w (k : Nat) : Nat := if k = 0 then 15625 else if k = 1 then 625 else 25
def kk_V (q : Nat) : Prop := ∃ n a b c i : Nat, n ≤ 3 ∧ a < 24 ∧ b < 24 ∧ c < 24 ∧ i < 24 ∧ (n = 0 → a = 0) ∧ (n ≤ 1 → b = 0) ∧ (n ≤ 2 → c = 0) ∧ q = kk_D n a b c i
def kk_y (q : Nat) : Nat := kk_E (q / 390625) (q / 15625 % 25) (q / 625 % 25) (q / 25 % 25) (q % 25)
def kk_at (q j : Nat) : Nat := q - q % 25 + j
def kk_in (q t : Nat) : Nat := q + 390625 + kk_w (q / 390625) * (q % 25) - q % 25 + t
def kk_cal (q : Nat) : Nat := q - 390625 - kk_w (q / 390625 - 1) * kk_c q (q / 390625 - 1) - q % 25 + kk_c q (q / 390625 - 1)
theorem kk_d1 {n a b c i : Nat} (ha : a < 25) (hb : b < 25) (hc : c < 25) (hi : i < 25) : kk_D n a b c i / 390625 = n := by unfold kk_D; omega
theorem kk_d2 {n a b c i : Nat} (ha : a < 25) (hb : b < 25) (hc : c < 25) (hi : i < 25) : kk_D n a b c i / 15625 % 25 = a := by unfold kk_D; omega
theorem kk_d3 {n a b c i : Nat} (hb : b < 25) (hc : c < 25) (hi : i < 25) : kk_D n a b c i / 625 % 25 = b := by unfold kk_D; omega
theorem kk_d4 {n a b c i : Nat} (hc : c < 25) (hi : i < 25) : kk_D n a b c i / 25 % 25 = c := by unfold kk_D; omega
theorem kk_d5 {n a b c i : Nat} (hi : i < 25) : kk_D n a b c i % 25 = i := by unfold kk_D; omega
theorem kk_e1 {n a b c i : Nat} (ha : a < 24) (hb : b < 24) (hc : c < 24) (hi : i < 24) : kk_E n a b c i / 331776 = n := by unfold kk_E; omega
theorem kk_e2 {n a b c i : Nat} (ha : a < 24) (hb : b < 24) (hc : c < 24) (hi : i < 24) : kk_E n a b c i / 13824 % 24 = a := by unfold kk_E; omega
theorem kk_e3 {n a b c i : Nat} (hb : b < 24) (hc : c < 24) (hi : i < 24) : kk_E n a b c i / 576 % 24 = b := by unfold kk_E; omega
theorem kk_e4 {n a b c i : Nat} (hc : c < 24) (hi : i < 24) : kk_E n a b c i / 24 % 24 = c := by unfold kk_E; omega
theorem kk_e5 {n a b c i : Nat} (hi : i < 24) : kk_E n a b c i % 24 = i := by unfold kk_E; omega
theorem kk_yD {n a b c i : Nat} (ha : a < 25) (hb : b < 25) (hc : c < 25) (hi : i < 25) : kk_y (kk_D n a b c i) = kk_E n a b c i := by
  unfold kk_y; rw [kk_d1 ha hb hc hi, kk_d2 ha hb hc hi, kk_d3 hb hc hi, kk_d4 hc hi, kk_d5 hi]
theorem kk_atD {n a b c i j : Nat} (hi : i < 25) : kk_at (kk_D n a b c i) j = kk_D n a b c j := by
  unfold kk_at; rw [kk_d5 hi]; unfold kk_D; omega
theorem kk_in0 {i t : Nat} (hi : i < 25) : kk_in (kk_D 0 0 0 0 i) t = kk_D 1 i 0 0 t := by
  unfold kk_in; rw [kk_d1 (by omega) (by omega) (by omega) hi, kk_d5 hi]; show kk_D 0 0 0 0 i + 390625 + 15625 * i - i + t = _; unfold kk_D; omega
theorem kk_in1 {a i t : Nat} (ha : a < 25) (hi : i < 25) : kk_in (kk_D 1 a 0 0 i) t = kk_D 2 a i 0 t := by
  unfold kk_in; rw [kk_d1 ha (by omega) (by omega) hi, kk_d5 hi]; show kk_D 1 a 0 0 i + 390625 + 625 * i - i + t = _; unfold kk_D; omega
theorem kk_in2 {a b i t : Nat} (ha : a < 25) (hb : b < 25) (hi : i < 25) : kk_in (kk_D 2 a b 0 i) t = kk_D 3 a b i t := by
  unfold kk_in; rw [kk_d1 ha hb (by omega) hi, kk_d5 hi]; show kk_D 2 a b 0 i + 390625 + 25 * i - i + t = _; unfold kk_D; omega
theorem kk_cal1 {a i : Nat} (ha : a < 25) (hi : i < 25) : kk_cal (kk_D 1 a 0 0 i) = kk_D 0 0 0 0 a := by
  unfold kk_cal; rw [kk_d1 ha (by omega) (by omega) hi, kk_d5 hi]
  show kk_D 1 a 0 0 i - 390625 - 15625 * (kk_D 1 a 0 0 i / 15625 % 25) - i + (kk_D 1 a 0 0 i / 15625 % 25) = _
  rw [kk_d2 ha (by omega) (by omega) hi]; unfold kk_D; omega
theorem kk_cal2 {a b i : Nat} (ha : a < 25) (hb : b < 25) (hi : i < 25) : kk_cal (kk_D 2 a b 0 i) = kk_D 1 a 0 0 b := by
  unfold kk_cal; rw [kk_d1 ha hb (by omega) hi, kk_d5 hi]
  show kk_D 2 a b 0 i - 390625 - 625 * (kk_D 2 a b 0 i / 625 % 25) - i + (kk_D 2 a b 0 i / 625 % 25) = _
  rw [kk_d3 hb (by omega) hi]; unfold kk_D; omega
theorem kk_cal3 {a b c i : Nat} (ha : a < 25) (hb : b < 25) (hc : c < 25) (hi : i < 25) : kk_cal (kk_D 3 a b c i) = kk_D 2 a b 0 c := by
  unfold kk_cal; rw [kk_d1 ha hb hc hi, kk_d5 hi]
  show kk_D 3 a b c i - 390625 - 25 * (kk_D 3 a b c i / 25 % 25) - i + (kk_D 3 a b c i / 25 % 25) = _
  rw [kk_d4 hc hi]; unfold kk_D; omega
theorem kk_V_D {n a b c i : Nat} (hn : n ≤ 3) (ha : a < 24) (hb : b < 24) (hc : c < 24) (hi : i < 24) (h0 : n = 0 → a = 0) (h1 : n ≤ 1 → b = 0) (h2 : n ≤ 2 → c = 0) : kk_V (kk_D n a b c i) := ⟨n, a, b, c, i, hn, ha, hb, hc, hi, h0, h1, h2, rfl⟩
theorem kk_V0 : kk_V 0 := kk_V_D (n := 0) (a := 0) (b := 0) (c := 0) (i := 0) (by omega) (by omega) (by omega) (by omega) (by omega) (by omega) (by omega) (by omega)
/-- the four shapes of a key -/
theorem kk_V4 {q : Nat} (h : kk_V q) : (∃ i, i < 24 ∧ q = kk_D 0 0 0 0 i) ∨ (∃ a i, a < 24 ∧ i < 24 ∧ q = kk_D 1 a 0 0 i) ∨ (∃ a b i, a < 24 ∧ b < 24 ∧ i < 24 ∧ q = kk_D 2 a b 0 i) ∨ (∃ a b c i, a < 24 ∧ b < 24 ∧ c < 24 ∧ i < 24 ∧ q = kk_D 3 a b c i) := by
  obtain ⟨n, a, b, c, i, hn, ha, hb, hc, hi, h0, h1, h2, rfl⟩ := h
  have : n = 0 ∨ n = 1 ∨ n = 2 ∨ n = 3 := by omega
  rcases this with rfl | rfl | rfl | rfl
  · cases h0 rfl; cases h1 (by omega); cases h2 (by omega); exact Or.inl ⟨i, hi, rfl⟩
  · cases h1 (by omega); cases h2 (by omega); exact Or.inr (Or.inl ⟨a, i, ha, hi, rfl⟩)
  · cases h2 (by omega); exact Or.inr (Or.inr (Or.inl ⟨a, b, i, ha, hb, hi, rfl⟩))
  · exact Or.inr (Or.inr (Or.inr ⟨a, b, c, i, ha, hb, hc, hi, rfl⟩))
theorem kk_Vlt {q : Nat} (h : kk_V q) : q < 1562500 := by
  obtain ⟨n, a, b, c, i, hn, ha, hb, hc, hi, -, -, -, rfl⟩ := h
  unfold kk_D; omega
theorem kk_Vi {q : Nat} (h : kk_V q) : q % 25 < 24 := by
  obtain ⟨n, a, b, c, i, hn, ha, hb, hc, hi, -, -, -, rfl⟩ := h
  rw [kk_d5 (by omega)]; exact hi
theorem kk_Vn {q : Nat} (h : kk_V q) : q / 390625 ≤ 3 := by
  obtain ⟨n, a, b, c, i, hn, ha, hb, hc, hi, -, -, -, rfl⟩ := h
  rw [kk_d1 (by omega) (by omega) (by omega) (by omega)]; exact hn
theorem kk_Vc {q : Nat} (h : kk_V q) (k : Nat) : kk_c q k < 24 := by
  obtain ⟨n, a, b, c, i, hn, ha, hb, hc, hi, -, -, -, rfl⟩ := h
  unfold kk_c; rw [kk_d2 (by omega) (by omega) (by omega) (by omega), kk_d3 (by omega) (by omega) (by omega), kk_d4 (by omega) (by omega)]
  split
  · exact ha
  · split
    · exact hb
    · exact hc
theorem kk_ylt {q : Nat} (h : kk_V q) : kk_y q < 1327104 := by
  obtain ⟨n, a, b, c, i, hn, ha, hb, hc, hi, -, -, -, rfl⟩ := h
  rw [kk_yD (by omega) (by omega) (by omega) (by omega)]; unfold kk_E; omega
theorem kk_yi {q : Nat} (h : kk_V q) : kk_y q % 24 = q % 25 := by
  obtain ⟨n, a, b, c, i, hn, ha, hb, hc, hi, -, -, -, rfl⟩ := h
  rw [kk_yD (by omega) (by omega) (by omega) (by omega), kk_e5 hi, kk_d5 (by omega)]
theorem kk_yn {q : Nat} (h : kk_V q) : kk_y q / 331776 = q / 390625 := by
  obtain ⟨n, a, b, c, i, hn, ha, hb, hc, hi, -, -, -, rfl⟩ := h
  rw [kk_yD (by omega) (by omega) (by omega) (by omega), kk_e1 ha hb hc hi, kk_d1 (by omega) (by omega) (by omega) (by omega)]
theorem kk_yc0 {q : Nat} (h : kk_V q) : kk_y q / 13824 % 24 = kk_c q 0 := by
  obtain ⟨n, a, b, c, i, hn, ha, hb, hc, hi, -, -, -, rfl⟩ := h
  show _ = kk_D n a b c i / 15625 % 25
  rw [kk_yD (by omega) (by omega) (by omega) (by omega), kk_e2 ha hb hc hi, kk_d2 (by omega) (by omega) (by omega) (by omega)]
theorem kk_yc1 {q : Nat} (h : kk_V q) : kk_y q / 576 % 24 = kk_c q 1 := by
  obtain ⟨n, a, b, c, i, hn, ha, hb, hc, hi, -, -, -, rfl⟩ := h
  show _ = kk_D n a b c i / 625 % 25
  rw [kk_yD (by omega) (by omega) (by omega) (by omega), kk_e3 hb hc hi, kk_d3 (by omega) (by omega) (by omega)]
theorem kk_yc2 {q : Nat} (h : kk_V q) : kk_y q / 24 % 24 = kk_c q 2 := by
  obtain ⟨n, a, b, c, i, hn, ha, hb, hc, hi, -, -, -, rfl⟩ := h
  show _ = kk_D n a b c i / 25 % 25
  rw [kk_yD (by omega) (by omega) (by omega) (by omega), kk_e4 hc hi, kk_d4 (by omega) (by omega)]
theorem kk_Vat {q j : Nat} (h : kk_V q) (hj : j < 24) : kk_V (kk_at q j) := by
  obtain ⟨n, a, b, c, i, hn, ha, hb, hc, hi, h0, h1, h2, rfl⟩ := h
  rw [kk_atD (by omega)]; exact kk_V_D hn ha hb hc hj h0 h1 h2
theorem kk_yat {q j : Nat} (h : kk_V q) (hj : j < 24) : kk_y (kk_at q j) = kk_y q - kk_y q % 24 + j := by
  obtain ⟨n, a, b, c, i, hn, ha, hb, hc, hi, h0, h1, h2, rfl⟩ := h
  rw [kk_atD (by omega), kk_yD (by omega) (by omega) (by omega) (by omega), kk_yD (by omega) (by omega) (by omega) (by omega), kk_e5 hi]
  unfold kk_E; omega
theorem kk_at_i {q j : Nat} (hj : j < 25) : kk_at q j % 25 = j := by unfold kk_at; omega
theorem kk_at_n {q j : Nat} (hj : j < 25) : kk_at q j / 390625 = q / 390625 := by unfold kk_at; omega
theorem kk_s_at {q : Nat} : q + 1 = kk_at q (q % 25 + 1) := by unfold kk_at; omega
theorem kk_Vs {q : Nat} (h : kk_V q) (hi : q % 25 + 1 < 24) : kk_V (q + 1) := by rw [kk_s_at]; exact kk_Vat h hi
theorem kk_ys {q : Nat} (h : kk_V q) (hi : q % 25 + 1 < 24) : kk_y (q + 1) = kk_y q + 1 := by
  rw [kk_s_at, kk_yat h hi, kk_yi h]
  have := kk_yi h; omega
theorem kk_Vin {q t : Nat} (h : kk_V q) (hn : q / 390625 < 3) (ht : t < 24) : kk_V (kk_in q t) := by
  rcases kk_V4 h with ⟨i, hi, rfl⟩ | ⟨a, i, ha, hi, rfl⟩ | ⟨a, b, i, ha, hb, hi, rfl⟩ | ⟨a, b, c, i, ha, hb, hc, hi, rfl⟩
  · rw [kk_in0 (by omega)]; exact kk_V_D (by omega) (by omega) (by omega) (by omega) ht (by omega) (by omega) (by omega)
  · rw [kk_in1 (by omega) (by omega)]; exact kk_V_D (by omega) (by omega) (by omega) (by omega) ht (by omega) (by omega) (by omega)
  · rw [kk_in2 (by omega) (by omega) (by omega)]; exact kk_V_D (by omega) (by omega) (by omega) (by omega) ht (by omega) (by omega) (by omega)
  · rw [kk_d1 (by omega) (by omega) (by omega) (by omega)] at hn; omega
def kk_wy (k : Nat) : Nat := if k = 0 then 13824 else if k = 1 then 576 else 24
theorem kk_yin {q t : Nat} (h : kk_V q) (hn : q / 390625 < 3) (ht : t < 24) : kk_y (kk_in q t) = kk_y q - kk_y q % 24 + t + 331776 + q % 25 * kk_wy (q / 390625) := by
  rcases kk_V4 h with ⟨i, hi, rfl⟩ | ⟨a, i, ha, hi, rfl⟩ | ⟨a, b, i, ha, hb, hi, rfl⟩ | ⟨a, b, c, i, ha, hb, hc, hi, rfl⟩
  · rw [kk_in0 (by omega), kk_yD (by omega) (by omega) (by omega) (by omega), kk_yD (by omega) (by omega) (by omega) (by omega), kk_d1 (by omega) (by omega) (by omega) (by omega), kk_e5 hi, kk_d5 (by omega)]
    show _ = _ + i * 13824
    unfold kk_E; omega
  · rw [kk_in1 (by omega) (by omega), kk_yD (by omega) (by omega) (by omega) (by omega), kk_yD (by omega) (by omega) (by omega) (by omega), kk_d1 (by omega) (by omega) (by omega) (by omega), kk_e5 hi, kk_d5 (by omega)]
    show _ = _ + i * 576
    unfold kk_E; omega
  · rw [kk_in2 (by omega) (by omega) (by omega), kk_yD (by omega) (by omega) (by omega) (by omega), kk_yD (by omega) (by omega) (by omega) (by omega), kk_d1 (by omega) (by omega) (by omega) (by omega), kk_e5 hi, kk_d5 (by omega)]
    show _ = _ + i * 24
    unfold kk_E; omega
  · rw [kk_d1 (by omega) (by omega) (by omega) (by omega)] at hn; omega
theorem kk_Vcal {q : Nat} (h : kk_V q) (hn : 0 < q / 390625) : kk_V (kk_cal q) := by
  rcases kk_V4 h with ⟨i, hi, rfl⟩ | ⟨a, i, ha, hi, rfl⟩ | ⟨a, b, i, ha, hb, hi, rfl⟩ | ⟨a, b, c, i, ha, hb, hc, hi, rfl⟩
  · rw [kk_d1 (by omega) (by omega) (by omega) (by omega)] at hn; omega
  · rw [kk_cal1 (by omega) (by omega)]; exact kk_V_D (by omega) (by omega) (by omega) (by omega) ha (by omega) (by omega) (by omega)
  · rw [kk_cal2 (by omega) (by omega) (by omega)]; exact kk_V_D (by omega) (by omega) (by omega) (by omega) hb (by omega) (by omega) (by omega)
  · rw [kk_cal3 (by omega) (by omega) (by omega) (by omega)]; exact kk_V_D (by omega) (by omega) (by omega) (by omega) hc (by omega) (by omega) (by omega)
theorem kk_cal_i {q : Nat} (h : kk_V q) (hn : 0 < q / 390625) : kk_cal q % 25 = kk_c q (q / 390625 - 1) := by
  rcases kk_V4 h with ⟨i, hi, rfl⟩ | ⟨a, i, ha, hi, rfl⟩ | ⟨a, b, i, ha, hb, hi, rfl⟩ | ⟨a, b, c, i, ha, hb, hc, hi, rfl⟩
  · rw [kk_d1 (by omega) (by omega) (by omega) (by omega)] at hn; omega
  · rw [kk_cal1 (by omega) (by omega), kk_d1 (by omega) (by omega) (by omega) (by omega), kk_d5 (by omega)]
    exact (kk_d2 (by omega) (by omega) (by omega) (by omega)).symm
  · rw [kk_cal2 (by omega) (by omega) (by omega), kk_d1 (by omega) (by omega) (by omega) (by omega), kk_d5 (by omega)]
    exact (kk_d3 (by omega) (by omega) (by omega)).symm
  · rw [kk_cal3 (by omega) (by omega) (by omega) (by omega), kk_d1 (by omega) (by omega) (by omega) (by omega), kk_d5 (by omega)]
    exact (kk_d4 (by omega) (by omega)).symm
theorem kk_cal_n {q : Nat} (h : kk_V q) (hn : 0 < q / 390625) : kk_cal q / 390625 = q / 390625 - 1 := by
  rcases kk_V4 h with ⟨i, hi, rfl⟩ | ⟨a, i, ha, hi, rfl⟩ | ⟨a, b, i, ha, hb, hi, rfl⟩ | ⟨a, b, c, i, ha, hb, hc, hi, rfl⟩
  · rw [kk_d1 (by omega) (by omega) (by omega) (by omega)] at hn; omega
  · rw [kk_cal1 (by omega) (by omega), kk_d1 (by omega) (by omega) (by omega) (by omega), kk_d1 (by omega) (by omega) (by omega) (by omega)]
  · rw [kk_cal2 (by omega) (by omega) (by omega), kk_d1 (by omega) (by omega) (by omega) (by omega), kk_d1 (by omega) (by omega) (by omega) (by omega)]
  · rw [kk_cal3 (by omega) (by omega) (by omega) (by omega), kk_d1 (by omega) (by omega) (by omega) (by omega), kk_d1 (by omega) (by omega) (by omega) (by omega)]
/-- what the reference's caller reckons -/
theorem kk_ycal {q : Nat} (h : kk_V q) (hn : 0 < q / 390625) : kk_y q - kk_y q % 24 + kk_c q (q / 390625 - 1) = kk_y (kk_cal q) + 331776 + kk_c q (q / 390625 - 1) * kk_wy (q / 390625 - 1) := by
  rcases kk_V4 h with ⟨i, hi, rfl⟩ | ⟨a, i, ha, hi, rfl⟩ | ⟨a, b, i, ha, hb, hi, rfl⟩ | ⟨a, b, c, i, ha, hb, hc, hi, rfl⟩
  · rw [kk_d1 (by omega) (by omega) (by omega) (by omega)] at hn; omega
  · rw [kk_cal1 (by omega) (by omega), kk_yD (by omega) (by omega) (by omega) (by omega), kk_yD (by omega) (by omega) (by omega) (by omega), kk_d1 (by omega) (by omega) (by omega) (by omega), kk_e5 hi]
    show _ + kk_D 1 a 0 0 i / 15625 % 25 = _ + kk_D 1 a 0 0 i / 15625 % 25 * 13824
    rw [kk_d2 (by omega) (by omega) (by omega) (by omega)]; unfold kk_E; omega
  · rw [kk_cal2 (by omega) (by omega) (by omega), kk_yD (by omega) (by omega) (by omega) (by omega), kk_yD (by omega) (by omega) (by omega) (by omega), kk_d1 (by omega) (by omega) (by omega) (by omega), kk_e5 hi]
    show _ + kk_D 2 a b 0 i / 625 % 25 = _ + kk_D 2 a b 0 i / 625 % 25 * 576
    rw [kk_d3 (by omega) (by omega) (by omega)]; unfold kk_E; omega
  · rw [kk_cal3 (by omega) (by omega) (by omega) (by omega), kk_yD (by omega) (by omega) (by omega) (by omega), kk_yD (by omega) (by omega) (by omega) (by omega), kk_d1 (by omega) (by omega) (by omega) (by omega), kk_e5 hi]
    show _ + kk_D 3 a b c i / 25 % 25 = _ + kk_D 3 a b c i / 25 % 25 * 24
    rw [kk_d4 (by omega) (by omega)]; unfold kk_E; omega
/-- calls don't hang on the instruction -/
theorem kk_cal_at {q j : Nat} (h : kk_V q) (hn : 0 < q / 390625) (hj : j < 24) : kk_cal (kk_at q j) = kk_cal q := by
  rcases kk_V4 h with ⟨i, hi, rfl⟩ | ⟨a, i, ha, hi, rfl⟩ | ⟨a, b, i, ha, hb, hi, rfl⟩ | ⟨a, b, c, i, ha, hb, hc, hi, rfl⟩
  · rw [kk_d1 (by omega) (by omega) (by omega) (by omega)] at hn; omega
  · rw [kk_atD (by omega), kk_cal1 (by omega) (by omega), kk_cal1 (by omega) (by omega)]
  · rw [kk_atD (by omega), kk_cal2 (by omega) (by omega) (by omega), kk_cal2 (by omega) (by omega) (by omega)]
  · rw [kk_atD (by omega), kk_cal3 (by omega) (by omega) (by omega) (by omega), kk_cal3 (by omega) (by omega) (by omega) (by omega)]
theorem kk_cal_in {q t : Nat} (h : kk_V q) (hn : q / 390625 < 3) (ht : t < 24) : kk_cal (kk_in q t) = q := by
  rcases kk_V4 h with ⟨i, hi, rfl⟩ | ⟨a, i, ha, hi, rfl⟩ | ⟨a, b, i, ha, hb, hi, rfl⟩ | ⟨a, b, c, i, ha, hb, hc, hi, rfl⟩
  · rw [kk_in0 (by omega), kk_cal1 (by omega) (by omega)]
  · rw [kk_in1 (by omega) (by omega), kk_cal2 (by omega) (by omega) (by omega)]
  · rw [kk_in2 (by omega) (by omega) (by omega), kk_cal3 (by omega) (by omega) (by omega) (by omega)]
  · rw [kk_d1 (by omega) (by omega) (by omega) (by omega)] at hn; omega
theorem kk_in_n {q t : Nat} (h : kk_V q) (hn : q / 390625 < 3) (ht : t < 24) : kk_in q t / 390625 = q / 390625 + 1 := by
  rcases kk_V4 h with ⟨i, hi, rfl⟩ | ⟨a, i, ha, hi, rfl⟩ | ⟨a, b, i, ha, hb, hi, rfl⟩ | ⟨a, b, c, i, ha, hb, hc, hi, rfl⟩
  · rw [kk_in0 (by omega), kk_d1 (by omega) (by omega) (by omega) (by omega), kk_d1 (by omega) (by omega) (by omega) (by omega)]
  · rw [kk_in1 (by omega) (by omega), kk_d1 (by omega) (by omega) (by omega) (by omega), kk_d1 (by omega) (by omega) (by omega) (by omega)]
  · rw [kk_in2 (by omega) (by omega) (by omega), kk_d1 (by omega) (by omega) (by omega) (by omega), kk_d1 (by omega) (by omega) (by omega) (by omega)]
  · rw [kk_d1 (by omega) (by omega) (by omega) (by omega)] at hn; omega
theorem kk_in_i {q t : Nat} (h : kk_V q) (hn : q / 390625 < 3) (ht : t < 24) : kk_in q t % 25 = t := by
  rcases kk_V4 h with ⟨i, hi, rfl⟩ | ⟨a, i, ha, hi, rfl⟩ | ⟨a, b, i, ha, hb, hi, rfl⟩ | ⟨a, b, c, i, ha, hb, hc, hi, rfl⟩
  · rw [kk_in0 (by omega), kk_d5 (by omega)]
  · rw [kk_in1 (by omega) (by omega), kk_d5 (by omega)]
  · rw [kk_in2 (by omega) (by omega) (by omega), kk_d5 (by omega)]
  · rw [kk_d1 (by omega) (by omega) (by omega) (by omega)] at hn; omega
theorem kk_s25 {x y x' y' : Nat} (h : x * 25 + y < x' * 25 + y') (hy : y < 24) (hy' : y' < 24) : x < x' ∨ (x = x' ∧ y < y') := by omega
theorem kk_s24 {x y x' y' : Nat} (h : x < x' ∨ (x = x' ∧ y < y')) (hy : y < 24) (hy' : y' < 24) : x * 24 + y < x' * 24 + y' := by omega
theorem kk_lex {p q : Nat} (hp : kk_V p) (hq : kk_V q) (h : p < q) : kk_y p < kk_y q := by
  obtain ⟨n, a, b, c, i, hn, ha, hb, hc, hi, -, -, -, rfl⟩ := hp
  obtain ⟨n', a', b', c', i', hn', ha', hb', hc', hi', -, -, -, rfl⟩ := hq
  rw [kk_yD (by omega) (by omega) (by omega) (by omega), kk_yD (by omega) (by omega) (by omega) (by omega)]
  have e1 : ∀ n a b c i, kk_D n a b c i = (((n * 25 + a) * 25 + b) * 25 + c) * 25 + i := fun n a b c i => by unfold kk_D; omega
  have e2 : ∀ n a b c i, kk_E n a b c i = (((n * 24 + a) * 24 + b) * 24 + c) * 24 + i := fun n a b c i => by unfold kk_E; omega
  rw [e1, e1] at h
  rw [e2, e2]
  refine kk_s24 ?_ hi hi'
  rcases kk_s25 h hi hi' with h | ⟨h, h'⟩
  · refine Or.inl (kk_s24 ?_ hc hc')
    rcases kk_s25 h hc hc' with h | ⟨h, h'⟩
    · refine Or.inl (kk_s24 ?_ hb hb')
      rcases kk_s25 h hb hb' with h | ⟨h, h'⟩
      · refine Or.inl (kk_s24 ?_ ha ha')
        exact kk_s25 h ha ha'
      · refine Or.inr ⟨by omega, h'⟩
    · refine Or.inr ⟨by omega, h'⟩
  · refine Or.inr ⟨by omega, h'⟩
theorem kk_lexI {p q : Nat} (hp : kk_V p) (hq : kk_V q) : kk_y p < kk_y q ↔ p < q := by
  constructor
  · intro h
    rcases Nat.lt_trichotomy p q with z | z | z
    · exact z
    · subst z; omega
    · have := kk_lex hq hp z; omega
  · exact kk_lex hp hq
theorem kk_inj {p q : Nat} (hp : kk_V p) (hq : kk_V q) : kk_y p = kk_y q ↔ p = q := by
  constructor
  · intro h
    rcases Nat.lt_trichotomy p q with z | z | z
    · have := kk_lex hp hq z; omega
    · exact z
    · have := kk_lex hq hp z; omega
  · intro h; rw [h]
end
section
/-! walks of the methods that read no state, and of covers -/
section
variable {cn hn : Nat} {op fr tt tg ct pa be : Nat → Nat} {ar an : Nat → Int32}
variable {f_count f_handlers f_met f_waiting f_tooMany f_size f_height f_why f_found f_objects f_high f_at f_here f_steps f_outcome f_last f_ran : Int32} {a_parents a_ancestors a_begins a_ops a_operands a_froms a_tos a_targets a_catches a_keys a_heights a_faults a_table a_todo a_said a_sorted a_instruction a_values a_jumps a_caught a_caller a_mapped a_known a_types a_maps a_now a_sort a_made a_number a_ready : Nat → Int32}
variable {g_length g_handlers g_many g_there g_typed g_wrongNumber g_wrongPlace g_size g_why g_height g_objects g_line g_begun g_last g_end : Int32} {b_parent b_begin b_op b_arg b_from b_to b_target b_caught b_places b_heights b_gone b_worst b_frames b_maps b_high b_known b_mapped b_now b_sorts b_ints b_classes b_ready : Nat → Int32}
variable {post : Int32 → Prop}
theorem xx_out0 {j n : Nat} (hj : j < n) (hn : n < 2 ^ 31) (h : post 0) : wpX_out post (nI j) (nI n) := br_f (nI_pos (by omega)) (br_t (nI_lt hj hn) h)
theorem xx_outn {x y : Int32} (hx : x < 0) (h : post 1) : wpX_out post x y := br_t hx h
theorem xx_outg {x y : Int32} (hx : y ≤ x) (h : post 1) : wpX_out post x y := by
  by_cases z : x < 0
  · exact br_t z h
  · exact br_f z (br_f (Int32.not_lt.mpr hx) h)
theorem yy_in1 {j n : Nat} (hj : j < n) (hn : n < 2 ^ 31) (h : post 1) : wpY_in post (nI j) (nI n) := br_f (nI_pos (by omega)) (br_f (nI_ge hj hn) h)
theorem yy_inn {x y : Int32} (hx : x < 0) (h : post 0) : wpY_in post x y := br_t hx h
theorem yy_ing {x y : Int32} (hx : y ≤ x) (h : post 0) : wpY_in post x y := by
  by_cases z : x < 0
  · exact br_t z h
  · exact br_f z (br_t hx h)
theorem xx_takes {o : Nat} (ho : o < 20) (h : post (nI (aa_tk o))) : wpX_takes post (nI o) := by
  rcases aa_c20 ho with rfl | rfl | rfl | rfl | rfl | rfl | rfl | rfl | rfl | rfl | rfl | rfl | rfl | rfl | rfl | rfl | rfl | rfl | rfl | rfl
  all_goals
    unfold wpX_takes
    repeat (first | exact h | refine br_t (by decide) ?_ | refine br_f (by decide) ?_ | unfold wX_takes_33)
theorem xx_puts {o : Nat} (ho : o < 20) (h : post (nI (aa_pt o))) : wpX_puts post (nI o) := by
  rcases aa_c20 ho with rfl | rfl | rfl | rfl | rfl | rfl | rfl | rfl | rfl | rfl | rfl | rfl | rfl | rfl | rfl | rfl | rfl | rfl | rfl | rfl
  all_goals
    unfold wpX_puts
    repeat (first | exact h | refine br_t (by decide) ?_ | refine br_f (by decide) ?_)
theorem xx_falls {o : Nat} (ho : o < 20) (h : post (nI (aa_b2 (aa_fl o)))) : wpX_falls post (nI o) := by
  rcases aa_c20 ho with rfl | rfl | rfl | rfl | rfl | rfl | rfl | rfl | rfl | rfl | rfl | rfl | rfl | rfl | rfl | rfl | rfl | rfl | rfl | rfl
  all_goals
    unfold wpX_falls
    repeat (first | exact h | refine br_t (by decide) ?_ | refine br_f (by decide) ?_)
theorem xx_leads {o : Nat} (ho : o < 20) (h : post (nI (aa_b2 (aa_ld o)))) : wpX_leads post (nI o) := by
  rcases aa_c20 ho with rfl | rfl | rfl | rfl | rfl | rfl | rfl | rfl | rfl | rfl | rfl | rfl | rfl | rfl | rfl | rfl | rfl | rfl | rfl | rfl
  all_goals
    unfold wpX_leads
    repeat (first | exact h | refine br_t (by decide) ?_ | refine br_f (by decide) ?_)
theorem yy_takes {o : Nat} (ho : o < 20) (h : post (nI (aa_tk o))) : wpY_takes post (nI o) := by
  rcases aa_c20 ho with rfl | rfl | rfl | rfl | rfl | rfl | rfl | rfl | rfl | rfl | rfl | rfl | rfl | rfl | rfl | rfl | rfl | rfl | rfl | rfl
  all_goals
    unfold wpY_takes
    repeat (first | exact h | refine br_t (by decide) ?_ | refine br_f (by decide) ?_ | unfold wY_takes_26 | unfold wY_takes_38)
theorem yy_puts {o : Nat} (ho : o < 20) (h : post (nI (aa_pt o))) : wpY_puts post (nI o) := by
  rcases aa_c20 ho with rfl | rfl | rfl | rfl | rfl | rfl | rfl | rfl | rfl | rfl | rfl | rfl | rfl | rfl | rfl | rfl | rfl | rfl | rfl | rfl
  all_goals
    unfold wpY_puts
    repeat (first | exact h | refine br_t (by decide) ?_ | refine br_f (by decide) ?_)
theorem yy_jumps {o : Nat} (ho : o < 20) (h : post (nI (aa_b2 (aa_ld o)))) : wpY_jumps post (nI o) := by
  rcases aa_c20 ho with rfl | rfl | rfl | rfl | rfl | rfl | rfl | rfl | rfl | rfl | rfl | rfl | rfl | rfl | rfl | rfl | rfl | rfl | rfl | rfl
  all_goals
    unfold wpY_jumps
    repeat (first | exact h | refine br_t (by decide) ?_ | refine br_f (by decide) ?_)
theorem yy_goesBehind {o : Nat} (ho : o < 20) (h : post (nI (aa_b2 (aa_fl o)))) : wpY_goesBehind post (g_length, g_handlers, g_many, g_there, g_typed, g_wrongNumber, g_wrongPlace, g_size, g_why, g_height, g_objects, g_line, g_begun, g_last, g_end, b_parent, b_begin, b_op, b_arg, b_from, b_to, b_target, b_caught, b_places, b_heights, b_gone, b_worst, b_frames, b_maps, b_high, b_known, b_mapped, b_now, b_sorts, b_ints, b_classes, b_ready) (nI o) := by
  rcases aa_c20 ho with rfl | rfl | rfl | rfl | rfl | rfl | rfl | rfl | rfl | rfl | rfl | rfl | rfl | rfl | rfl | rfl | rfl | rfl | rfl | rfl
  all_goals
    unfold wpY_goesBehind
    dsimp only
    repeat (first | exact h | refine br_t (by decide) ?_ | refine br_f (by decide) ?_)
-- keys, the component
theorem xx_calls {q : Nat} (hq : q < 2 ^ 31) (h : post (nI (q / 390625))) : wpX_calls post (nI q) := by
  have e : nI q / (390625 : Int32) = nI (q / 390625) := pk_div (d := 390625) hq (by decide) (by decide)
  refine And.intro (by decide) ?_
  rw [e]; exact h
theorem xx_rem25 {q : Nat} (hq : q < 2 ^ 31) : nI q - nI q / 25 * 25 = nI (q % 25) := pk_rem (d := 25) hq (by decide) (by decide)
theorem xx_call {q k : Nat} (hq : q < 2 ^ 31) (hk : k < 3) (h : post (nI (kk_c q k))) : wpX_call post (nI q) (nI k) := by
  have e0 : nI q / (15625 : Int32) = nI (q / 15625) := pk_div (d := 15625) hq (by decide) (by decide)
  have e1 : nI q / (625 : Int32) = nI (q / 625) := pk_div (d := 625) hq (by decide) (by decide)
  have e2 : nI q / (25 : Int32) = nI (q / 25) := pk_div (d := 25) hq (by decide) (by decide)
  have : k = 0 ∨ k = 1 ∨ k = 2 := by omega
  rcases this with rfl | rfl | rfl
  · refine br_t (by decide) (And.intro (by decide) (And.intro (by decide) ?_))
    rw [e0, xx_rem25 (by omega)]; exact h
  · refine br_f (by decide) (br_t (by decide) (And.intro (by decide) (And.intro (by decide) ?_)))
    rw [e1, xx_rem25 (by omega)]; exact h
  · refine br_f (by decide) (br_f (by decide) (And.intro (by decide) (And.intro (by decide) ?_)))
    rw [e2, xx_rem25 (by omega)]; exact h
theorem xx_weight {k : Nat} (hk : k < 2 ^ 31) (h : post (nI (kk_w k))) : wpX_weight post (nI k) := by
  unfold kk_w at h
  refine pk_eq k 0 (fun z => ?_) (fun z => pk_eq k 1 (fun z1 => ?_) (fun z1 => ?_))
  · rw [if_pos z] at h; exact h
  · rw [if_neg z, if_pos z1] at h; exact h
  · rw [if_neg z, if_neg z1] at h; exact h
theorem xx_inside {q t : Nat} (hv : kk_V q) (ht : t < 24) (h : post (nI (kk_in q t))) : wpX_inside post (nI q) (nI t) := by
  have hq := kk_Vlt hv
  have hn := kk_Vn hv
  refine xx_calls (by omega) (And.intro (by decide) (nm_r (xx_rem25 (by omega)) (xx_weight (by omega) ?_)))
  have e : nI q + 390625 + nI (kk_w (q / 390625)) * nI (q % 25) - nI (q % 25) + nI t = nI (kk_in q t) := by
    have : nI q + 390625 = nI (q + 390625) := nI_add q 390625
    have hw : q % 25 ≤ q + 390625 + kk_w (q / 390625) * (q % 25) := by omega
    rw [this, pk_mul, nI_add, pk_sub hw, nI_add]; rfl
  rw [e]; exact h
theorem kk_cal_le {q : Nat} (hv : kk_V q) (hn : 0 < q / 390625) : kk_w (q / 390625 - 1) * kk_c q (q / 390625 - 1) + q % 25 + 390625 ≤ q := by
  rcases kk_V4 hv with ⟨i, hi, rfl⟩ | ⟨a, i, ha, hi, rfl⟩ | ⟨a, b, i, ha, hb, hi, rfl⟩ | ⟨a, b, c, i, ha, hb, hc, hi, rfl⟩
  · rw [kk_d1 (by omega) (by omega) (by omega) (by omega)] at hn; omega
  · rw [kk_d1 (by omega) (by omega) (by omega) (by omega), kk_d5 (by omega)]
    show 15625 * (kk_D 1 a 0 0 i / 15625 % 25) + i + 390625 ≤ _
    rw [kk_d2 (by omega) (by omega) (by omega) (by omega)]; unfold kk_D; omega
  · rw [kk_d1 (by omega) (by omega) (by omega) (by omega), kk_d5 (by omega)]
    show 625 * (kk_D 2 a b 0 i / 625 % 25) + i + 390625 ≤ _
    rw [kk_d3 (by omega) (by omega) (by omega)]; unfold kk_D; omega
  · rw [kk_d1 (by omega) (by omega) (by omega) (by omega), kk_d5 (by omega)]
    show 25 * (kk_D 3 a b c i / 25 % 25) + i + 390625 ≤ _
    rw [kk_d4 (by omega) (by omega)]; unfold kk_D; omega
theorem xx_behind {q : Nat} (hv : kk_V q) (hn : 0 < q / 390625) (h : post (nI (kk_cal q + 1))) : wpX_behind post (nI q) := by
  have hq := kk_Vlt hv
  have hn3 := kk_Vn hv
  have hl := kk_cal_le hv hn
  have e1 : nI (q / 390625) - 1 = nI (q / 390625 - 1) := pk_sub (b := 1) (by omega)
  refine xx_calls (by omega) (nm_r e1 (xx_call (by omega) (by omega) (xx_weight (by omega) (And.intro (by decide) ?_))))
  have e : nI q - 390625 - nI (kk_w (q / 390625 - 1)) * nI (kk_c q (q / 390625 - 1)) - (nI q - nI q / 25 * 25) + nI (kk_c q (q / 390625 - 1)) + 1 = nI (kk_cal q + 1) := by
    have : nI q - 390625 = nI (q - 390625) := pk_sub (b := 390625) (by omega)
    rw [this, pk_mul, pk_sub (by omega), xx_rem25 (by omega), pk_sub (by omega), nI_add, nI_1]; rfl
  rw [e]; exact h
/-- whether a place's calls hold its own instruction -/
def pp_ag (q n i : Nat) : Bool := decide ((0 < n ∧ kk_c q 0 = i) ∨ (1 < n ∧ kk_c q 1 = i) ∨ (2 < n ∧ kk_c q 2 = i))
theorem pp_ag_t {q n i k : Nat} (hn : n ≤ 3) (hk : k < n) (h : kk_c q k = i) : pp_ag q n i = true := by
  have : k = 0 ∨ k = 1 ∨ k = 2 := by omega
  rcases this with rfl | rfl | rfl
  · exact decide_eq_true (Or.inl ⟨hk, h⟩)
  · exact decide_eq_true (Or.inr (Or.inl ⟨hk, h⟩))
  · exact decide_eq_true (Or.inr (Or.inr ⟨hk, h⟩))
theorem pp_ag_f {q n i : Nat} (h : ∀ k, k < n → kk_c q k ≠ i) : pp_ag q n i = false := by
  refine decide_eq_false ?_
  rintro (⟨a, b⟩ | ⟨a, b⟩ | ⟨a, b⟩)
  · exact h 0 a b
  · exact h 1 a b
  · exact h 2 a b
theorem xx_isAgain {q n i : Nat} (hv : kk_V q) (hn : n ≤ 3) (hi : i < 24) (h : post (nI (aa_b2 (pp_ag q n i)))) : wpX_isAgain post (nI q) (nI n) (nI i) := by
  have hq := kk_Vlt hv
  have key : ∀ d k, k + d = n → (∀ j, j < k → kk_c q j ≠ i) → wX_isAgain_2 post (nI q) (nI n) (nI i) (d + 1) (nI k) := by
    intro d
    induction d with
    | zero =>
      intro k hk hj
      refine br_t (nI_le (by omega) (by omega)) ?_
      rw [pp_ag_f (fun j z => hj j (by omega))] at h; exact h
    | succ d ih =>
      intro k hk hj
      have hc := kk_Vc hv k
      refine br_f (nI_ge (by omega) (by omega)) (xx_call (by omega) (by omega) (pk_eq (kk_c q k) i (fun z => ?_) (fun z => nm_r (nI_1 k) (ih (k + 1) (by omega) (fun j hj' => ?_)))))
      · rw [pp_ag_t hn (by omega) z] at h; exact h
      · rcases Nat.lt_or_ge j k with y | y
        · exact hj j y
        · have : j = k := by omega
          subst this; exact z
  exact ⟨n + 1, key n 0 (by omega) (fun j hj => by omega)⟩
-- keys, the reference
theorem yy_rem24 {q : Nat} (hq : q < 2 ^ 31) : nI q - nI q / 24 * 24 = nI (q % 24) := pk_rem (d := 24) hq (by decide) (by decide)
theorem yy_instruction {q : Nat} (hv : kk_V q) (h : post (nI (q % 25))) : wpY_instruction post (nI (kk_y q)) := by
  have hy := kk_ylt hv
  refine And.intro (by decide) ?_
  rw [yy_rem24 (by omega), kk_yi hv]; exact h
theorem yy_calls {q : Nat} (hv : kk_V q) (h : post (nI (q / 390625))) : wpY_calls post (nI (kk_y q)) := by
  have hy := kk_ylt hv
  have e : nI (kk_y q) / (331776 : Int32) = nI (kk_y q / 331776) := pk_div (d := 331776) (by omega) (by decide) (by decide)
  refine And.intro (by decide) ?_
  rw [e, kk_yn hv]; exact h
theorem yy_callOf {q k : Nat} (hv : kk_V q) (hk : k < 3) (h : post (nI (kk_c q k))) : wpY_callOf post (nI (kk_y q)) (nI k) := by
  have hy := kk_ylt hv
  have e0 : nI (kk_y q) / (13824 : Int32) = nI (kk_y q / 13824) := pk_div (d := 13824) (by omega) (by decide) (by decide)
  have e1 : nI (kk_y q) / (576 : Int32) = nI (kk_y q / 576) := pk_div (d := 576) (by omega) (by decide) (by decide)
  have e2 : nI (kk_y q) / (24 : Int32) = nI (kk_y q / 24) := pk_div (d := 24) (by omega) (by decide) (by decide)
  have : k = 0 ∨ k = 1 ∨ k = 2 := by omega
  rcases this with rfl | rfl | rfl
  · refine br_t (by decide) (And.intro (by decide) (And.intro (by decide) ?_))
    rw [e0, yy_rem24 (by omega), kk_yc0 hv]; exact h
  · refine br_f (by decide) (br_t (by decide) (And.intro (by decide) (And.intro (by decide) ?_)))
    rw [e1, yy_rem24 (by omega), kk_yc1 hv]; exact h
  · refine br_f (by decide) (br_f (by decide) (And.intro (by decide) (And.intro (by decide) ?_)))
    rw [e2, yy_rem24 (by omega), kk_yc2 hv]; exact h
theorem yy_weight {k : Nat} (hk : k < 2 ^ 31) (h : post (nI (kk_wy k))) : wpY_weight post (nI k) := by
  unfold kk_wy at h
  refine pk_eq k 0 (fun z => ?_) (fun z => pk_eq k 1 (fun z1 => ?_) (fun z1 => ?_))
  · rw [if_pos z] at h; exact h
  · rw [if_neg z, if_pos z1] at h; exact h
  · rw [if_neg z, if_neg z1] at h; exact h
theorem yy_at {q j : Nat} (hv : kk_V q) (hj : j < 24) (h : post (nI (kk_y (kk_at q j)))) : wpY_at post (nI (kk_y q)) (nI j) := by
  have hy := kk_ylt hv
  refine And.intro (by decide) ?_
  rw [yy_rem24 (by omega), pk_sub (by omega), nI_add, ← kk_yat hv hj]; exact h
theorem yy_deeper {q t : Nat} (hv : kk_V q) (hn : q / 390625 < 3) (ht : t < 24) (h : post (nI (kk_y (kk_in q t)))) : wpY_deeper post (nI (kk_y q)) (nI t) := by
  have hy := kk_ylt hv
  refine yy_calls hv (And.intro (by decide) (yy_instruction hv (yy_weight (by omega) ?_)))
  have e : nI (kk_y q - kk_y q % 24 + t) + 331776 = nI (kk_y q - kk_y q % 24 + t + 331776) := nI_add _ 331776
  rw [yy_rem24 (by omega), pk_sub (by omega), nI_add, e, pk_mul, nI_add, ← kk_yin hv hn ht]; exact h
theorem yy_caller {q : Nat} (hv : kk_V q) (hn : 0 < q / 390625) (h : post (nI (kk_y (kk_cal q)))) : wpY_caller post (nI (kk_y q)) := by
  have hy := kk_ylt hv
  have hn3 := kk_Vn hv
  have e1 : nI (q / 390625) - 1 = nI (q / 390625 - 1) := pk_sub (b := 1) (by omega)
  have hc := kk_Vc hv (q / 390625 - 1)
  have hcal := kk_ycal hv hn
  refine yy_calls hv (nm_r e1 (yy_callOf hv (by omega) (yy_at hv hc (yy_weight (by omega) ?_))))
  rw [kk_yat hv hc, hcal]
  have e : nI (kk_y (kk_cal q) + 331776 + kk_c q (q / 390625 - 1) * kk_wy (q / 390625 - 1)) - 331776 = nI (kk_y (kk_cal q) + kk_c q (q / 390625 - 1) * kk_wy (q / 390625 - 1)) := by
    rw [show (331776 : Int32) = nI 331776 from rfl, pk_sub (by omega)]
    exact congrArg nI (by omega)
  rw [e, pk_mul, pk_sub (by omega), Nat.add_sub_cancel]; exact h
-- covers
def pp_cv (fr tt : Nat → Nat) (x i : Nat) : Bool := decide (fr x ≤ i ∧ i < tt x)
theorem xx_covers {x i : Nat} (hx : x < 4) (hi : i < 24) (hf : fr x < 24) (ht : tt x ≤ 24) (h : post (nI (aa_b2 (pp_cv fr tt x i)))) : wpX_covers post ((nI cn), (nI hn), f_met, f_waiting, f_tooMany, f_size, f_height, f_why, f_found, f_objects, f_high, f_at, f_here, f_steps, f_outcome, f_last, f_ran, (aa_N pa), an, (aa_N be), (aa_N op), ar, (aa_N fr), (aa_N tt), (aa_N tg), (aa_N ct), a_keys, a_heights, a_faults, a_table, a_todo, a_said, a_sorted, a_instruction, a_values, a_jumps, a_caught, a_caller, a_mapped, a_known, a_types, a_maps, a_now, a_sort, a_made, a_number, a_ready) (nI x) (nI i) := by
  have ex : (nI x).toNatClampNeg = x := nI_clamp (by omega)
  refine And.intro (vp_in_nI hx (by decide)) ?_
  rw [ex]
  refine pk_lt i (fr x) (fun z => ?_) (fun z => And.intro (vp_in_nI hx (by decide)) (pk_le (tt x) i (fun y => ?_) (fun y => ?_)))
  · rw [show pp_cv fr tt x i = false from decide_eq_false (by omega)] at h; exact h
  · rw [show pp_cv fr tt x i = false from decide_eq_false (by omega)] at h; exact h
  · rw [show pp_cv fr tt x i = true from decide_eq_true (by omega)] at h; exact h
theorem yy_covers {x q : Nat} (hx : x < 4) (hv : kk_V q) (hf : fr x < 24) (ht : tt x ≤ 24) (h : post (nI (aa_b2 (pp_cv fr tt x (q % 25))))) : wpY_covers post ((nI cn), (nI hn), g_many, g_there, g_typed, g_wrongNumber, g_wrongPlace, g_size, g_why, g_height, g_objects, g_line, g_begun, g_last, g_end, (aa_N pa), (aa_N be), (aa_N op), ar, (aa_N fr), (aa_N tt), (aa_N tg), (aa_N ct), b_places, b_heights, b_gone, b_worst, b_frames, b_maps, b_high, b_known, b_mapped, b_now, b_sorts, b_ints, b_classes, b_ready) (nI x) (nI (kk_y q)) := by
  have ex : (nI x).toNatClampNeg = x := nI_clamp (by omega)
  have hi := kk_Vi hv
  refine And.intro (vp_in_nI hx (by decide)) (yy_instruction hv ?_)
  rw [ex]
  refine pk_lt (q % 25) (fr x) (fun z => ?_) (fun z => yy_instruction hv (And.intro (vp_in_nI hx (by decide)) (pk_le (tt x) (q % 25) (fun y => ?_) (fun y => ?_))))
  · rw [show pp_cv fr tt x (q % 25) = false from decide_eq_false (by omega)] at h; exact h
  · rw [show pp_cv fr tt x (q % 25) = false from decide_eq_false (by omega)] at h; exact h
  · rw [show pp_cv fr tt x (q % 25) = true from decide_eq_true (by omega)] at h; exact h
end
end
section
/-! counting, pigeons, bit masks, and the least set of places -/
noncomputable def ex_b (P : Prop) : Nat := @ite Nat P (Classical.propDecidable P) 1 0
theorem ex_bt {P : Prop} (h : P) : ex_b P = 1 := by unfold ex_b; rw [if_pos h]
theorem ex_bf {P : Prop} (h : ¬ P) : ex_b P = 0 := by unfold ex_b; rw [if_neg h]
theorem ex_ble (P : Prop) : ex_b P ≤ 1 := by
  rcases Classical.em P with h | h
  · rw [ex_bt h]; omega
  · rw [ex_bf h]; omega
theorem ex_bmono {P Q : Prop} (h : P → Q) : ex_b P ≤ ex_b Q := by
  rcases Classical.em P with hp | hp
  · rw [ex_bt hp, ex_bt (h hp)]; omega
  · rw [ex_bf hp]; omega
noncomputable def ex_cn (P : Nat → Prop) : Nat → Nat
  | 0 => 0
  | k + 1 => ex_cn P k + ex_b (P k)
theorem ex_cmono {P Q : Nat → Prop} : ∀ {N : Nat}, (∀ k, k < N → P k → Q k) → ex_cn P N ≤ ex_cn Q N
  | 0, _ => Nat.le_refl _
  | N + 1, h => by
    have a := ex_cmono (P := P) (Q := Q) (N := N) (fun k hk => h k (by omega))
    have b := ex_bmono (h N (by omega))
    simp only [ex_cn]; omega
theorem ex_clt {P Q : Nat → Prop} {a : Nat} (hp : ¬ P a) (hq : Q a) : ∀ {N : Nat}, (∀ k, k < N → P k → Q k) → a < N → ex_cn P N < ex_cn Q N
  | 0, _, h => by omega
  | N + 1, h, ha => by
    simp only [ex_cn]
    rcases Nat.lt_or_ge a N with z | z
    · have x := ex_clt hp hq (N := N) (fun k hk => h k (by omega)) z
      have b := ex_bmono (h N (by omega))
      omega
    · have e : a = N := by omega
      subst e
      have x := ex_cmono (P := P) (Q := Q) (N := a) (fun k hk => h k (by omega))
      rw [ex_bt hq, ex_bf hp]; omega
theorem ex_cle (P : Nat → Prop) : ∀ N, ex_cn P N ≤ N
  | 0 => Nat.le_refl _
  | N + 1 => by have := ex_cle P N; have := ex_ble (P N); simp only [ex_cn]; omega
theorem ex_ceq {P Q : Nat → Prop} {N : Nat} (h : ∀ k, k < N → (P k ↔ Q k)) : ex_cn P N = ex_cn Q N :=
  Nat.le_antisymm (ex_cmono fun k hk => (h k hk).mp) (ex_cmono fun k hk => (h k hk).mpr)
/-- one more element at most -/
theorem ex_c1 {P Q : Nat → Prop} {a : Nat} : ∀ {N : Nat}, (∀ k, k < N → k ≠ a → Q k → P k) → ex_cn Q N ≤ ex_cn P N + 1
  | 0, _ => Nat.zero_le _
  | N + 1, h => by
    simp only [ex_cn]
    rcases Classical.em (N = a) with e | e
    · have x := ex_cmono (P := Q) (Q := P) (N := N) (fun k hk => h k (by omega) (by omega))
      have := ex_ble (Q N); omega
    · have x := ex_c1 (P := P) (Q := Q) (a := a) (N := N) (fun k hk => h k (by omega))
      have := ex_bmono (h N (by omega) e); omega
theorem ex_call {P : Nat → Prop} : ∀ {N : Nat}, (∀ k, k < N → P k) → ex_cn P N = N
  | 0, _ => rfl
  | N + 1, h => by
    simp only [ex_cn]; rw [ex_call (N := N) (fun k hk => h k (by omega)), ex_bt (h N (by omega))]
/-- where fewer than N have it, one hasn't -/
theorem ex_cfree {P : Nat → Prop} {N : Nat} (h : ex_cn P N < N) : ∃ k, k < N ∧ ¬ P k := by
  rcases Classical.em (∃ k, k < N ∧ ¬ P k) with z | z
  · exact z
  · have := ex_call (P := P) (N := N) (fun k hk => Classical.byContradiction fun y => z ⟨k, hk, y⟩)
    omega
theorem ex_c0 {P : Nat → Prop} : ∀ {N : Nat}, (∀ k, k < N → ¬ P k) → ex_cn P N = 0
  | 0, _ => rfl
  | N + 1, h => by
    simp only [ex_cn]; rw [ex_c0 (N := N) (fun k hk => h k (by omega)), ex_bf (h N (by omega))]
theorem ex_pig : ∀ (n m : Nat) (f g : Nat → Nat), (∀ i j, i < m → j < m → f i = f j → i = j) → (∀ i, i < m → ∃ j, j < n ∧ g j = f i) → m ≤ n := by
  intro n
  induction n with
  | zero =>
    intro m f g hf hg
    rcases Nat.eq_zero_or_pos m with z | z
    · omega
    · obtain ⟨j, hj, -⟩ := hg 0 z; omega
  | succ n ih =>
    intro m f g hf hg
    rcases Classical.em (∃ i, i < m ∧ f i = g n) with ⟨i0, h0, e0⟩ | z
    · have := ih (m - 1) (fun i => if i = i0 then f (m - 1) else f i) g ?_ ?_
      · omega
      · intro i j hi hj e
        by_cases a : i = i0
        · by_cases b : j = i0
          · omega
          · rw [if_pos a, if_neg b] at e
            have := hf _ _ (by omega) (by omega) e; omega
        · by_cases b : j = i0
          · rw [if_neg a, if_pos b] at e
            have := hf _ _ (by omega) (by omega) e; omega
          · rw [if_neg a, if_neg b] at e
            exact hf _ _ (by omega) (by omega) e
      · intro i hi
        by_cases a : i = i0
        · rw [if_pos a]
          obtain ⟨j, hj, e⟩ := hg (m - 1) (by omega)
          rcases Nat.lt_or_ge j n with y | y
          · exact ⟨j, y, e⟩
          · have : j = n := by omega
            subst this
            have := hf _ _ h0 (by omega) (e0.trans e); omega
        · rw [if_neg a]
          obtain ⟨j, hj, e⟩ := hg i (by omega)
          rcases Nat.lt_or_ge j n with y | y
          · exact ⟨j, y, e⟩
          · have : j = n := by omega
            subst this
            have := hf _ _ h0 (by omega) (e0.trans e); omega
    · have := ih m f g hf (fun i hi => ?_)
      · omega
      · obtain ⟨j, hj, e⟩ := hg i hi
        rcases Nat.lt_or_ge j n with y | y
        · exact ⟨j, y, e⟩
        · have : j = n := by omega
          subst this
          exact absurd ⟨i, hi, e.symm⟩ z
theorem ex_inc {m : Nat} {f g : Nat → Nat} (hf : ∀ i j, i < j → j < m → f i < f j) (hg : ∀ i j, i < j → j < m → g i < g j) (hfg : ∀ i, i < m → ∃ j, j < m ∧ g j = f i) (hgf : ∀ i, i < m → ∃ j, j < m ∧ f j = g i) : ∀ i, i < m → f i = g i := by
  have key : ∀ n i, i < n → i < m → f i = g i := by
    intro n
    induction n with
    | zero => intro i hi; omega
    | succ n ih =>
      intro i hin him
      obtain ⟨j, hj, e⟩ := hfg i him
      obtain ⟨j', hj', e'⟩ := hgf i him
      have a : g i ≤ f i := by
        rcases Nat.lt_trichotomy j i with z | z | z
        · have := ih j (by omega) hj
          have := hf j i z him; omega
        · subst z; omega
        · have := hg i j z hj; omega
      have b : f i ≤ g i := by
        rcases Nat.lt_trichotomy j' i with z | z | z
        · have := ih j' (by omega) hj'
          have := hg j' i z him; omega
        · subst z; omega
        · have := hf i j' z hj'; omega
      omega
  exact fun i hi => key (i + 1) i (by omega) hi
-- masks of seven bits
def bm_lw (a : Nat) : Nat := if a.testBit 0 then 0 else if a.testBit 1 then 1 else if a.testBit 2 then 2 else if a.testBit 3 then 3 else if a.testBit 4 then 4 else if a.testBit 5 then 5 else if a.testBit 6 then 6 else 9
theorem bm_t : ∀ a, a < 128 → ∀ h, h < 7 → ((nI a >>> (nI h &&& 31)) &&& 1) = if a.testBit h then 1 else 0 := by decide +kernel
theorem bm_o : ∀ a, a < 128 → ∀ h, h < 7 → nI a ||| ((1 : Int32) <<< (nI h &&& 31)) = nI (a ||| 2 ^ h) ∧ a ||| 2 ^ h < 128 := by decide +kernel
theorem bm_sv : ∀ a, a < 128 → ((nI a &&& (nI a - 1)) = 0 ↔ ∀ i, i < 7 → ∀ j, j < 7 → a.testBit i = true → a.testBit j = true → i = j) := by decide +kernel
theorem bm_min : ∀ a, a < 128 → ∀ b, b < 128 → bm_lw (a ||| b) = min (bm_lw a) (bm_lw b) := by decide +kernel
theorem bm_lo : ∀ a, a < 128 → a ≠ 0 → bm_lw a < 7 ∧ a.testBit (bm_lw a) = true ∧ ∀ j, j < bm_lw a → a.testBit j = false := by decide +kernel
theorem bm_z : ∀ a, a < 128 → (∀ j, j < 7 → a.testBit j = false) → a = 0 := by decide +kernel
theorem bm_hi {a j : Nat} (ha : a < 128) (hj : 7 ≤ j) : a.testBit j = false := Nat.testBit_lt_two_pow (Nat.lt_of_lt_of_le ha ((Nat.pow_le_pow_right (n := 2) (by decide) hj : 2 ^ 7 ≤ 2 ^ j)))
theorem bm_ext {a b : Nat} (ha : a < 128) (hb : b < 128) (h : ∀ j, j < 7 → a.testBit j = b.testBit j) : a = b := by
  apply Nat.eq_of_testBit_eq
  intro j
  rcases Nat.lt_or_ge j 7 with z | z
  · exact h j z
  · rw [bm_hi ha z, bm_hi hb z]
theorem bm_ob (a h j : Nat) : (a ||| 2 ^ h).testBit j = (a.testBit j || decide (h = j)) := by rw [Nat.testBit_or, Nat.testBit_two_pow]
theorem bm_orlt {a b : Nat} (ha : a < 128) (hb : b < 128) : a ||| b < 128 := Nat.or_lt_two_pow (n := 7) ha hb
theorem bm_or (a b : Nat) : nI a ||| nI b = nI (a ||| b) := by
  apply b_ext
  intro i hi
  rw [b_or]
  unfold bt nI
  show ((BitVec.ofNat 32 a).getLsbD i || (BitVec.ofNat 32 b).getLsbD i) = (BitVec.ofNat 32 (a ||| b)).getLsbD i
  rw [BitVec.getLsbD_ofNat, BitVec.getLsbD_ofNat, BitVec.getLsbD_ofNat, Nat.testBit_or]
  cases decide (i < 32) <;> rfl
/-- what isn't gone yet -/
theorem bm_df {a b : Nat} (ha : a < 128) (hb : b < 128) : ∃ d, d < 128 ∧ (nI a &&& (nI b ^^^ (-1))) = nI d ∧ ∀ j, d.testBit j = (a.testBit j && !b.testBit j) := by
  refine ⟨a &&& (b ^^^ 4294967295), Nat.lt_of_le_of_lt Nat.and_le_left ha, ?_, fun j => ?_⟩
  · rw [show (-1 : Int32) = nI 4294967295 from by decide +kernel, nx_xor, nx_and]
  · rw [Nat.testBit_and, Nat.testBit_xor, show 4294967295 = 2 ^ 32 - 1 from rfl, Nat.testBit_two_pow_sub_one]
    rcases Nat.lt_or_ge j 32 with z | z
    · rw [decide_eq_true z]; cases b.testBit j <;> simp
    · rw [bm_hi ha (by omega)]; rfl
-- the least set
def ex_C (W : Nat → Nat → Nat) (Sc : Nat → Nat → Nat → Nat → Prop) (S : Nat → Nat → Prop) : Prop := S 0 0 ∧ ∀ q h, S q h → W q h = 0 → ∀ q' h', Sc q h q' h' → S q' h'
def ex_R (W : Nat → Nat → Nat) (Sc : Nat → Nat → Nat → Nat → Prop) (q h : Nat) : Prop := ∀ S, ex_C W Sc S → S q h
theorem ex_R0 {W : Nat → Nat → Nat} {Sc : Nat → Nat → Nat → Nat → Prop} : ex_R W Sc 0 0 := fun _ hS => hS.1
theorem ex_Rs {W : Nat → Nat → Nat} {Sc : Nat → Nat → Nat → Nat → Prop} {q h q' h' : Nat} (hr : ex_R W Sc q h) (hw : W q h = 0) (hs : Sc q h q' h') : ex_R W Sc q' h' := fun S hS => hS.2 q h (hr S hS) hw q' h' hs
-- the program's own
def pp_g (ar : Nat → Int32) (i : Nat) : Nat := (ar i).toNatClampNeg
def pp_lf (op : Nat → Nat) (q h : Nat) : Nat := h - aa_tk (op (q % 25)) + aa_pt (op (q % 25))
def pp_W (cn : Nat) (op : Nat → Nat) (q h : Nat) : Nat :=
  if (q % 25 + 1 = cn ∧ aa_fl (op (q % 25)) = true) ∨ (op (q % 25) = 16 ∧ 0 < q / 390625 ∧ kk_c q (q / 390625 - 1) + 1 = cn) then 1
  else if h < aa_tk (op (q % 25)) then 2
  else if 6 < pp_lf op q h then 3
  else if op (q % 25) = 15 ∧ (q / 390625 = 3 ∨ pp_ag q (q / 390625) (q % 25) = true) then 4
  else if op (q % 25) = 16 ∧ q / 390625 = 0 then 5 else 0
def pp_to (op : Nat → Nat) (ar : Nat → Int32) (q : Nat) : Nat := if op (q % 25) = 15 then kk_in q (pp_g ar (q % 25)) else if op (q % 25) = 16 then kk_cal q + 1 else kk_at q (pp_g ar (q % 25))
def pp_S (hn : Nat) (op fr tt tg : Nat → Nat) (ar : Nat → Int32) (q h q' h' : Nat) : Prop :=
  (∃ x, x < hn ∧ pp_cv fr tt x (q % 25) = true ∧ q' = kk_at q (tg x) ∧ h' = 1) ∨
  (aa_fl (op (q % 25)) = true ∧ q' = q + 1 ∧ h' = pp_lf op q h) ∨
  ((aa_ld (op (q % 25)) = true ∨ op (q % 25) = 16) ∧ q' = pp_to op ar q ∧ h' = pp_lf op q h)
def pp_fit (o : Nat) (a : Int32) : Prop := (o = 2 ∨ o = 3 ∨ o = 16 → ∃ n, n < 4 ∧ a = nI n) ∧ (o = 8 ∨ o = 10 ∨ o = 11 ∨ o = 18 → ∃ n, n < 8 ∧ a = nI n) ∧ (aa_ld o = true → ∃ n, n < 24 ∧ a = nI n)
/-- what the relation says of the program -/
def pp_P (cn hn : Nat) (op fr tt tg ct pa be : Nat → Nat) (ar : Nat → Int32) : Prop :=
  cn ≤ 24 ∧ hn ≤ 4 ∧ (∀ i, op i < 20) ∧ (∀ x, fr x < 24 ∧ tt x ≤ 24 ∧ tg x < 24 ∧ ct x < 8) ∧ (∀ c, pa c < 8 ∧ (0 < c → pa c < c)) ∧ (∀ l, be l < 11) ∧ (∀ i, pp_fit (op i) (ar i))
def pp_M (cn hn : Nat) (op tg : Nat → Nat) (ar : Nat → Int32) : Prop := 0 < cn ∧ (∀ i, i < cn → aa_ld (op i) = true → pp_g ar i < cn) ∧ (∀ x, x < hn → tg x < cn)
theorem pp_gn {ar : Nat → Int32} {i n : Nat} (h : ar i = nI n) (hn : n < 2 ^ 31) : pp_g ar i = n := by unfold pp_g; rw [h, nI_clamp hn]
section
variable {cn hn : Nat} {op fr tt tg ct pa be : Nat → Nat} {ar : Nat → Int32}
theorem pp_g4 (P : pp_P cn hn op fr tt tg ct pa be ar) {i : Nat} (h : op i = 2 ∨ op i = 3 ∨ op i = 16) : ar i = nI (pp_g ar i) ∧ pp_g ar i < 4 := by
  obtain ⟨n, hn, e⟩ := (P.2.2.2.2.2.2 i).1 h
  have := pp_gn e (by omega); rw [this]; exact ⟨e, hn⟩
theorem pp_g8 (P : pp_P cn hn op fr tt tg ct pa be ar) {i : Nat} (h : op i = 8 ∨ op i = 10 ∨ op i = 11 ∨ op i = 18) : ar i = nI (pp_g ar i) ∧ pp_g ar i < 8 := by
  obtain ⟨n, hn, e⟩ := (P.2.2.2.2.2.2 i).2.1 h
  have := pp_gn e (by omega); rw [this]; exact ⟨e, hn⟩
theorem pp_g24 (P : pp_P cn hn op fr tt tg ct pa be ar) {i : Nat} (h : aa_ld (op i) = true) : ar i = nI (pp_g ar i) ∧ pp_g ar i < 24 := by
  obtain ⟨n, hn, e⟩ := (P.2.2.2.2.2.2 i).2.2 h
  have := pp_gn e (by omega); rw [this]; exact ⟨e, hn⟩
theorem pp_ld15 {o : Nat} (h : o = 15) : aa_ld o = true := by subst h; decide
theorem pp_W0 {q h : Nat} (e : pp_W cn op q h = 0) : ¬ ((q % 25 + 1 = cn ∧ aa_fl (op (q % 25)) = true) ∨ (op (q % 25) = 16 ∧ 0 < q / 390625 ∧ kk_c q (q / 390625 - 1) + 1 = cn)) ∧ aa_tk (op (q % 25)) ≤ h ∧ pp_lf op q h ≤ 6 ∧ ¬ (op (q % 25) = 15 ∧ (q / 390625 = 3 ∨ pp_ag q (q / 390625) (q % 25) = true)) ∧ ¬ (op (q % 25) = 16 ∧ q / 390625 = 0) := by
  unfold pp_W at e
  split at e
  · omega
  · split at e
    · omega
    · split at e
      · omega
      · split at e
        · omega
        · split at e
          · omega
          · refine ⟨by assumption, by omega, by omega, by assumption, by assumption⟩
def pp_Q (cn q : Nat) : Prop := kk_V q ∧ q % 25 < cn
def pp_J (cn : Nat) (R : Nat → Nat → Prop) (p : Nat) : Prop := (∃ h, R p h) ∧ pp_Q cn p
/-- what holds of every place that is come to -/
def pp_I (cn : Nat) (R : Nat → Nat → Prop) (q h : Nat) : Prop := R q h ∧ h ≤ 6 ∧ pp_Q cn q ∧ (1 ≤ q / 390625 → pp_J cn R (kk_cal q)) ∧ (2 ≤ q / 390625 → pp_J cn R (kk_cal (kk_cal q))) ∧ (3 ≤ q / 390625 → pp_J cn R (kk_cal (kk_cal (kk_cal q))))
theorem pp_I_at {R : Nat → Nat → Prop} {q h j h' : Nat} (hc : cn ≤ 24) (hI : pp_I cn R q h) (hj : j < cn) (hr : R (kk_at q j) h') (hh : h' ≤ 6) : pp_I cn R (kk_at q j) h' := by
  obtain ⟨-, -, ⟨hv, -⟩, h1, h2, h3⟩ := hI
  have e := kk_at_n (q := q) (j := j) (by omega)
  refine ⟨hr, hh, ⟨kk_Vat hv (by omega), by rw [kk_at_i (by omega)]; exact hj⟩, ?_, ?_, ?_⟩
  · rw [e]; intro z; rw [kk_cal_at hv z (by omega)]; exact h1 z
  · rw [e]; intro z; rw [kk_cal_at hv (by omega) (by omega)]; exact h2 z
  · rw [e]; intro z; rw [kk_cal_at hv (by omega) (by omega)]; exact h3 z
theorem pp_RI (P : pp_P cn hn op fr tt tg ct pa be ar) (M : pp_M cn hn op tg ar) {q h : Nat} (hr : ex_R (pp_W cn op) (pp_S hn op fr tt tg ar) q h) : pp_I cn (ex_R (pp_W cn op) (pp_S hn op fr tt tg ar)) q h := by
  obtain ⟨hc, hh4, -, hx, -, -, -⟩ := id P
  refine hr (pp_I cn (ex_R (pp_W cn op) (pp_S hn op fr tt tg ar))) ⟨⟨ex_R0, by omega, ⟨kk_V0, M.1⟩, by omega, by omega, by omega⟩, ?_⟩
  intro q h hI hw q' h' hs
  have hr' := ex_Rs hI.1 hw hs
  obtain ⟨w1, w2, w3, w4, w5⟩ := pp_W0 hw
  rcases hs with ⟨x, hx4, hcv, rfl, rfl⟩ | ⟨hf, rfl, rfl⟩ | ⟨hf, rfl, rfl⟩
  · exact pp_I_at hc hI (M.2.2 x hx4) hr' (by omega)
  · have hi := hI.2.2.1.2
    have : q % 25 + 1 ≠ cn := fun z => w1 (Or.inl ⟨z, hf⟩)
    rw [kk_s_at] at hr' ⊢
    exact pp_I_at hc hI (by omega) hr' w3
  · obtain ⟨hR, -, ⟨hv, hi⟩, h1, h2, h3⟩ := id hI
    unfold pp_to at hr' ⊢
    by_cases o15 : op (q % 25) = 15
    · rw [if_pos o15] at hr' ⊢
      have hg : pp_g ar (q % 25) < cn := M.2.1 _ hi (pp_ld15 o15)
      have hn3 : q / 390625 < 3 := by
        have := kk_Vn hv
        have : q / 390625 ≠ 3 := fun z => w4 ⟨o15, Or.inl z⟩
        omega
      have en := kk_in_n hv hn3 (t := pp_g ar (q % 25)) (by omega)
      have ec := kk_cal_in hv hn3 (t := pp_g ar (q % 25)) (by omega)
      refine ⟨hr', w3, ⟨kk_Vin hv hn3 (by omega), by rw [kk_in_i hv hn3 (by omega)]; exact hg⟩, ?_, ?_, ?_⟩
      · rw [ec]; intro _; exact ⟨⟨h, hR⟩, hv, hi⟩
      · rw [ec, en]; intro z; exact h1 (by omega)
      · rw [ec, en]; intro z; exact h2 (by omega)
    · rw [if_neg o15] at hr' ⊢
      by_cases o16 : op (q % 25) = 16
      · rw [if_pos o16] at hr' ⊢
        have hn0 : 0 < q / 390625 := by
          have : q / 390625 ≠ 0 := fun z => w5 ⟨o16, z⟩
          omega
        obtain ⟨⟨hc', hcR⟩, hcV, hci⟩ := h1 hn0
        have en := kk_cal_n hv hn0
        have ei := kk_cal_i hv hn0
        have hne : kk_cal q % 25 + 1 ≠ cn := fun z => w1 (Or.inr ⟨o16, hn0, by rw [← ei]; exact z⟩)
        rw [kk_s_at] at hr' ⊢
        have at_n := kk_at_n (q := kk_cal q) (j := kk_cal q % 25 + 1) (by omega)
        refine ⟨hr', w3, ⟨kk_Vat hcV (by omega), by rw [kk_at_i (by omega)]; omega⟩, ?_, ?_, ?_⟩
        · rw [at_n, en]; intro z; rw [kk_cal_at hcV (by omega) (by omega)]; exact h2 (by omega)
        · rw [at_n, en]; intro z; rw [kk_cal_at hcV (by omega) (by omega)]; exact h3 (by omega)
        · rw [at_n, en]; intro z; have := kk_Vn hv; omega
      · rw [if_neg o16] at hr' ⊢
        have hld : aa_ld (op (q % 25)) = true := hf.resolve_right o16
        exact pp_I_at hc hI (M.2.1 _ hi hld) hr' w3
end
end
section
/-! the component's table, come, visit, explore -/
def xe_hs (q : Nat) : Nat := q * 31 / 8 % 128
def ex_wz (W : Nat → Nat → Nat) (q h : Nat) : Nat := if W q h = 0 then 9 else W q h
def ex_mw (W : Nat → Nat → Nat) (D : Nat → Nat → Prop) (q w : Nat) : Prop := (∀ h, D q h → w ≤ ex_wz W q h) ∧ (w = 9 ∨ ∃ h, D q h ∧ w = ex_wz W q h)
def xe_many (R : Nat → Nat → Prop) : Prop := ∃ f : Nat → Nat, (∀ i j, i < 41 → j < 41 → f i = f j → i = j) ∧ ∀ i, i < 41 → ∃ h, R (f i) h
def xe_pr (mt : Nat) (kq hb : Nat → Nat) (q h : Nat) : Prop := ∃ p, p < mt ∧ kq p = q ∧ (hb p).testBit h = true
def xe_tb (mt : Nat) (kq : Nat → Nat) (tb : Nat → Int32) : Prop :=
  (∀ j, j < 128 → tb j = -1 ∨ ∃ p, p < mt ∧ tb j = nI p) ∧ ex_cn (fun j => ¬ tb j < 0) 128 ≤ mt ∧
  (∀ p, p < mt → ∃ d, tb ((xe_hs (kq p) + d) % 128) = nI p ∧ ∀ d', d' < d → ¬ tb ((xe_hs (kq p) + d') % 128) < 0)
noncomputable def xe_cnt (mt : Nat) (hb : Nat → Nat) : Nat := ex_cn (fun x => x / 7 < mt ∧ (hb (x / 7)).testBit (x % 7) = true) 280
def xe_K (W : Nat → Nat → Nat) (R D Q : Nat → Nat → Prop) (mt wt : Nat) (keys heights faults table todo : Nat → Int32) (kq hb fb : Nat → Nat) : Prop :=
  mt ≤ 40 ∧ (∀ p, p < mt → keys p = nI (kq p) ∧ heights p = nI (hb p) ∧ hb p < 128 ∧ faults p = nI (fb p) ∧ fb p < 128 ∧ kk_V (kq p) ∧ ∃ h, R (kq p) h) ∧
  (∀ i j, i < mt → j < mt → kq i = kq j → i = j) ∧ xe_tb mt kq table ∧
  (∀ p h, p < mt → h < 7 → (hb p).testBit h = true → R (kq p) h ∧ (D (kq p) h ∨ ∃ w, w < wt ∧ todo w = nI (8 * p + h))) ∧
  (∀ w, w < wt → ∃ p h, p < mt ∧ h < 7 ∧ todo w = nI (8 * p + h) ∧ (hb p).testBit h = true) ∧
  wt ≤ xe_cnt mt hb ∧ (∀ q h, D q h → xe_pr mt kq hb q h) ∧ (∀ p, p < mt → ex_mw W D (kq p) (bm_lw (fb p))) ∧ (∀ q h, Q q h → xe_pr mt kq hb q h)
def xe_I (W : Nat → Nat → Nat) (R D Q : Nat → Nat → Prop) (B : Nat) (tm met waiting : Int32) (keys heights faults table todo : Nat → Int32) : Prop :=
  (tm = 1 ∧ xe_many R) ∨ (tm = 0 ∧ ∃ mt wt kq hb fb, met = nI mt ∧ waiting = nI wt ∧ xe_K W R D Q mt wt keys heights faults table todo kq hb fb ∧ 2 * (280 - xe_cnt mt hb) + wt ≤ B)
theorem xe_I_mono {W : Nat → Nat → Nat} {R D Q Q' : Nat → Nat → Prop} {B B' : Nat} {tm met waiting : Int32} {keys heights faults table todo : Nat → Int32}
    (h : xe_I W R D Q B tm met waiting keys heights faults table todo) (hq : ∀ a b, Q' a b → Q a b) (hB : B ≤ B') : xe_I W R D Q' B' tm met waiting keys heights faults table todo := by
  rcases h with h | ⟨h0, mt, wt, kq, hb, fb, e1, e2, K, hb'⟩
  · exact Or.inl h
  · obtain ⟨k1, k2, k3, k4, k5, k6, k7, k8, k9, k10⟩ := K
    exact Or.inr ⟨h0, mt, wt, kq, hb, fb, e1, e2, ⟨k1, k2, k3, k4, k5, k6, k7, k8, k9, fun q h z => k10 q h (hq q h z)⟩, by omega⟩
theorem xe_cnt_le (mt : Nat) (hb : Nat → Nat) : xe_cnt mt hb ≤ 280 := ex_cle _ _
theorem xe_hs_w {q : Nat} (hq : q < 1562500) : (((nI q * 31).toUInt32 >>> ((3 : Int32).toUInt32 &&& Int32.toUInt32 31)).toInt32) &&& 127 = nI (xe_hs q) := by
  have e : nI q * 31 = nI (q * 31) := pk_mul q 31
  rw [e, pk_ushrN (by omega) 3 3 (by decide), pk_andN (by omega) 7 (by decide)]; rfl
theorem xe_hs_lt (q : Nat) : xe_hs q < 128 := Nat.mod_lt _ (by decide)
section
variable {cn hn : Nat} {op fr tt tg ct pa be : Nat → Nat} {ar an : Nat → Int32}
variable {f_count f_handlers f_met f_waiting f_tooMany f_size f_height f_why f_found f_objects f_high f_at f_here f_steps f_outcome f_last f_ran : Int32} {a_parents a_ancestors a_begins a_ops a_operands a_froms a_tos a_targets a_catches a_keys a_heights a_faults a_table a_todo a_said a_sorted a_instruction a_values a_jumps a_caught a_caller a_mapped a_known a_types a_maps a_now a_sort a_made a_number a_ready : Nat → Int32}
theorem xe_spot_run {post : Int32 → Prop} {q h0 d : Nat} {g : Nat → Nat} (hq : q < 2 ^ 31) (hlt : h0 < 128) (hg : ∀ e, e ≤ d → ¬ a_table ((h0 + e) % 128) < 0 → a_table ((h0 + e) % 128) = nI (g e) ∧ g e < 41 ∧ ∃ k, k < 2 ^ 31 ∧ a_keys (g e) = nI k ∧ (k = q ↔ e = d)) (hb : ∀ e, e < d → ¬ a_table ((h0 + e) % 128) < 0)
    (h : post (nI ((h0 + d) % 128))) : ∀ e, e ≤ d → wX_spot_10 post (nI q) f_count f_handlers f_met f_waiting f_tooMany f_size f_height f_why f_found f_objects f_high f_at f_here f_steps f_outcome f_last f_ran a_parents a_ancestors a_begins a_ops a_operands a_froms a_tos a_targets a_catches a_keys a_heights a_faults a_table a_todo a_said a_sorted a_instruction a_values a_jumps a_caught a_caller a_mapped a_known a_types a_maps a_now a_sort a_made a_number a_ready (e + 1) (nI ((h0 + (d - e)) % 128)) := by
  intro e
  induction e with
  | zero =>
    intro _
    have ec : (nI ((h0 + (d - 0)) % 128)).toNatClampNeg = (h0 + d) % 128 := nI_clamp (by omega)
    refine And.intro (vp_in_nI (by omega) (by decide)) ?_
    rw [ec]
    refine br_c (fun _ => h) (fun z => ?_)
    obtain ⟨g1, g2, k, hk, g3, g4⟩ := hg d (Nat.le_refl d) z
    have ec2 : (a_table ((h0 + d) % 128)).toNatClampNeg = g d := by rw [g1]; exact nI_clamp (by omega)
    refine And.intro (vp_in_nI (by omega) (by decide)) (And.intro (by rw [g1]; exact vp_in_nI g2 (by decide)) ?_)
    rw [ec2, g3]
    exact br_t (by rw [g4.mpr rfl]) h
  | succ e ih =>
    intro he
    have hz := hb (d - (e + 1)) (by omega)
    have ec : (nI ((h0 + (d - (e + 1))) % 128)).toNatClampNeg = (h0 + (d - (e + 1))) % 128 := nI_clamp (by omega)
    obtain ⟨g1, g2, k, hk, g3, g4⟩ := hg (d - (e + 1)) (by omega) hz
    have ec2 : (a_table ((h0 + (d - (e + 1))) % 128)).toNatClampNeg = g (d - (e + 1)) := by rw [g1]; exact nI_clamp (by omega)
    refine And.intro (vp_in_nI (by omega) (by decide)) ?_
    rw [ec]
    refine br_f hz (And.intro (vp_in_nI (by omega) (by decide)) (And.intro (by rw [g1]; exact vp_in_nI g2 (by decide)) ?_))
    rw [ec2, g3]
    refine br_f (fun z => ?_) (nm_r (e' := nI ((h0 + (d - e)) % 128)) ?_ (ih (by omega)))
    · have := (nI_eq hk hq).mp z
      have := g4.mp this; omega
    · rw [nI_1, pk_andN (by omega) 7 (by decide)]
      exact congrArg nI (by omega)
theorem xe_spot {post : Int32 → Prop} {q mt : Nat} {kq : Nat → Nat} (hq : kk_V q) (hm : mt ≤ 40) (hk : ∀ p, p < mt → a_keys p = nI (kq p) ∧ kk_V (kq p)) (hd : ∀ i j, i < mt → j < mt → kq i = kq j → i = j) (T : xe_tb mt kq a_table)
    (Kf : ∀ j p, j < 128 → p < mt → a_table j = nI p → kq p = q → post (nI j))
    (Kn : ∀ d, a_table ((xe_hs q + d) % 128) = -1 → (∀ d', d' < d → ¬ a_table ((xe_hs q + d') % 128) < 0) → (∀ p, p < mt → kq p ≠ q) → post (nI ((xe_hs q + d) % 128))) : wpX_spot post (f_count, f_handlers, f_met, f_waiting, f_tooMany, f_size, f_height, f_why, f_found, f_objects, f_high, f_at, f_here, f_steps, f_outcome, f_last, f_ran, a_parents, a_ancestors, a_begins, a_ops, a_operands, a_froms, a_tos, a_targets, a_catches, a_keys, a_heights, a_faults, a_table, a_todo, a_said, a_sorted, a_instruction, a_values, a_jumps, a_caught, a_caller, a_mapped, a_known, a_types, a_maps, a_now, a_sort, a_made, a_number, a_ready) (nI q) := by
  obtain ⟨t1, t2, t3⟩ := T
  have hq' := kk_Vlt hq
  have hh := xe_hs_lt q
  have m1 : (-1 : Int32) < 0 := by decide
  refine nm_r (xe_hs_w hq') ?_
  have free : ∃ d, a_table ((xe_hs q + d) % 128) < 0 ∨ ∃ p, p < mt ∧ a_table ((xe_hs q + d) % 128) = nI p ∧ kq p = q := by
    obtain ⟨k, hk1, hk2⟩ := ex_cfree (P := fun j => ¬ a_table j < 0) (N := 128) (by omega)
    refine ⟨k + 128 - xe_hs q, Or.inl ?_⟩
    have : (xe_hs q + (k + 128 - xe_hs q)) % 128 = k := by omega
    rw [this]; exact Classical.byContradiction hk2
  obtain ⟨d, hd1, hd2⟩ := pk_least _ free
  have occ : ∀ e, e < d → ¬ a_table ((xe_hs q + e) % 128) < 0 := fun e he z => hd2 e he (Or.inl z)
  have gex : ∀ e, ∃ p, ¬ a_table ((xe_hs q + e) % 128) < 0 → p < mt ∧ a_table ((xe_hs q + e) % 128) = nI p := by
    intro e
    rcases t1 ((xe_hs q + e) % 128) (by omega) with z | ⟨p, hp, z⟩
    · exact ⟨0, fun y => absurd (by rw [z]; exact m1) y⟩
    · exact ⟨p, fun _ => ⟨hp, z⟩⟩
  refine ⟨d + 1, ?_⟩
  have H1 : ∀ e, e ≤ d → ¬ a_table ((xe_hs q + e) % 128) < 0 → a_table ((xe_hs q + e) % 128) = nI ((gex e).choose) ∧ (gex e).choose < 41 ∧ ∃ k, k < 2 ^ 31 ∧ a_keys ((gex e).choose) = nI k ∧ (k = q ↔ e = d) := by
    intro e he z
    obtain ⟨c1, c2⟩ := (gex e).choose_spec z
    obtain ⟨c3, c4⟩ := hk _ c1
    have := kk_Vlt c4
    refine ⟨c2, by omega, kq (gex e).choose, by omega, c3, fun y => ?_, fun y => ?_⟩
    · rcases Nat.lt_or_ge e d with x | x
      · exact absurd (Or.inr ⟨_, c1, c2, y⟩) (hd2 e x)
      · omega
    · subst y
      rcases hd1 with x | ⟨p, hp, x1, x2⟩
      · exact absurd x z
      · have : p = (gex e).choose := by
          have := x1.symm.trans c2
          exact (nI_eq (by omega) (by omega)).mp this
        rw [← this]; exact x2
  have H2 : post (nI ((xe_hs q + d) % 128)) := by
    rcases t1 ((xe_hs q + d) % 128) (by omega) with z | ⟨p, hp, z⟩
    · refine Kn d z occ (fun p hp y => ?_)
      obtain ⟨dp, e1, e2⟩ := t3 p hp
      rw [y] at e1 e2
      rcases Nat.lt_trichotomy dp d with x | x | x
      · exact hd2 dp x (Or.inr ⟨p, hp, e1, y⟩)
      · subst x
        rw [z] at e1
        have := nI_pos (n := p) (by omega)
        rw [← e1] at this; exact this m1
      · have := e2 d x
        rw [z] at this; exact this m1
    · rcases hd1 with x | ⟨p', hp', x1, x2⟩
      · rw [z] at x; exact absurd x (nI_pos (by omega))
      · exact Kf _ p' (by omega) hp' x1 x2
  have key : wX_spot_10 post (nI q) f_count f_handlers f_met f_waiting f_tooMany f_size f_height f_why f_found f_objects f_high f_at f_here f_steps f_outcome f_last f_ran a_parents a_ancestors a_begins a_ops a_operands a_froms a_tos a_targets a_catches a_keys a_heights a_faults a_table a_todo a_said a_sorted a_instruction a_values a_jumps a_caught a_caller a_mapped a_known a_types a_maps a_now a_sort a_made a_number a_ready (d + 1) (nI ((xe_hs q + (d - d)) % 128)) := xe_spot_run (g := fun e => (gex e).choose) (by omega) hh H1 occ H2 d (Nat.le_refl d)
  rw [show (xe_hs q + (d - d)) % 128 = xe_hs q from by omega] at key
  exact key
theorem xe_c86 {post : SX → Prop} {p h j b wt : Nat} (hj : j < 128) (hp : p < 41) (hh : h < 7) (ht : a_table j = nI p) (hb : a_heights p = nI b) (hb8 : b < 128) (hw : wt < 300)
    (K0 : b.testBit h = true → post (f_count, f_handlers, f_met, (nI wt), f_tooMany, f_size, f_height, f_why, f_found, f_objects, f_high, f_at, f_here, f_steps, f_outcome, f_last, f_ran, a_parents, a_ancestors, a_begins, a_ops, a_operands, a_froms, a_tos, a_targets, a_catches, a_keys, a_heights, a_faults, a_table, a_todo, a_said, a_sorted, a_instruction, a_values, a_jumps, a_caught, a_caller, a_mapped, a_known, a_types, a_maps, a_now, a_sort, a_made, a_number, a_ready)) (K1 : b.testBit h = false → post (f_count, f_handlers, f_met, (nI (wt + 1)), f_tooMany, f_size, f_height, f_why, f_found, f_objects, f_high, f_at, f_here, f_steps, f_outcome, f_last, f_ran, a_parents, a_ancestors, a_begins, a_ops, a_operands, a_froms, a_tos, a_targets, a_catches, a_keys, (upd a_heights p (nI (b ||| 2 ^ h))), a_faults, a_table, (upd a_todo wt (nI (8 * p + h))), a_said, a_sorted, a_instruction, a_values, a_jumps, a_caught, a_caller, a_mapped, a_known, a_types, a_maps, a_now, a_sort, a_made, a_number, a_ready)) : wX_come_86 post (nI h) (nI j) f_count f_handlers f_met (nI wt) f_tooMany f_size f_height f_why f_found f_objects f_high f_at f_here f_steps f_outcome f_last f_ran a_parents a_ancestors a_begins a_ops a_operands a_froms a_tos a_targets a_catches a_keys a_heights a_faults a_table a_todo a_said a_sorted a_instruction a_values a_jumps a_caught a_caller a_mapped a_known a_types a_maps a_now a_sort a_made a_number a_ready := by
  have ej : (nI j).toNatClampNeg = j := nI_clamp (by omega)
  have ep : (nI p).toNatClampNeg = p := nI_clamp (by omega)
  have ew : (nI wt).toNatClampNeg = wt := nI_clamp (by omega)
  refine And.intro (vp_in_nI hj (by decide)) (nm_r (e' := nI p) (by rw [ej]; exact ht) (And.intro (vp_in_nI hp (by decide)) ?_))
  rw [ep, hb, bm_t b hb8 h hh, (bm_o b hb8 h hh).1]
  have hin := vp_in_nI hp (by decide)
  by_cases z : b.testBit h = true
  · rw [if_pos z]
    exact br_f (by decide) (K0 z)
  · rw [if_neg z]
    refine br_t rfl (And.intro hin (And.intro hin (nm_r (e' := upd a_heights p (nI (b ||| 2 ^ h))) ?_ (nm_r (nI_1 wt) (And.intro (vp_in_nI hw (by decide)) (nm_r (e' := upd a_todo wt (nI (8 * p + h))) ?_ (K1 (ts_nt z))))))))
    · rw [aa_nb (bm_o b hb8 h hh).2]
    · rw [ew, show (8 : Int32) * nI p = nI (8 * p) from pk_mul 8 p, nI_add, aa_ns (by omega)]
end
end
section
/-! come keeps the picture -/
theorem xe_m1 : (-1 : Int32) < 0 := by decide
theorem xe_tb_new {mt q d : Nat} {kq : Nat → Nat} {tb : Nat → Int32} (T : xe_tb mt kq tb) (hm : mt < 40) (h1 : tb ((xe_hs q + d) % 128) = -1) (h2 : ∀ d', d' < d → ¬ tb ((xe_hs q + d') % 128) < 0) :
    xe_tb (mt + 1) (aa_up kq mt q) (upd tb ((xe_hs q + d) % 128) (nI mt)) := by
  obtain ⟨t1, t2, t3⟩ := T
  have ne : ∀ x, ¬ tb x < 0 → x ≠ (xe_hs q + d) % 128 := fun x hx e => by rw [e, h1] at hx; exact hx xe_m1
  refine ⟨fun j hj => ?_, ?_, fun p hp => ?_⟩
  · by_cases e : j = (xe_hs q + d) % 128
    · exact Or.inr ⟨mt, by omega, by rw [e, pk_us]⟩
    · rw [pk_un e]
      rcases t1 j hj with z | ⟨p, hp, z⟩
      · exact Or.inl z
      · exact Or.inr ⟨p, by omega, z⟩
  · have := ex_c1 (P := fun j => ¬ tb j < 0) (Q := fun j => ¬ upd tb ((xe_hs q + d) % 128) (nI mt) j < 0) (a := (xe_hs q + d) % 128) (N := 128) (fun k _ hk hq => by
      rw [pk_un hk] at hq; exact hq)
    omega
  · rcases Nat.lt_or_ge p mt with z | z
    · obtain ⟨e, e1, e2⟩ := t3 p z
      rw [aa_un (by omega)]
      refine ⟨e, ?_, fun d' hd' => ?_⟩
      · rw [pk_un (ne _ (by rw [e1]; exact nI_pos (by omega)))]; exact e1
      · rw [pk_un (ne _ (e2 d' hd'))]; exact e2 d' hd'
    · have : p = mt := by omega
      subst this
      rw [aa_us]
      refine ⟨d, pk_us, fun d' hd' => ?_⟩
      rw [pk_un (ne _ (h2 d' hd'))]; exact h2 d' hd'
section
variable {W : Nat → Nat → Nat} {R D Q : Nat → Nat → Prop} {mt wt : Nat} {keys heights faults table todo : Nat → Int32} {kq hb fb : Nat → Nat}
theorem xe_K_new {q d : Nat} (K : xe_K W R D Q mt wt keys heights faults table todo kq hb fb) (hm : mt < 40) (hv : kk_V q) (hr : ∃ h, R q h) (hn : ∀ p, p < mt → kq p ≠ q) (h1 : table ((xe_hs q + d) % 128) = -1) (h2 : ∀ d', d' < d → ¬ table ((xe_hs q + d') % 128) < 0) :
    xe_K W R D Q (mt + 1) wt (upd keys mt (nI q)) (upd heights mt (nI 0)) (upd faults mt (nI 0)) (upd table ((xe_hs q + d) % 128) (nI mt)) todo (aa_up kq mt q) (aa_up hb mt 0) (aa_up fb mt 0) ∧ xe_cnt (mt + 1) (aa_up hb mt 0) = xe_cnt mt hb := by
  obtain ⟨k1, k2, k3, k4, k5, k6, k7, k8, k9, k10⟩ := K
  have ec : xe_cnt (mt + 1) (aa_up hb mt 0) = xe_cnt mt hb := by
    refine ex_ceq (fun x _ => ⟨fun ⟨a, b⟩ => ?_, fun ⟨a, b⟩ => ⟨by omega, by rw [aa_un (by omega)]; exact b⟩⟩)
    by_cases e : x / 7 = mt
    · rw [e, aa_us, Nat.zero_testBit] at b; exact absurd b (by decide)
    · rw [aa_un e] at b; exact ⟨by omega, b⟩
  have pr : ∀ a b, xe_pr mt kq hb a b → xe_pr (mt + 1) (aa_up kq mt q) (aa_up hb mt 0) a b := fun a b ⟨p, p1, p2, p3⟩ => ⟨p, by omega, by rw [aa_un (by omega)]; exact p2, by rw [aa_un (by omega)]; exact p3⟩
  refine ⟨⟨by omega, fun p hp => ?_, fun i j hi hj e => ?_, xe_tb_new k4 hm h1 h2, fun p h hp hh hb' => ?_, fun w hw => ?_, by omega, fun a b z => pr a b (k8 a b z), fun p hp => ?_, fun a b z => pr a b (k10 a b z)⟩, ec⟩
  · by_cases e : p = mt
    · subst e
      rw [pk_us, pk_us, pk_us, aa_us, aa_us, aa_us]
      exact ⟨rfl, rfl, by decide, rfl, by decide, hv, hr⟩
    · rw [pk_un e, pk_un e, pk_un e, aa_un e, aa_un e, aa_un e]
      exact k2 p (by omega)
  · by_cases e1 : i = mt
    · by_cases e2 : j = mt
      · omega
      · rw [e1, aa_us, aa_un e2] at e
        exact absurd e.symm (hn j (by omega))
    · by_cases e2 : j = mt
      · rw [e2, aa_us, aa_un e1] at e
        exact absurd e (hn i (by omega))
      · rw [aa_un e1, aa_un e2] at e
        exact k3 i j (by omega) (by omega) e
  · by_cases e : p = mt
    · rw [e, aa_us, Nat.zero_testBit] at hb'; exact absurd hb' (by decide)
    · rw [aa_un e] at hb' ⊢
      exact k5 p h (by omega) hh hb'
  · obtain ⟨p, h, a1, a2, a3, a4⟩ := k6 w hw
    exact ⟨p, h, by omega, a2, a3, by rw [aa_un (by omega)]; exact a4⟩
  · by_cases e : p = mt
    · subst e
      rw [aa_us, aa_us]
      refine ⟨fun h hD => ?_, Or.inl rfl⟩
      obtain ⟨p', p1, p2, -⟩ := k8 q h hD
      exact absurd p2 (hn p' p1)
    · rw [aa_un e, aa_un e]; exact k9 p (by omega)
theorem xe_K_push {p h : Nat} (K : xe_K W R D Q mt wt keys heights faults table todo kq hb fb) (hp : p < mt) (hh : h < 7) (hb0 : (hb p).testBit h = false) (hr : R (kq p) h) :
    xe_K W R D (fun a b => Q a b ∨ (a = kq p ∧ b = h)) mt (wt + 1) keys (upd heights p (nI (hb p ||| 2 ^ h))) faults table (upd todo wt (nI (8 * p + h))) kq (aa_up hb p (hb p ||| 2 ^ h)) fb ∧ xe_cnt mt hb < xe_cnt mt (aa_up hb p (hb p ||| 2 ^ h)) := by
  obtain ⟨k1, k2, k3, k4, k5, k6, k7, k8, k9, k10⟩ := K
  obtain ⟨-, -, h8, -, -, -⟩ := k2 p hp
  have up : ∀ x y, (hb x).testBit y = true → (aa_up hb p (hb p ||| 2 ^ h) x).testBit y = true := by
    intro x y z
    by_cases e : x = p
    · subst e; rw [aa_us, bm_ob, z]; rfl
    · rw [aa_un e]; exact z
  have ec : xe_cnt mt hb < xe_cnt mt (aa_up hb p (hb p ||| 2 ^ h)) := by
    have e1 : (7 * p + h) / 7 = p := by omega
    have e2 : (7 * p + h) % 7 = h := by omega
    refine ex_clt (a := 7 * p + h) ?_ ?_ (fun x _ ⟨a, b⟩ => ⟨a, up _ _ b⟩) (by omega)
    · rw [e1, e2, hb0]; exact fun z => absurd z.2 (by decide)
    · rw [e1, e2, aa_us, bm_ob]; exact ⟨hp, by simp⟩
  have pr : ∀ a b, xe_pr mt kq hb a b → xe_pr mt kq (aa_up hb p (hb p ||| 2 ^ h)) a b := fun a b ⟨x, p1, p2, p3⟩ => ⟨x, p1, p2, up _ _ p3⟩
  refine ⟨⟨k1, fun x hx => ?_, k3, k4, fun x y hx hy hb' => ?_, fun w hw => ?_, by omega, fun a b z => pr a b (k8 a b z), k9, fun a b z => ?_⟩, ec⟩
  · obtain ⟨a1, a2, a3, a4⟩ := k2 x hx
    by_cases e : x = p
    · subst e; rw [pk_us, aa_us]; exact ⟨a1, rfl, (bm_o _ h8 h hh).2, a4⟩
    · rw [pk_un e, aa_un e]; exact ⟨a1, a2, a3, a4⟩
  · have old : (hb x).testBit y = true → R (kq x) y ∧ (D (kq x) y ∨ ∃ w, w < wt + 1 ∧ upd todo wt (nI (8 * p + h)) w = nI (8 * x + y)) := by
      intro z
      obtain ⟨r1, r2⟩ := k5 x y hx hy z
      refine ⟨r1, r2.imp id (fun ⟨w, w1, w2⟩ => ⟨w, by omega, ?_⟩)⟩
      rw [pk_un (by omega)]; exact w2
    by_cases e : x = p
    · subst e
      rw [aa_us, bm_ob] at hb'
      rcases Bool.or_eq_true _ _ |>.mp hb' with z | z
      · exact old z
      · have : h = y := of_decide_eq_true z
        subst this
        exact ⟨hr, Or.inr ⟨wt, by omega, pk_us⟩⟩
    · rw [aa_un e] at hb'; exact old hb'
  · rcases Nat.lt_or_ge w wt with z | z
    · obtain ⟨x, y, a1, a2, a3, a4⟩ := k6 w z
      exact ⟨x, y, a1, a2, by rw [pk_un (by omega)]; exact a3, up _ _ a4⟩
    · have : w = wt := by omega
      subst this
      exact ⟨p, h, hp, hh, pk_us, by rw [aa_us, bm_ob]; simp⟩
  · rcases z with z | ⟨rfl, rfl⟩
    · exact pr a b (k10 a b z)
    · exact ⟨p, hp, rfl, by rw [aa_us, bm_ob]; simp⟩
theorem xe_K_Q {Q' : Nat → Nat → Prop} (K : xe_K W R D Q mt wt keys heights faults table todo kq hb fb) (h : ∀ a b, Q' a b → xe_pr mt kq hb a b) : xe_K W R D Q' mt wt keys heights faults table todo kq hb fb := by
  obtain ⟨k1, k2, k3, k4, k5, k6, k7, k8, k9, k10⟩ := K
  exact ⟨k1, k2, k3, k4, k5, k6, k7, k8, k9, h⟩
end
section
variable {cn hn : Nat} {op fr tt tg ct pa be : Nat → Nat} {ar an : Nat → Int32}
variable {f_count f_handlers f_met f_waiting f_tooMany f_size f_height f_why f_found f_objects f_high f_at f_here f_steps f_outcome f_last f_ran : Int32} {a_parents a_ancestors a_begins a_ops a_operands a_froms a_tos a_targets a_catches a_keys a_heights a_faults a_table a_todo a_said a_sorted a_instruction a_values a_jumps a_caught a_caller a_mapped a_known a_types a_maps a_now a_sort a_made a_number a_ready : Nat → Int32}
variable {W : Nat → Nat → Nat} {R D Q : Nat → Nat → Prop}
theorem xe_come {post : SX → Prop} {q h B : Nat} (I : xe_I W R D Q B f_tooMany f_met f_waiting a_keys a_heights a_faults a_table a_todo) (hv : kk_V q) (hh : h < 7) (hr : R q h)
    (K : ∀ tm mt wt ks hs fs ts tds, xe_I W R D (fun a b => Q a b ∨ (a = q ∧ b = h)) B tm mt wt ks hs fs ts tds → post (f_count, f_handlers, mt, wt, tm, f_size, f_height, f_why, f_found, f_objects, f_high, f_at, f_here, f_steps, f_outcome, f_last, f_ran, a_parents, a_ancestors, a_begins, a_ops, a_operands, a_froms, a_tos, a_targets, a_catches, ks, hs, fs, ts, tds, a_said, a_sorted, a_instruction, a_values, a_jumps, a_caught, a_caller, a_mapped, a_known, a_types, a_maps, a_now, a_sort, a_made, a_number, a_ready)) : wpX_come post (f_count, f_handlers, f_met, f_waiting, f_tooMany, f_size, f_height, f_why, f_found, f_objects, f_high, f_at, f_here, f_steps, f_outcome, f_last, f_ran, a_parents, a_ancestors, a_begins, a_ops, a_operands, a_froms, a_tos, a_targets, a_catches, a_keys, a_heights, a_faults, a_table, a_todo, a_said, a_sorted, a_instruction, a_values, a_jumps, a_caught, a_caller, a_mapped, a_known, a_types, a_maps, a_now, a_sort, a_made, a_number, a_ready) (nI q) (nI h) := by
  rcases I with ⟨t1, many⟩ | ⟨t0, mt, wt, kq, hb, fb, em, ew, KK, hB⟩
  · subst t1
    exact br_f (by decide) (K 1 _ _ _ _ _ _ _ (Or.inl ⟨rfl, many⟩))
  · subst t0 em ew
    obtain ⟨k1, k2, k3, k4, k5, k6, k7, k8, k9, k10⟩ := id KK
    have hc := xe_cnt_le mt hb
    refine br_t rfl (xe_spot (mt := mt) (kq := kq) hv k1 (fun p hp => ⟨(k2 p hp).1, (k2 p hp).2.2.2.2.2.1⟩) k3 k4 (fun j p hj hp ht hk => ?_) (fun d h1 h2 hn => ?_))
    · have ej : (nI j).toNatClampNeg = j := nI_clamp (by omega)
      refine And.intro (vp_in_nI hj (by decide)) ?_
      rw [ej, ht]
      refine br_t (nI_pos' (by omega)) ?_
      subst hk
      refine xe_c86 hj (by omega) hh ht (k2 p hp).2.1 (k2 p hp).2.2.1 (by omega) (fun z => ?_) (fun z => ?_)
      · refine K 0 (nI mt) (nI wt) _ _ _ _ _ (Or.inr ⟨rfl, mt, wt, kq, hb, fb, rfl, rfl, xe_K_Q KK (fun a b y => ?_), hB⟩)
        rcases y with y | ⟨rfl, rfl⟩
        · exact k10 a b y
        · exact ⟨p, hp, rfl, z⟩
      · obtain ⟨K', hc'⟩ := xe_K_push KK hp hh z hr
        have := xe_cnt_le mt (aa_up hb p (hb p ||| 2 ^ h))
        exact K 0 (nI mt) (nI (wt + 1)) _ _ _ _ _ (Or.inr ⟨rfl, mt, wt + 1, kq, _, fb, rfl, rfl, K', by omega⟩)
    · have hlt : (xe_hs q + d) % 128 < 128 := Nat.mod_lt _ (by decide)
      have ej : (nI ((xe_hs q + d) % 128)).toNatClampNeg = (xe_hs q + d) % 128 := nI_clamp (by omega)
      have em : (nI mt).toNatClampNeg = mt := nI_clamp (by omega)
      refine And.intro (vp_in_nI hlt (by decide)) ?_
      rw [ej, h1]
      refine br_f (by decide) (pk_eq mt 40 (fun z => ?_) (fun z => ?_))
      · refine K 1 _ _ _ _ _ _ _ (Or.inl ⟨rfl, fun i => if i = 40 then q else kq i, fun i j hi hj e => ?_, fun i hi => ?_⟩)
        · dsimp only at e
          by_cases e1 : i = 40
          · by_cases e2 : j = 40
            · omega
            · rw [if_pos e1, if_neg e2] at e
              exact absurd e.symm (hn j (by omega))
          · by_cases e2 : j = 40
            · rw [if_neg e1, if_pos e2] at e
              exact absurd e (hn i (by omega))
            · rw [if_neg e1, if_neg e2] at e
              exact k3 i j (by omega) (by omega) e
        · dsimp only
          by_cases e1 : i = 40
          · rw [if_pos e1]; exact ⟨h, hr⟩
          · rw [if_neg e1]
            exact (k2 i (by omega)).2.2.2.2.2.2
      · obtain ⟨K1, c1⟩ := xe_K_new KK (by omega) hv ⟨h, hr⟩ hn h1 h2
        have hin := vp_in_nI (n := mt) (N := 41) (by omega) (by decide)
        rw [em]
        refine And.intro (vp_in_nI hlt (by decide)) (nm_r (e' := upd a_table ((xe_hs q + d) % 128) (nI mt)) (by rw [aa_nb (by omega)]) (And.intro hin (nm_e (And.intro hin (nm_r (e' := upd a_heights mt (nI 0)) (by rw [show vp_nar .byte 0 = nI 0 from aa_nb1 (n := 0) (by decide)]) (nm_r (nI_1 mt) (And.intro hin (nm_r (e' := upd a_faults mt (nI 0)) (by rw [show vp_nar .byte 0 = nI 0 from aa_nb1 (n := 0) (by decide)]) ?_))))))))
        have hz : (aa_up hb mt 0 mt).testBit h = false := by rw [aa_us]; exact Nat.zero_testBit h
        have hkq : aa_up kq mt q mt = q := aa_us
        obtain ⟨K2, c2⟩ := xe_K_push K1 (p := mt) (by omega) hh hz (by rw [hkq]; exact hr)
        rw [hkq] at K2
        have hc3 := xe_cnt_le (mt + 1) (aa_up (aa_up hb mt 0) mt (aa_up hb mt 0 mt ||| 2 ^ h))
        have e0 : aa_up hb mt 0 mt = 0 := aa_us
        rw [e0] at K2 c2 hc3
        exact xe_c86 (p := mt) (b := 0) hlt (by omega) hh pk_us pk_us (by decide) (by omega) (fun z => absurd z (by rw [Nat.zero_testBit]; decide)) (fun _ => K 0 (nI (mt + 1)) (nI (wt + 1)) _ _ _ _ _ (Or.inr ⟨rfl, mt + 1, wt + 1, aa_up kq mt q, aa_up (aa_up hb mt 0) mt (0 ||| 2 ^ h), aa_up fb mt 0, rfl, rfl, K2, by omega⟩))
end
end
section
/-! visit, explore -/
def xv_w (b1 b2 b3 b4 b5 : Bool) : Nat :=
  if b5 then (if b4 then (if b2 then (if b1 then 2 else 0) ||| 4 else if b3 then (if b1 then 2 else 0) ||| 8 else (if b1 then 2 else 0)) ||| 16 else (if b2 then (if b1 then 2 else 0) ||| 4 else if b3 then (if b1 then 2 else 0) ||| 8 else (if b1 then 2 else 0))) ||| 32
  else (if b4 then (if b2 then (if b1 then 2 else 0) ||| 4 else if b3 then (if b1 then 2 else 0) ||| 8 else (if b1 then 2 else 0)) ||| 16 else (if b2 then (if b1 then 2 else 0) ||| 4 else if b3 then (if b1 then 2 else 0) ||| 8 else (if b1 then 2 else 0)))
theorem xv_wl : ∀ b1 b2 b3 b4 b5 : Bool, bm_lw (xv_w b1 b2 b3 b4 b5) = (if b1 then 1 else if b2 then 2 else if b3 then 3 else if b4 then 4 else if b5 then 5 else 9) ∧ (xv_w b1 b2 b3 b4 b5 = 0 ↔ b1 = false ∧ b2 = false ∧ b3 = false ∧ b4 = false ∧ b5 = false) ∧ xv_w b1 b2 b3 b4 b5 < 128 := by decide
theorem xv_upd {f : Nat → Int32} {k : Nat} {v : Int32} (h : f k = v) : upd f k v = f := by
  funext j
  by_cases e : j = k
  · rw [e, pk_us, h]
  · rw [pk_un e]
section
variable {cn hn : Nat} {op fr tt tg ct pa be : Nat → Nat} {ar an : Nat → Int32}
variable {f_count f_handlers f_met f_waiting f_tooMany f_size f_height f_why f_found f_objects f_high f_at f_here f_steps f_outcome f_last f_ran : Int32} {a_parents a_ancestors a_begins a_ops a_operands a_froms a_tos a_targets a_catches a_keys a_heights a_faults a_table a_todo a_said a_sorted a_instruction a_values a_jumps a_caught a_caller a_mapped a_known a_types a_maps a_now a_sort a_made a_number a_ready : Nat → Int32}
variable {post : SX → Prop} {p q h i o n w : Nat} {x8 : Int32}
theorem xv_182 {b : Nat} (hp : p < 41) (hf : a_faults p = nI b) (hb : b < 128) (hw : w < 128) (K0 : w = 0 → ∃ n, wX_visit_203 post (nI q) (nI i) (nI o) x8 n 0 f_count f_handlers f_met f_waiting f_tooMany f_size f_height f_why f_found f_objects f_high f_at f_here f_steps f_outcome f_last f_ran a_parents a_ancestors a_begins a_ops a_operands a_froms a_tos a_targets a_catches a_keys a_heights a_faults a_table a_todo a_said a_sorted a_instruction a_values a_jumps a_caught a_caller a_mapped a_known a_types a_maps a_now a_sort a_made a_number a_ready) (K1 : w ≠ 0 → post (f_count, f_handlers, f_met, f_waiting, f_tooMany, f_size, f_height, f_why, f_found, f_objects, f_high, f_at, f_here, f_steps, f_outcome, f_last, f_ran, a_parents, a_ancestors, a_begins, a_ops, a_operands, a_froms, a_tos, a_targets, a_catches, a_keys, a_heights, (upd a_faults p (nI (b ||| w))), a_table, a_todo, a_said, a_sorted, a_instruction, a_values, a_jumps, a_caught, a_caller, a_mapped, a_known, a_types, a_maps, a_now, a_sort, a_made, a_number, a_ready)) : wX_visit_182 post (nI p) (nI q) (nI i) (nI o) (nI w) x8 f_count f_handlers f_met f_waiting f_tooMany f_size f_height f_why f_found f_objects f_high f_at f_here f_steps f_outcome f_last f_ran a_parents a_ancestors a_begins a_ops a_operands a_froms a_tos a_targets a_catches a_keys a_heights a_faults a_table a_todo a_said a_sorted a_instruction a_values a_jumps a_caught a_caller a_mapped a_known a_types a_maps a_now a_sort a_made a_number a_ready := by
  have ep : (nI p).toNatClampNeg = p := nI_clamp (by omega)
  have hin := vp_in_nI hp (by decide)
  refine And.intro hin (And.intro hin (nm_r (e' := upd a_faults p (nI (b ||| w))) (by rw [ep, hf, bm_or, aa_nb (bm_orlt hb hw)]) (pk_eq w 0 (fun z => ?_) (fun z => K1 z))))
  rw [z, Nat.or_zero, xv_upd hf]; exact K0 z
theorem xv_163 (ho : o < 20) (hn : n ≤ 3) (K : wX_visit_182 post (nI p) (nI q) (nI i) (nI o) (nI (if decide (o = 16 ∧ n = 0) then w ||| 32 else w)) x8 f_count f_handlers f_met f_waiting f_tooMany f_size f_height f_why f_found f_objects f_high f_at f_here f_steps f_outcome f_last f_ran a_parents a_ancestors a_begins a_ops a_operands a_froms a_tos a_targets a_catches a_keys a_heights a_faults a_table a_todo a_said a_sorted a_instruction a_values a_jumps a_caught a_caller a_mapped a_known a_types a_maps a_now a_sort a_made a_number a_ready) : wX_visit_163 post (nI p) (nI q) (nI i) (nI o) (nI n) (nI w) x8 f_count f_handlers f_met f_waiting f_tooMany f_size f_height f_why f_found f_objects f_high f_at f_here f_steps f_outcome f_last f_ran a_parents a_ancestors a_begins a_ops a_operands a_froms a_tos a_targets a_catches a_keys a_heights a_faults a_table a_todo a_said a_sorted a_instruction a_values a_jumps a_caught a_caller a_mapped a_known a_types a_maps a_now a_sort a_made a_number a_ready := by
  refine pk_eq o 16 (fun a => pk_eq n 0 (fun b => nm_r (e' := nI (w ||| 32)) (bm_or w 32) ?_) (fun b => ?_)) (fun a => ?_)
  · rw [if_pos (decide_eq_true ⟨a, b⟩)] at K; exact K
  · rw [if_neg (fun z => b (of_decide_eq_true z).2)] at K; exact K
  · rw [if_neg (fun z => a (of_decide_eq_true z).1)] at K; exact K
theorem xv_132 (hv : kk_V q) (hi : i < 24) (ho : o < 20) (hn : n ≤ 3) (K : wX_visit_163 post (nI p) (nI q) (nI i) (nI o) (nI n) (nI (if decide (o = 15 ∧ (n = 3 ∨ pp_ag q n i = true)) then w ||| 16 else w)) x8 f_count f_handlers f_met f_waiting f_tooMany f_size f_height f_why f_found f_objects f_high f_at f_here f_steps f_outcome f_last f_ran a_parents a_ancestors a_begins a_ops a_operands a_froms a_tos a_targets a_catches a_keys a_heights a_faults a_table a_todo a_said a_sorted a_instruction a_values a_jumps a_caught a_caller a_mapped a_known a_types a_maps a_now a_sort a_made a_number a_ready) : wX_visit_132 post (nI p) (nI q) (nI i) (nI o) (nI n) (nI w) x8 f_count f_handlers f_met f_waiting f_tooMany f_size f_height f_why f_found f_objects f_high f_at f_here f_steps f_outcome f_last f_ran a_parents a_ancestors a_begins a_ops a_operands a_froms a_tos a_targets a_catches a_keys a_heights a_faults a_table a_todo a_said a_sorted a_instruction a_values a_jumps a_caught a_caller a_mapped a_known a_types a_maps a_now a_sort a_made a_number a_ready := by
  refine pk_eq o 15 (fun a => pk_eq n 3 (fun b => nm_r (e' := nI (w ||| 16)) (bm_or w 16) ?_) (fun b => xx_isAgain hv hn hi ?_)) (fun a => ?_)
  · rw [if_pos (decide_eq_true ⟨a, Or.inl b⟩)] at K; exact K
  · by_cases z : pp_ag q n i = true
    · rw [z]
      refine br_f (by decide) (nm_r (e' := nI (w ||| 16)) (bm_or w 16) ?_)
      rw [if_pos (decide_eq_true ⟨a, Or.inr z⟩)] at K; exact K
    · rw [ts_nt z]
      refine br_t (by decide) ?_
      rw [if_neg (fun y => (of_decide_eq_true y).2.elim b z)] at K; exact K
  · rw [if_neg (fun z => a (of_decide_eq_true z).1)] at K; exact K
theorem xv_100 (ho : o < 20) (hh : h < 7) (h8 : aa_tk o ≤ h → x8 = nI (h - aa_tk o + aa_pt o)) (K : wX_visit_132 post (nI p) (nI q) (nI i) (nI o) (nI n) (nI (if decide (h < aa_tk o) then w ||| 4 else if decide (6 < h - aa_tk o + aa_pt o) then w ||| 8 else w)) x8 f_count f_handlers f_met f_waiting f_tooMany f_size f_height f_why f_found f_objects f_high f_at f_here f_steps f_outcome f_last f_ran a_parents a_ancestors a_begins a_ops a_operands a_froms a_tos a_targets a_catches a_keys a_heights a_faults a_table a_todo a_said a_sorted a_instruction a_values a_jumps a_caught a_caller a_mapped a_known a_types a_maps a_now a_sort a_made a_number a_ready) : wX_visit_100 post (nI p) (nI h) (nI q) (nI i) (nI o) (nI n) (nI w) x8 f_count f_handlers f_met f_waiting f_tooMany f_size f_height f_why f_found f_objects f_high f_at f_here f_steps f_outcome f_last f_ran a_parents a_ancestors a_begins a_ops a_operands a_froms a_tos a_targets a_catches a_keys a_heights a_faults a_table a_todo a_said a_sorted a_instruction a_values a_jumps a_caught a_caller a_mapped a_known a_types a_maps a_now a_sort a_made a_number a_ready := by
  have t2 := aa_tk2 o
  have p2 := aa_pt2 o
  refine xx_takes ho (pk_le (aa_tk o) h (fun a => ?_) (fun a => nm_r (e' := nI (w ||| 4)) (bm_or w 4) ?_))
  · rw [if_neg (fun z => by have := of_decide_eq_true z; omega)] at K
    refine pk_le (h - aa_tk o + aa_pt o) 6 (fun b => ?_) (fun b => nm_r (e' := nI (w ||| 8)) (bm_or w 8) ?_) (h8 a)
    · rw [if_neg (fun z => by have := of_decide_eq_true z; omega)] at K; exact K
    · rw [if_pos (decide_eq_true b)] at K; exact K
  · rw [if_pos (decide_eq_true a)] at K; exact K
theorem xv_visit {b : Nat} (hp : p < 41) (hk : a_keys p = nI q) (hv : kk_V q) (ho : op (q % 25) < 20) (hc0 : 0 < cn) (hc : cn ≤ 24) (hh : h < 7) (hf : a_faults p = nI b) (hb : b < 128)
    (Kw : pp_W cn op q h ≠ 0 → ∀ w, w < 128 → bm_lw w = pp_W cn op q h → post ((nI cn), (nI hn), f_met, f_waiting, f_tooMany, f_size, f_height, f_why, f_found, f_objects, f_high, f_at, f_here, f_steps, f_outcome, f_last, f_ran, (aa_N pa), an, (aa_N be), (aa_N op), ar, (aa_N fr), (aa_N tt), (aa_N tg), (aa_N ct), a_keys, a_heights, (upd a_faults p (nI (b ||| w))), a_table, a_todo, a_said, a_sorted, a_instruction, a_values, a_jumps, a_caught, a_caller, a_mapped, a_known, a_types, a_maps, a_now, a_sort, a_made, a_number, a_ready))
    (K0 : pp_W cn op q h = 0 → ∃ n, wX_visit_203 post (nI q) (nI (q % 25)) (nI (op (q % 25))) (nI (pp_lf op q h)) n 0 (nI cn) (nI hn) f_met f_waiting f_tooMany f_size f_height f_why f_found f_objects f_high f_at f_here f_steps f_outcome f_last f_ran (aa_N pa) an (aa_N be) (aa_N op) ar (aa_N fr) (aa_N tt) (aa_N tg) (aa_N ct) a_keys a_heights a_faults a_table a_todo a_said a_sorted a_instruction a_values a_jumps a_caught a_caller a_mapped a_known a_types a_maps a_now a_sort a_made a_number a_ready) : wpX_visit post ((nI cn), (nI hn), f_met, f_waiting, f_tooMany, f_size, f_height, f_why, f_found, f_objects, f_high, f_at, f_here, f_steps, f_outcome, f_last, f_ran, (aa_N pa), an, (aa_N be), (aa_N op), ar, (aa_N fr), (aa_N tt), (aa_N tg), (aa_N ct), a_keys, a_heights, a_faults, a_table, a_todo, a_said, a_sorted, a_instruction, a_values, a_jumps, a_caught, a_caller, a_mapped, a_known, a_types, a_maps, a_now, a_sort, a_made, a_number, a_ready) (nI p) (nI h) := by
  have ep : (nI p).toNatClampNeg = p := nI_clamp (by omega)
  have hq := kk_Vlt hv
  have hi := kk_Vi hv
  have hn3 := kk_Vn hv
  have ei : (nI (q % 25)).toNatClampNeg = q % 25 := nI_clamp (by omega)
  have t2 := aa_tk2 (op (q % 25))
  have p2 := aa_pt2 (op (q % 25))
  have e1 : nI cn - 1 = nI (cn - 1) := pk_sub (b := 1) (by omega)
  -- the end: whatever the bits are
  have fin : ∀ w x8, (aa_tk (op (q % 25)) ≤ h → x8 = nI (pp_lf op q h)) → w = xv_w (decide ((q % 25 + 1 = cn ∧ aa_fl (op (q % 25)) = true) ∨ (op (q % 25) = 16 ∧ 0 < q / 390625 ∧ kk_c q (q / 390625 - 1) + 1 = cn))) (decide (h < aa_tk (op (q % 25)))) (decide (6 < pp_lf op q h)) (decide (op (q % 25) = 15 ∧ (q / 390625 = 3 ∨ pp_ag q (q / 390625) (q % 25) = true))) (decide (op (q % 25) = 16 ∧ q / 390625 = 0)) →
      wX_visit_182 post (nI p) (nI q) (nI (q % 25)) (nI (op (q % 25))) (nI w) x8 (nI cn) (nI hn) f_met f_waiting f_tooMany f_size f_height f_why f_found f_objects f_high f_at f_here f_steps f_outcome f_last f_ran (aa_N pa) an (aa_N be) (aa_N op) ar (aa_N fr) (aa_N tt) (aa_N tg) (aa_N ct) a_keys a_heights a_faults a_table a_todo a_said a_sorted a_instruction a_values a_jumps a_caught a_caller a_mapped a_known a_types a_maps a_now a_sort a_made a_number a_ready := by
    intro w x8 h8 ew
    have eW : pp_W cn op q h = (if decide ((q % 25 + 1 = cn ∧ aa_fl (op (q % 25)) = true) ∨ (op (q % 25) = 16 ∧ 0 < q / 390625 ∧ kk_c q (q / 390625 - 1) + 1 = cn)) then 1 else if decide (h < aa_tk (op (q % 25))) then 2 else if decide (6 < pp_lf op q h) then 3 else if decide (op (q % 25) = 15 ∧ (q / 390625 = 3 ∨ pp_ag q (q / 390625) (q % 25) = true)) then 4 else if decide (op (q % 25) = 16 ∧ q / 390625 = 0) then 5 else 0) := by
      unfold pp_W; simp only [decide_eq_true_eq]
    obtain ⟨l1, l2, l3⟩ := xv_wl (decide ((q % 25 + 1 = cn ∧ aa_fl (op (q % 25)) = true) ∨ (op (q % 25) = 16 ∧ 0 < q / 390625 ∧ kk_c q (q / 390625 - 1) + 1 = cn))) (decide (h < aa_tk (op (q % 25)))) (decide (6 < pp_lf op q h)) (decide (op (q % 25) = 15 ∧ (q / 390625 = 3 ∨ pp_ag q (q / 390625) (q % 25) = true))) (decide (op (q % 25) = 16 ∧ q / 390625 = 0))
    rw [← ew] at l1 l2 l3
    refine xv_182 hp hf hb l3 (fun z => ?_) (fun z => ?_)
    · obtain ⟨z1, z2, z3, z4, z5⟩ := l2.mp z
      have w0 : pp_W cn op q h = 0 := by rw [eW, z1, z2, z3, z4, z5]; rfl
      rw [h8 (pp_W0 w0).2.1]
      exact K0 w0
    · have l2' := mt l2.mpr z
      refine Kw (fun w0 => ?_) w l3 ?_
      · obtain ⟨v1, v2, v3, v4, v5⟩ := pp_W0 w0
        exact l2' ⟨decide_eq_false v1, decide_eq_false (by omega), decide_eq_false (by omega), decide_eq_false v4, decide_eq_false v5⟩
      · rw [l1, eW]
        revert l2'
        generalize decide ((q % 25 + 1 = cn ∧ aa_fl (op (q % 25)) = true) ∨ (op (q % 25) = 16 ∧ 0 < q / 390625 ∧ kk_c q (q / 390625 - 1) + 1 = cn)) = b1
        generalize decide (h < aa_tk (op (q % 25))) = b2
        generalize decide (6 < pp_lf op q h) = b3
        generalize decide (op (q % 25) = 15 ∧ (q / 390625 = 3 ∨ pp_ag q (q / 390625) (q % 25) = true)) = b4
        generalize decide (op (q % 25) = 16 ∧ q / 390625 = 0) = b5
        revert b1 b2 b3 b4 b5
        decide
  have r100 : ∀ w, w = (if decide ((q % 25 + 1 = cn ∧ aa_fl (op (q % 25)) = true) ∨ (op (q % 25) = 16 ∧ 0 < q / 390625 ∧ kk_c q (q / 390625 - 1) + 1 = cn)) then 2 else 0) → wX_visit_100 post (nI p) (nI h) (nI q) (nI (q % 25)) (nI (op (q % 25))) (nI (q / 390625)) (nI w) (nI h - nI (aa_tk (op (q % 25))) + nI (aa_pt (op (q % 25)))) (nI cn) (nI hn) f_met f_waiting f_tooMany f_size f_height f_why f_found f_objects f_high f_at f_here f_steps f_outcome f_last f_ran (aa_N pa) an (aa_N be) (aa_N op) ar (aa_N fr) (aa_N tt) (aa_N tg) (aa_N ct) a_keys a_heights a_faults a_table a_todo a_said a_sorted a_instruction a_values a_jumps a_caught a_caller a_mapped a_known a_types a_maps a_now a_sort a_made a_number a_ready := by
    intro w ew
    have h8 : aa_tk (op (q % 25)) ≤ h → nI h - nI (aa_tk (op (q % 25))) + nI (aa_pt (op (q % 25))) = nI (h - aa_tk (op (q % 25)) + aa_pt (op (q % 25))) := fun z => by rw [pk_sub z, nI_add]
    refine xv_100 ho hh h8 (xv_132 hv hi ho hn3 (xv_163 ho hn3 (fin _ _ h8 ?_)))
    rw [ew]; rfl
  refine And.intro (vp_in_nI hp (by decide)) (nm_r (e' := nI q) (by rw [ep]; exact hk) (And.intro (by decide) (nm_r (xx_rem25 (by omega)) (And.intro (vp_in_nI hi (by decide)) (nm_r (e' := nI (op (q % 25))) (by rw [ei]; rfl) (xx_calls (by omega) (xx_takes ho (xx_puts ho (nm_e (xx_falls ho ?_))))))))))
  have r65 : (q % 25 + 1 = cn ∧ aa_fl (op (q % 25)) = true → False) → wX_visit_65 post (nI p) (nI h) (nI q) (nI (q % 25)) (nI (op (q % 25))) (nI (q / 390625)) 0 (nI h - nI (aa_tk (op (q % 25))) + nI (aa_pt (op (q % 25)))) (nI cn) (nI hn) f_met f_waiting f_tooMany f_size f_height f_why f_found f_objects f_high f_at f_here f_steps f_outcome f_last f_ran (aa_N pa) an (aa_N be) (aa_N op) ar (aa_N fr) (aa_N tt) (aa_N tg) (aa_N ct) a_keys a_heights a_faults a_table a_todo a_said a_sorted a_instruction a_values a_jumps a_caught a_caller a_mapped a_known a_types a_maps a_now a_sort a_made a_number a_ready := by
    intro nf
    refine pk_eq (op (q % 25)) 16 (fun a => pk_le (q / 390625) 0 (fun b => r100 0 ?_) (fun b => ?_)) (fun a => r100 0 ?_)
    · rw [if_neg]; intro z; rcases of_decide_eq_true z with z | z
      · exact nf z
      · omega
    · rw [show nI (q / 390625) - 1 = nI (q / 390625 - 1) from pk_sub (b := 1) (by omega), e1]
      have hcc := kk_Vc hv (q / 390625 - 1)
      refine xx_call (by omega) (by omega) (pk_eq (kk_c q (q / 390625 - 1)) (cn - 1) (fun d => nm_r (e' := nI 2) (bm_or 0 2) (r100 2 ?_)) (fun d => r100 0 ?_))
      · rw [if_pos (decide_eq_true (Or.inr ⟨a, b, by omega⟩))]
      · rw [if_neg]; intro z; rcases of_decide_eq_true z with z | z
        · exact nf z
        · omega
    · rw [if_neg]; intro z; rcases of_decide_eq_true z with z | z
      · exact nf z
      · exact a z.1
  by_cases f : aa_fl (op (q % 25)) = true
  · rw [f]
    refine br_f (by decide) ?_
    rw [e1]
    refine pk_eq (q % 25) (cn - 1) (fun d => nm_r (e' := nI 2) (bm_or 0 2) (r100 2 ?_)) (fun d => r65 (fun z => by omega))
    rw [if_pos (decide_eq_true (Or.inl ⟨by omega, f⟩))]
  · rw [ts_nt f]
    exact br_t (by decide) (r65 (fun z => f z.2))
end
end
section
/-! what visit comes to; explore whole -/
section
variable {cn hn : Nat} {op fr tt tg ct pa be : Nat → Nat} {ar an : Nat → Int32}
variable {f_count f_handlers f_met f_waiting f_tooMany f_size f_height f_why f_found f_objects f_high f_at f_here f_steps f_outcome f_last f_ran : Int32} {a_parents a_ancestors a_begins a_ops a_operands a_froms a_tos a_targets a_catches a_keys a_heights a_faults a_table a_todo a_said a_sorted a_instruction a_values a_jumps a_caught a_caller a_mapped a_known a_types a_maps a_now a_sort a_made a_number a_ready : Nat → Int32}
variable {post : SX → Prop} {D Q : Nat → Nat → Prop} {B q h : Nat}
theorem xv_325 {W : Nat → Nat → Nat} {R : Nat → Nat → Prop} {t l : Nat} (I : xe_I W R D Q B f_tooMany f_met f_waiting a_keys a_heights a_faults a_table a_todo) (hv : kk_V t) (hl : l < 7) (hr : R t l)
    (K : ∀ tm mt wt ks hs fs ts tds, xe_I W R D (fun a b => Q a b ∨ (a = t ∧ b = l)) B tm mt wt ks hs fs ts tds → post (f_count, f_handlers, mt, wt, tm, f_size, f_height, f_why, f_found, f_objects, f_high, f_at, f_here, f_steps, f_outcome, f_last, f_ran, a_parents, a_ancestors, a_begins, a_ops, a_operands, a_froms, a_tos, a_targets, a_catches, ks, hs, fs, ts, tds, a_said, a_sorted, a_instruction, a_values, a_jumps, a_caught, a_caller, a_mapped, a_known, a_types, a_maps, a_now, a_sort, a_made, a_number, a_ready)) : wX_visit_325 post (nI l) (nI t) f_count f_handlers f_met f_waiting f_tooMany f_size f_height f_why f_found f_objects f_high f_at f_here f_steps f_outcome f_last f_ran a_parents a_ancestors a_begins a_ops a_operands a_froms a_tos a_targets a_catches a_keys a_heights a_faults a_table a_todo a_said a_sorted a_instruction a_values a_jumps a_caught a_caller a_mapped a_known a_types a_maps a_now a_sort a_made a_number a_ready := by
  unfold wX_visit_325
  exact xe_come I hv hl hr (fun tm mt wt ks hs fs ts tds z => K tm mt wt ks hs fs ts tds z)
theorem xv_jump (hg : q % 25 ≤ q) (g : Nat) : nI q - nI (q % 25) + nI g = nI (kk_at q g) := by rw [pk_sub hg, nI_add]; rfl
theorem xv_263 (P : pp_P cn hn op fr tt tg ct pa be ar) (M : pp_M cn hn op tg ar) (hr : ex_R (pp_W cn op) (pp_S hn op fr tt tg ar) q h) (hw : pp_W cn op q h = 0)
    (I : xe_I (pp_W cn op) (ex_R (pp_W cn op) (pp_S hn op fr tt tg ar)) D Q B f_tooMany f_met f_waiting a_keys a_heights a_faults a_table a_todo)
    (K : ∀ tm mt wt ks hs fs ts tds, xe_I (pp_W cn op) (ex_R (pp_W cn op) (pp_S hn op fr tt tg ar)) D (fun a b => Q a b ∨ ((aa_ld (op (q % 25)) = true ∨ op (q % 25) = 16) ∧ a = pp_to op ar q ∧ b = pp_lf op q h)) B tm mt wt ks hs fs ts tds → post ((nI cn), (nI hn), mt, wt, tm, f_size, f_height, f_why, f_found, f_objects, f_high, f_at, f_here, f_steps, f_outcome, f_last, f_ran, (aa_N pa), an, (aa_N be), (aa_N op), ar, (aa_N fr), (aa_N tt), (aa_N tg), (aa_N ct), ks, hs, fs, ts, tds, a_said, a_sorted, a_instruction, a_values, a_jumps, a_caught, a_caller, a_mapped, a_known, a_types, a_maps, a_now, a_sort, a_made, a_number, a_ready)) :
    wX_visit_263 post (nI q) (nI (q % 25)) (nI (op (q % 25))) (nI (pp_lf op q h)) (nI cn) (nI hn) f_met f_waiting f_tooMany f_size f_height f_why f_found f_objects f_high f_at f_here f_steps f_outcome f_last f_ran (aa_N pa) an (aa_N be) (aa_N op) ar (aa_N fr) (aa_N tt) (aa_N tg) (aa_N ct) a_keys a_heights a_faults a_table a_todo a_said a_sorted a_instruction a_values a_jumps a_caught a_caller a_mapped a_known a_types a_maps a_now a_sort a_made a_number a_ready := by
  obtain ⟨w1, w2, w3, w4, w5⟩ := pp_W0 hw
  have hI := pp_RI P M hr
  obtain ⟨-, -, ⟨hv, hi⟩, -, -, -⟩ := hI
  have hc := P.1
  have ho := P.2.2.1 (q % 25)
  have ei : (nI (q % 25)).toNatClampNeg = q % 25 := nI_clamp (by omega)
  have hin := vp_in_nI (n := q % 25) (N := 24) (by omega) (by decide)
  have hle : q % 25 ≤ q := Nat.mod_le q 25
  have go : (aa_ld (op (q % 25)) = true ∨ op (q % 25) = 16) → ∀ x, x = nI (pp_to op ar q) → wX_visit_325 post (nI (pp_lf op q h)) x (nI cn) (nI hn) f_met f_waiting f_tooMany f_size f_height f_why f_found f_objects f_high f_at f_here f_steps f_outcome f_last f_ran (aa_N pa) an (aa_N be) (aa_N op) ar (aa_N fr) (aa_N tt) (aa_N tg) (aa_N ct) a_keys a_heights a_faults a_table a_todo a_said a_sorted a_instruction a_values a_jumps a_caught a_caller a_mapped a_known a_types a_maps a_now a_sort a_made a_number a_ready := by
    intro hj x ex
    subst ex
    have hs : pp_S hn op fr tt tg ar q h (pp_to op ar q) (pp_lf op q h) := Or.inr (Or.inr ⟨hj, rfl, rfl⟩)
    have hr' := ex_Rs hr hw hs
    obtain ⟨-, -, ⟨hv', -⟩, -, -, -⟩ := pp_RI P M hr'
    refine xv_325 I hv' (by omega) hr' (fun tm mt wt ks hs fs ts tds z => K tm mt wt ks hs fs ts tds (xe_I_mono z (fun a b y => ?_) (Nat.le_refl B)))
    rcases y with y | ⟨-, y1, y2⟩
    · exact Or.inl y
    · exact Or.inr ⟨y1, y2⟩
  have r310 : ∀ x, ((aa_ld (op (q % 25)) = true ∨ op (q % 25) = 16) → x = nI (pp_to op ar q)) → wX_visit_310 post (nI (op (q % 25))) (nI (pp_lf op q h)) x (nI cn) (nI hn) f_met f_waiting f_tooMany f_size f_height f_why f_found f_objects f_high f_at f_here f_steps f_outcome f_last f_ran (aa_N pa) an (aa_N be) (aa_N op) ar (aa_N fr) (aa_N tt) (aa_N tg) (aa_N ct) a_keys a_heights a_faults a_table a_todo a_said a_sorted a_instruction a_values a_jumps a_caught a_caller a_mapped a_known a_types a_maps a_now a_sort a_made a_number a_ready := by
    intro x ex
    refine xx_leads ho ?_
    by_cases l : aa_ld (op (q % 25)) = true
    · rw [l]
      exact br_f (by decide) (go (Or.inl l) x (ex (Or.inl l)))
    · rw [ts_nt l]
      refine br_t (by decide) (pk_eq (op (q % 25)) 16 (fun a => go (Or.inr a) x (ex (Or.inr a))) (fun a => ?_))
      refine K f_tooMany f_met f_waiting a_keys a_heights a_faults a_table a_todo (xe_I_mono I (fun x b y => ?_) (Nat.le_refl B))
      rcases y with y | ⟨y, -⟩
      · exact y
      · exact absurd y (fun z => z.elim l a)
  have r297 : ∀ x, (op (q % 25) ≠ 16 → aa_ld (op (q % 25)) = true → x = nI (pp_to op ar q)) → wX_visit_297 post (nI q) (nI (op (q % 25))) (nI (pp_lf op q h)) x (nI cn) (nI hn) f_met f_waiting f_tooMany f_size f_height f_why f_found f_objects f_high f_at f_here f_steps f_outcome f_last f_ran (aa_N pa) an (aa_N be) (aa_N op) ar (aa_N fr) (aa_N tt) (aa_N tg) (aa_N ct) a_keys a_heights a_faults a_table a_todo a_said a_sorted a_instruction a_values a_jumps a_caught a_caller a_mapped a_known a_types a_maps a_now a_sort a_made a_number a_ready := by
    intro x ex
    refine pk_eq (op (q % 25)) 16 (fun a => ?_) (fun a => r310 x (fun y => ex a (y.resolve_right a)))
    refine xx_behind hv (by have : q / 390625 ≠ 0 := fun z => w5 ⟨a, z⟩; omega) (r310 _ (fun _ => ?_))
    unfold pp_to; rw [if_neg (by omega), if_pos a]
  refine And.intro hin (nm_e (pk_eq (op (q % 25)) 15 (fun a => And.intro hin ?_) (fun a => r297 _ (fun b l => ?_))))
  · obtain ⟨g1, g2⟩ := pp_g24 P (i := q % 25) (pp_ld15 a)
    rw [ei, g1]
    refine xx_inside hv g2 (r297 _ (fun _ _ => ?_))
    unfold pp_to; rw [if_pos a]
  · obtain ⟨g1, g2⟩ := pp_g24 P (i := q % 25) l
    rw [ei, g1, xv_jump hle]
    unfold pp_to; rw [if_neg a, if_neg b]
theorem xv_203 (P : pp_P cn hn op fr tt tg ct pa be ar) (M : pp_M cn hn op tg ar) (hr : ex_R (pp_W cn op) (pp_S hn op fr tt tg ar) q h) (hw : pp_W cn op q h = 0)
    (K : ∀ tm mt wt ks hs fs ts tds, xe_I (pp_W cn op) (ex_R (pp_W cn op) (pp_S hn op fr tt tg ar)) D (fun a b => Q a b ∨ pp_S hn op fr tt tg ar q h a b) B tm mt wt ks hs fs ts tds → post ((nI cn), (nI hn), mt, wt, tm, f_size, f_height, f_why, f_found, f_objects, f_high, f_at, f_here, f_steps, f_outcome, f_last, f_ran, (aa_N pa), an, (aa_N be), (aa_N op), ar, (aa_N fr), (aa_N tt), (aa_N tg), (aa_N ct), ks, hs, fs, ts, tds, a_said, a_sorted, a_instruction, a_values, a_jumps, a_caught, a_caller, a_mapped, a_known, a_types, a_maps, a_now, a_sort, a_made, a_number, a_ready)) :
    ∀ d x, x + d = hn → ∀ f_tooMany f_met f_waiting a_keys a_heights a_faults a_table a_todo, xe_I (pp_W cn op) (ex_R (pp_W cn op) (pp_S hn op fr tt tg ar)) D (fun a b => Q a b ∨ ∃ y, y < x ∧ pp_cv fr tt y (q % 25) = true ∧ a = kk_at q (tg y) ∧ b = 1) B f_tooMany f_met f_waiting a_keys a_heights a_faults a_table a_todo →
    wX_visit_203 post (nI q) (nI (q % 25)) (nI (op (q % 25))) (nI (pp_lf op q h)) (d + 1) (nI x) (nI cn) (nI hn) f_met f_waiting f_tooMany f_size f_height f_why f_found f_objects f_high f_at f_here f_steps f_outcome f_last f_ran (aa_N pa) an (aa_N be) (aa_N op) ar (aa_N fr) (aa_N tt) (aa_N tg) (aa_N ct) a_keys a_heights a_faults a_table a_todo a_said a_sorted a_instruction a_values a_jumps a_caught a_caller a_mapped a_known a_types a_maps a_now a_sort a_made a_number a_ready := by
  have hI := pp_RI P M hr
  obtain ⟨-, -, ⟨hv, hi⟩, -, -, -⟩ := hI
  obtain ⟨hc, hh, hop, hx, -, -, -⟩ := id P
  obtain ⟨w1, w2, w3, w4, w5⟩ := pp_W0 hw
  have ho := hop (q % 25)
  have hle : q % 25 ≤ q := Nat.mod_le q 25
  intro d
  induction d with
  | zero =>
    intro x hxd f_tooMany f_met f_waiting a_keys a_heights a_faults a_table a_todo I
    refine br_t (nI_le (by omega) (by omega)) (xx_falls ho ?_)
    by_cases f : aa_fl (op (q % 25)) = true
    · rw [f]
      refine br_f (by decide) ?_
      have hs : pp_S hn op fr tt tg ar q h (q + 1) (pp_lf op q h) := Or.inr (Or.inl ⟨f, rfl, rfl⟩)
      have hr' := ex_Rs hr hw hs
      obtain ⟨-, -, ⟨hv', -⟩, -, -, -⟩ := pp_RI P M hr'
      rw [nI_1]
      refine xe_come I hv' (by omega) hr' (fun tm mt wt ks hs fs ts tds z => ?_)
      refine xv_263 P M hr hw z (fun tm mt wt ks hs fs ts tds z => K tm mt wt ks hs fs ts tds (xe_I_mono z (fun a b y => ?_) (Nat.le_refl B)))
      rcases y with y | ⟨x', y1, y2⟩ | y | y
      · exact Or.inl (Or.inl (Or.inl y))
      · exact Or.inl (Or.inl (Or.inr ⟨x', by omega, y2⟩))
      · exact Or.inl (Or.inr ⟨y.2.1, y.2.2⟩)
      · exact Or.inr y
    · rw [ts_nt f]
      refine br_t (by decide) ?_
      refine xv_263 P M hr hw I (fun tm mt wt ks hs fs ts tds z => K tm mt wt ks hs fs ts tds (xe_I_mono z (fun a b y => ?_) (Nat.le_refl B)))
      rcases y with y | ⟨x', y1, y2⟩ | y | y
      · exact Or.inl (Or.inl y)
      · exact Or.inl (Or.inr ⟨x', by omega, y2⟩)
      · exact absurd y.1 f
      · exact Or.inr y
  | succ d ih =>
    intro x hxd f_tooMany f_met f_waiting a_keys a_heights a_faults a_table a_todo I
    obtain ⟨x1, x2, x3, x4⟩ := hx x
    have ex : (nI x).toNatClampNeg = x := nI_clamp (by omega)
    refine br_f (nI_ge (by omega) (by omega)) (xx_covers (by omega) (by omega) x1 x2 ?_)
    by_cases c : pp_cv fr tt x (q % 25) = true
    · rw [c]
      refine br_f (by decide) (And.intro (vp_in_nI (by omega) (by decide)) ?_)
      rw [ex, show aa_N tg x = nI (tg x) from rfl, xv_jump hle]
      have hs : pp_S hn op fr tt tg ar q h (kk_at q (tg x)) 1 := Or.inl ⟨x, by omega, c, rfl, rfl⟩
      have hr' := ex_Rs hr hw hs
      refine xe_come (h := 1) I (kk_Vat hv (by omega)) (by omega) hr' (fun tm mt wt ks hs fs ts tds z => nm_r (nI_1 x) ?_)
      refine ih (x + 1) (by omega) tm mt wt ks hs fs ts tds (xe_I_mono z (fun a b y => ?_) (Nat.le_refl B))
      rcases y with y | ⟨y, y1, y2, y3⟩
      · exact Or.inl (Or.inl y)
      · rcases Nat.lt_or_ge y x with l | l
        · exact Or.inl (Or.inr ⟨y, l, y2, y3⟩)
        · have : y = x := by omega
          subst this
          exact Or.inr y3
    · rw [ts_nt c]
      refine br_t (by decide) (nm_r (nI_1 x) (ih (x + 1) (by omega) _ _ _ _ _ _ _ _ (xe_I_mono I (fun a b y => ?_) (Nat.le_refl B))))
      rcases y with y | ⟨y, y1, y2, y3⟩
      · exact Or.inl y
      · rcases Nat.lt_or_ge y x with l | l
        · exact Or.inr ⟨y, l, y2, y3⟩
        · have : y = x := by omega
          subst this
          exact absurd y2 c
end
/-- a pair is taken from the stack -/
theorem xe_K_pop {W : Nat → Nat → Nat} {R D Q : Nat → Nat → Prop} {mt wt : Nat} {keys heights faults table todo : Nat → Int32} {kq hb fb : Nat → Nat} {p h b : Nat}
    (K : xe_K W R D Q mt (wt + 1) keys heights faults table todo kq hb fb) (hp : p < mt) (hh : h < 7) (ht : todo wt = nI (8 * p + h)) (hbit : (hb p).testBit h = true) (hb8 : b < 128) (hw : bm_lw b = min (bm_lw (fb p)) (ex_wz W (kq p) h)) :
    xe_K W R (fun x y => D x y ∨ (x = kq p ∧ y = h)) Q mt wt keys heights (upd faults p (nI b)) table todo kq hb (aa_up fb p b) := by
  obtain ⟨k1, k2, k3, k4, k5, k6, k7, k8, k9, k10⟩ := K
  refine ⟨k1, fun x hx => ?_, k3, k4, fun x y hx hy hb' => ?_, fun w hw' => k6 w (by omega), by omega, fun a c z => ?_, fun x hx => ?_, k10⟩
  · obtain ⟨a1, a2, a3, a4, a5, a6⟩ := k2 x hx
    by_cases e : x = p
    · subst e; rw [pk_us, aa_us]; exact ⟨a1, a2, a3, rfl, hb8, a6⟩
    · rw [pk_un e, aa_un e]; exact ⟨a1, a2, a3, a4, a5, a6⟩
  · obtain ⟨r1, r2⟩ := k5 x y hx hy hb'
    refine ⟨r1, ?_⟩
    rcases r2 with z | ⟨w, w1, w2⟩
    · exact Or.inl (Or.inl z)
    · rcases Nat.lt_or_ge w wt with l | l
      · exact Or.inr ⟨w, l, w2⟩
      · have : w = wt := by omega
        subst this
        have := (nI_eq (by omega) (by omega)).mp (w2.symm.trans ht)
        have e1 : x = p := by omega
        have e2 : y = h := by omega
        subst e1 e2
        exact Or.inl (Or.inr ⟨rfl, rfl⟩)
  · rcases z with z | ⟨rfl, rfl⟩
    · exact k8 a c z
    · exact ⟨p, hp, rfl, hbit⟩
  · obtain ⟨m1, m2⟩ := k9 x hx
    by_cases e : x = p
    · subst e
      rw [aa_us, hw]
      refine ⟨fun y hy => ?_, ?_⟩
      · rcases hy with hy | ⟨-, rfl⟩
        · have := m1 y hy; omega
        · omega
      · rcases Nat.le_total (bm_lw (fb x)) (ex_wz W (kq x) h) with l | l
        · rw [Nat.min_eq_left l]
          rcases m2 with z | ⟨y, y1, y2⟩
          · exact Or.inl z
          · exact Or.inr ⟨y, Or.inl y1, y2⟩
        · rw [Nat.min_eq_right l]
          exact Or.inr ⟨h, Or.inr ⟨rfl, rfl⟩, rfl⟩
    · rw [aa_un e]
      have ne : kq x ≠ kq p := fun z => e (k3 x p hx hp z)
      refine ⟨fun y hy => m1 y (hy.resolve_right (fun z => ne z.1)), m2.imp id (fun ⟨y, y1, y2⟩ => ⟨y, Or.inl y1, y2⟩)⟩
/-- the end: all places with their heights -/
def xe_F (W : Nat → Nat → Nat) (R : Nat → Nat → Prop) (met : Int32) (keys heights faults table : Nat → Int32) : Prop :=
  ∃ (mt : Nat) (kq hb fb : Nat → Nat), met = nI mt ∧ mt ≤ 40 ∧ (∀ p, p < mt → keys p = nI (kq p) ∧ heights p = nI (hb p) ∧ hb p < 128 ∧ faults p = nI (fb p) ∧ fb p < 128 ∧ kk_V (kq p) ∧ ∃ h, R (kq p) h) ∧
  (∀ i j, i < mt → j < mt → kq i = kq j → i = j) ∧ xe_tb mt kq table ∧ (∀ p h, p < mt → ((hb p).testBit h = true ↔ R (kq p) h)) ∧ (∀ q h, R q h → ∃ p, p < mt ∧ kq p = q) ∧ (∀ p, p < mt → ex_mw W R (kq p) (bm_lw (fb p)))
theorem xe_end {W : Nat → Nat → Nat} {Sc : Nat → Nat → Nat → Nat → Prop} {D Q : Nat → Nat → Prop} {mt : Nat} {keys heights faults table todo : Nat → Int32} {kq hb fb : Nat → Nat}
    (K : xe_K W (ex_R W Sc) D Q mt 0 keys heights faults table todo kq hb fb) (h0 : Q 0 0) (hc : ∀ q h, D q h → W q h = 0 → ∀ q' h', Sc q h q' h' → Q q' h') : xe_F W (ex_R W Sc) (nI mt) keys heights faults table := by
  obtain ⟨k1, k2, k3, k4, k5, k6, k7, k8, k9, k10⟩ := K
  have bitD : ∀ p h, p < mt → (hb p).testBit h = true → ex_R W Sc (kq p) h ∧ D (kq p) h := by
    intro p h hp hb'
    have h7 : h < 7 := by
      rcases Nat.lt_or_ge h 7 with z | z
      · exact z
      · rw [bm_hi (k2 p hp).2.2.1 z] at hb'; exact absurd hb' (by decide)
    obtain ⟨r1, r2⟩ := k5 p h hp h7 hb'
    exact ⟨r1, r2.resolve_right (fun ⟨w, w1, _⟩ => absurd w1 (Nat.not_lt_zero w))⟩
  have prD : ∀ q h, xe_pr mt kq hb q h → D q h := fun q h ⟨p, p1, p2, p3⟩ => p2 ▸ (bitD p h p1 p3).2
  have RD : ∀ q h, ex_R W Sc q h → D q h := fun q h hr => hr D ⟨prD _ _ (k10 _ _ h0), fun q h hD hw q' h' hs => prD _ _ (k10 _ _ (hc q h hD hw q' h' hs))⟩
  have DR : ∀ q h, D q h → ex_R W Sc q h := fun q h hD => by
    obtain ⟨p, p1, p2, p3⟩ := k8 q h hD
    rw [← p2]; exact (bitD p h p1 p3).1
  refine ⟨mt, kq, hb, fb, rfl, k1, k2, k3, k4, fun p h hp => ⟨fun z => (bitD p h hp z).1, fun z => ?_⟩, fun q h z => ?_, fun p hp => ?_⟩
  · obtain ⟨p', p1, p2, p3⟩ := k8 _ _ (RD _ _ z)
    rw [← k3 p' p p1 hp p2]; exact p3
  · obtain ⟨p', p1, p2, -⟩ := k8 _ _ (RD _ _ z)
    exact ⟨p', p1, p2⟩
  · obtain ⟨m1, m2⟩ := k9 p hp
    exact ⟨fun h z => m1 h (RD _ _ z), m2.imp id (fun ⟨h, y1, y2⟩ => ⟨h, DR _ _ y1, y2⟩)⟩
section
variable {cn hn : Nat} {op fr tt tg ct pa be : Nat → Nat} {ar an : Nat → Int32}
variable {f_count f_handlers f_met f_waiting f_tooMany f_size f_height f_why f_found f_objects f_high f_at f_here f_steps f_outcome f_last f_ran : Int32} {a_parents a_ancestors a_begins a_ops a_operands a_froms a_tos a_targets a_catches a_keys a_heights a_faults a_table a_todo a_said a_sorted a_instruction a_values a_jumps a_caught a_caller a_mapped a_known a_types a_maps a_now a_sort a_made a_number a_ready : Nat → Int32}
variable {post : SX → Prop}
theorem xe_pq {p h : Nat} (hp : p < 41) (hh : h < 7) : nI (8 * p + h) >>> ((3 : Int32) &&& 31) = nI p ∧ nI (8 * p + h) &&& 7 = nI h := by
  constructor
  · rw [pk_shrN (by omega) _ 3 (by decide)]; exact congrArg nI (by omega)
  · rw [pk_andN (by omega) 3 (by decide)]; exact congrArg nI (by omega)
theorem xe_wz9 (W : Nat → Nat → Nat) (a : Nat) (q h : Nat) (hw : W q h = 0) : min (bm_lw a) (ex_wz W q h) = bm_lw a := by
  unfold ex_wz; rw [if_pos hw]
  refine Nat.min_eq_left ?_
  unfold bm_lw; (repeat' split) <;> omega
theorem xv_43 (P : pp_P cn hn op fr tt tg ct pa be ar) (M : pp_M cn hn op tg ar)
    (K1 : ∀ mt wt ks hs fs ts tds, xe_many (ex_R (pp_W cn op) (pp_S hn op fr tt tg ar)) → post ((nI cn), (nI hn), mt, wt, 1, f_size, f_height, f_why, f_found, f_objects, f_high, f_at, f_here, f_steps, f_outcome, f_last, f_ran, (aa_N pa), an, (aa_N be), (aa_N op), ar, (aa_N fr), (aa_N tt), (aa_N tg), (aa_N ct), ks, hs, fs, ts, tds, a_said, a_sorted, a_instruction, a_values, a_jumps, a_caught, a_caller, a_mapped, a_known, a_types, a_maps, a_now, a_sort, a_made, a_number, a_ready))
    (K0 : ∀ mt wt ks hs fs ts tds, xe_F (pp_W cn op) (ex_R (pp_W cn op) (pp_S hn op fr tt tg ar)) mt ks hs fs ts → post ((nI cn), (nI hn), mt, wt, 0, f_size, f_height, f_why, f_found, f_objects, f_high, f_at, f_here, f_steps, f_outcome, f_last, f_ran, (aa_N pa), an, (aa_N be), (aa_N op), ar, (aa_N fr), (aa_N tt), (aa_N tg), (aa_N ct), ks, hs, fs, ts, tds, a_said, a_sorted, a_instruction, a_values, a_jumps, a_caught, a_caller, a_mapped, a_known, a_types, a_maps, a_now, a_sort, a_made, a_number, a_ready)) :
    ∀ B D Q, Q 0 0 → (∀ q h, D q h → pp_W cn op q h = 0 → ∀ q' h', pp_S hn op fr tt tg ar q h q' h' → Q q' h') → ∀ f_tooMany f_met f_waiting a_keys a_heights a_faults a_table a_todo, xe_I (pp_W cn op) (ex_R (pp_W cn op) (pp_S hn op fr tt tg ar)) D Q B f_tooMany f_met f_waiting a_keys a_heights a_faults a_table a_todo → wX_explore_43 post (B + 1) (nI cn) (nI hn) f_met f_waiting f_tooMany f_size f_height f_why f_found f_objects f_high f_at f_here f_steps f_outcome f_last f_ran (aa_N pa) an (aa_N be) (aa_N op) ar (aa_N fr) (aa_N tt) (aa_N tg) (aa_N ct) a_keys a_heights a_faults a_table a_todo a_said a_sorted a_instruction a_values a_jumps a_caught a_caller a_mapped a_known a_types a_maps a_now a_sort a_made a_number a_ready := by
  intro B
  induction B with
  | zero =>
    intro D Q h0 hc f_tooMany f_met f_waiting a_keys a_heights a_faults a_table a_todo I
    rcases I with ⟨t1, many⟩ | ⟨t0, mt, wt, kq, hb, fb, em, ew, KK, hB⟩
    · subst t1
      exact br_c (fun _ => K1 _ _ _ _ _ _ _ many) (fun _ => br_f (by decide) (K1 _ _ _ _ _ _ _ many))
    · subst t0 em ew
      have : wt = 0 := by omega
      subst this
      exact br_t (by decide) (K0 _ _ _ _ _ _ _ (xe_end KK h0 hc))
  | succ B ih =>
    intro D Q h0 hc f_tooMany f_met f_waiting a_keys a_heights a_faults a_table a_todo I
    rcases I with ⟨t1, many⟩ | ⟨t0, mt, wt, kq, hb, fb, em, ew, KK, hB⟩
    · subst t1
      exact br_c (fun _ => K1 _ _ _ _ _ _ _ many) (fun _ => br_f (by decide) (K1 _ _ _ _ _ _ _ many))
    · subst t0 em ew
      rcases Nat.eq_zero_or_pos wt with z | z
      · subst z
        exact br_t (by decide) (K0 _ _ _ _ _ _ _ (xe_end KK h0 hc))
      · obtain ⟨wt, rfl⟩ : ∃ k, wt = k + 1 := ⟨wt - 1, by omega⟩
        have hcl := xe_cnt_le mt hb
        obtain ⟨k1, k2, k3, k4, k5, k6, k7, k8, k9, k10⟩ := id KK
        obtain ⟨p, h, hp, hh, ht, hbit⟩ := k6 wt (by omega)
        obtain ⟨a1, a2, a3, a4, a5, a6, a7⟩ := k2 p hp
        have hr := (k5 p h hp hh hbit).1
        have ew : (nI wt).toNatClampNeg = wt := nI_clamp (by omega)
        have hin := vp_in_nI (n := wt) (N := 300) (by omega) (by decide)
        obtain ⟨s1, s2⟩ := xe_pq (p := p) (by omega) hh
        refine br_f (nI_nle (by omega) (by omega)) (br_t rfl (nm_r (nI_pred wt) (And.intro hin (And.intro hin ?_))))
        rw [ew, ht, s1, s2]
        refine xv_visit (by omega) a1 a6 (P.2.2.1 _) M.1 P.1 hh a4 a5 (fun hw w hw8 hl => ?_) (fun hw => ?_)
        · have hK := xe_K_pop KK hp hh ht hbit (b := fb p ||| w) (bm_orlt a5 hw8) (by rw [bm_min _ a5 _ hw8, hl]; unfold ex_wz; rw [if_neg hw])
          refine ih _ Q h0 (fun q' h' hD hw' => ?_) _ _ _ _ _ _ _ _ (Or.inr ⟨rfl, mt, wt, kq, hb, _, rfl, rfl, hK, by omega⟩)
          rcases hD with hD | ⟨rfl, rfl⟩
          · exact hc q' h' hD hw'
          · exact absurd hw' hw
        · have hK := xe_K_pop KK hp hh ht hbit (b := fb p) a5 (xe_wz9 _ _ _ _ hw).symm
          rw [xv_upd a4] at hK
          refine ⟨hn + 1, xv_203 (D := fun x y => D x y ∨ (x = kq p ∧ y = h)) (Q := Q) (B := B) P M hr hw (fun tm mt wt ks hs fs ts tds I' => ih _ _ (Or.inl h0) (fun q' h' hD hw' a b hs' => ?_) tm mt wt ks hs fs ts tds I') hn 0 (by omega) _ _ _ _ _ _ _ _ (Or.inr ⟨rfl, mt, wt, kq, hb, _, rfl, rfl, xe_K_Q hK (fun a b y => ?_), by omega⟩)⟩
          · rcases hD with hD | ⟨rfl, rfl⟩
            · exact Or.inl (hc q' h' hD hw' a b hs')
            · exact Or.inr hs'
          · rcases y with y | ⟨y, y1, -⟩
            · exact k10 a b y
            · omega
theorem xv_17 {W : Nat → Nat → Nat} {R D Q : Nat → Nat → Prop} {B : Nat} (hI : ∀ ts, (∀ j, j < 128 → ts j = -1) → xe_I W R D Q B f_tooMany f_met f_waiting a_keys a_heights a_faults ts a_todo) (hr : R 0 0)
    (K : ∀ tm mt wt ks hs fs ts tds, xe_I W R D (fun a b => Q a b ∨ (a = 0 ∧ b = 0)) B tm mt wt ks hs fs ts tds → ∃ n43, wX_explore_43 post n43 f_count f_handlers mt wt tm f_size f_height f_why f_found f_objects f_high f_at f_here f_steps f_outcome f_last f_ran a_parents a_ancestors a_begins a_ops a_operands a_froms a_tos a_targets a_catches ks hs fs ts tds a_said a_sorted a_instruction a_values a_jumps a_caught a_caller a_mapped a_known a_types a_maps a_now a_sort a_made a_number a_ready) :
    ∀ d j, j + d = 128 → ∀ ts, (∀ i, i < j → ts i = -1) → wX_explore_17 post f_count f_handlers f_met f_waiting f_tooMany f_size f_height f_why f_found f_objects f_high f_at f_here f_steps f_outcome f_last f_ran (d + 1) (nI j) a_parents a_ancestors a_begins a_ops a_operands a_froms a_tos a_targets a_catches a_keys a_heights a_faults ts a_todo a_said a_sorted a_instruction a_values a_jumps a_caught a_caller a_mapped a_known a_types a_maps a_now a_sort a_made a_number a_ready := by
  intro d
  induction d with
  | zero =>
    intro j hj ts hts
    exact br_t (nI_le (a := 128) (by omega) (by omega)) (xe_come (q := 0) (h := 0) (hI ts (fun i hi => hts i (by omega))) kk_V0 (by omega) hr (fun tm mt wt ks hs fs ts tds z => K tm mt wt ks hs fs ts tds z))
  | succ d ih =>
    intro j hj ts hts
    have ej : (nI j).toNatClampNeg = j := nI_clamp (by omega)
    refine br_f (nI_ge (b := 128) (by omega) (by decide)) (And.intro (vp_in_nI (by omega) (by decide)) (nm_r (e' := upd ts j (-1)) (by rw [ej, aa_nbm]) (nm_r (nI_1 j) (ih (j + 1) (by omega) _ (fun i hi => ?_)))))
    by_cases e : i = j
    · rw [e, pk_us]
    · rw [pk_un e]; exact hts i (by omega)
theorem xv_explore (P : pp_P cn hn op fr tt tg ct pa be ar) (M : pp_M cn hn op tg ar)
    (K1 : ∀ mt wt ks hs fs ts tds, xe_many (ex_R (pp_W cn op) (pp_S hn op fr tt tg ar)) → post ((nI cn), (nI hn), mt, wt, 1, f_size, f_height, f_why, f_found, f_objects, f_high, f_at, f_here, f_steps, f_outcome, f_last, f_ran, (aa_N pa), an, (aa_N be), (aa_N op), ar, (aa_N fr), (aa_N tt), (aa_N tg), (aa_N ct), ks, hs, fs, ts, tds, a_said, a_sorted, a_instruction, a_values, a_jumps, a_caught, a_caller, a_mapped, a_known, a_types, a_maps, a_now, a_sort, a_made, a_number, a_ready))
    (K0 : ∀ mt wt ks hs fs ts tds, xe_F (pp_W cn op) (ex_R (pp_W cn op) (pp_S hn op fr tt tg ar)) mt ks hs fs ts → post ((nI cn), (nI hn), mt, wt, 0, f_size, f_height, f_why, f_found, f_objects, f_high, f_at, f_here, f_steps, f_outcome, f_last, f_ran, (aa_N pa), an, (aa_N be), (aa_N op), ar, (aa_N fr), (aa_N tt), (aa_N tg), (aa_N ct), ks, hs, fs, ts, tds, a_said, a_sorted, a_instruction, a_values, a_jumps, a_caught, a_caller, a_mapped, a_known, a_types, a_maps, a_now, a_sort, a_made, a_number, a_ready)) : wpX_explore post ((nI cn), (nI hn), f_met, f_waiting, f_tooMany, f_size, f_height, f_why, f_found, f_objects, f_high, f_at, f_here, f_steps, f_outcome, f_last, f_ran, (aa_N pa), an, (aa_N be), (aa_N op), ar, (aa_N fr), (aa_N tt), (aa_N tg), (aa_N ct), a_keys, a_heights, a_faults, a_table, a_todo, a_said, a_sorted, a_instruction, a_values, a_jumps, a_caught, a_caller, a_mapped, a_known, a_types, a_maps, a_now, a_sort, a_made, a_number, a_ready) := by
  have hI : ∀ ts : Nat → Int32, (∀ j, j < 128 → ts j = -1) → xe_I (pp_W cn op) (ex_R (pp_W cn op) (pp_S hn op fr tt tg ar)) (fun _ _ => False) (fun _ _ => False) 560 0 0 0 a_keys a_heights a_faults ts a_todo := by
    intro ts hts
    refine Or.inr ⟨rfl, 0, 0, fun _ => 0, fun _ => 0, fun _ => 0, rfl, rfl, ⟨by omega, fun p hp => by omega, fun i j hi => by omega, ⟨fun j hj => Or.inl (hts j hj), ?_, fun p hp => by omega⟩, fun p h hp => by omega, fun w hw => by omega, Nat.zero_le _, fun q h z => z.elim, fun p hp => by omega, fun q h z => z.elim⟩, by omega⟩
    rw [ex_c0 (fun k hk => ?_)]
    · omega
    · rw [hts k hk]; exact fun z => z xe_m1
  exact ⟨129, xv_17 hI ex_R0 (fun tm mt wt ks hs fs ts tds z => ⟨561, xv_43 P M K1 K0 560 _ _ (Or.inr ⟨rfl, rfl⟩) (fun q h hD => hD.elim) tm mt wt ks hs fs ts tds z⟩) 128 0 (by omega) a_table (fun i hi => by omega)⟩
end
end
section
/-! the reference's number, wrongAt, behind, led, come, goOn, walk -/
section
variable {cn hn : Nat} {op fr tt tg ct pa be : Nat → Nat} {ar an : Nat → Int32}
variable {g_length g_handlers g_many g_there g_typed g_wrongNumber g_wrongPlace g_size g_why g_height g_objects g_line g_begun g_last g_end : Int32} {b_parent b_begin b_op b_arg b_from b_to b_target b_caught b_places b_heights b_gone b_worst b_frames b_maps b_high b_known b_mapped b_now b_sorts b_ints b_classes b_ready : Nat → Int32}
theorem yy_number {post : Int32 → Prop} {mn q : Nat} {pq : Nat → Nat} (hm : mn ≤ 41) (hk : ∀ k, k < mn → b_places k = nI (kk_y (pq k)) ∧ kk_V (pq k)) (hv : kk_V q)
    (Kf : ∀ k, k < mn → pq k = q → (∀ j, j < k → pq j ≠ q) → post (nI k)) (Kn : (∀ k, k < mn → pq k ≠ q) → post (-1)) : wpY_number post (g_length, g_handlers, (nI mn), g_there, g_typed, g_wrongNumber, g_wrongPlace, g_size, g_why, g_height, g_objects, g_line, g_begun, g_last, g_end, b_parent, b_begin, b_op, b_arg, b_from, b_to, b_target, b_caught, b_places, b_heights, b_gone, b_worst, b_frames, b_maps, b_high, b_known, b_mapped, b_now, b_sorts, b_ints, b_classes, b_ready) (nI (kk_y q)) := by
  have hy := kk_ylt hv
  have key : ∀ d k, k + d = mn → (∀ j, j < k → pq j ≠ q) → wY_number_2 post (nI (kk_y q)) g_length g_handlers (nI mn) g_there g_typed g_wrongNumber g_wrongPlace g_size g_why g_height g_objects g_line g_begun g_last g_end b_parent b_begin b_op b_arg b_from b_to b_target b_caught b_places b_heights b_gone b_worst b_frames b_maps b_high b_known b_mapped b_now b_sorts b_ints b_classes b_ready (d + 1) (nI k) := by
    intro d
    induction d with
    | zero =>
      intro k hkd hj
      exact br_t (nI_le (by omega) (by omega)) (Kn (fun j hj' => hj j (by omega)))
    | succ d ih =>
      intro k hkd hj
      have ek : (nI k).toNatClampNeg = k := nI_clamp (by omega)
      obtain ⟨e1, e2⟩ := hk k (by omega)
      have hy2 := kk_ylt e2
      refine br_f (nI_ge (by omega) (by omega)) (And.intro (vp_in_nI (by omega) (by decide)) ?_)
      rw [ek, e1]
      refine pk_eq (kk_y (pq k)) (kk_y q) (fun z => Kf k (by omega) ((kk_inj e2 hv).mp z) hj) (fun z => nm_r (nI_1 k) (ih (k + 1) (by omega) (fun j hj' => ?_)))
      rcases Nat.lt_or_ge j k with y | y
      · exact hj j y
      · have : j = k := by omega
        subst this
        exact fun x => z (by rw [x])
  exact ⟨mn + 1, key mn 0 (by omega) (fun j hj => by omega)⟩
theorem yw_177 {post : Int32 → Prop} {o n : Nat} (ho : o < 20) (hn : n ≤ 3) (K : post (nI (if o = 16 ∧ n = 0 then 5 else 0))) : wY_wrongAt_177 post (nI o) (nI n) g_length g_handlers g_many g_there g_typed g_wrongNumber g_wrongPlace g_size g_why g_height g_objects g_line g_begun g_last g_end b_parent b_begin b_op b_arg b_from b_to b_target b_caught b_places b_heights b_gone b_worst b_frames b_maps b_high b_known b_mapped b_now b_sorts b_ints b_classes b_ready := by
  refine pk_eq o 16 (fun a => pk_eq n 0 (fun b => ?_) (fun b => ?_)) (fun a => ?_)
  · rw [if_pos ⟨a, b⟩] at K; exact K
  · rw [if_neg (fun z => b z.2)] at K; exact K
  · rw [if_neg (fun z => a z.1)] at K; exact K
theorem yw_128 {post : Int32 → Prop} {q i o n : Nat} (hv : kk_V q) (hi : i < 24) (ho : o < 20) (hn : n ≤ 3) (K : post (nI (if o = 15 ∧ (n = 3 ∨ pp_ag q n i = true) then 4 else if o = 16 ∧ n = 0 then 5 else 0))) :
    ∃ n', wY_wrongAt_128 post (nI (kk_y q)) (nI i) (nI o) (nI n) g_length g_handlers g_many g_there g_typed g_wrongNumber g_wrongPlace g_size g_why g_height g_objects g_line g_begun g_last g_end b_parent b_begin b_op b_arg b_from b_to b_target b_caught b_places b_heights b_gone b_worst b_frames b_maps b_high b_known b_mapped b_now b_sorts b_ints b_classes b_ready n' (if n = 3 then 1 else 0) 0 := by
  have key : ∀ d k x7, k + d = n → ((x7 = 1 ∧ (n = 3 ∨ pp_ag q n i = true)) ∨ (x7 = 0 ∧ n ≠ 3 ∧ ∀ j, j < k → kk_c q j ≠ i)) → wY_wrongAt_128 post (nI (kk_y q)) (nI i) (nI o) (nI n) g_length g_handlers g_many g_there g_typed g_wrongNumber g_wrongPlace g_size g_why g_height g_objects g_line g_begun g_last g_end b_parent b_begin b_op b_arg b_from b_to b_target b_caught b_places b_heights b_gone b_worst b_frames b_maps b_high b_known b_mapped b_now b_sorts b_ints b_classes b_ready (d + 1) x7 (nI k) := by
    intro d
    induction d with
    | zero =>
      intro k x7 hk hx
      refine br_t (nI_le (by omega) (by omega)) (pk_eq o 15 (fun a => ?_) (fun a => ?_))
      · rcases hx with ⟨rfl, hx⟩ | ⟨rfl, hx1, hx2⟩
        · rw [if_pos ⟨a, hx⟩] at K
          exact br_f (by decide) K
        · rw [if_neg (fun z => z.2.elim hx1 (fun y => by rw [pp_ag_f (fun j hj => hx2 j (by omega))] at y; exact absurd y (by decide)))] at K
          exact br_t rfl (yw_177 ho hn K)
      · rw [if_neg (fun z => a z.1)] at K
        exact yw_177 ho hn K
    | succ d ih =>
      intro k x7 hk hx
      have hc := kk_Vc hv k
      refine br_f (nI_ge (by omega) (by omega)) (yy_callOf hv (by omega) (pk_eq (kk_c q k) i (fun a => ?_) (fun a => ?_)))
      · refine nm_r (e' := 1) ?_ (nm_r (nI_1 k) (ih (k + 1) 1 (by omega) (Or.inl ⟨rfl, Or.inr (pp_ag_t hn (by omega) a)⟩)))
        rcases hx with ⟨rfl, -⟩ | ⟨rfl, -⟩ <;> decide
      · refine nm_r (e' := x7) ?_ (nm_r (nI_1 k) (ih (k + 1) x7 (by omega) (hx.imp id (fun ⟨y1, y2, y3⟩ => ⟨y1, y2, fun j hj => ?_⟩))))
        · rcases hx with ⟨rfl, -⟩ | ⟨rfl, -⟩ <;> decide
        · rcases Nat.lt_or_ge j k with y | y
          · exact y3 j y
          · have : j = k := by omega
            subst this; exact a
  refine ⟨n + 1, key n 0 _ (by omega) ?_⟩
  by_cases e : n = 3
  · rw [if_pos e]; exact Or.inl ⟨rfl, Or.inl e⟩
  · rw [if_neg e]; exact Or.inr ⟨rfl, e, fun j hj => by omega⟩
theorem yy_wrongAt {post : Int32 → Prop} {q h : Nat} (hv : kk_V q) (ho : op (q % 25) < 20) (hc : cn ≤ 24) (hh : h < 7) (K : post (nI (pp_W cn op q h))) : wpY_wrongAt post ((nI cn), (nI hn), g_many, g_there, g_typed, g_wrongNumber, g_wrongPlace, g_size, g_why, g_height, g_objects, g_line, g_begun, g_last, g_end, (aa_N pa), (aa_N be), (aa_N op), ar, (aa_N fr), (aa_N tt), (aa_N tg), (aa_N ct), b_places, b_heights, b_gone, b_worst, b_frames, b_maps, b_high, b_known, b_mapped, b_now, b_sorts, b_ints, b_classes, b_ready) (nI (kk_y q)) (nI h) := by
  have hi := kk_Vi hv
  have hn3 := kk_Vn hv
  have ei : (nI (q % 25)).toNatClampNeg = q % 25 := nI_clamp (by omega)
  have t2 := aa_tk2 (op (q % 25))
  have p2 := aa_pt2 (op (q % 25))
  have r81 : ¬ ((q % 25 + 1 = cn ∧ aa_fl (op (q % 25)) = true) ∨ (op (q % 25) = 16 ∧ 0 < q / 390625 ∧ kk_c q (q / 390625 - 1) + 1 = cn)) → wY_wrongAt_81 post (nI (kk_y q)) (nI h) (nI (q % 25)) (nI (op (q % 25))) (nI (q / 390625)) (nI cn) (nI hn) g_many g_there g_typed g_wrongNumber g_wrongPlace g_size g_why g_height g_objects g_line g_begun g_last g_end (aa_N pa) (aa_N be) (aa_N op) ar (aa_N fr) (aa_N tt) (aa_N tg) (aa_N ct) b_places b_heights b_gone b_worst b_frames b_maps b_high b_known b_mapped b_now b_sorts b_ints b_classes b_ready := by
    intro c1
    unfold pp_W at K
    rw [if_neg c1] at K
    refine yy_takes ho (pk_le (aa_tk (op (q % 25))) h (fun a => ?_) (fun a => ?_))
    · rw [if_neg (by omega)] at K
      refine yy_takes ho (yy_puts ho ?_)
      rw [pk_sub a, nI_add]
      refine pk_le (h - aa_tk (op (q % 25)) + aa_pt (op (q % 25))) 6 (fun b => ?_) (fun b => ?_)
      · rw [if_neg (by unfold pp_lf; omega)] at K
        obtain ⟨n', hn'⟩ := yw_128 (post := post) hv hi ho hn3 K
        refine pk_eq (q / 390625) 3 (fun e => ⟨n', ?_⟩) (fun e => ⟨n', ?_⟩)
        · rw [if_pos e] at hn'; exact hn'
        · rw [if_neg e] at hn'; exact hn'
      · rw [if_pos (by unfold pp_lf; omega)] at K; exact K
    · rw [if_pos a] at K; exact K
  have r1 : ((q % 25 + 1 = cn ∧ aa_fl (op (q % 25)) = true) ∨ (op (q % 25) = 16 ∧ 0 < q / 390625 ∧ kk_c q (q / 390625 - 1) + 1 = cn)) → post 1 := by
    intro c1
    unfold pp_W at K
    rw [if_pos c1] at K; exact K
  have r50 : ¬ (q % 25 + 1 = cn ∧ aa_fl (op (q % 25)) = true) → wY_wrongAt_50 post (nI (kk_y q)) (nI h) (nI (q % 25)) (nI (op (q % 25))) (nI (q / 390625)) (nI cn) (nI hn) g_many g_there g_typed g_wrongNumber g_wrongPlace g_size g_why g_height g_objects g_line g_begun g_last g_end (aa_N pa) (aa_N be) (aa_N op) ar (aa_N fr) (aa_N tt) (aa_N tg) (aa_N ct) b_places b_heights b_gone b_worst b_frames b_maps b_high b_known b_mapped b_now b_sorts b_ints b_classes b_ready := by
    intro nf
    refine pk_eq (op (q % 25)) 16 (fun a => pk_le (q / 390625) 0 (fun b => r81 ?_) (fun b => ?_)) (fun a => r81 ?_)
    · rintro (z | z)
      · exact nf z
      · omega
    · rw [show nI (q / 390625) - 1 = nI (q / 390625 - 1) from pk_sub (b := 1) (by omega)]
      have hcc := kk_Vc hv (q / 390625 - 1)
      refine yy_callOf hv (by omega) ?_
      rw [nI_1]
      refine pk_eq (kk_c q (q / 390625 - 1) + 1) cn (fun d => r1 (Or.inr ⟨a, b, d⟩)) (fun d => r81 ?_)
      rintro (z | z)
      · exact nf z
      · exact d z.2.2
    · rintro (z | z)
      · exact nf z
      · exact a z.1
  unfold wpY_wrongAt
  dsimp only
  refine yy_instruction hv (And.intro (vp_in_nI hi (by decide)) (nm_r (e' := nI (op (q % 25))) (by rw [ei]; rfl) (yy_calls hv ?_)))
  rw [nI_1]
  refine pk_eq (q % 25 + 1) cn (fun a => br_f (by decide) (yy_goesBehind ho ?_)) (fun a => br_t rfl (r50 (fun z => a z.1)))
  by_cases f : aa_fl (op (q % 25)) = true
  · rw [f]; exact br_f (by decide) (r1 (Or.inl ⟨a, f⟩))
  · rw [ts_nt f]; exact br_t (by decide) (r50 (fun z => f z.2))
theorem yy_behind {post : Int32 → Prop} {q : Nat} (hv : kk_V q) (ho : op (q % 25) < 20) (K1 : aa_fl (op (q % 25)) = true → post (nI (kk_y q + 1))) (K0 : aa_fl (op (q % 25)) = false → post (-1)) : wpY_behind post ((nI cn), (nI hn), g_many, g_there, g_typed, g_wrongNumber, g_wrongPlace, g_size, g_why, g_height, g_objects, g_line, g_begun, g_last, g_end, (aa_N pa), (aa_N be), (aa_N op), ar, (aa_N fr), (aa_N tt), (aa_N tg), (aa_N ct), b_places, b_heights, b_gone, b_worst, b_frames, b_maps, b_high, b_known, b_mapped, b_now, b_sorts, b_ints, b_classes, b_ready) (nI (kk_y q)) := by
  have hi := kk_Vi hv
  have ei : (nI (q % 25)).toNatClampNeg = q % 25 := nI_clamp (by omega)
  unfold wpY_behind
  dsimp only
  refine yy_instruction hv (And.intro (vp_in_nI hi (by decide)) ?_)
  rw [ei]
  refine yy_goesBehind ho ?_
  by_cases f : aa_fl (op (q % 25)) = true
  · rw [f]
    refine br_f (by decide) ?_
    rw [nI_1]; exact K1 f
  · rw [ts_nt f]; exact br_t (by decide) (K0 (ts_nt f))
theorem yy_led {post : Int32 → Prop} {q : Nat} (P : pp_P cn hn op fr tt tg ct pa be ar) (hv : kk_V q) (h15 : op (q % 25) = 15 → q / 390625 < 3) (h16 : op (q % 25) = 16 → 0 < q / 390625 ∧ kk_cal q % 25 + 1 < 24)
    (K1 : (aa_ld (op (q % 25)) = true ∨ op (q % 25) = 16) → post (nI (kk_y (pp_to op ar q)))) (K0 : ¬ (aa_ld (op (q % 25)) = true ∨ op (q % 25) = 16) → post (-1)) : wpY_led post ((nI cn), (nI hn), g_many, g_there, g_typed, g_wrongNumber, g_wrongPlace, g_size, g_why, g_height, g_objects, g_line, g_begun, g_last, g_end, (aa_N pa), (aa_N be), (aa_N op), ar, (aa_N fr), (aa_N tt), (aa_N tg), (aa_N ct), b_places, b_heights, b_gone, b_worst, b_frames, b_maps, b_high, b_known, b_mapped, b_now, b_sorts, b_ints, b_classes, b_ready) (nI (kk_y q)) := by
  have hi := kk_Vi hv
  have ho := P.2.2.1 (q % 25)
  have ei : (nI (q % 25)).toNatClampNeg = q % 25 := nI_clamp (by omega)
  have hin := vp_in_nI (n := q % 25) (N := 24) hi (by decide)
  unfold wpY_led
  dsimp only
  refine yy_instruction hv (And.intro hin (nm_r (e' := nI (op (q % 25))) (by rw [ei]; rfl) (pk_eq (op (q % 25)) 15 (fun a => And.intro hin ?_) (fun a => pk_eq (op (q % 25)) 16 (fun b => ?_) (fun b => yy_jumps ho ?_)))))
  · obtain ⟨g1, g2⟩ := pp_g24 P (i := q % 25) (pp_ld15 a)
    rw [ei, g1]
    refine yy_deeper hv (h15 a) g2 ?_
    have := K1 (Or.inl (pp_ld15 a))
    unfold pp_to at this; rw [if_pos a] at this; exact this
  · obtain ⟨n0, n1⟩ := h16 b
    refine yy_caller hv n0 ?_
    have := K1 (Or.inr b)
    unfold pp_to at this; rw [if_neg a, if_pos b, kk_ys (kk_Vcal hv n0) n1] at this
    rw [nI_1]; exact this
  · by_cases l : aa_ld (op (q % 25)) = true
    · obtain ⟨g1, g2⟩ := pp_g24 P (i := q % 25) l
      rw [l]
      refine br_f (by decide) (And.intro hin ?_)
      rw [ei, g1]
      refine yy_at hv g2 ?_
      have := K1 (Or.inl l)
      unfold pp_to at this; rw [if_neg a, if_neg b] at this; exact this
    · rw [ts_nt l]
      exact br_t (by decide) (K0 (fun z => z.elim l b))
end
def ye_K (W : Nat → Nat → Nat) (R D Q : Nat → Nat → Prop) (mn : Nat) (places heights gone worst : Nat → Int32) (pq hb gb ws : Nat → Nat) : Prop :=
  mn ≤ 41 ∧ (∀ k, k < mn → places k = nI (kk_y (pq k)) ∧ kk_V (pq k) ∧ heights k = nI (hb k) ∧ hb k < 128 ∧ gone k = nI (gb k) ∧ gb k < 128 ∧ worst k = nI (ws k) ∧ ws k ≤ 9 ∧ ∃ h, R (pq k) h) ∧
  (∀ i j, i < mn → j < mn → pq i = pq j → i = j) ∧ (∀ k h, k < mn → (hb k).testBit h = true → R (pq k) h) ∧ (∀ k h, k < mn → (gb k).testBit h = true → D (pq k) h ∧ (hb k).testBit h = true) ∧
  (∀ q h, D q h → xe_pr mn pq gb q h) ∧ (∀ k, k < mn → ex_mw W D (pq k) (ws k)) ∧ (∀ q h, Q q h → xe_pr mn pq hb q h ∨ mn = 41)
noncomputable def ye_cnt (mn : Nat) (gb : Nat → Nat) : Nat := ex_cn (fun x => x / 7 < mn ∧ (gb (x / 7)).testBit (x % 7) = true) 287
def ye_I (W : Nat → Nat → Nat) (R D Q : Nat → Nat → Prop) (G : Nat) (many : Int32) (places heights gone worst : Nat → Int32) : Prop :=
  ∃ (mn : Nat) (pq hb gb ws : Nat → Nat), many = nI mn ∧ ye_K W R D Q mn places heights gone worst pq hb gb ws ∧ G ≤ ye_cnt mn gb
theorem ye_I_mono {W : Nat → Nat → Nat} {R D Q Q' : Nat → Nat → Prop} {G : Nat} {many : Int32} {places heights gone worst : Nat → Int32} (h : ye_I W R D Q G many places heights gone worst) (hq : ∀ a b, Q' a b → Q a b) : ye_I W R D Q' G many places heights gone worst := by
  obtain ⟨mn, pq, hb, gb, ws, e, ⟨k1, k2, k3, k4, k5, k6, k7, k8⟩, hG⟩ := h
  exact ⟨mn, pq, hb, gb, ws, e, ⟨k1, k2, k3, k4, k5, k6, k7, fun a b z => k8 a b (hq a b z)⟩, hG⟩
section
variable {W : Nat → Nat → Nat} {R D Q : Nat → Nat → Prop} {mn : Nat} {places heights gone worst : Nat → Int32} {pq hb gb ws : Nat → Nat}
theorem ye_K_new {q : Nat} (K : ye_K W R D Q mn places heights gone worst pq hb gb ws) (hm : mn < 41) (hv : kk_V q) (hr : ∃ h, R q h) (hn : ∀ k, k < mn → pq k ≠ q) :
    ye_K W R D Q (mn + 1) (upd places mn (nI (kk_y q))) (upd heights mn (nI 0)) (upd gone mn (nI 0)) (upd worst mn (nI 9)) (aa_up pq mn q) (aa_up hb mn 0) (aa_up gb mn 0) (aa_up ws mn 9) ∧ ye_cnt mn gb ≤ ye_cnt (mn + 1) (aa_up gb mn 0) := by
  obtain ⟨k1, k2, k3, k4, k5, k6, k7, k8⟩ := K
  have ec : ye_cnt mn gb ≤ ye_cnt (mn + 1) (aa_up gb mn 0) := ex_cmono (fun x _ ⟨a, b⟩ => ⟨by omega, by rw [aa_un (by omega)]; exact b⟩)
  have pr : ∀ (f : Nat → Nat) a b, xe_pr mn pq f a b → xe_pr (mn + 1) (aa_up pq mn q) (aa_up f mn 0) a b := fun f a b ⟨p, p1, p2, p3⟩ => ⟨p, by omega, by rw [aa_un (by omega)]; exact p2, by rw [aa_un (by omega)]; exact p3⟩
  refine ⟨⟨by omega, fun k hk => ?_, fun i j hi hj e => ?_, fun k h hk hb' => ?_, fun k h hk hb' => ?_, fun a b z => pr gb a b (k6 a b z), fun k hk => ?_, fun a b z => ?_⟩, ec⟩
  · by_cases e : k = mn
    · subst e
      rw [pk_us, pk_us, pk_us, pk_us, aa_us, aa_us, aa_us, aa_us]
      exact ⟨rfl, hv, rfl, by decide, rfl, by decide, rfl, by decide, hr⟩
    · rw [pk_un e, pk_un e, pk_un e, pk_un e, aa_un e, aa_un e, aa_un e, aa_un e]
      exact k2 k (by omega)
  · by_cases e1 : i = mn
    · by_cases e2 : j = mn
      · omega
      · rw [e1, aa_us, aa_un e2] at e
        exact absurd e.symm (hn j (by omega))
    · by_cases e2 : j = mn
      · rw [e2, aa_us, aa_un e1] at e
        exact absurd e (hn i (by omega))
      · rw [aa_un e1, aa_un e2] at e
        exact k3 i j (by omega) (by omega) e
  · by_cases e : k = mn
    · rw [e, aa_us, Nat.zero_testBit] at hb'; exact absurd hb' (by decide)
    · rw [aa_un e] at hb' ⊢
      exact k4 k h (by omega) hb'
  · by_cases e : k = mn
    · rw [e, aa_us, Nat.zero_testBit] at hb'; exact absurd hb' (by decide)
    · rw [aa_un e] at hb' ⊢
      rw [aa_un e]
      exact k5 k h (by omega) hb'
  · by_cases e : k = mn
    · subst e
      rw [aa_us, aa_us]
      refine ⟨fun h hD => ?_, Or.inl rfl⟩
      obtain ⟨p', p1, p2, -⟩ := k6 q h hD
      exact absurd p2 (hn p' p1)
    · rw [aa_un e, aa_un e]; exact k7 k (by omega)
  · rcases k8 a b z with z | z
    · exact Or.inl (pr hb a b z)
    · omega
theorem ye_K_set {k h : Nat} (K : ye_K W R D Q mn places heights gone worst pq hb gb ws) (hk : k < mn) (hh : h < 7) (hr : R (pq k) h) :
    ye_K W R D (fun a b => Q a b ∨ (a = pq k ∧ b = h)) mn places (upd heights k (nI (hb k ||| 2 ^ h))) gone worst pq (aa_up hb k (hb k ||| 2 ^ h)) gb ws := by
  obtain ⟨k1, k2, k3, k4, k5, k6, k7, k8⟩ := K
  have h8 := (k2 k hk).2.2.2.1
  have up : ∀ x y, (hb x).testBit y = true → (aa_up hb k (hb k ||| 2 ^ h) x).testBit y = true := by
    intro x y z
    by_cases e : x = k
    · subst e; rw [aa_us, bm_ob, z]; rfl
    · rw [aa_un e]; exact z
  refine ⟨k1, fun x hx => ?_, k3, fun x y hx hb' => ?_, fun x y hx hb' => ?_, k6, k7, fun a b z => ?_⟩
  · obtain ⟨a1, a2, a3, a4, a5⟩ := k2 x hx
    by_cases e : x = k
    · subst e; rw [pk_us, aa_us]; exact ⟨a1, a2, rfl, (bm_o _ h8 h hh).2, a5⟩
    · rw [pk_un e, aa_un e]; exact ⟨a1, a2, a3, a4, a5⟩
  · by_cases e : x = k
    · subst e
      rw [aa_us, bm_ob] at hb'
      rcases Bool.or_eq_true _ _ |>.mp hb' with z | z
      · exact k4 x y hx z
      · have : h = y := of_decide_eq_true z
        subst this
        exact hr
    · rw [aa_un e] at hb'; exact k4 x y hx hb'
  · obtain ⟨z1, z2⟩ := k5 x y hx hb'
    exact ⟨z1, up _ _ z2⟩
  · rcases z with z | ⟨rfl, rfl⟩
    · exact (k8 a b z).imp (fun ⟨x, p1, p2, p3⟩ => ⟨x, p1, p2, up _ _ p3⟩) id
    · exact Or.inl ⟨k, hk, rfl, by rw [aa_us, bm_ob]; simp⟩
end
section
variable {cn hn : Nat} {op fr tt tg ct pa be : Nat → Nat} {ar an : Nat → Int32}
variable {g_length g_handlers g_many g_there g_typed g_wrongNumber g_wrongPlace g_size g_why g_height g_objects g_line g_begun g_last g_end : Int32} {b_parent b_begin b_op b_arg b_from b_to b_target b_caught b_places b_heights b_gone b_worst b_frames b_maps b_high b_known b_mapped b_now b_sorts b_ints b_classes b_ready : Nat → Int32}
variable {W : Nat → Nat → Nat} {R D Q : Nat → Nat → Prop}
theorem ye_68 {post : SY → Prop} {k b h : Nat} (hk : k < 41) (hh : h < 7) (e1 : b_heights k = nI b) (e2 : b < 128) (hp : post (g_length, g_handlers, g_many, g_there, g_typed, g_wrongNumber, g_wrongPlace, g_size, g_why, g_height, g_objects, g_line, g_begun, g_last, g_end, b_parent, b_begin, b_op, b_arg, b_from, b_to, b_target, b_caught, b_places, (upd b_heights k (nI (b ||| 2 ^ h))), b_gone, b_worst, b_frames, b_maps, b_high, b_known, b_mapped, b_now, b_sorts, b_ints, b_classes, b_ready)) : wY_come_68 post (nI h) (nI k) g_length g_handlers g_many g_there g_typed g_wrongNumber g_wrongPlace g_size g_why g_height g_objects g_line g_begun g_last g_end b_parent b_begin b_op b_arg b_from b_to b_target b_caught b_places b_heights b_gone b_worst b_frames b_maps b_high b_known b_mapped b_now b_sorts b_ints b_classes b_ready := by
  have ek : (nI k).toNatClampNeg = k := nI_clamp (by omega)
  have hin := vp_in_nI hk (by decide)
  refine And.intro hin (And.intro hin (nm_r (e' := upd b_heights k (nI (b ||| 2 ^ h))) ?_ hp))
  rw [ek, e1, (bm_o b e2 h hh).1]
theorem ye_come {post : SY → Prop} {q h G : Nat} (I : ye_I W R D Q G g_many b_places b_heights b_gone b_worst) (hv : kk_V q) (hh : h < 7) (hr : R q h)
    (K : ∀ mn ps hs gs ws, ye_I W R D (fun a b => Q a b ∨ (a = q ∧ b = h)) G mn ps hs gs ws → post (g_length, g_handlers, mn, g_there, g_typed, g_wrongNumber, g_wrongPlace, g_size, g_why, g_height, g_objects, g_line, g_begun, g_last, g_end, b_parent, b_begin, b_op, b_arg, b_from, b_to, b_target, b_caught, ps, hs, gs, ws, b_frames, b_maps, b_high, b_known, b_mapped, b_now, b_sorts, b_ints, b_classes, b_ready)) : wpY_come post (g_length, g_handlers, g_many, g_there, g_typed, g_wrongNumber, g_wrongPlace, g_size, g_why, g_height, g_objects, g_line, g_begun, g_last, g_end, b_parent, b_begin, b_op, b_arg, b_from, b_to, b_target, b_caught, b_places, b_heights, b_gone, b_worst, b_frames, b_maps, b_high, b_known, b_mapped, b_now, b_sorts, b_ints, b_classes, b_ready) (nI (kk_y q)) (nI h) := by
  obtain ⟨mn, pq, hb, gb, ws, em, KK, hG⟩ := I
  subst em
  obtain ⟨k1, k2, k3, k4, k5, k6, k7, k8⟩ := id KK
  refine yy_number (mn := mn) (pq := pq) k1 (fun k hk => ⟨(k2 k hk).1, (k2 k hk).2.1⟩) hv (fun k hk e _ => ?_) (fun hn => ?_)
  · subst e
    have hp := nI_pos' (n := k) (by omega)
    exact br_t hp (br_t hp (ye_68 (by omega) hh (k2 k hk).2.2.1 (k2 k hk).2.2.2.1 (K (nI mn) _ _ _ _ ⟨mn, pq, _, gb, ws, rfl, ye_K_set KK hk hh hr, hG⟩)))
  · refine br_f (by decide) (pk_eq mn 41 (fun z => ?_) (fun z => ?_))
    · refine K (nI mn) _ _ _ _ ⟨mn, pq, hb, gb, ws, rfl, ⟨k1, k2, k3, k4, k5, k6, k7, fun a b y => ?_⟩, hG⟩
      exact Or.inr z
    · obtain ⟨K1, c1⟩ := ye_K_new KK (by omega) hv ⟨h, hr⟩ hn
      have K2 := ye_K_set K1 (k := mn) (h := h) (by omega) hh (by rw [aa_us]; exact hr)
      have em : (nI mn).toNatClampNeg = mn := nI_clamp (by omega)
      have hin := vp_in_nI (n := mn) (N := 41) (by omega) (by decide)
      have e0 : aa_up hb mn 0 mn = 0 := aa_us
      have e1 : aa_up pq mn q mn = q := aa_us
      rw [e0, e1] at K2
      refine br_f (by decide) (nm_r (nI_1 mn) (And.intro hin ?_))
      rw [em]
      refine nm_e (And.intro hin (nm_r (e' := upd b_heights mn (nI 0)) rfl (And.intro hin (nm_r (e' := upd b_gone mn (nI 0)) rfl (And.intro hin (nm_r (e' := upd b_worst mn (nI 9)) rfl ?_))))))
      exact ye_68 (b := 0) (by omega) hh pk_us (by decide) (K (nI (mn + 1)) _ _ _ _ ⟨mn + 1, _, _, _, _, rfl, K2, by omega⟩)
end
end
section
/-! the reference's goOn and walk -/
section
variable {cn hn : Nat} {op fr tt tg ct pa be : Nat → Nat} {ar an : Nat → Int32}
variable {g_length g_handlers g_many g_there g_typed g_wrongNumber g_wrongPlace g_size g_why g_height g_objects g_line g_begun g_last g_end : Int32} {b_parent b_begin b_op b_arg b_from b_to b_target b_caught b_places b_heights b_gone b_worst b_frames b_maps b_high b_known b_mapped b_now b_sorts b_ints b_classes b_ready : Nat → Int32}
variable {post : SY → Prop} {D Q : Nat → Nat → Prop} {G q h : Nat}
theorem yg_109 (P : pp_P cn hn op fr tt tg ct pa be ar) (M : pp_M cn hn op tg ar) (hr : ex_R (pp_W cn op) (pp_S hn op fr tt tg ar) q h) (hw : pp_W cn op q h = 0)
    (K : ∀ mn ps hs gs ws, ye_I (pp_W cn op) (ex_R (pp_W cn op) (pp_S hn op fr tt tg ar)) D (fun a b => Q a b ∨ ∃ y, y < hn ∧ pp_cv fr tt y (q % 25) = true ∧ a = kk_at q (tg y) ∧ b = 1) G mn ps hs gs ws → post ((nI cn), (nI hn), mn, g_there, g_typed, g_wrongNumber, g_wrongPlace, g_size, g_why, g_height, g_objects, g_line, g_begun, g_last, g_end, (aa_N pa), (aa_N be), (aa_N op), ar, (aa_N fr), (aa_N tt), (aa_N tg), (aa_N ct), ps, hs, gs, ws, b_frames, b_maps, b_high, b_known, b_mapped, b_now, b_sorts, b_ints, b_classes, b_ready)) :
    ∀ d x, x + d = hn → ∀ g_many b_places b_heights b_gone b_worst, ye_I (pp_W cn op) (ex_R (pp_W cn op) (pp_S hn op fr tt tg ar)) D (fun a b => Q a b ∨ ∃ y, y < x ∧ pp_cv fr tt y (q % 25) = true ∧ a = kk_at q (tg y) ∧ b = 1) G g_many b_places b_heights b_gone b_worst →
    wY_goOn_109 post (nI (kk_y q)) (d + 1) (nI x) (nI cn) (nI hn) g_many g_there g_typed g_wrongNumber g_wrongPlace g_size g_why g_height g_objects g_line g_begun g_last g_end (aa_N pa) (aa_N be) (aa_N op) ar (aa_N fr) (aa_N tt) (aa_N tg) (aa_N ct) b_places b_heights b_gone b_worst b_frames b_maps b_high b_known b_mapped b_now b_sorts b_ints b_classes b_ready := by
  have hI := pp_RI P M hr
  obtain ⟨-, -, ⟨hv, hi⟩, -, -, -⟩ := hI
  obtain ⟨hc, hh, hop, hx, -, -, -⟩ := id P
  intro d
  induction d with
  | zero =>
    intro x hxd g_many b_places b_heights b_gone b_worst I
    have : x = hn := by omega
    subst this
    exact br_t (nI_le (by omega) (by omega)) (K _ _ _ _ _ I)
  | succ d ih =>
    intro x hxd g_many b_places b_heights b_gone b_worst I
    obtain ⟨x1, x2, x3, x4⟩ := hx x
    have ex : (nI x).toNatClampNeg = x := nI_clamp (by omega)
    refine br_f (nI_ge (by omega) (by omega)) (And.intro (vp_in_nI (by omega) (by decide)) ?_)
    rw [ex]
    refine yy_at hv x3 (yy_covers (by omega) hv x1 x2 ?_)
    by_cases c : pp_cv fr tt x (q % 25) = true
    · rw [c]
      refine br_f (by decide) ?_
      have hs : pp_S hn op fr tt tg ar q h (kk_at q (tg x)) 1 := Or.inl ⟨x, by omega, c, rfl, rfl⟩
      have hr' := ex_Rs hr hw hs
      refine ye_come (h := 1) I (kk_Vat hv (by omega)) (by omega) hr' (fun mn ps hs gs ws z => nm_r (nI_1 x) ?_)
      refine ih (x + 1) (by omega) mn ps hs gs ws (ye_I_mono z (fun a b y => ?_))
      rcases y with y | ⟨y, y1, y2, y3⟩
      · exact Or.inl (Or.inl y)
      · rcases Nat.lt_or_ge y x with l | l
        · exact Or.inl (Or.inr ⟨y, l, y2, y3⟩)
        · have : y = x := by omega
          subst this
          exact Or.inr y3
    · rw [ts_nt c]
      refine br_t (by decide) (nm_r (nI_1 x) (ih (x + 1) (by omega) _ _ _ _ _ (ye_I_mono I (fun a b y => ?_))))
      rcases y with y | ⟨y, y1, y2, y3⟩
      · exact Or.inl y
      · rcases Nat.lt_or_ge y x with l | l
        · exact Or.inr ⟨y, l, y2, y3⟩
        · have : y = x := by omega
          subst this
          exact absurd y2 c
theorem yg_goOn {k w : Nat} (P : pp_P cn hn op fr tt tg ct pa be ar) (M : pp_M cn hn op tg ar) (hr : ex_R (pp_W cn op) (pp_S hn op fr tt tg ar) q h) (hk : k < 41) (hp : b_places k = nI (kk_y q)) (hws : b_worst k = nI w) (hw9 : w ≤ 9)
    (Kw : pp_W cn op q h ≠ 0 → post ((nI cn), (nI hn), g_many, g_there, g_typed, g_wrongNumber, g_wrongPlace, g_size, g_why, g_height, g_objects, g_line, g_begun, g_last, g_end, (aa_N pa), (aa_N be), (aa_N op), ar, (aa_N fr), (aa_N tt), (aa_N tg), (aa_N ct), b_places, b_heights, b_gone, (upd b_worst k (nI (min w (pp_W cn op q h)))), b_frames, b_maps, b_high, b_known, b_mapped, b_now, b_sorts, b_ints, b_classes, b_ready))
    (I : pp_W cn op q h = 0 → ye_I (pp_W cn op) (ex_R (pp_W cn op) (pp_S hn op fr tt tg ar)) D Q G g_many b_places b_heights b_gone b_worst)
    (K0 : pp_W cn op q h = 0 → ∀ mn ps hs gs ws, ye_I (pp_W cn op) (ex_R (pp_W cn op) (pp_S hn op fr tt tg ar)) D (fun a b => Q a b ∨ pp_S hn op fr tt tg ar q h a b) G mn ps hs gs ws → post ((nI cn), (nI hn), mn, g_there, g_typed, g_wrongNumber, g_wrongPlace, g_size, g_why, g_height, g_objects, g_line, g_begun, g_last, g_end, (aa_N pa), (aa_N be), (aa_N op), ar, (aa_N fr), (aa_N tt), (aa_N tg), (aa_N ct), ps, hs, gs, ws, b_frames, b_maps, b_high, b_known, b_mapped, b_now, b_sorts, b_ints, b_classes, b_ready)) :
    wpY_goOn post ((nI cn), (nI hn), g_many, g_there, g_typed, g_wrongNumber, g_wrongPlace, g_size, g_why, g_height, g_objects, g_line, g_begun, g_last, g_end, (aa_N pa), (aa_N be), (aa_N op), ar, (aa_N fr), (aa_N tt), (aa_N tg), (aa_N ct), b_places, b_heights, b_gone, b_worst, b_frames, b_maps, b_high, b_known, b_mapped, b_now, b_sorts, b_ints, b_classes, b_ready) (nI k) (nI h) := by
  obtain ⟨-, hh6, ⟨hv, hi⟩, hJ, -, -⟩ := pp_RI P M hr
  obtain ⟨hc, hh, hop, hx, -, -, -⟩ := id P
  have ho := hop (q % 25)
  have hi24 := kk_Vi hv
  have ek : (nI k).toNatClampNeg = k := nI_clamp (by omega)
  have ei : (nI (q % 25)).toNatClampNeg = q % 25 := nI_clamp (by omega)
  have hin := vp_in_nI (n := k) (N := 41) hk (by decide)
  have hW5 : pp_W cn op q h ≤ 5 := by unfold pp_W; (repeat' split) <;> omega
  refine And.intro hin (nm_r (e' := nI (kk_y q)) (by rw [ek]; exact hp) (yy_instruction hv (And.intro (vp_in_nI hi24 (by decide)) (nm_r (e' := nI (op (q % 25))) (by rw [ei]; rfl) (yy_wrongAt hv ho hc (by omega) (pk_le (pp_W cn op q h) 0 (fun z => ?_) (fun z => And.intro hin ?_)))))))
  · have hw : pp_W cn op q h = 0 := by omega
    obtain ⟨w1, w2, w3, w4, w5⟩ := pp_W0 hw
    have I0 := I hw
    have h15 : op (q % 25) = 15 → q / 390625 < 3 := fun a => by
      have := kk_Vn hv
      have : q / 390625 ≠ 3 := fun z => w4 ⟨a, Or.inl z⟩
      omega
    have h16 : op (q % 25) = 16 → 0 < q / 390625 ∧ kk_cal q % 25 + 1 < 24 := fun a => by
      have n0 : 0 < q / 390625 := by have : q / 390625 ≠ 0 := fun z => w5 ⟨a, z⟩; omega
      have := (hJ n0).2.2
      have ei := kk_cal_i hv n0
      have hne : kk_cal q % 25 + 1 ≠ cn := fun z => w1 (Or.inr ⟨a, n0, by rw [← ei]; exact z⟩)
      exact ⟨n0, by omega⟩
    have e6 : nI h - nI (aa_tk (op (q % 25))) + nI (aa_pt (op (q % 25))) = nI (pp_lf op q h) := by rw [pk_sub w2, nI_add]; rfl
    -- the end, with fall and jump noted
    have r109 : ∀ Q', (∀ a b, Q a b → Q' a b) → (aa_fl (op (q % 25)) = true → Q' (q + 1) (pp_lf op q h)) → ((aa_ld (op (q % 25)) = true ∨ op (q % 25) = 16) → Q' (pp_to op ar q) (pp_lf op q h)) → ∀ g_many b_places b_heights b_gone b_worst, ye_I (pp_W cn op) (ex_R (pp_W cn op) (pp_S hn op fr tt tg ar)) D Q' G g_many b_places b_heights b_gone b_worst → ∃ n109, wY_goOn_109 post (nI (kk_y q)) n109 0 (nI cn) (nI hn) g_many g_there g_typed g_wrongNumber g_wrongPlace g_size g_why g_height g_objects g_line g_begun g_last g_end (aa_N pa) (aa_N be) (aa_N op) ar (aa_N fr) (aa_N tt) (aa_N tg) (aa_N ct) b_places b_heights b_gone b_worst b_frames b_maps b_high b_known b_mapped b_now b_sorts b_ints b_classes b_ready := by
      intro Q' q1 q2 q3 g_many b_places b_heights b_gone b_worst I'
      refine ⟨hn + 1, yg_109 (D := D) (Q := Q') (G := G) P M hr hw (fun mn ps hs gs ws z => K0 hw mn ps hs gs ws (ye_I_mono z (fun a b y => ?_))) hn 0 (by omega) _ _ _ _ _ (ye_I_mono I' (fun a b y => ?_))⟩
      · rcases y with y | ⟨x, y1, y2⟩ | ⟨y1, rfl, rfl⟩ | ⟨y1, rfl, rfl⟩
        · exact Or.inl (q1 a b y)
        · exact Or.inr ⟨x, y1, y2⟩
        · exact Or.inl (q2 y1)
        · exact Or.inl (q3 y1)
      · rcases y with y | ⟨x, y1, -⟩
        · exact y
        · omega
    have r93 : ∀ x8, (((aa_ld (op (q % 25)) = true ∨ op (q % 25) = 16) ∧ x8 = nI (kk_y (pp_to op ar q))) ∨ (¬ (aa_ld (op (q % 25)) = true ∨ op (q % 25) = 16) ∧ x8 = -1)) → ∀ Q', (∀ a b, Q a b → Q' a b) → (aa_fl (op (q % 25)) = true → Q' (q + 1) (pp_lf op q h)) → ∀ g_many b_places b_heights b_gone b_worst, ye_I (pp_W cn op) (ex_R (pp_W cn op) (pp_S hn op fr tt tg ar)) D Q' G g_many b_places b_heights b_gone b_worst → wY_goOn_93 post (nI (kk_y q)) (nI (pp_lf op q h)) x8 (nI cn) (nI hn) g_many g_there g_typed g_wrongNumber g_wrongPlace g_size g_why g_height g_objects g_line g_begun g_last g_end (aa_N pa) (aa_N be) (aa_N op) ar (aa_N fr) (aa_N tt) (aa_N tg) (aa_N ct) b_places b_heights b_gone b_worst b_frames b_maps b_high b_known b_mapped b_now b_sorts b_ints b_classes b_ready := by
      intro x8 hx8 Q' q1 q2 g_many b_places b_heights b_gone b_worst I'
      rcases hx8 with ⟨j1, rfl⟩ | ⟨j0, rfl⟩
      · have hs : pp_S hn op fr tt tg ar q h (pp_to op ar q) (pp_lf op q h) := Or.inr (Or.inr ⟨j1, rfl, rfl⟩)
        have hr' := ex_Rs hr hw hs
        obtain ⟨-, -, ⟨hv', -⟩, -, -, -⟩ := pp_RI P M hr'
        have := kk_ylt hv'
        refine br_f (nI_pos (by omega)) (ye_come I' hv' (by omega) hr' (fun mn ps hs gs ws z => r109 _ (fun a b y => Or.inl (q1 a b y)) (fun y => Or.inl (q2 y)) (fun _ => Or.inr ⟨rfl, rfl⟩) mn ps hs gs ws z))
      · exact br_t (by decide) (r109 Q' q1 q2 (fun y => absurd y j0) _ _ _ _ _ I')
    have rf : aa_fl (op (q % 25)) = true → ex_R (pp_W cn op) (pp_S hn op fr tt tg ar) (q + 1) (pp_lf op q h) ∧ kk_V (q + 1) ∧ kk_y q + 1 = kk_y (q + 1) := by
      intro f
      have hs : pp_S hn op fr tt tg ar q h (q + 1) (pp_lf op q h) := Or.inr (Or.inl ⟨f, rfl, rfl⟩)
      have hr' := ex_Rs hr hw hs
      obtain ⟨-, -, ⟨hv', -⟩, -, -, -⟩ := pp_RI P M hr'
      have hne : q % 25 + 1 ≠ cn := fun z => w1 (Or.inl ⟨z, f⟩)
      exact ⟨hr', hv', (kk_ys hv (by omega)).symm⟩
    refine yy_takes ho (yy_puts ho (nm_r e6 (yy_behind hv ho (fun f => ?_) (fun f => ?_))))
    · obtain ⟨hr', hv', ey⟩ := rf f
      have := kk_ylt hv'
      rw [ey]
      refine yy_led P hv h15 h16 (fun l => br_f (nI_pos (by omega)) (ye_come I0 hv' (by omega) hr' (fun mn ps hs gs ws z => r93 _ (Or.inl ⟨l, rfl⟩) _ (fun a b y => Or.inl y) (fun _ => Or.inr ⟨rfl, rfl⟩) mn ps hs gs ws z))) (fun l => br_f (nI_pos (by omega)) (ye_come I0 hv' (by omega) hr' (fun mn ps hs gs ws z => r93 _ (Or.inr ⟨l, rfl⟩) _ (fun a b y => Or.inl y) (fun _ => Or.inr ⟨rfl, rfl⟩) mn ps hs gs ws z)))
    · refine yy_led P hv h15 h16 (fun l => br_t (by decide) (r93 _ (Or.inl ⟨l, rfl⟩) Q (fun _ _ y => y) (fun y => by rw [f] at y; exact absurd y (by decide)) _ _ _ _ _ I0)) (fun l => br_t (by decide) (r93 _ (Or.inr ⟨l, rfl⟩) Q (fun _ _ y => y) (fun y => by rw [f] at y; exact absurd y (by decide)) _ _ _ _ _ I0))
  · have hw : pp_W cn op q h ≠ 0 := by omega
    have := Kw hw
    rw [ek, hws]
    refine pk_le w (pp_W cn op q h) (fun y => ?_) (fun y => And.intro hin (nm_e ?_))
    · rw [Nat.min_eq_left y, xv_upd hws] at this; exact this
    · rw [Nat.min_eq_right (by omega)] at this; exact this
end
end
section
/-! the reference's walk whole -/
section
variable {W : Nat → Nat → Nat} {R D Q : Nat → Nat → Prop} {mn : Nat} {places heights gone worst : Nat → Int32} {pq hb gb ws : Nat → Nat}
/-- one height of a place is gone on from -/
theorem ye_K_go {k h w : Nat} (K : ye_K W R D Q mn places heights gone worst pq hb gb ws) (hk : k < mn) (hh : h < 7) (hbit : (hb k).testBit h = true) (hg : (gb k).testBit h = false) (hw9 : w ≤ 9) (hw : w = min (ws k) (ex_wz W (pq k) h)) :
    ye_K W R (fun x y => D x y ∨ (x = pq k ∧ y = h)) Q mn places heights (upd gone k (nI (gb k ||| 2 ^ h))) (upd worst k (nI w)) pq hb (aa_up gb k (gb k ||| 2 ^ h)) (aa_up ws k w) ∧ ye_cnt mn gb < ye_cnt mn (aa_up gb k (gb k ||| 2 ^ h)) := by
  obtain ⟨k1, k2, k3, k4, k5, k6, k7, k8⟩ := K
  have g8 := (k2 k hk).2.2.2.2.2.1
  have up : ∀ x y, (gb x).testBit y = true → (aa_up gb k (gb k ||| 2 ^ h) x).testBit y = true := by
    intro x y z
    by_cases e : x = k
    · subst e; rw [aa_us, bm_ob, z]; rfl
    · rw [aa_un e]; exact z
  have ec : ye_cnt mn gb < ye_cnt mn (aa_up gb k (gb k ||| 2 ^ h)) := by
    have e1 : (7 * k + h) / 7 = k := by omega
    have e2 : (7 * k + h) % 7 = h := by omega
    refine ex_clt (a := 7 * k + h) ?_ ?_ (fun x _ ⟨a, b⟩ => ⟨a, up _ _ b⟩) (by omega)
    · rw [e1, e2, hg]; exact fun z => absurd z.2 (by decide)
    · rw [e1, e2, aa_us, bm_ob]; exact ⟨hk, by simp⟩
  refine ⟨⟨k1, fun x hx => ?_, k3, k4, fun x y hx hb' => ?_, fun a b z => ?_, fun x hx => ?_, k8⟩, ec⟩
  · obtain ⟨a1, a2, a3, a4, a5, a6, a7, a8, a9⟩ := k2 x hx
    by_cases e : x = k
    · subst e; rw [pk_us, pk_us, aa_us, aa_us]; exact ⟨a1, a2, a3, a4, rfl, (bm_o _ g8 h hh).2, rfl, hw9, a9⟩
    · rw [pk_un e, pk_un e, aa_un e, aa_un e]; exact ⟨a1, a2, a3, a4, a5, a6, a7, a8, a9⟩
  · by_cases e : x = k
    · subst e
      rw [aa_us, bm_ob] at hb'
      rcases Bool.or_eq_true _ _ |>.mp hb' with z | z
      · obtain ⟨z1, z2⟩ := k5 x y hx z
        exact ⟨Or.inl z1, z2⟩
      · have : h = y := of_decide_eq_true z
        subst this
        exact ⟨Or.inr ⟨rfl, rfl⟩, hbit⟩
    · rw [aa_un e] at hb'
      obtain ⟨z1, z2⟩ := k5 x y hx hb'
      exact ⟨Or.inl z1, z2⟩
  · rcases z with z | ⟨rfl, rfl⟩
    · obtain ⟨x, p1, p2, p3⟩ := k6 a b z
      exact ⟨x, p1, p2, up _ _ p3⟩
    · exact ⟨k, hk, rfl, by rw [aa_us, bm_ob]; simp⟩
  · obtain ⟨m1, m2⟩ := k7 x hx
    by_cases e : x = k
    · subst e
      rw [aa_us, hw]
      refine ⟨fun y hy => ?_, ?_⟩
      · rcases hy with hy | ⟨-, rfl⟩
        · have := m1 y hy; omega
        · omega
      · rcases Nat.le_total (ws x) (ex_wz W (pq x) h) with l | l
        · rw [Nat.min_eq_left l]
          rcases m2 with z | ⟨y, y1, y2⟩
          · exact Or.inl z
          · exact Or.inr ⟨y, Or.inl y1, y2⟩
        · rw [Nat.min_eq_right l]
          exact Or.inr ⟨h, Or.inr ⟨rfl, rfl⟩, rfl⟩
    · rw [aa_un e]
      have ne : pq x ≠ pq k := fun z => e (k3 x k hx hk z)
      refine ⟨fun y hy => m1 y (hy.resolve_right (fun z => ne z.1)), m2.imp id (fun ⟨y, y1, y2⟩ => ⟨y, Or.inl y1, y2⟩)⟩
end
/-- the end of the reference's walk -/
def ye_F (W : Nat → Nat → Nat) (R : Nat → Nat → Prop) (many : Int32) (places heights worst : Nat → Int32) : Prop :=
  ∃ (mn : Nat) (pq hb ws : Nat → Nat), many = nI mn ∧ mn ≤ 41 ∧ (∀ k, k < mn → places k = nI (kk_y (pq k)) ∧ kk_V (pq k) ∧ heights k = nI (hb k) ∧ hb k < 128 ∧ worst k = nI (ws k) ∧ ws k ≤ 9 ∧ ∃ h, R (pq k) h) ∧
  (∀ i j, i < mn → j < mn → pq i = pq j → i = j) ∧ (mn ≤ 40 → (∀ k h, k < mn → ((hb k).testBit h = true ↔ R (pq k) h)) ∧ (∀ q h, R q h → ∃ k, k < mn ∧ pq k = q) ∧ (∀ k, k < mn → ex_mw W R (pq k) (ws k)))
theorem ye_end {W : Nat → Nat → Nat} {Sc : Nat → Nat → Nat → Nat → Prop} {D Q : Nat → Nat → Prop} {mn : Nat} {places heights gone worst : Nat → Int32} {pq hb gb ws : Nat → Nat}
    (K : ye_K W (ex_R W Sc) D Q mn places heights gone worst pq hb gb ws) (h0 : Q 0 0) (hc : ∀ q h, D q h → W q h = 0 → ∀ q' h', Sc q h q' h' → Q q' h') (hall : ∀ k h, k < mn → (hb k).testBit h = true → (gb k).testBit h = true) : ye_F W (ex_R W Sc) (nI mn) places heights worst := by
  obtain ⟨k1, k2, k3, k4, k5, k6, k7, k8⟩ := K
  refine ⟨mn, pq, hb, ws, rfl, k1, fun k hk => ?_, k3, fun hm => ?_⟩
  · obtain ⟨a1, a2, a3, a4, a5, a6, a7, a8, a9⟩ := k2 k hk
    exact ⟨a1, a2, a3, a4, a7, a8, a9⟩
  · have prD : ∀ q h, Q q h → D q h := fun q h hq => by
      rcases k8 q h hq with ⟨k, p1, p2, p3⟩ | z
      · rw [← p2]; exact (k5 k h p1 (hall k h p1 p3)).1
      · omega
    have RD : ∀ q h, ex_R W Sc q h → D q h := fun q h hr => hr D ⟨prD _ _ h0, fun q h hD hw q' h' hs => prD _ _ (hc q h hD hw q' h' hs)⟩
    have DR : ∀ q h, D q h → ex_R W Sc q h := fun q h hD => by
      obtain ⟨k, p1, p2, p3⟩ := k6 q h hD
      rw [← p2]; exact k4 k h p1 (k5 k h p1 p3).2
    refine ⟨fun k h hk => ⟨fun z => k4 k h hk z, fun z => ?_⟩, fun q h z => ?_, fun k hk => ?_⟩
    · obtain ⟨k', p1, p2, p3⟩ := k6 _ _ (RD _ _ z)
      rw [← k3 k' k p1 hk p2]; exact (k5 k' h p1 p3).2
    · obtain ⟨k', p1, p2, -⟩ := k6 _ _ (RD _ _ z)
      exact ⟨k', p1, p2⟩
    · obtain ⟨m1, m2⟩ := k7 k hk
      exact ⟨fun h z => m1 h (RD _ _ z), m2.imp id (fun ⟨h, y1, y2⟩ => ⟨h, DR _ _ y1, y2⟩)⟩
section
variable {cn hn : Nat} {op fr tt tg ct pa be : Nat → Nat} {ar an : Nat → Int32}
variable {g_length g_handlers g_many g_there g_typed g_wrongNumber g_wrongPlace g_size g_why g_height g_objects g_line g_begun g_last g_end : Int32} {b_parent b_begin b_op b_arg b_from b_to b_target b_caught b_places b_heights b_gone b_worst b_frames b_maps b_high b_known b_mapped b_now b_sorts b_ints b_classes b_ready : Nat → Int32}
variable {post : SY → Prop}
theorem yg_57 {J13 : _} {J21 : _} {x1 : Int32} {k d : Nat} (hd : d < 128) (hd0 : d ≠ 0) (hbase : wY_walk_57 post J13 J21 x1 (nI k) (nI d) g_length g_handlers g_many g_there g_typed g_wrongNumber g_wrongPlace g_size g_why g_height g_objects g_line g_begun g_last g_end b_parent b_begin b_op b_arg b_from b_to b_target b_caught b_places b_heights b_gone b_worst b_frames b_maps b_high b_known b_mapped b_now b_sorts b_ints b_classes b_ready 1 (nI (bm_lw d))) : ∃ n57, wY_walk_57 post J13 J21 x1 (nI k) (nI d) g_length g_handlers g_many g_there g_typed g_wrongNumber g_wrongPlace g_size g_why g_height g_objects g_line g_begun g_last g_end b_parent b_begin b_op b_arg b_from b_to b_target b_caught b_places b_heights b_gone b_worst b_frames b_maps b_high b_known b_mapped b_now b_sorts b_ints b_classes b_ready n57 0 := by
  obtain ⟨l1, l2, l3⟩ := bm_lo d hd hd0
  have key : ∀ e, e ≤ bm_lw d → wY_walk_57 post J13 J21 x1 (nI k) (nI d) g_length g_handlers g_many g_there g_typed g_wrongNumber g_wrongPlace g_size g_why g_height g_objects g_line g_begun g_last g_end b_parent b_begin b_op b_arg b_from b_to b_target b_caught b_places b_heights b_gone b_worst b_frames b_maps b_high b_known b_mapped b_now b_sorts b_ints b_classes b_ready (e + 1) (nI (bm_lw d - e)) := by
    intro e
    induction e with
    | zero => intro _; exact hbase
    | succ e ih =>
      intro he
      refine br_t ?_ (nm_r (e' := nI (bm_lw d - e)) ?_ (ih (by omega)))
      · rw [bm_t d hd _ (by omega), l3 _ (by omega)]; rfl
      · rw [nI_1]; exact congrArg nI (by omega)
  have := key (bm_lw d) (Nat.le_refl _)
  rw [Nat.sub_self] at this
  exact ⟨_, this⟩
theorem yg_21 {G : Nat} {J13 : _} (P : pp_P cn hn op fr tt tg ct pa be ar) (M : pp_M cn hn op tg ar)
    (H0 : ∀ g_many b_places b_heights b_gone b_worst, ye_F (pp_W cn op) (ex_R (pp_W cn op) (pp_S hn op fr tt tg ar)) g_many b_places b_heights b_worst → J13 0 (nI cn) (nI hn) g_many g_there g_typed g_wrongNumber g_wrongPlace g_size g_why g_height g_objects g_line g_begun g_last g_end (aa_N pa) (aa_N be) (aa_N op) ar (aa_N fr) (aa_N tt) (aa_N tg) (aa_N ct) b_places b_heights b_gone b_worst b_frames b_maps b_high b_known b_mapped b_now b_sorts b_ints b_classes b_ready)
    (H1 : ∀ D Q, Q 0 0 → (∀ q h, D q h → pp_W cn op q h = 0 → ∀ q' h', pp_S hn op fr tt tg ar q h q' h' → Q q' h') → ∀ g_many b_places b_heights b_gone b_worst, ye_I (pp_W cn op) (ex_R (pp_W cn op) (pp_S hn op fr tt tg ar)) D Q (G + 1) g_many b_places b_heights b_gone b_worst → J13 1 (nI cn) (nI hn) g_many g_there g_typed g_wrongNumber g_wrongPlace g_size g_why g_height g_objects g_line g_begun g_last g_end (aa_N pa) (aa_N be) (aa_N op) ar (aa_N fr) (aa_N tt) (aa_N tg) (aa_N ct) b_places b_heights b_gone b_worst b_frames b_maps b_high b_known b_mapped b_now b_sorts b_ints b_classes b_ready) :
    ∀ d k, k + d = 41 → ∀ D Q, Q 0 0 → (∀ q h, D q h → pp_W cn op q h = 0 → ∀ q' h', pp_S hn op fr tt tg ar q h q' h' → Q q' h') → ∀ x1 mn pq hb gb ws b_places b_heights b_gone b_worst,
      ye_K (pp_W cn op) (ex_R (pp_W cn op) (pp_S hn op fr tt tg ar)) D Q mn b_places b_heights b_gone b_worst pq hb gb ws → ((x1 = 0 ∧ G ≤ ye_cnt mn gb ∧ ∀ j h, j < k → j < mn → (hb j).testBit h = true → (gb j).testBit h = true) ∨ (x1 = 1 ∧ G + 1 ≤ ye_cnt mn gb)) →
      wY_walk_21 post J13 (d + 1) x1 (nI k) (nI cn) (nI hn) (nI mn) g_there g_typed g_wrongNumber g_wrongPlace g_size g_why g_height g_objects g_line g_begun g_last g_end (aa_N pa) (aa_N be) (aa_N op) ar (aa_N fr) (aa_N tt) (aa_N tg) (aa_N ct) b_places b_heights b_gone b_worst b_frames b_maps b_high b_known b_mapped b_now b_sorts b_ints b_classes b_ready := by
  intro d
  induction d with
  | zero =>
    intro k hkd D Q h0 hc x1 mn pq hb gb ws b_places b_heights b_gone b_worst KK hx
    have hmn := KK.1
    refine br_t (nI_le (by omega) (by omega)) ?_
    rcases hx with ⟨rfl, hG, hall⟩ | ⟨rfl, hG⟩
    · exact H0 _ _ _ _ _ (ye_end KK h0 hc (fun j h hj hb' => hall j h (by omega) hj hb'))
    · exact H1 D Q h0 hc _ _ _ _ _ ⟨mn, pq, hb, gb, ws, rfl, KK, hG⟩
  | succ d ih =>
    intro k hkd D Q h0 hc x1 mn pq hb gb ws b_places b_heights b_gone b_worst KK hx
    have hmn := KK.1
    refine pk_le mn k (fun z => ?_) (fun z => ?_)
    · rcases hx with ⟨rfl, hG, hall⟩ | ⟨rfl, hG⟩
      · exact H0 _ _ _ _ _ (ye_end KK h0 hc (fun j h hj hb' => hall j h (by omega) hj hb'))
      · exact H1 D Q h0 hc _ _ _ _ _ ⟨mn, pq, hb, gb, ws, rfl, KK, hG⟩
    · obtain ⟨k1, k2, k3, k4, k5, k6, k7, k8⟩ := id KK
      obtain ⟨a1, a2, a3, a4, a5, a6, a7, a8, a9⟩ := k2 k z
      obtain ⟨o, o1, o2, o3⟩ := bm_df a4 a6
      have ek : (nI k).toNatClampNeg = k := nI_clamp (by omega)
      have hin := vp_in_nI (n := k) (N := 41) (by omega) (by decide)
      refine And.intro hin (And.intro hin (nm_r (e' := nI o) (by rw [ek, a3, a5]; exact o2) (pk_eq o 0 (fun y => nm_r (nI_1 k) (ih (k + 1) (by omega) D Q h0 hc x1 mn pq hb gb ws _ _ _ _ KK ?_)) (fun y => ?_))))
      · refine hx.imp (fun ⟨x0, hG, hall⟩ => ⟨x0, hG, fun j h hj hjm hb' => ?_⟩) id
        rcases Nat.lt_or_ge j k with l | l
        · exact hall j h l hjm hb'
        · have : j = k := by omega
          subst this
          have := o3 h
          rw [y, Nat.zero_testBit, hb'] at this
          cases e : (gb j).testBit h
          · rw [e] at this; exact absurd this (by decide)
          · rfl
      · refine yg_57 o1 y ?_
        obtain ⟨l1, l2, l3⟩ := bm_lo o o1 y
        have b1 := o3 (bm_lw o)
        rw [l2] at b1
        have hbit : (hb k).testBit (bm_lw o) = true := by
          cases e : (hb k).testBit (bm_lw o)
          · rw [e, Bool.false_and] at b1; exact absurd b1 (by decide)
          · rfl
        have hgo : (gb k).testBit (bm_lw o) = false := by
          cases e : (gb k).testBit (bm_lw o)
          · rfl
          · rw [hbit, e] at b1; exact absurd b1 (by decide)
        have hr := k4 k _ z hbit
        have hG' : G ≤ ye_cnt mn gb := by rcases hx with ⟨-, hG, -⟩ | ⟨-, hG⟩ <;> omega
        refine br_f (by rw [bm_t o o1 _ l1, if_pos l2]; decide) (And.intro hin (And.intro hin (nm_r (e' := upd b_gone k (nI (gb k ||| 2 ^ bm_lw o))) (by rw [ek, a5, (bm_o _ a6 _ l1).1]) ?_)))
        refine yg_goOn (D := fun x y => D x y ∨ (x = pq k ∧ y = bm_lw o)) (Q := Q) (G := G + 1) P M hr (by omega) a1 a7 a8 (fun hw => ?_) (fun hw => ?_) (fun hw mn' ps hs gs ws' I' => nm_r (nI_1 k) ?_)
        · have hW5 : pp_W cn op (pq k) (bm_lw o) ≤ 5 := by unfold pp_W; (repeat' split) <;> omega
          obtain ⟨K', c'⟩ := ye_K_go (w := min (ws k) (pp_W cn op (pq k) (bm_lw o))) KK z l1 hbit hgo (by omega) (by unfold ex_wz; rw [if_neg hw])
          refine nm_r (nI_1 k) (ih (k + 1) (by omega) _ Q h0 (fun q' h' hD hw' => ?_) 1 mn pq hb _ _ _ _ _ _ K' (Or.inr ⟨rfl, by omega⟩))
          rcases hD with hD | ⟨rfl, rfl⟩
          · exact hc q' h' hD hw'
          · exact absurd hw' hw
        · obtain ⟨K', c'⟩ := ye_K_go (w := ws k) KK z l1 hbit hgo a8 (by unfold ex_wz; rw [if_pos hw]; omega)
          rw [xv_upd a7] at K'
          exact ⟨mn, pq, hb, _, _, rfl, K', by omega⟩
        · obtain ⟨mn', pq', hb', gb', ws'', rfl, KK', hG''⟩ := I'
          refine ih (k + 1) (by omega) _ _ (Or.inl h0) (fun q' h' hD hw' a b hs' => ?_) 1 mn' pq' hb' gb' ws'' _ _ _ _ KK' (Or.inr ⟨rfl, hG''⟩)
          rcases hD with hD | ⟨rfl, rfl⟩
          · exact Or.inl (hc q' h' hD hw' a b hs')
          · exact Or.inr hs'
theorem yg_13 (P : pp_P cn hn op fr tt tg ct pa be ar) (M : pp_M cn hn op tg ar)
    (K : ∀ g_many b_places b_heights b_gone b_worst, ye_F (pp_W cn op) (ex_R (pp_W cn op) (pp_S hn op fr tt tg ar)) g_many b_places b_heights b_worst → post ((nI cn), (nI hn), g_many, g_there, g_typed, g_wrongNumber, g_wrongPlace, g_size, g_why, g_height, g_objects, g_line, g_begun, g_last, g_end, (aa_N pa), (aa_N be), (aa_N op), ar, (aa_N fr), (aa_N tt), (aa_N tg), (aa_N ct), b_places, b_heights, b_gone, b_worst, b_frames, b_maps, b_high, b_known, b_mapped, b_now, b_sorts, b_ints, b_classes, b_ready)) :
    ∀ B D Q, Q 0 0 → (∀ q h, D q h → pp_W cn op q h = 0 → ∀ q' h', pp_S hn op fr tt tg ar q h q' h' → Q q' h') → ∀ g_many b_places b_heights b_gone b_worst, ye_I (pp_W cn op) (ex_R (pp_W cn op) (pp_S hn op fr tt tg ar)) D Q (287 - B) g_many b_places b_heights b_gone b_worst → wY_walk_13 post (B + 2) 1 (nI cn) (nI hn) g_many g_there g_typed g_wrongNumber g_wrongPlace g_size g_why g_height g_objects g_line g_begun g_last g_end (aa_N pa) (aa_N be) (aa_N op) ar (aa_N fr) (aa_N tt) (aa_N tg) (aa_N ct) b_places b_heights b_gone b_worst b_frames b_maps b_high b_known b_mapped b_now b_sorts b_ints b_classes b_ready := by
  intro B
  induction B with
  | zero =>
    intro D Q h0 hc g_many b_places b_heights b_gone b_worst I
    obtain ⟨mn, pq, hb, gb, ws, rfl, KK, hG⟩ := I
    refine br_f (by decide) ⟨42, yg_21 (G := 287) P M (fun g_many b_places b_heights b_gone b_worst F => br_t rfl (K _ _ _ _ _ F)) (fun D Q _ _ g_many b_places b_heights b_gone b_worst I' => ?_) 41 0 (by omega) D Q h0 hc 0 mn pq hb gb ws _ _ _ _ KK (Or.inl ⟨rfl, hG, fun j h hj => by omega⟩)⟩
    obtain ⟨mn', pq', hb', gb', ws', -, -, hG'⟩ := I'
    have := ex_cle (fun x => x / 7 < mn' ∧ (gb' (x / 7)).testBit (x % 7) = true) 287
    unfold ye_cnt at hG'
    omega
  | succ B ih =>
    intro D Q h0 hc g_many b_places b_heights b_gone b_worst I
    obtain ⟨mn, pq, hb, gb, ws, rfl, KK, hG⟩ := I
    refine br_f (by decide) ⟨42, yg_21 (G := 287 - (B + 1)) P M (fun g_many b_places b_heights b_gone b_worst F => br_t rfl (K _ _ _ _ _ F)) (fun D Q h0' hc' g_many b_places b_heights b_gone b_worst I' => ih D Q h0' hc' _ _ _ _ _ ?_) 41 0 (by omega) D Q h0 hc 0 mn pq hb gb ws _ _ _ _ KK (Or.inl ⟨rfl, hG, fun j h hj => by omega⟩)⟩
    obtain ⟨mn', pq', hb', gb', ws', e', K', hG'⟩ := I'
    exact ⟨mn', pq', hb', gb', ws', e', K', by omega⟩
theorem yg_walk (P : pp_P cn hn op fr tt tg ct pa be ar) (M : pp_M cn hn op tg ar)
    (K : ∀ g_many b_places b_heights b_gone b_worst, ye_F (pp_W cn op) (ex_R (pp_W cn op) (pp_S hn op fr tt tg ar)) g_many b_places b_heights b_worst → post ((nI cn), (nI hn), g_many, g_there, g_typed, g_wrongNumber, g_wrongPlace, g_size, g_why, g_height, g_objects, g_line, g_begun, g_last, g_end, (aa_N pa), (aa_N be), (aa_N op), ar, (aa_N fr), (aa_N tt), (aa_N tg), (aa_N ct), b_places, b_heights, b_gone, b_worst, b_frames, b_maps, b_high, b_known, b_mapped, b_now, b_sorts, b_ints, b_classes, b_ready)) : wpY_walk post ((nI cn), (nI hn), g_many, g_there, g_typed, g_wrongNumber, g_wrongPlace, g_size, g_why, g_height, g_objects, g_line, g_begun, g_last, g_end, (aa_N pa), (aa_N be), (aa_N op), ar, (aa_N fr), (aa_N tt), (aa_N tg), (aa_N ct), b_places, b_heights, b_gone, b_worst, b_frames, b_maps, b_high, b_known, b_mapped, b_now, b_sorts, b_ints, b_classes, b_ready) := by
  have hI : ye_I (pp_W cn op) (ex_R (pp_W cn op) (pp_S hn op fr tt tg ar)) (fun _ _ => False) (fun _ _ => False) 0 0 b_places b_heights b_gone b_worst :=
    ⟨0, fun _ => 0, fun _ => 0, fun _ => 0, fun _ => 0, rfl, ⟨by omega, fun k hk => by omega, fun i j hi => by omega, fun k h hk => by omega, fun k h hk => by omega, fun q h z => z.elim, fun k hk => by omega, fun q h z => z.elim⟩, Nat.zero_le _⟩
  exact ye_come (q := 0) (h := 0) hI kk_V0 (by omega) ex_R0 (fun mn ps hs gs ws z => ⟨289, yg_13 P M K 287 _ _ (Or.inr ⟨rfl, rfl⟩) (fun q h hD => hD.elim) mn ps hs gs ws z⟩)
end
end
section
/-! the component's low, isWrong, sort -/
/-- fault numbers -/
def ex_sv (R : Nat → Nat → Prop) (q : Nat) : Prop := ∃ h h', R q h ∧ R q h' ∧ h ≠ h'
def ex_fn (W : Nat → Nat → Nat) (R : Nat → Nat → Prop) (q v : Nat) : Prop := ∃ w, ex_mw W R q w ∧ ((ex_sv R q ∧ v = min w 6) ∨ (¬ ex_sv R q ∧ v = w))
theorem ex_mw_u {W : Nat → Nat → Nat} {R : Nat → Nat → Prop} {q w w' : Nat} (hb : ∀ h, R q h → ex_wz W q h ≤ 9) (a : ex_mw W R q w) (b : ex_mw W R q w') : w = w' := by
  obtain ⟨a1, a2⟩ := a
  obtain ⟨b1, b2⟩ := b
  have x : w ≤ w' := by
    rcases b2 with z | ⟨h, h1, h2⟩
    · rcases a2 with y | ⟨h, h1, h2⟩
      · omega
      · have := hb h h1; omega
    · have := a1 h h1; omega
  have y : w' ≤ w := by
    rcases a2 with z | ⟨h, h1, h2⟩
    · rcases b2 with y | ⟨h, h1, h2⟩
      · omega
      · have := hb h h1; omega
    · have := b1 h h1; omega
  omega
theorem ex_fn_u {W : Nat → Nat → Nat} {R : Nat → Nat → Prop} {q v v' : Nat} (hb : ∀ h, R q h → ex_wz W q h ≤ 9) (a : ex_fn W R q v) (b : ex_fn W R q v') : v = v' := by
  obtain ⟨w, a1, a2⟩ := a
  obtain ⟨w', b1, b2⟩ := b
  have := ex_mw_u hb a1 b1
  rcases a2 with ⟨x, y⟩ | ⟨x, y⟩ <;> rcases b2 with ⟨x', y'⟩ | ⟨x', y'⟩
  · omega
  · exact absurd x x'
  · exact absurd x' x
  · omega
theorem bm_w9 (a : Nat) : bm_lw a ≤ 9 := by unfold bm_lw; (repeat' split) <;> omega
theorem bm_64 : ∀ a, a < 128 → bm_lw (a ||| 64) = min (bm_lw a) 6 ∧ a ||| 64 < 128 ∧ a ||| 64 ≠ 0 := by decide +kernel
theorem bm_0 : ∀ a, a < 128 → (a = 0 ↔ bm_lw a = 9) := by decide +kernel
/-- two heights: as the bits say it -/
theorem ex_sv_bits {R : Nat → Nat → Prop} {q a : Nat} (ha : a < 128) (h : ∀ j, (a.testBit j = true ↔ R q j)) : ((nI a &&& (nI a - 1)) = 0 ↔ ¬ ex_sv R q) := by
  rw [bm_sv a ha]
  constructor
  · rintro z ⟨i, j, hi, hj, ne⟩
    have b1 := (h i).mpr hi
    have b2 := (h j).mpr hj
    have i7 : i < 7 := by
      rcases Nat.lt_or_ge i 7 with l | l
      · exact l
      · rw [bm_hi ha l] at b1; exact absurd b1 (by decide)
    have j7 : j < 7 := by
      rcases Nat.lt_or_ge j 7 with l | l
      · exact l
      · rw [bm_hi ha l] at b2; exact absurd b2 (by decide)
    exact ne (z i i7 j j7 b1 b2)
  · intro z i _ j _ b1 b2
    exact Classical.byContradiction fun ne => z ⟨i, j, (h i).mp b1, (h j).mp b2, ne⟩
/-- the first wrong place -/
def ex_wrong (W : Nat → Nat → Nat) (R : Nat → Nat → Prop) (q v : Nat) : Prop := kk_V q ∧ (∃ h, R q h) ∧ ex_fn W R q v ∧ v < 7 ∧ ∀ q' v', (∃ h, R q' h) → ex_fn W R q' v' → v' ≠ 9 → q ≤ q'
def ex_right (W : Nat → Nat → Nat) (R : Nat → Nat → Prop) : Prop := ∀ q, (∃ h, R q h) → ex_fn W R q 9
/-- what is said of a place -/
def ex_said (q v : Nat) (said : Nat → Int32) : Prop := said 0 = nI v ∧ said 1 = nI (q % 25) ∧ said 2 = nI (q / 390625) ∧ ∀ k, k < 3 → said (3 + k) = if k < q / 390625 then nI (kk_c q k) else -1
section
variable {cn hn : Nat} {op fr tt tg ct pa be : Nat → Nat} {ar an : Nat → Int32}
variable {f_count f_handlers f_met f_waiting f_tooMany f_size f_height f_why f_found f_objects f_high f_at f_here f_steps f_outcome f_last f_ran : Int32} {a_parents a_ancestors a_begins a_ops a_operands a_froms a_tos a_targets a_catches a_keys a_heights a_faults a_table a_todo a_said a_sorted a_instruction a_values a_jumps a_caught a_caller a_mapped a_known a_types a_maps a_now a_sort a_made a_number a_ready : Nat → Int32}
theorem xx_low {post : Int32 → Prop} {a : Nat} (ha : a < 128) (h0 : a ≠ 0) (h : post (nI (bm_lw a))) : wpX_low post (nI a) := by
  obtain ⟨l1, l2, l3⟩ := bm_lo a ha h0
  have key : ∀ e, e ≤ bm_lw a → wX_low_2 post (nI a) (e + 1) (nI (bm_lw a - e)) := by
    intro e
    induction e with
    | zero =>
      intro _
      exact br_f (by rw [Nat.sub_zero, bm_t a ha _ l1, if_pos l2]; decide) h
    | succ e ih =>
      intro he
      refine br_t ?_ (nm_r (e' := nI (bm_lw a - e)) ?_ (ih (by omega)))
      · rw [bm_t a ha _ (by omega), l3 _ (by omega)]; rfl
      · rw [nI_1]; exact congrArg nI (by omega)
  have := key (bm_lw a) (Nat.le_refl _)
  rw [Nat.sub_self] at this
  exact ⟨_, this⟩
variable {post : Int32 → SX → Prop}
theorem xw_174 {q p : Nat} {sd0 : Nat → Int32} (hp : p < 41) (hk : a_keys p = nI q) (hv : kk_V q) (K : ∀ sd, (∀ j, (j < 3 ∨ 6 ≤ j) → sd j = sd0 j) → (∀ k, k < 3 → sd (3 + k) = if k < q / 390625 then nI (kk_c q k) else sd0 (3 + k)) → post 1 (f_count, f_handlers, f_met, f_waiting, f_tooMany, f_size, f_height, f_why, f_found, f_objects, f_high, f_at, f_here, f_steps, f_outcome, f_last, f_ran, a_parents, a_ancestors, a_begins, a_ops, a_operands, a_froms, a_tos, a_targets, a_catches, a_keys, a_heights, a_faults, a_table, a_todo, sd, a_sorted, a_instruction, a_values, a_jumps, a_caught, a_caller, a_mapped, a_known, a_types, a_maps, a_now, a_sort, a_made, a_number, a_ready)) :
    ∀ d k, k + d = q / 390625 → ∀ sd, (∀ j, (j < 3 ∨ 6 ≤ j) → sd j = sd0 j) → (∀ j, j < 3 → sd (3 + j) = if j < k then nI (kk_c q j) else sd0 (3 + j)) → wX_isWrong_174 post (nI p) (nI (q / 390625)) f_count f_handlers f_met f_waiting f_tooMany f_size f_height f_why f_found f_objects f_high f_at f_here f_steps f_outcome f_last f_ran (d + 1) (nI k) a_parents a_ancestors a_begins a_ops a_operands a_froms a_tos a_targets a_catches a_keys a_heights a_faults a_table a_todo sd a_sorted a_instruction a_values a_jumps a_caught a_caller a_mapped a_known a_types a_maps a_now a_sort a_made a_number a_ready := by
  have hq := kk_Vlt hv
  have hn := kk_Vn hv
  have ep : (nI p).toNatClampNeg = p := nI_clamp (by omega)
  intro d
  induction d with
  | zero =>
    intro k hkd sd h1 h2
    refine br_t (nI_le (by omega) (by omega)) (K sd h1 ?_)
    have : k = q / 390625 := by omega
    rw [← this]; exact h2
  | succ d ih =>
    intro k hkd sd h1 h2
    have hc := kk_Vc hv k
    have e3 : (3 : Int32) + nI k = nI (3 + k) := nI_add 3 k
    have ec : (nI (3 + k)).toNatClampNeg = 3 + k := nI_clamp (by omega)
    refine br_f (nI_ge (by omega) (by omega)) (And.intro (vp_in_nI hp (by decide)) ?_)
    rw [ep, hk]
    refine xx_call (by omega) (by omega) ?_
    rw [e3]
    refine And.intro (vp_in_nI (by omega) (by decide)) (nm_r (e' := upd sd (3 + k) (nI (kk_c q k))) (by rw [ec, aa_nb (by omega)]) (nm_r (nI_1 k) (ih (k + 1) (by omega) _ (fun j hj => ?_) (fun j hj => ?_))))
    · rw [pk_un (by omega)]; exact h1 j hj
    · by_cases e : j = k
      · subst e; rw [pk_us, if_pos (by omega)]
      · rw [pk_un (by omega), h2 j hj]
        by_cases l : j < k
        · rw [if_pos l, if_pos (by omega)]
        · rw [if_neg l, if_neg (by omega)]
theorem xw_80 {J : _} {x1 : Int32} {p : Nat} (K : wX_isWrong_80 post J x1 (nI p) f_count f_handlers f_met f_waiting f_tooMany f_size f_height f_why f_found f_objects f_high f_at f_here f_steps f_outcome f_last f_ran a_parents a_ancestors a_begins a_ops a_operands a_froms a_tos a_targets a_catches a_keys a_heights a_faults a_table a_todo a_said a_sorted a_instruction a_values a_jumps a_caught a_caller a_mapped a_known a_types a_maps a_now a_sort a_made a_number a_ready) : wX_isWrong_80 post J x1 (nI p) f_count f_handlers f_met f_waiting f_tooMany f_size f_height f_why f_found f_objects f_high f_at f_here f_steps f_outcome f_last f_ran a_parents a_ancestors a_begins a_ops a_operands a_froms a_tos a_targets a_catches a_keys a_heights a_faults a_table a_todo a_said a_sorted a_instruction a_values a_jumps a_caught a_caller a_mapped a_known a_types a_maps a_now a_sort a_made a_number a_ready := K
/-- the loop over the places met -/
theorem xw_42 {W : Nat → Nat → Nat} {R : Nat → Nat → Prop} {mt : Nat} {kq hb fb : Nat → Nat} (hm : mt ≤ 40) (hW : ∀ q h, ex_wz W q h ≤ 9) (hWn : ∀ q h, ex_wz W q h ≠ 6 ∧ ex_wz W q h ≠ 7 ∧ ex_wz W q h ≠ 8)
    (h2 : ∀ p, p < mt → a_keys p = nI (kq p) ∧ a_heights p = nI (hb p) ∧ hb p < 128 ∧ fb p < 128 ∧ kk_V (kq p) ∧ ∃ h, R (kq p) h) (hinj : ∀ i j, i < mt → j < mt → kq i = kq j → i = j)
    (hbit : ∀ p h, p < mt → ((hb p).testBit h = true ↔ R (kq p) h)) (hall : ∀ q h, R q h → ∃ p, p < mt ∧ kq p = q) (hmw : ∀ p, p < mt → ex_mw W R (kq p) (bm_lw (fb p))) (hsd : ∀ j, j < 6 → a_said j = -1)
    (K0 : ex_right W R → ∀ fs, post 0 (f_count, f_handlers, (nI mt), f_waiting, f_tooMany, f_size, f_height, f_why, f_found, f_objects, f_high, f_at, f_here, f_steps, f_outcome, f_last, f_ran, a_parents, a_ancestors, a_begins, a_ops, a_operands, a_froms, a_tos, a_targets, a_catches, a_keys, a_heights, fs, a_table, a_todo, a_said, a_sorted, a_instruction, a_values, a_jumps, a_caught, a_caller, a_mapped, a_known, a_types, a_maps, a_now, a_sort, a_made, a_number, a_ready)) (K1 : ∀ q v, ex_wrong W R q v → ∀ fs sd, ex_said q v sd → post 1 (f_count, f_handlers, (nI mt), f_waiting, f_tooMany, f_size, f_height, f_why, f_found, f_objects, f_high, f_at, f_here, f_steps, f_outcome, f_last, f_ran, a_parents, a_ancestors, a_begins, a_ops, a_operands, a_froms, a_tos, a_targets, a_catches, a_keys, a_heights, fs, a_table, a_todo, sd, a_sorted, a_instruction, a_values, a_jumps, a_caught, a_caller, a_mapped, a_known, a_types, a_maps, a_now, a_sort, a_made, a_number, a_ready)) :
    ∀ d p, p + d = mt → ∀ x1 fs, (∀ j, p ≤ j → j < mt → fs j = nI (fb j)) → ((x1 = -1 ∧ ∀ j, j < p → ex_fn W R (kq j) 9) ∨ (∃ f b, f < p ∧ x1 = nI f ∧ fs f = nI b ∧ b < 128 ∧ ex_fn W R (kq f) (bm_lw b) ∧ b ≠ 0 ∧ ∀ j v, j < p → ex_fn W R (kq j) v → v ≠ 9 → kq f ≤ kq j)) →
    wX_isWrong_42 post f_count f_handlers (nI mt) f_waiting f_tooMany f_size f_height f_why f_found f_objects f_high f_at f_here f_steps f_outcome f_last f_ran (d + 1) x1 (nI p) a_parents a_ancestors a_begins a_ops a_operands a_froms a_tos a_targets a_catches a_keys a_heights fs a_table a_todo a_said a_sorted a_instruction a_values a_jumps a_caught a_caller a_mapped a_known a_types a_maps a_now a_sort a_made a_number a_ready := by
  have hb9 : ∀ q h, R q h → ex_wz W q h ≤ 9 := fun q h _ => hW q h
  intro d
  induction d with
  | zero =>
    intro p hpd x1 fs hfs hx
    refine br_t (nI_le (by omega) (by omega)) ?_
    have all : ∀ q v, (∃ h, R q h) → ex_fn W R q v → ∃ j, j < p ∧ kq j = q := fun q v ⟨h, hr⟩ _ => by
      obtain ⟨j, j1, j2⟩ := hall q h hr; exact ⟨j, by omega, j2⟩
    rcases hx with ⟨rfl, hx⟩ | ⟨f, b, f1, rfl, f3, f4, f5, f6, f7⟩
    · refine br_f (by decide) (K0 (fun q hq => ?_) fs)
      obtain ⟨h, hr⟩ := hq
      obtain ⟨j, j1, j2⟩ := hall q h hr
      rw [← j2]; exact hx j (by omega)
    · obtain ⟨a1, a2, a3, a4, a5, a6⟩ := h2 f (by omega)
      have ef : (nI f).toNatClampNeg = f := nI_clamp (by omega)
      have hq := kk_Vlt a5
      have hq2 := kk_Vi a5
      have hq3 := kk_Vn a5
      have hlo := bm_lo b f4 f6
      have hin := vp_in_nI (n := f) (N := 41) (by omega) (by decide)
      refine br_t (nI_pos' (by omega)) (And.intro hin ?_)
      rw [ef, f3]
      refine xx_low f4 f6 (nm_r (e' := upd a_said 0 (nI (bm_lw b))) (by rw [aa_nb (by omega)]) (And.intro hin (And.intro (by decide) ?_)))
      rw [a1]
      refine nm_r (e' := upd (upd a_said 0 (nI (bm_lw b))) 1 (nI (kq f % 25))) (by rw [xx_rem25 (by omega), aa_nb (by omega)]) (And.intro hin ?_)
      refine xx_calls (by omega) (nm_r (e' := upd (upd (upd a_said 0 (nI (bm_lw b))) 1 (nI (kq f % 25))) 2 (nI (kq f / 390625))) (by rw [aa_nb (by omega)]) ⟨kq f / 390625 + 1, ?_⟩)
      refine xw_174 (q := kq f) (sd0 := upd (upd (upd a_said 0 (nI (bm_lw b))) 1 (nI (kq f % 25))) 2 (nI (kq f / 390625))) (by omega) a1 a5 (fun sd s1 s2 => ?_) (kq f / 390625) 0 (by omega) _ (fun _ _ => rfl) (fun j hj => by rw [if_neg (by omega)])
      refine K1 (kq f) (bm_lw b) ⟨a5, a6, f5, hlo.1, fun q' v' hq' hf hv' => ?_⟩ fs sd ⟨?_, ?_, ?_, fun k hk => ?_⟩
      · obtain ⟨j, j1, j2⟩ := all q' v' hq' hf
        rw [← j2] at hf ⊢
        exact f7 j v' j1 hf hv'
      · rw [s1 0 (by omega), pk_un (by omega), pk_un (by omega), pk_us]
      · rw [s1 1 (by omega), pk_un (by omega), pk_us]
      · rw [s1 2 (by omega), pk_us]
      · rw [s2 k hk, pk_un (by omega), pk_un (by omega), pk_un (by omega), hsd (3 + k) (by omega)]
  | succ d ih =>
    intro p hpd x1 fs hfs hx
    obtain ⟨a1, a2, a3, a4, a5, a6⟩ := h2 p (by omega)
    have ep : (nI p).toNatClampNeg = p := nI_clamp (by omega)
    have hin := vp_in_nI (n := p) (N := 41) (by omega) (by decide)
    have hsv := ex_sv_bits a3 (fun j => hbit p j (by omega))
    have hq := kk_Vlt a5
    -- the test at one place, whatever its faults are
    have r80 : ∀ fs' b, (∀ j, j ≠ p → fs' j = fs j) → fs' p = nI b → b < 128 → ex_fn W R (kq p) (bm_lw b) → wX_isWrong_80 post (wX_isWrong_42 post f_count f_handlers (nI mt) f_waiting f_tooMany f_size f_height f_why f_found f_objects f_high f_at f_here f_steps f_outcome f_last f_ran (d + 1)) x1 (nI p) f_count f_handlers (nI mt) f_waiting f_tooMany f_size f_height f_why f_found f_objects f_high f_at f_here f_steps f_outcome f_last f_ran a_parents a_ancestors a_begins a_ops a_operands a_froms a_tos a_targets a_catches a_keys a_heights fs' a_table a_todo a_said a_sorted a_instruction a_values a_jumps a_caught a_caller a_mapped a_known a_types a_maps a_now a_sort a_made a_number a_ready := by
      intro fs' b hfs' e1 e2 e3
      have nxt : ∀ j, p + 1 ≤ j → j < mt → fs' j = nI (fb j) := fun j hj hjm => by rw [hfs' j (by omega)]; exact hfs j (by omega) hjm
      refine And.intro hin ?_
      rw [ep, e1]
      refine pk_eq b 0 (fun z => nm_r (nI_1 p) (ih (p + 1) (by omega) x1 fs' nxt ?_)) (fun z => ?_)
      · have e9 : bm_lw b = 9 := (bm_0 b e2).mp z
        rw [e9] at e3
        rcases hx with ⟨x0, hx⟩ | ⟨f, b', f1, f2, f3, f4, f5, f6, f7⟩
        · refine Or.inl ⟨x0, fun j hj => ?_⟩
          rcases Nat.lt_or_ge j p with l | l
          · exact hx j l
          · have : j = p := by omega
            subst this; exact e3
        · refine Or.inr ⟨f, b', by omega, f2, by rw [hfs' f (by omega)]; exact f3, f4, f5, f6, fun j v hj hf hv => ?_⟩
          rcases Nat.lt_or_ge j p with l | l
          · exact f7 j v l hf hv
          · have : j = p := by omega
            subst this
            exact absurd (ex_fn_u (hb9 _) hf e3) hv
      · have e9 : bm_lw b ≠ 9 := fun y => z ((bm_0 b e2).mpr y)
        rcases hx with ⟨rfl, hx⟩ | ⟨f, b', f1, rfl, f3, f4, f5, f6, f7⟩
        · refine br_t (by decide) (nm_r (nI_1 p) (ih (p + 1) (by omega) (nI p) fs' nxt (Or.inr ⟨p, b, by omega, rfl, e1, e2, e3, z, fun j v hj hf hv => ?_⟩)))
          rcases Nat.lt_or_ge j p with l | l
          · exact absurd (ex_fn_u (hb9 _) hf (hx j l)) hv
          · have : j = p := by omega
            subst this; omega
        · have ef : (nI f).toNatClampNeg = f := nI_clamp (by omega)
          obtain ⟨c1, -, -, -, c5, -⟩ := h2 f (by omega)
          have hqf := kk_Vlt c5
          refine br_f (nI_pos (by omega)) (And.intro hin (And.intro (vp_in_nI (by omega) (by decide)) ?_))
          rw [ef, c1, a1]
          refine pk_le (kq f) (kq p) (fun l => nm_r (nI_1 p) (ih (p + 1) (by omega) (nI f) fs' nxt (Or.inr ⟨f, b', by omega, rfl, by rw [hfs' f (by omega)]; exact f3, f4, f5, f6, fun j v hj hf hv => ?_⟩))) (fun l => nm_r (nI_1 p) (ih (p + 1) (by omega) (nI p) fs' nxt (Or.inr ⟨p, b, by omega, rfl, e1, e2, e3, z, fun j v hj hf hv => ?_⟩)))
          · rcases Nat.lt_or_ge j p with l' | l'
            · exact f7 j v l' hf hv
            · have : j = p := by omega
              subst this; exact l
          · rcases Nat.lt_or_ge j p with l' | l'
            · have := f7 j v l' hf hv; omega
            · have : j = p := by omega
              subst this; omega
    refine br_f (nI_ge (by omega) (by omega)) (And.intro hin (And.intro hin ?_))
    rw [ep, a2, hfs p (Nat.le_refl p) (by omega)]
    refine br_c (fun z => r80 fs (fb p) (fun _ _ => rfl) (hfs p (Nat.le_refl p) (by omega)) a4 ⟨_, hmw p (by omega), Or.inr ⟨hsv.mp z, rfl⟩⟩) (fun z => And.intro hin (And.intro hin (nm_r (e' := upd fs p (nI (fb p ||| 64))) (by rw [show nI (fb p) ||| 64 = nI (fb p ||| 64) from bm_or (fb p) 64, aa_nb (bm_64 _ a4).2.1]) ?_)))
    refine r80 _ (fb p ||| 64) (fun j hj => pk_un hj) pk_us (bm_64 _ a4).2.1 ⟨_, hmw p (by omega), Or.inl ⟨?_, (bm_64 _ a4).1⟩⟩
    exact Classical.byContradiction fun y => z (hsv.mpr y)
end
end
section
/-! the component's isWrong whole, and sort -/
section
variable {cn hn : Nat} {op fr tt tg ct pa be : Nat → Nat} {ar an : Nat → Int32}
variable {f_count f_handlers f_met f_waiting f_tooMany f_size f_height f_why f_found f_objects f_high f_at f_here f_steps f_outcome f_last f_ran : Int32} {a_parents a_ancestors a_begins a_ops a_operands a_froms a_tos a_targets a_catches a_keys a_heights a_faults a_table a_todo a_said a_sorted a_instruction a_values a_jumps a_caught a_caller a_mapped a_known a_types a_maps a_now a_sort a_made a_number a_ready : Nat → Int32}
theorem xf_said {post : Prop} {W : Nat → Nat → (Nat → Int32) → Prop} (hW0 : ∀ n sd, (∀ j, j < 6 → sd j = -1) → W (n + 1) 6 sd) (hW1 : ∀ n j sd, j < 6 → W n (j + 1) (upd sd j (-1)) → W (n + 1) j sd) (sd0 : Nat → Int32) : ∃ n, W n 0 sd0 := by
  have key : ∀ d j, j + d = 6 → ∀ sd : Nat → Int32, (∀ i, i < j → sd i = -1) → W (d + 1) j sd := by
    intro d
    induction d with
    | zero =>
      intro j hj sd h
      have : j = 6 := by omega
      subst this
      exact hW0 0 sd h
    | succ d ih =>
      intro j hj sd h
      refine hW1 (d + 1) j sd (by omega) (ih (j + 1) (by omega) _ (fun i hi => ?_))
      by_cases e : i = j
      · rw [e, pk_us]
      · rw [pk_un e]; exact h i (by omega)
  exact ⟨7, key 6 0 (by omega) sd0 (fun i hi => by omega)⟩
theorem xw_isWrong {post : Int32 → SX → Prop} {W : Nat → Nat → Nat} {R : Nat → Nat → Prop} (hW : ∀ q h, ex_wz W q h ≤ 9) (hWn : ∀ q h, ex_wz W q h ≠ 6 ∧ ex_wz W q h ≠ 7 ∧ ex_wz W q h ≠ 8)
    (hF : f_tooMany = 1 ∨ (f_tooMany = 0 ∧ xe_F W R f_met a_keys a_heights a_faults a_table))
    (K7 : f_tooMany = 1 → ∀ sd, sd 0 = 7 → (∀ j, 0 < j → j < 6 → sd j = -1) → post 1 (f_count, f_handlers, f_met, f_waiting, f_tooMany, f_size, f_height, f_why, f_found, f_objects, f_high, f_at, f_here, f_steps, f_outcome, f_last, f_ran, a_parents, a_ancestors, a_begins, a_ops, a_operands, a_froms, a_tos, a_targets, a_catches, a_keys, a_heights, a_faults, a_table, a_todo, sd, a_sorted, a_instruction, a_values, a_jumps, a_caught, a_caller, a_mapped, a_known, a_types, a_maps, a_now, a_sort, a_made, a_number, a_ready))
    (K0 : f_tooMany = 0 → ex_right W R → ∀ fs sd, (∀ j, j < 6 → sd j = -1) → post 0 (f_count, f_handlers, f_met, f_waiting, f_tooMany, f_size, f_height, f_why, f_found, f_objects, f_high, f_at, f_here, f_steps, f_outcome, f_last, f_ran, a_parents, a_ancestors, a_begins, a_ops, a_operands, a_froms, a_tos, a_targets, a_catches, a_keys, a_heights, fs, a_table, a_todo, sd, a_sorted, a_instruction, a_values, a_jumps, a_caught, a_caller, a_mapped, a_known, a_types, a_maps, a_now, a_sort, a_made, a_number, a_ready)) (K1 : f_tooMany = 0 → ∀ q v, ex_wrong W R q v → ∀ fs sd, ex_said q v sd → post 1 (f_count, f_handlers, f_met, f_waiting, f_tooMany, f_size, f_height, f_why, f_found, f_objects, f_high, f_at, f_here, f_steps, f_outcome, f_last, f_ran, a_parents, a_ancestors, a_begins, a_ops, a_operands, a_froms, a_tos, a_targets, a_catches, a_keys, a_heights, fs, a_table, a_todo, sd, a_sorted, a_instruction, a_values, a_jumps, a_caught, a_caller, a_mapped, a_known, a_types, a_maps, a_now, a_sort, a_made, a_number, a_ready)) : wpX_isWrong post (f_count, f_handlers, f_met, f_waiting, f_tooMany, f_size, f_height, f_why, f_found, f_objects, f_high, f_at, f_here, f_steps, f_outcome, f_last, f_ran, a_parents, a_ancestors, a_begins, a_ops, a_operands, a_froms, a_tos, a_targets, a_catches, a_keys, a_heights, a_faults, a_table, a_todo, a_said, a_sorted, a_instruction, a_values, a_jumps, a_caught, a_caller, a_mapped, a_known, a_types, a_maps, a_now, a_sort, a_made, a_number, a_ready) := by
  refine xf_said (post := True) (W := fun n j sd => wX_isWrong_4 post (-1) f_count f_handlers f_met f_waiting f_tooMany f_size f_height f_why f_found f_objects f_high f_at f_here f_steps f_outcome f_last f_ran n (nI j) a_parents a_ancestors a_begins a_ops a_operands a_froms a_tos a_targets a_catches a_keys a_heights a_faults a_table a_todo sd a_sorted a_instruction a_values a_jumps a_caught a_caller a_mapped a_known a_types a_maps a_now a_sort a_made a_number a_ready) (fun n sd hsd => ?_) (fun n j sd hj h => ?_) a_said
  · refine br_t (nI_le (a := 6) (by omega) (by decide)) ?_
    rcases hF with z | ⟨z, mt, kq, hb, fb, em, h1, h2, h3, h4, h5, h6, h7⟩
    · subst z
      refine br_f (by decide) (nm_r (e' := upd sd 0 7) (by rw [show vp_nar .byte 7 = 7 from aa_nb1 (n := 7) (by decide)]) (K7 rfl _ pk_us (fun j hj hj6 => ?_)))
      rw [pk_un (by omega)]; exact hsd j hj6
    · subst z em
      refine br_t rfl ⟨mt + 1, xw_42 (W := W) (R := R) (mt := mt) (kq := kq) (hb := hb) (fb := fb) h1 hW hWn (fun p hp => ?_) h3 h5 h6 h7 hsd (fun hr fs => K0 rfl hr fs sd hsd) (fun q v hq fs sd' hs => K1 rfl q v hq fs sd' hs) mt 0 (by omega) (-1) a_faults (fun j _ hj => (h2 j hj).2.2.2.1) (Or.inl ⟨rfl, fun j hj => by omega⟩)⟩
      obtain ⟨a1, a2, a3, a4, a5, a6, a7⟩ := h2 p hp
      exact ⟨a1, a2, a3, a5, a6, a7⟩
  · have ej : (nI j).toNatClampNeg = j := nI_clamp (by omega)
    refine br_f (nI_ge (b := 6) (by omega) (by decide)) (And.intro (vp_in_nI (by omega) (by decide)) (nm_r (e' := upd sd j (-1)) (by rw [ej, aa_nbm]) (nm_r (nI_1 j) h)))
-- insertion
def xs_ins (sq : Nat → Nat) (k v : Nat) : Nat → Nat := fun j => if j < k then sq j else if j = k then v else sq (j - 1)
theorem xs_27 {post : SX → Prop} {J7 : _} {p v : Nat} {sq : Nat → Nat} (hp : p < 40) (hk : a_keys p = nI v) (hv : v < 2 ^ 31) (hs : ∀ j, j < p → sq j < 2 ^ 31) (hinc : ∀ i j, i < j → j < p → sq i < sq j) (hne : ∀ j, j < p → sq j ≠ v)
    (K : ∀ a k, k ≤ p → (∀ j, j < p + 1 → a j = nI (xs_ins sq k v j)) → (∀ j, j < k → sq j < v) → (∀ j, k ≤ j → j < p → v < sq j) → J7 (nI (p + 1)) (nI (p + 1)) a_parents a_ancestors a_begins a_ops a_operands a_froms a_tos a_targets a_catches a_keys a_heights a_faults a_table a_todo a_said a a_instruction a_values a_jumps a_caught a_caller a_mapped a_known a_types a_maps a_now a_sort a_made a_number a_ready) :
    ∀ k a, k ≤ p → (∀ j, j < k → a j = nI (sq j)) → (∀ j, k < j → j < p + 1 → a j = nI (sq (j - 1))) → (∀ j, k ≤ j → j < p → v < sq j) → wX_sort_27 post J7 (nI p) f_count f_handlers f_met f_waiting f_tooMany (nI (p + 1)) f_height f_why f_found f_objects f_high f_at f_here f_steps f_outcome f_last f_ran (k + 1) (nI k) a_parents a_ancestors a_begins a_ops a_operands a_froms a_tos a_targets a_catches a_keys a_heights a_faults a_table a_todo a_said a a_instruction a_values a_jumps a_caught a_caller a_mapped a_known a_types a_maps a_now a_sort a_made a_number a_ready := by
  have ep : (nI p).toNatClampNeg = p := nI_clamp (by omega)
  have r68 : ∀ k a, k ≤ p → (∀ j, j < k → a j = nI (sq j)) → (∀ j, k < j → j < p + 1 → a j = nI (sq (j - 1))) → (∀ j, k ≤ j → j < p → v < sq j) → (∀ j, j < k → sq j < v) → wX_sort_68 post J7 (nI p) (nI k) f_count f_handlers f_met f_waiting f_tooMany (nI (p + 1)) f_height f_why f_found f_objects f_high f_at f_here f_steps f_outcome f_last f_ran a_parents a_ancestors a_begins a_ops a_operands a_froms a_tos a_targets a_catches a_keys a_heights a_faults a_table a_todo a_said a a_instruction a_values a_jumps a_caught a_caller a_mapped a_known a_types a_maps a_now a_sort a_made a_number a_ready := by
    intro k a hkp h1 h2 h3 h4
    have ek : (nI k).toNatClampNeg = k := nI_clamp (by omega)
    refine And.intro (vp_in_nI (by omega) (by decide)) (And.intro (vp_in_nI (by omega) (by decide)) (nm_r (e' := upd a k (nI v)) (by rw [ek, ep, hk]) (nm_r (nI_1 p) (K _ k hkp (fun j hj => ?_) h4 h3))))
    unfold xs_ins
    by_cases l : j < k
    · rw [if_pos l, pk_un (by omega)]; exact h1 j l
    · rw [if_neg l]
      by_cases e : j = k
      · rw [if_pos e, e, pk_us]
      · rw [if_neg e, pk_un e]; exact h2 j (by omega) hj
  intro k
  induction k with
  | zero =>
    intro a hkp h1 h2 h3
    exact br_t (by decide) (r68 0 a hkp h1 h2 h3 (fun j hj => by omega))
  | succ k ih =>
    intro a hkp h1 h2 h3
    have ek : (nI k).toNatClampNeg = k := nI_clamp (by omega)
    have ek1 : (nI (k + 1)).toNatClampNeg = k + 1 := nI_clamp (by omega)
    have em : nI (k + 1) - 1 = nI k := nI_pred k
    have hink : vp_in (nI k) 40 := vp_in_nI (by omega) (by decide)
    refine br_f (nI_nle (by omega) (by omega)) ?_
    rw [em]
    refine And.intro hink (And.intro (vp_in_nI (by omega) (by decide)) ?_)
    rw [ek, ep, h1 k (by omega), hk]
    have := hs k (by omega)
    refine pk_le (sq k) v (fun l => r68 (k + 1) a hkp h1 h2 h3 (fun j hj => ?_)) (fun l => And.intro hink (And.intro (vp_in_nI (by omega) (by decide)) (nm_r (e' := upd a (k + 1) (nI (sq k))) (by rw [ek1]) (nm_r (pk_m1 k) (ih _ (by omega) (fun j hj => ?_) (fun j hj hjp => ?_) (fun j hj hjp => ?_))))))
    · rcases Nat.lt_or_ge j k with y | y
      · have := hinc j k y (by omega); omega
      · have : j = k := by omega
        subst this
        have := hne j (by omega); omega
    · rw [pk_un (by omega)]; exact h1 j (by omega)
    · by_cases e : j = k + 1
      · rw [e, pk_us]; exact congrArg (fun x => nI (sq x)) (by omega)
      · rw [pk_un e]; exact h2 j (by omega) hjp
    · by_cases e : j = k
      · rw [e]; exact l
      · exact h3 j (by omega) hjp
/-- sorted places: rising, the same ones -/
def xs_S (m : Nat) (kq sq : Nat → Nat) (a : Nat → Int32) : Prop := (∀ j, j < m → a j = nI (sq j)) ∧ (∀ i j, i < j → j < m → sq i < sq j) ∧ (∀ j, j < m → ∃ i, i < m ∧ kq i = sq j) ∧ (∀ i, i < m → ∃ j, j < m ∧ sq j = kq i)
theorem xs_step {p k : Nat} {kq sq : Nat → Nat} {a a' : Nat → Int32} (hS : xs_S p kq sq a) (hk : k ≤ p) (ha : ∀ j, j < p + 1 → a' j = nI (xs_ins sq k (kq p) j)) (h4 : ∀ j, j < k → sq j < kq p) (h3 : ∀ j, k ≤ j → j < p → kq p < sq j) : xs_S (p + 1) kq (xs_ins sq k (kq p)) a' := by
  obtain ⟨s1, s2, s3, s4⟩ := hS
  have i1 : ∀ j, j < k → xs_ins sq k (kq p) j = sq j := fun j hj => if_pos hj
  have i2 : xs_ins sq k (kq p) k = kq p := by unfold xs_ins; rw [if_neg (by omega), if_pos rfl]
  have i3 : ∀ j, k < j → xs_ins sq k (kq p) j = sq (j - 1) := fun j hj => by unfold xs_ins; rw [if_neg (by omega), if_neg (by omega)]
  refine ⟨ha, fun i j hij hj => ?_, fun j hj => ?_, fun i hi => ?_⟩
  · rcases Nat.lt_trichotomy j k with c | c | c
    · rw [i1 i (by omega), i1 j c]; exact s2 i j hij (by omega)
    · rw [i1 i (by omega), c, i2]; exact h4 i (by omega)
    · rw [i3 j c]
      rcases Nat.lt_trichotomy i k with e | e | e
      · rw [i1 i e]
        rcases Nat.lt_or_ge i (j - 1) with y | y
        · exact s2 i (j - 1) y (by omega)
        · omega
      · rw [e, i2]; exact h3 (j - 1) (by omega) (by omega)
      · rw [i3 i e]; exact s2 (i - 1) (j - 1) (by omega) (by omega)
  · rcases Nat.lt_trichotomy j k with c | c | c
    · obtain ⟨i, e1, e2⟩ := s3 j (by omega)
      exact ⟨i, by omega, by rw [i1 j c]; exact e2⟩
    · exact ⟨p, by omega, by rw [c, i2]⟩
    · obtain ⟨i, e1, e2⟩ := s3 (j - 1) (by omega)
      exact ⟨i, by omega, by rw [i3 j c]; exact e2⟩
  · rcases Nat.lt_or_ge i p with c | c
    · obtain ⟨j, e1, e2⟩ := s4 i c
      rcases Nat.lt_or_ge j k with y | y
      · exact ⟨j, by omega, by rw [i1 j y]; exact e2⟩
      · exact ⟨j + 1, by omega, by rw [i3 (j + 1) (by omega)]; exact e2⟩
    · have : i = p := by omega
      subst this
      exact ⟨k, by omega, i2⟩
theorem xs_88 {post : SX → Prop} {m mt : Nat} {kq hb sq va : Nat → Nat} (hm : m ≤ 40) (hmt : mt ≤ 40) (h2 : ∀ p, p < mt → a_keys p = nI (kq p) ∧ a_heights p = nI (hb p) ∧ hb p < 128 ∧ hb p ≠ 0 ∧ kk_V (kq p)) (hinj : ∀ i j, i < mt → j < mt → kq i = kq j → i = j) (T : xe_tb mt kq a_table)
    (hs : ∀ j, j < m → a_sorted j = nI (sq j)) (hin : ∀ j, j < m → ∃ i, i < mt ∧ kq i = sq j) (hva : ∀ j i, j < m → i < mt → kq i = sq j → va j = bm_lw (hb i))
    (K : ∀ ins vas, (∀ j, j < m → ins j = nI (sq j % 25)) → (∀ j, j < m → vas j = nI (va j)) → post (f_count, f_handlers, f_met, f_waiting, f_tooMany, (nI m), f_height, f_why, f_found, f_objects, f_high, f_at, f_here, f_steps, f_outcome, f_last, f_ran, a_parents, a_ancestors, a_begins, a_ops, a_operands, a_froms, a_tos, a_targets, a_catches, a_keys, a_heights, a_faults, a_table, a_todo, a_said, a_sorted, ins, vas, a_jumps, a_caught, a_caller, a_mapped, a_known, a_types, a_maps, a_now, a_sort, a_made, a_number, a_ready)) :
    ∀ d k, k + d = m → ∀ ins vas, (∀ j, j < k → ins j = nI (sq j % 25)) → (∀ j, j < k → vas j = nI (va j)) → wX_sort_88 post f_count f_handlers f_met f_waiting f_tooMany (nI m) f_height f_why f_found f_objects f_high f_at f_here f_steps f_outcome f_last f_ran (d + 1) (nI k) a_parents a_ancestors a_begins a_ops a_operands a_froms a_tos a_targets a_catches a_keys a_heights a_faults a_table a_todo a_said a_sorted ins vas a_jumps a_caught a_caller a_mapped a_known a_types a_maps a_now a_sort a_made a_number a_ready := by
  intro d
  induction d with
  | zero =>
    intro k hkd ins vas h3 h4
    exact br_t (nI_le (by omega) (by omega)) (K ins vas (fun j hj => h3 j (by omega)) (fun j hj => h4 j (by omega)))
  | succ d ih =>
    intro k hkd ins vas h3 h4
    have ek : (nI k).toNatClampNeg = k := nI_clamp (by omega)
    have hink : vp_in (nI k) 40 := vp_in_nI (by omega) (by decide)
    obtain ⟨i, i1, i2⟩ := hin k (by omega)
    have hv : kk_V (sq k) := by rw [← i2]; exact (h2 i i1).2.2.2.2
    have hq := kk_Vlt hv
    have hq2 := kk_Vi hv
    refine br_f (nI_ge (by omega) (by omega)) (And.intro hink ?_)
    rw [ek, hs k (by omega)]
    refine xe_spot (mt := mt) (kq := kq) hv hmt (fun p hp => ⟨(h2 p hp).1, (h2 p hp).2.2.2.2⟩) hinj T (fun j p hj hp ht hkq => ?_) (fun d' _ _ hno => absurd i2 (hno i i1))
    obtain ⟨-, c2, c3, c4, -⟩ := h2 p hp
    have ej : (nI j).toNatClampNeg = j := nI_clamp (by omega)
    have ep : (nI p).toNatClampNeg = p := nI_clamp (by omega)
    have hl := bm_lo _ c3 c4
    refine And.intro hink (And.intro (by decide) (And.intro hink (nm_r (e' := upd ins k (nI (sq k % 25))) (by rw [xx_rem25 (by omega), aa_nb (by omega)]) (And.intro (vp_in_nI hj (by decide)) ?_))))
    rw [ej, ht, ep, c2]
    refine And.intro (vp_in_nI (by omega) (by decide)) (xx_low c3 c4 (And.intro hink (nm_r (e' := upd vas k (nI (va k))) (by rw [aa_nb (by omega), hva k p (by omega) hp hkq]) (nm_r (nI_1 k) (ih (k + 1) (by omega) _ _ (fun x hx => ?_) (fun x hx => ?_))))))
    · by_cases e : x = k
      · rw [e, pk_us]
      · rw [pk_un e]; exact h3 x (by omega)
    · by_cases e : x = k
      · rw [e, pk_us]
      · rw [pk_un e]; exact h4 x (by omega)
theorem xs_7 {post : SX → Prop} {mt : Nat} {kq : Nat → Nat} (hm : mt ≤ 40) (h2 : ∀ p, p < mt → a_keys p = nI (kq p) ∧ kq p < 2 ^ 31) (hinj : ∀ i j, i < mt → j < mt → kq i = kq j → i = j)
    (K : ∀ a sq, xs_S mt kq sq a → ∃ n88, wX_sort_88 post f_count f_handlers (nI mt) f_waiting f_tooMany (nI mt) f_height f_why f_found f_objects f_high f_at f_here f_steps f_outcome f_last f_ran n88 0 a_parents a_ancestors a_begins a_ops a_operands a_froms a_tos a_targets a_catches a_keys a_heights a_faults a_table a_todo a_said a a_instruction a_values a_jumps a_caught a_caller a_mapped a_known a_types a_maps a_now a_sort a_made a_number a_ready) :
    ∀ d p, p + d = mt → ∀ a sq, xs_S p kq sq a → wX_sort_7 post f_count f_handlers (nI mt) f_waiting f_tooMany f_height f_why f_found f_objects f_high f_at f_here f_steps f_outcome f_last f_ran (d + 1) (nI p) (nI p) a_parents a_ancestors a_begins a_ops a_operands a_froms a_tos a_targets a_catches a_keys a_heights a_faults a_table a_todo a_said a a_instruction a_values a_jumps a_caught a_caller a_mapped a_known a_types a_maps a_now a_sort a_made a_number a_ready := by
  intro d
  induction d with
  | zero =>
    intro p hpd a sq hS
    have : p = mt := by omega
    subst this
    exact br_t (nI_le (by omega) (by omega)) (K a sq hS)
  | succ d ih =>
    intro p hpd a sq hS
    obtain ⟨s1, s2, s3, s4⟩ := id hS
    refine br_f (nI_ge (by omega) (by omega)) (nm_r (nI_1 p) ⟨p + 1, xs_27 (sq := sq) (by omega) (h2 p (by omega)).1 (h2 p (by omega)).2 (fun j hj => ?_) s2 (fun j hj e => ?_) (fun a' k hk ha h4 h3 => ih (p + 1) (by omega) a' _ (xs_step hS hk ha h4 h3)) p a (Nat.le_refl p) s1 (fun j hj hj2 => by omega) (fun j hj hj2 => by omega)⟩)
    · obtain ⟨i, i1, i2⟩ := s3 j hj
      rw [← i2]; exact (h2 i (by omega)).2
    · obtain ⟨i, i1, i2⟩ := s3 j hj
      have := hinj i p (by omega) (by omega) (i2.trans e); omega
/-- sort whole -/
theorem xs_sort {post : SX → Prop} {W : Nat → Nat → Nat} {R : Nat → Nat → Prop} {fs0 : Nat → Int32} (hF : xe_F W R f_met a_keys a_heights fs0 a_table)
    (K : ∀ (m : Nat) (sq va : Nat → Nat) (ss ins vas : Nat → Int32), m ≤ 40 → (∀ j, j < m → ss j = nI (sq j) ∧ kk_V (sq j) ∧ ins j = nI (sq j % 25) ∧ vas j = nI (va j) ∧ va j < 7 ∧ R (sq j) (va j)) → (∀ i j, i < j → j < m → sq i < sq j) → (∀ q h, R q h → ∃ j, j < m ∧ sq j = q) → post (f_count, f_handlers, f_met, f_waiting, f_tooMany, (nI m), f_height, f_why, f_found, f_objects, f_high, f_at, f_here, f_steps, f_outcome, f_last, f_ran, a_parents, a_ancestors, a_begins, a_ops, a_operands, a_froms, a_tos, a_targets, a_catches, a_keys, a_heights, a_faults, a_table, a_todo, a_said, ss, ins, vas, a_jumps, a_caught, a_caller, a_mapped, a_known, a_types, a_maps, a_now, a_sort, a_made, a_number, a_ready)) : wpX_sort post (f_count, f_handlers, f_met, f_waiting, f_tooMany, f_size, f_height, f_why, f_found, f_objects, f_high, f_at, f_here, f_steps, f_outcome, f_last, f_ran, a_parents, a_ancestors, a_begins, a_ops, a_operands, a_froms, a_tos, a_targets, a_catches, a_keys, a_heights, a_faults, a_table, a_todo, a_said, a_sorted, a_instruction, a_values, a_jumps, a_caught, a_caller, a_mapped, a_known, a_types, a_maps, a_now, a_sort, a_made, a_number, a_ready) := by
  obtain ⟨mt, kq, hb, fb, em, h1, h2, h3, h4, h5, h6, h7⟩ := hF
  subst em
  have hb0 : ∀ p, p < mt → hb p ≠ 0 := fun p hp z => by
    obtain ⟨h, hr⟩ := (h2 p hp).2.2.2.2.2.2
    have := (h5 p h hp).mpr hr
    rw [z, Nat.zero_testBit] at this; exact absurd this (by decide)
  refine ⟨mt + 1, xs_7 (mt := mt) (kq := kq) h1 (fun p hp => ⟨(h2 p hp).1, by have := kk_Vlt (h2 p hp).2.2.2.2.2.1; omega⟩) h3 (fun a sq hS => ?_) mt 0 (by omega) a_sorted (fun _ => 0) ⟨fun j hj => by omega, fun i j hi hj => by omega, fun j hj => by omega, fun i hi => by omega⟩⟩
  obtain ⟨s1, s2, s3, s4⟩ := hS
  have hex : ∀ j, ∃ i, j < mt → i < mt ∧ kq i = sq j := fun j => by
    by_cases hj : j < mt
    · obtain ⟨i, i1, i2⟩ := s3 j hj; exact ⟨i, fun _ => ⟨i1, i2⟩⟩
    · exact ⟨0, fun z => absurd z hj⟩
  refine ⟨mt + 1, xs_88 (m := mt) (mt := mt) (kq := kq) (hb := hb) (sq := sq) (va := fun j => bm_lw (hb (hex j).choose)) h1 h1 (fun p hp => ?_) h3 h4 s1 s3 (fun j i hj hi e => ?_) (fun ins vas g1 g2 => K mt sq (fun j => bm_lw (hb (hex j).choose)) a ins vas h1 (fun j hj => ?_) s2 (fun q h hr => ?_)) mt 0 (by omega) a_instruction a_values (fun j hj => by omega) (fun j hj => by omega)⟩
  · obtain ⟨c1, c2, c3, c4, c5, c6, c7⟩ := h2 p hp
    exact ⟨c1, c2, c3, hb0 p hp, c6⟩
  · obtain ⟨e1, e2⟩ := (hex j).choose_spec hj
    rw [h3 _ i e1 hi (e2.trans e.symm)]
  · obtain ⟨e1, e2⟩ := (hex j).choose_spec hj
    obtain ⟨c1, c2, c3, c4, c5, c6, c7⟩ := h2 _ e1
    have hl := bm_lo _ c3 (hb0 _ e1)
    refine ⟨s1 j hj, by rw [← e2]; exact c6, g1 j hj, g2 j hj, hl.1, ?_⟩
    have := (h5 _ (bm_lw (hb (hex j).choose)) e1).mp hl.2.1
    rw [e2] at this; exact this
  · obtain ⟨i, i1, i2⟩ := h6 q h hr
    obtain ⟨j, j1, j2⟩ := s4 i i1
    exact ⟨j, j1, j2.trans i2⟩
end
end
section
/-! the reference's sort, isRight, heights -/
def ys_t (k l x : Nat) : Nat := if x = l then k else if x = k then l else x
theorem ys_tt (k l x : Nat) : ys_t k l (ys_t k l x) = x := by
  unfold ys_t
  by_cases a : x = l
  · rw [if_pos a]
    by_cases b : k = l
    · rw [if_pos b]; omega
    · rw [if_neg b, if_pos rfl]; omega
  · rw [if_neg a]
    by_cases b : x = k
    · rw [if_pos b, if_pos rfl]; omega
    · rw [if_neg b, if_neg a, if_neg b]
theorem ys_tlt {k l x m : Nat} (hk : k < m) (hl : l < m) (hx : x < m) : ys_t k l x < m := by
  unfold ys_t; (repeat' split) <;> omega
theorem ys_upd (f : Nat → Int32) (k l x : Nat) : upd (upd f k (f l)) l (f k) x = f (ys_t k l x) := by
  unfold ys_t
  by_cases a : x = l
  · rw [if_pos a, a, pk_us]
  · rw [if_neg a, pk_un a]
    by_cases b : x = k
    · rw [if_pos b, b, pk_us]
    · rw [if_neg b, pk_un b]
def ys_A (mn : Nat) (pq hb ws : Nat → Nat) (places heights worst : Nat → Int32) : Prop := ∀ k, k < mn → places k = nI (kk_y (pq k)) ∧ kk_V (pq k) ∧ heights k = nI (hb k) ∧ worst k = nI (ws k)
section
variable {cn hn : Nat} {op fr tt tg ct pa be : Nat → Nat} {ar an : Nat → Int32}
variable {g_length g_handlers g_many g_there g_typed g_wrongNumber g_wrongPlace g_size g_why g_height g_objects g_line g_begun g_last g_end : Int32} {b_parent b_begin b_op b_arg b_from b_to b_target b_caught b_places b_heights b_gone b_worst b_frames b_maps b_high b_known b_mapped b_now b_sorts b_ints b_classes b_ready : Nat → Int32}
theorem ys_16 {post : SY → Prop} {J2 : _} {mn k : Nat} {pq hb ws : Nat → Nat} (hm : mn ≤ 41) (hk : k < mn) (A : ys_A mn pq hb ws b_places b_heights b_worst)
    (K : ∀ l, k ≤ l → l < mn → (∀ j, k ≤ j → j < mn → pq l ≤ pq j) → ∀ ps hs wss, (∀ x, ps x = b_places (ys_t k l x) ∧ hs x = b_heights (ys_t k l x) ∧ wss x = b_worst (ys_t k l x)) → J2 (nI (k + 1)) b_parent b_begin b_op b_arg b_from b_to b_target b_caught ps hs b_gone wss b_frames b_maps b_high b_known b_mapped b_now b_sorts b_ints b_classes b_ready) :
    ∀ d x, x + d = mn → ∀ l, k ≤ l → l < x → (∀ j, k ≤ j → j < x → pq l ≤ pq j) → wY_sort_16 post J2 (nI k) g_length g_handlers (nI mn) g_there g_typed g_wrongNumber g_wrongPlace g_size g_why g_height g_objects g_line g_begun g_last g_end b_parent b_begin b_op b_arg b_from b_to b_target b_caught b_places b_heights b_gone b_worst b_frames b_maps b_high b_known b_mapped b_now b_sorts b_ints b_classes b_ready (d + 1) (nI l) (nI x) := by
  have ek : (nI k).toNatClampNeg = k := nI_clamp (by omega)
  have hink : vp_in (nI k) 41 := vp_in_nI (by omega) (by decide)
  intro d
  induction d with
  | zero =>
    intro x hxd l hkl hlx hle
    have el : (nI l).toNatClampNeg = l := nI_clamp (by omega)
    have hinl : vp_in (nI l) 41 := vp_in_nI (by omega) (by decide)
    refine br_t (nI_le (by omega) (by omega)) ?_
    rw [ek, el]
    refine And.intro hink (nm_e (And.intro hink (nm_e (And.intro hink (nm_e ?_)))))
    refine And.intro hinl (And.intro hink (nm_e ?_))
    refine And.intro hinl (And.intro hink (nm_e ?_))
    refine And.intro hinl (And.intro hink (nm_e ?_))
    refine And.intro hinl (nm_e (And.intro hinl (nm_e (And.intro hinl (nm_e (nm_r (nI_1 k) ?_))))))
    exact K l hkl (by omega) (fun j hj hjm => hle j hj (by omega)) _ _ _ (fun x => ⟨ys_upd _ _ _ _, ys_upd _ _ _ _, ys_upd _ _ _ _⟩)
  | succ d ih =>
    intro x hxd l hkl hlx hle
    have el : (nI l).toNatClampNeg = l := nI_clamp (by omega)
    have ex : (nI x).toNatClampNeg = x := nI_clamp (by omega)
    obtain ⟨a1, a2, -⟩ := A l (by omega)
    obtain ⟨c1, c2, -⟩ := A x (by omega)
    have y1 := kk_ylt a2
    have y2 := kk_ylt c2
    refine br_f (nI_ge (by omega) (by omega)) (And.intro (vp_in_nI (by omega) (by decide)) (And.intro (vp_in_nI (by omega) (by decide)) ?_))
    rw [el, ex, a1, c1]
    refine pk_le (kk_y (pq l)) (kk_y (pq x)) (fun z => nm_r (nI_1 x) (ih (x + 1) (by omega) l hkl (by omega) (fun j hj hjx => ?_))) (fun z => nm_r (nI_1 x) (ih (x + 1) (by omega) x (by omega) (by omega) (fun j hj hjx => ?_)))
    · rcases Nat.lt_or_ge j x with y | y
      · exact hle j hj y
      · have : j = x := by omega
        subst this
        rcases Nat.lt_or_ge (pq j) (pq l) with w | w
        · have := kk_lex c2 a2 w; omega
        · exact w
    · have hlt : pq x < pq l := (kk_lexI c2 a2).mp z
      rcases Nat.lt_or_ge j x with y | y
      · have := hle j hj y; omega
      · have : j = x := by omega
        subst this; omega
theorem ys_2 {post : SY → Prop} {mn : Nat} {pq0 hb0 ws0 : Nat → Nat} (hm : mn ≤ 41)
    (K : ∀ pq hb ws ps hs wss, ys_A mn pq hb ws ps hs wss → (∀ k, k < mn → ∃ j, j < mn ∧ pq k = pq0 j ∧ hb k = hb0 j ∧ ws k = ws0 j) → (∀ j, j < mn → ∃ k, k < mn ∧ pq k = pq0 j) → (∀ i j, i < j → j < mn → pq i < pq j) → post (g_length, g_handlers, (nI mn), g_there, g_typed, g_wrongNumber, g_wrongPlace, g_size, g_why, g_height, g_objects, g_line, g_begun, g_last, g_end, b_parent, b_begin, b_op, b_arg, b_from, b_to, b_target, b_caught, ps, hs, b_gone, wss, b_frames, b_maps, b_high, b_known, b_mapped, b_now, b_sorts, b_ints, b_classes, b_ready)) :
    ∀ d k, k + d = mn → ∀ pq hb ws ps hs wss, ys_A mn pq hb ws ps hs wss → (∀ k, k < mn → ∃ j, j < mn ∧ pq k = pq0 j ∧ hb k = hb0 j ∧ ws k = ws0 j) → (∀ j, j < mn → ∃ k, k < mn ∧ pq k = pq0 j) → (∀ i j, i < mn → j < mn → pq i = pq j → i = j) → (∀ i j, i < k → i < j → j < mn → pq i < pq j) →
    wY_sort_2 post g_length g_handlers (nI mn) g_there g_typed g_wrongNumber g_wrongPlace g_size g_why g_height g_objects g_line g_begun g_last g_end (d + 1) (nI k) b_parent b_begin b_op b_arg b_from b_to b_target b_caught ps hs b_gone wss b_frames b_maps b_high b_known b_mapped b_now b_sorts b_ints b_classes b_ready := by
  intro d
  induction d with
  | zero =>
    intro k hkd pq hb ws ps hs wss A t1 t2 inj srt
    exact br_t (nI_le (by omega) (by omega)) (K pq hb ws ps hs wss A t1 t2 (fun i j hij hj => srt i j (by omega) hij hj))
  | succ d ih =>
    intro k hkd pq hb ws ps hs wss A t1 t2 inj srt
    refine br_f (nI_ge (by omega) (by omega)) (nm_r (nI_1 k) ⟨mn - (k + 1) + 1, ys_16 (pq := pq) (hb := hb) (ws := ws) hm (by omega) A (fun l hkl hl hle ps' hs' wss' e => ?_) (mn - (k + 1)) (k + 1) (by omega) k (Nat.le_refl k) (by omega) (fun j hj hj2 => Nat.le_of_eq (congrArg pq (by omega)))⟩)
    have tl : ∀ x, x < mn → ys_t k l x < mn := fun x hx => ys_tlt (by omega) hl hx
    refine ih (k + 1) (by omega) (fun x => pq (ys_t k l x)) (fun x => hb (ys_t k l x)) (fun x => ws (ys_t k l x)) ps' hs' wss' (fun x hx => ?_) (fun x hx => t1 _ (tl x hx)) (fun j hj => ?_) (fun i j hi hj e => ?_) (fun i j hi hij hj => ?_)
    · obtain ⟨e1, e2, e3⟩ := e x
      rw [e1, e2, e3]; exact A _ (tl x hx)
    · obtain ⟨x, x1, x2⟩ := t2 j hj
      exact ⟨ys_t k l x, tl x x1, by rw [ys_tt]; exact x2⟩
    · have := inj _ _ (tl i hi) (tl j hj) e
      have h2 := congrArg (ys_t k l) this
      rw [ys_tt, ys_tt] at h2; exact h2
    · have tk : ys_t k l k = l := by
        unfold ys_t
        by_cases b : k = l
        · rw [if_pos b]; exact b
        · rw [if_neg b, if_pos rfl]
      rcases Nat.lt_or_ge i k with y | y
      · have ti : ys_t k l i = i := by unfold ys_t; rw [if_neg (by omega), if_neg (by omega)]
        rw [ti]
        refine srt i _ y ?_ (tl j hj)
        unfold ys_t; (repeat' split) <;> omega
      · have : i = k := by omega
        subst this
        rw [tk]
        have hge : i ≤ ys_t i l j := by unfold ys_t; (repeat' split) <;> omega
        have h1 := hle _ hge (tl j hj)
        have h2 : pq l ≠ pq (ys_t i l j) := fun z => by
          have h3 := inj l _ hl (tl j hj) z
          have h4 := congrArg (ys_t i l) h3
          rw [ys_tt] at h4
          have h5 : ys_t i l l = i := if_pos rfl
          omega
        omega
/-- the end of the reference's walk, sorted -/
def ys_F (W : Nat → Nat → Nat) (R : Nat → Nat → Prop) (mn : Nat) (pq hb ws : Nat → Nat) (places heights worst : Nat → Int32) : Prop :=
  mn ≤ 41 ∧ (∀ k, k < mn → places k = nI (kk_y (pq k)) ∧ kk_V (pq k) ∧ heights k = nI (hb k) ∧ hb k < 128 ∧ worst k = nI (ws k) ∧ ws k ≤ 9 ∧ ∃ h, R (pq k) h) ∧
  (∀ i j, i < j → j < mn → pq i < pq j) ∧ (mn ≤ 40 → (∀ k h, k < mn → ((hb k).testBit h = true ↔ R (pq k) h)) ∧ (∀ q h, R q h → ∃ k, k < mn ∧ pq k = q) ∧ (∀ k, k < mn → ex_mw W R (pq k) (ws k)))
theorem ys_sort {post : SY → Prop} {W : Nat → Nat → Nat} {R : Nat → Nat → Prop} (hF : ye_F W R g_many b_places b_heights b_worst)
    (K : ∀ mn pq hb ws ps hs wss, ys_F W R mn pq hb ws ps hs wss → post (g_length, g_handlers, (nI mn), g_there, g_typed, g_wrongNumber, g_wrongPlace, g_size, g_why, g_height, g_objects, g_line, g_begun, g_last, g_end, b_parent, b_begin, b_op, b_arg, b_from, b_to, b_target, b_caught, ps, hs, b_gone, wss, b_frames, b_maps, b_high, b_known, b_mapped, b_now, b_sorts, b_ints, b_classes, b_ready)) : wpY_sort post (g_length, g_handlers, g_many, g_there, g_typed, g_wrongNumber, g_wrongPlace, g_size, g_why, g_height, g_objects, g_line, g_begun, g_last, g_end, b_parent, b_begin, b_op, b_arg, b_from, b_to, b_target, b_caught, b_places, b_heights, b_gone, b_worst, b_frames, b_maps, b_high, b_known, b_mapped, b_now, b_sorts, b_ints, b_classes, b_ready) := by
  obtain ⟨mn, pq0, hb0, ws0, em, h1, h2, h3, h4⟩ := hF
  subst em
  refine ⟨mn + 1, ys_2 (pq0 := pq0) (hb0 := hb0) (ws0 := ws0) h1 (fun pq hb ws ps hs wss A t1 t2 inc => K mn pq hb ws ps hs wss ⟨h1, fun k hk => ?_, inc, fun hm => ⟨fun k h hk => ?_, fun q h hr => ?_, fun k hk => ?_⟩⟩) mn 0 (by omega) pq0 hb0 ws0 _ _ _ (fun k hk => ?_) (fun k hk => ⟨k, hk, rfl, rfl, rfl⟩) (fun j hj => ⟨j, hj, rfl⟩) h3 (fun i j hi => by omega)⟩
  · obtain ⟨a1, a2, a3, a4⟩ := A k hk
    obtain ⟨j, j1, j2, j3, j4⟩ := t1 k hk
    obtain ⟨c1, c2, c3, c4, c5, c6, c7⟩ := h2 j j1
    refine ⟨a1, a2, a3, by rw [j3]; exact c4, a4, by rw [j4]; exact c6, by rw [j2]; exact c7⟩
  · obtain ⟨j, j1, j2, j3, j4⟩ := t1 k hk
    rw [j2, j3]; exact (h4 hm).1 j h j1
  · obtain ⟨j, j1, j2⟩ := (h4 hm).2.1 q h hr
    obtain ⟨k, k1, k2⟩ := t2 j j1
    exact ⟨k, k1, k2.trans j2⟩
  · obtain ⟨j, j1, j2, j3, j4⟩ := t1 k hk
    rw [j2, j4]; exact (h4 hm).2.2 j j1
  · obtain ⟨c1, c2, c3, c4, c5, c6, c7⟩ := h2 k hk
    exact ⟨c1, c2, c3, c5⟩
theorem yr_isRight {post : Int32 → SY → Prop} {W : Nat → Nat → Nat} {R : Nat → Nat → Prop} {mn : Nat} {pq hb ws : Nat → Nat} (hW : ∀ q h, ex_wz W q h ≤ 9) (hWn : ∀ q h, ex_wz W q h ≠ 6 ∧ ex_wz W q h ≠ 7 ∧ ex_wz W q h ≠ 8)
    (hF : ys_F W R mn pq hb ws b_places b_heights b_worst)
    (K7 : mn = 41 → post 0 (g_length, g_handlers, (nI mn), g_there, g_typed, 7, (-1), g_size, g_why, g_height, g_objects, g_line, g_begun, g_last, g_end, b_parent, b_begin, b_op, b_arg, b_from, b_to, b_target, b_caught, b_places, b_heights, b_gone, b_worst, b_frames, b_maps, b_high, b_known, b_mapped, b_now, b_sorts, b_ints, b_classes, b_ready)) (K1 : mn ≤ 40 → ex_right W R → post 1 (g_length, g_handlers, (nI mn), g_there, g_typed, (-1), (-1), g_size, g_why, g_height, g_objects, g_line, g_begun, g_last, g_end, b_parent, b_begin, b_op, b_arg, b_from, b_to, b_target, b_caught, b_places, b_heights, b_gone, b_worst, b_frames, b_maps, b_high, b_known, b_mapped, b_now, b_sorts, b_ints, b_classes, b_ready))
    (K0 : mn ≤ 40 → ∀ q v, ex_wrong W R q v → post 0 (g_length, g_handlers, (nI mn), g_there, g_typed, (nI v), (nI (kk_y q)), g_size, g_why, g_height, g_objects, g_line, g_begun, g_last, g_end, b_parent, b_begin, b_op, b_arg, b_from, b_to, b_target, b_caught, b_places, b_heights, b_gone, b_worst, b_frames, b_maps, b_high, b_known, b_mapped, b_now, b_sorts, b_ints, b_classes, b_ready)) : wpY_isRight post (g_length, g_handlers, (nI mn), g_there, g_typed, g_wrongNumber, g_wrongPlace, g_size, g_why, g_height, g_objects, g_line, g_begun, g_last, g_end, b_parent, b_begin, b_op, b_arg, b_from, b_to, b_target, b_caught, b_places, b_heights, b_gone, b_worst, b_frames, b_maps, b_high, b_known, b_mapped, b_now, b_sorts, b_ints, b_classes, b_ready) := by
  obtain ⟨h1, h2, h3, h4⟩ := hF
  refine pk_le mn 40 (fun hm => ?_) (fun hm => ?_)
  · obtain ⟨h5, h6, h7⟩ := h4 hm
    have key : ∀ d k, k + d = mn → (∀ j, j < k → ex_fn W R (pq j) 9) → wY_isRight_26 post g_length g_handlers (nI mn) g_there g_typed g_size g_why g_height g_objects g_line g_begun g_last g_end b_parent b_begin b_op b_arg b_from b_to b_target b_caught b_places b_heights b_gone b_worst b_frames b_maps b_high b_known b_mapped b_now b_sorts b_ints b_classes b_ready (d + 2) (nI k) (-1) (-1) := by
      intro d
      induction d with
      | zero =>
        intro k hkd hall
        refine br_t (nI_le (by omega) (by omega)) (br_f (by decide) (K1 hm (fun q ⟨h, hr⟩ => ?_)))
        obtain ⟨j, j1, j2⟩ := h6 q h hr
        rw [← j2]; exact hall j (by omega)
      | succ d ih =>
        intro k hkd hall
        obtain ⟨a1, a2, a3, a4, a5, a6, a7⟩ := h2 k (by omega)
        have ek : (nI k).toNatClampNeg = k := nI_clamp (by omega)
        have hin := vp_in_nI (n := k) (N := 41) (by omega) (by decide)
        have hsv := ex_sv_bits a4 (fun j => h5 k j (by omega))
        have hmw := h7 k (by omega)
        have h678 : ws k ≠ 7 ∧ ws k ≠ 8 := by
          rcases hmw.2 with z | ⟨h, _, z⟩
          · omega
          · have := hWn (pq k) h; omega
        have yl := kk_ylt a2
        -- a number for the place
        have r91 : ∀ v, v ≤ 9 → ex_fn W R (pq k) v → (v ≤ 6 ∨ v = 9) → wY_isRight_91 post (wY_isRight_26 post g_length g_handlers (nI mn) g_there g_typed g_size g_why g_height g_objects g_line g_begun g_last g_end b_parent b_begin b_op b_arg b_from b_to b_target b_caught b_places b_heights b_gone b_worst b_frames b_maps b_high b_known b_mapped b_now b_sorts b_ints b_classes b_ready (d + 2)) (nI k) (nI v) g_length g_handlers (nI mn) g_there g_typed (-1) (-1) g_size g_why g_height g_objects g_line g_begun g_last g_end b_parent b_begin b_op b_arg b_from b_to b_target b_caught b_places b_heights b_gone b_worst b_frames b_maps b_high b_known b_mapped b_now b_sorts b_ints b_classes b_ready := by
          intro v hv hf hv6
          refine pk_le v 6 (fun z => And.intro hin (nm_r (e' := nI (kk_y (pq k))) (by rw [ek]; exact a1) (nm_r (nI_1 k) ?_))) (fun z => nm_r (nI_1 k) (ih (k + 1) (by omega) (fun j hj => ?_)))
          · have hw : ex_wrong W R (pq k) v := by
              refine ⟨a2, a7, hf, by omega, fun q' v' ⟨h', hr'⟩ hf' hv' => ?_⟩
              obtain ⟨j, j1, j2⟩ := h6 q' h' hr'
              rw [← j2] at hf' ⊢
              rcases Nat.lt_trichotomy j k with y | y | y
              · exact absurd (ex_fn_u (fun h _ => hW _ h) hf' (hall j y)) hv'
              · rw [y]; exact Nat.le_refl _
              · have := h3 k j y j1; omega
            have hp := nI_pos' (n := v) (by omega)
            exact br_c (fun _ => br_t hp (K0 hm _ v hw)) (fun _ => br_t hp (br_t hp (K0 hm _ v hw)))
          · rcases Nat.lt_or_ge j k with y | y
            · exact hall j y
            · have : j = k := by omega
              subst this
              have : v = 9 := by omega
              rw [← this]; exact hf
        refine br_f (nI_ge (by omega) (by omega)) (br_f (by decide) (And.intro hin (And.intro hin ?_)))
        rw [ek, a3]
        refine br_c (fun z => br_t rfl (And.intro hin ?_)) (fun z => br_f (by decide) (And.intro hin ?_))
        · rw [ek, a5]
          exact r91 (ws k) a6 ⟨_, hmw, Or.inr ⟨hsv.mp z, rfl⟩⟩ (by omega)
        · have sv : ex_sv R (pq k) := Classical.byContradiction fun y => z (hsv.mpr y)
          rw [ek, a5]
          refine pk_le (ws k) 6 (fun y => And.intro hin ?_) (fun y => ?_)
          · rw [ek, a5]
            exact r91 (ws k) a6 ⟨_, hmw, Or.inl ⟨sv, by omega⟩⟩ (by omega)
          · exact r91 6 (by omega) ⟨_, hmw, Or.inl ⟨sv, by omega⟩⟩ (by omega)
    exact ⟨mn + 2, key mn 0 (by omega) (fun j hj => by omega)⟩
  · have : mn = 41 := by omega
    refine ⟨1, ?_⟩
    exact br_f (nI_ge (a := 0) (by omega) (by omega)) (br_t (by decide) (br_t (by decide) (K7 this)))
end
end
section
/-! types: the order, the join, what an instruction makes of a frame; pure -/
/-- c stands above d (or is it) -/
def ty_av (pa : Nat → Nat) (c : Nat) : Nat → Nat → Bool
  | 0, e => decide (e = c)
  | n + 1, e => if e ≤ c then decide (e = c) else ty_av pa c n (pa e)
def ty_ab (pa : Nat → Nat) (c d : Nat) : Bool := ty_av pa c 8 d
section
variable {pa : Nat → Nat}
theorem ty_av_ind (hp : ∀ c, pa c < 8 ∧ (0 < c → pa c < c)) (c : Nat) : ∀ n e, e ≤ n → ∀ n', e ≤ n' → ty_av pa c n e = ty_av pa c n' e := by
  intro n
  induction n with
  | zero =>
    intro e he n' hn'
    have : e = 0 := by omega
    subst this
    cases n' with
    | zero => rfl
    | succ n' => simp only [ty_av]; rw [if_pos (by omega)]
  | succ n ih =>
    intro e he n' hn'
    cases n' with
    | zero =>
      have : e = 0 := by omega
      subst this
      simp only [ty_av]; rw [if_pos (by omega)]
    | succ n' =>
      simp only [ty_av]
      by_cases h : e ≤ c
      · rw [if_pos h, if_pos h]
      · rw [if_neg h, if_neg h]
        have := (hp e).2 (by omega)
        exact ih (pa e) (by omega) n' (by omega)
theorem ty_ab_le {c d : Nat} (h : d ≤ c) : ty_ab pa c d = decide (d = c) := by
  unfold ty_ab; simp only [ty_av]; rw [if_pos h]
theorem ty_ab_gt (hp : ∀ c, pa c < 8 ∧ (0 < c → pa c < c)) {c d : Nat} (hd : d < 8) (h : c < d) : ty_ab pa c d = ty_ab pa c (pa d) := by
  have := (hp d).2 (by omega)
  show ty_av pa c 8 d = ty_av pa c 8 (pa d)
  have e : ty_av pa c 8 d = ty_av pa c 7 (pa d) := by
    show (if d ≤ c then decide (d = c) else ty_av pa c 7 (pa d)) = _
    rw [if_neg (by omega)]
  rw [e]
  exact ty_av_ind hp c 7 (pa d) (by omega) 8 (by omega)
theorem ty_ab_self (c : Nat) : ty_ab pa c c = true := by rw [ty_ab_le (Nat.le_refl c)]; exact decide_eq_true rfl
theorem ty_ab_0 (hp : ∀ c, pa c < 8 ∧ (0 < c → pa c < c)) : ∀ d, d < 8 → ty_ab pa 0 d = true := by
  have key : ∀ n d, d < n → d < 8 → ty_ab pa 0 d = true := by
    intro n
    induction n with
    | zero => intro d h; omega
    | succ n ih =>
      intro d h1 h2
      rcases Nat.eq_zero_or_pos d with z | z
      · subst z; exact ty_ab_self 0
      · rw [ty_ab_gt hp h2 z]
        have := (hp d).2 z
        exact ih _ (by omega) (by omega)
  exact fun d hd => key (d + 1) d (by omega) hd
theorem ty_ab_lt {c d : Nat} (h : ty_ab pa c d = true) : c ≤ d := by
  rcases Nat.lt_or_ge d c with z | z
  · rw [ty_ab_le (by omega)] at h
    have := of_decide_eq_true h; omega
  · exact z
theorem ty_ab_tr (hp : ∀ c, pa c < 8 ∧ (0 < c → pa c < c)) {a b : Nat} (h1 : ty_ab pa a b = true) : ∀ c, c < 8 → ty_ab pa b c = true → ty_ab pa a c = true := by
  have key : ∀ n c, c < n → c < 8 → ty_ab pa b c = true → ty_ab pa a c = true := by
    intro n
    induction n with
    | zero => intro c h; omega
    | succ n ih =>
      intro c hc hc8 h2
      have l1 := ty_ab_lt h1
      have l2 := ty_ab_lt h2
      rcases Nat.lt_or_ge b c with z | z
      · rw [ty_ab_gt hp hc8 z] at h2
        rw [ty_ab_gt hp hc8 (by omega)]
        have := (hp c).2 (by omega)
        exact ih _ (by omega) (by omega) h2
      · have : c = b := by omega
        subst this; exact h1
  exact fun c hc => key (c + 1) c (by omega) hc
/-- two that stand above one stand above each other -/
theorem ty_ab_ch (hp : ∀ c, pa c < 8 ∧ (0 < c → pa c < c)) {x y : Nat} (hxy : x ≤ y) : ∀ d, d < 8 → ty_ab pa x d = true → ty_ab pa y d = true → ty_ab pa x y = true := by
  have key : ∀ n d, d < n → d < 8 → ty_ab pa x d = true → ty_ab pa y d = true → ty_ab pa x y = true := by
    intro n
    induction n with
    | zero => intro d h; omega
    | succ n ih =>
      intro d hd hd8 h1 h2
      have l2 := ty_ab_lt h2
      rcases Nat.lt_or_ge y d with z | z
      · rw [ty_ab_gt hp hd8 (by omega)] at h1
        rw [ty_ab_gt hp hd8 z] at h2
        have := (hp d).2 (by omega)
        exact ih _ (by omega) (by omega) h1 h2
      · have : d = y := by omega
        subst this; exact h1
  exact fun d hd => key (d + 1) d (by omega) hd
end
/-- t is at most u -/
def ty_le (pa : Nat → Nat) (t u : Nat) : Prop := t = u ∨ u = 0 ∨ (3 ≤ u ∧ u < 11 ∧ (t = 2 ∨ (3 ≤ t ∧ t < 11 ∧ ty_ab pa (u - 3) (t - 3) = true)))
/-- the greatest c that stands above both -/
def ty_lc (pa : Nat → Nat) (a b : Nat) : Nat → Nat
  | 0 => 0
  | n + 1 => if ty_ab pa (n + 1) a = true ∧ ty_ab pa (n + 1) b = true then n + 1 else ty_lc pa a b n
noncomputable def ty_jn (pa : Nat → Nat) (t u : Nat) : Nat :=
  @ite Nat (ty_le pa t u) (Classical.propDecidable _) u (@ite Nat (ty_le pa u t) (Classical.propDecidable _) t (if t < 3 ∨ 11 ≤ t ∨ u < 3 ∨ 11 ≤ u then 0 else 3 + ty_lc pa (t - 3) (u - 3) 7))
section
variable {pa : Nat → Nat}
theorem ty_jn1 {t u : Nat} (h : ty_le pa t u) : ty_jn pa t u = u := by unfold ty_jn; rw [if_pos h]
theorem ty_jn2 {t u : Nat} (h : ¬ ty_le pa t u) (h2 : ty_le pa u t) : ty_jn pa t u = t := by unfold ty_jn; rw [if_neg h, if_pos h2]
theorem ty_jn3 {t u : Nat} (h : ¬ ty_le pa t u) (h2 : ¬ ty_le pa u t) (h3 : t < 3 ∨ 11 ≤ t ∨ u < 3 ∨ 11 ≤ u) : ty_jn pa t u = 0 := by unfold ty_jn; rw [if_neg h, if_neg h2, if_pos h3]
theorem ty_jn4 {t u : Nat} (h : ¬ ty_le pa t u) (h2 : ¬ ty_le pa u t) (h3 : ¬ (t < 3 ∨ 11 ≤ t ∨ u < 3 ∨ 11 ≤ u)) : ty_jn pa t u = 3 + ty_lc pa (t - 3) (u - 3) 7 := by unfold ty_jn; rw [if_neg h, if_neg h2, if_neg h3]
theorem ty_refl (t : Nat) : ty_le pa t t := Or.inl rfl
theorem ty_top (t : Nat) : ty_le pa t 0 := Or.inr (Or.inl rfl)
theorem ty_trans (hp : ∀ c, pa c < 8 ∧ (0 < c → pa c < c)) {t u v : Nat} (h1 : ty_le pa t u) (h2 : ty_le pa u v) : ty_le pa t v := by
  rcases h2 with rfl | rfl | ⟨a1, a2, a3⟩
  · exact h1
  · exact ty_top t
  · rcases h1 with rfl | rfl | ⟨b1, b2, b3⟩
    · exact Or.inr (Or.inr ⟨a1, a2, a3⟩)
    · rcases a3 with z | ⟨z, -⟩ <;> omega
    · refine Or.inr (Or.inr ⟨a1, a2, ?_⟩)
      rcases b3 with z | ⟨z1, z2, z3⟩
      · exact Or.inl z
      · rcases a3 with y | ⟨y1, y2, y3⟩
        · omega
        · exact Or.inr ⟨z1, z2, ty_ab_tr hp y3 _ (by omega) z3⟩
theorem ty_lc_ab (hp : ∀ c, pa c < 8 ∧ (0 < c → pa c < c)) {a b : Nat} (ha : a < 8) (hb : b < 8) : ∀ n, ty_ab pa (ty_lc pa a b n) a = true ∧ ty_ab pa (ty_lc pa a b n) b = true ∧ ty_lc pa a b n ≤ n
  | 0 => ⟨ty_ab_0 hp a ha, ty_ab_0 hp b hb, Nat.le_refl 0⟩
  | n + 1 => by
    simp only [ty_lc]
    by_cases h : ty_ab pa (n + 1) a = true ∧ ty_ab pa (n + 1) b = true
    · rw [if_pos h]; exact ⟨h.1, h.2, Nat.le_refl _⟩
    · rw [if_neg h]
      obtain ⟨h1, h2, h3⟩ := ty_lc_ab hp ha hb n
      exact ⟨h1, h2, by omega⟩
theorem ty_lc_max {a b c : Nat} (h1 : ty_ab pa c a = true) (h2 : ty_ab pa c b = true) : ∀ n, c ≤ n → c ≤ ty_lc pa a b n
  | 0, h => by simp only [ty_lc]; omega
  | n + 1, h => by
    simp only [ty_lc]
    by_cases z : ty_ab pa (n + 1) a = true ∧ ty_ab pa (n + 1) b = true
    · rw [if_pos z]; exact h
    · rw [if_neg z]
      rcases Nat.lt_or_ge n c with y | y
      · have : c = n + 1 := by omega
        subst this; exact absurd ⟨h1, h2⟩ z
      · exact ty_lc_max h1 h2 n y
theorem ty_jn_l (hp : ∀ c, pa c < 8 ∧ (0 < c → pa c < c)) (t u : Nat) : ty_le pa t (ty_jn pa t u) := by
  by_cases h : ty_le pa t u
  · rw [ty_jn1 h]; exact h
  · by_cases h2 : ty_le pa u t
    · rw [ty_jn2 h h2]; exact ty_refl t
    · by_cases h3 : t < 3 ∨ 11 ≤ t ∨ u < 3 ∨ 11 ≤ u
      · rw [ty_jn3 h h2 h3]; exact ty_top t
      · rw [ty_jn4 h h2 h3]
        obtain ⟨l1, l2, l3⟩ := ty_lc_ab hp (a := t - 3) (b := u - 3) (by omega) (by omega) 7
        exact Or.inr (Or.inr ⟨by omega, by omega, Or.inr ⟨by omega, by omega, by rw [Nat.add_sub_cancel_left]; exact l1⟩⟩)
theorem ty_jn_r (hp : ∀ c, pa c < 8 ∧ (0 < c → pa c < c)) (t u : Nat) : ty_le pa u (ty_jn pa t u) := by
  by_cases h : ty_le pa t u
  · rw [ty_jn1 h]; exact ty_refl u
  · by_cases h2 : ty_le pa u t
    · rw [ty_jn2 h h2]; exact h2
    · by_cases h3 : t < 3 ∨ 11 ≤ t ∨ u < 3 ∨ 11 ≤ u
      · rw [ty_jn3 h h2 h3]; exact ty_top u
      · rw [ty_jn4 h h2 h3]
        obtain ⟨l1, l2, l3⟩ := ty_lc_ab hp (a := t - 3) (b := u - 3) (by omega) (by omega) 7
        exact Or.inr (Or.inr ⟨by omega, by omega, Or.inr ⟨by omega, by omega, by rw [Nat.add_sub_cancel_left]; exact l2⟩⟩)
theorem ty_jn_lub (hp : ∀ c, pa c < 8 ∧ (0 < c → pa c < c)) {t u v : Nat} (h1 : ty_le pa t v) (h2 : ty_le pa u v) : ty_le pa (ty_jn pa t u) v := by
  by_cases h : ty_le pa t u
  · rw [ty_jn1 h]; exact h2
  · by_cases h' : ty_le pa u t
    · rw [ty_jn2 h h']; exact h1
    · rcases h1 with rfl | rfl | ⟨a1, a2, a3⟩
      · exact absurd h2 h'
      · exact ty_top _
      · rcases h2 with rfl | rfl | ⟨b1, b2, b3⟩
        · exact absurd (Or.inr (Or.inr ⟨a1, a2, a3⟩)) h
        · omega
        · rcases a3 with rfl | ⟨c1, c2, c3⟩
          · rcases b3 with rfl | ⟨d1, d2, d3⟩
            · exact absurd (ty_refl _) h
            · exact absurd (Or.inr (Or.inr ⟨d1, d2, Or.inl rfl⟩)) h
          · rcases b3 with rfl | ⟨d1, d2, d3⟩
            · exact absurd (Or.inr (Or.inr ⟨c1, c2, Or.inl rfl⟩)) h'
            · rw [ty_jn4 h h' (by omega)]
              obtain ⟨l1, l2, l3⟩ := ty_lc_ab hp (a := t - 3) (b := u - 3) (by omega) (by omega) 7
              refine Or.inr (Or.inr ⟨a1, a2, Or.inr ⟨by omega, by omega, ?_⟩⟩)
              rw [Nat.add_sub_cancel_left]
              exact ty_ab_ch hp (ty_lc_max c3 d3 7 (by omega)) _ (by omega) c3 l1
theorem ty_jn_lt {t u : Nat} (hp : ∀ c, pa c < 8 ∧ (0 < c → pa c < c)) (ht : t < 91) (hu : u < 91) : ty_jn pa t u < 91 := by
  by_cases h : ty_le pa t u
  · rw [ty_jn1 h]; exact hu
  · by_cases h2 : ty_le pa u t
    · rw [ty_jn2 h h2]; exact ht
    · by_cases h3 : t < 3 ∨ 11 ≤ t ∨ u < 3 ∨ 11 ≤ u
      · rw [ty_jn3 h h2 h3]; omega
      · rw [ty_jn4 h h2 h3]
        have := (ty_lc_ab hp (a := t - 3) (b := u - 3) (by omega) (by omega) 7).2.2
        omega
/-- what falls when a type rises -/
def ty_pot (t : Nat) : Nat := if t = 0 then 0 else if 3 ≤ t ∧ t < 11 then t - 2 else 9
theorem ty_pot9 (t : Nat) : ty_pot t ≤ 9 := by unfold ty_pot; (repeat' split) <;> omega
theorem ty_pot_lt {t u : Nat} (h : ty_le pa t u) (hne : t ≠ u) : ty_pot u < ty_pot t := by
  rcases h with z | rfl | ⟨a1, a2, a3⟩
  · exact absurd z hne
  · unfold ty_pot; (repeat' split) <;> omega
  · rcases a3 with rfl | ⟨b1, b2, b3⟩
    · unfold ty_pot; (repeat' split) <;> omega
    · have := ty_ab_lt b3
      unfold ty_pot; (repeat' split) <;> omega
theorem ty_pot_le {t u : Nat} (h : ty_le pa t u) : ty_pot u ≤ ty_pot t := by
  by_cases e : t = u
  · rw [e]; exact Nat.le_refl _
  · exact Nat.le_of_lt (ty_pot_lt h e)
/-- a new object's type, or a link, is only under itself and the top -/
theorem ty_le_new {t u : Nat} (hu : u ≠ 0) (hu2 : u < 3 ∨ 11 ≤ u) (h : ty_le pa t u) : t = u := by
  rcases h with z | z | ⟨a1, a2, -⟩
  · exact z
  · exact absurd z hu
  · omega
theorem ty_jn_new {t u v : Nat} (hv : 11 ≤ v) (hp : ∀ c, pa c < 8 ∧ (0 < c → pa c < c)) (h : ty_jn pa t u = v) : t = v ∧ u = v := by
  have h1 := ty_jn_l hp t u
  have h2 := ty_jn_r hp t u
  rw [h] at h1 h2
  exact ⟨ty_le_new (by omega) (by omega) h1, ty_le_new (by omega) (by omega) h2⟩
end
end
section
/-! frames: what an instruction makes of them; the iteration; pure -/
def ty_fi (pl : Nat → Nat) (q : Nat) : Nat → Nat
  | 0 => 0
  | m + 1 => if ty_fi pl q m < m then ty_fi pl q m else if pl m = q then m else m + 1
theorem ty_fi_sp {pl : Nat → Nat} {q : Nat} : ∀ {m : Nat}, ty_fi pl q m ≤ m ∧ (ty_fi pl q m < m → pl (ty_fi pl q m) = q) ∧ ((∃ k, k < m ∧ pl k = q) → ty_fi pl q m < m)
  | 0 => ⟨Nat.le_refl 0, fun h => absurd h (Nat.not_lt_zero _), fun ⟨k, h, _⟩ => absurd h (Nat.not_lt_zero k)⟩
  | m + 1 => by
    obtain ⟨h1, h2, h3⟩ := ty_fi_sp (pl := pl) (q := q) (m := m)
    simp only [ty_fi]
    by_cases a : ty_fi pl q m < m
    · rw [if_pos a]; exact ⟨by omega, fun _ => h2 a, fun _ => by omega⟩
    · rw [if_neg a]
      by_cases b : pl m = q
      · rw [if_pos b]; exact ⟨by omega, fun _ => b, fun _ => by omega⟩
      · rw [if_neg b]
        refine ⟨by omega, fun h => by omega, fun ⟨k, k1, k2⟩ => ?_⟩
        rcases Nat.lt_or_ge k m with y | y
        · exact absurd (h3 ⟨k, y, k2⟩) a
        · have : k = m := by omega
          subst this; exact absurd k2 b
theorem ty_fi_eq {pl : Nat → Nat} {q k m : Nat} (hinc : ∀ i j, i < j → j < m → pl i < pl j) (hk : k < m) (e : pl k = q) : ty_fi pl q m = k := by
  obtain ⟨h1, h2, h3⟩ := ty_fi_sp (pl := pl) (q := q) (m := m)
  have l := h3 ⟨k, hk, e⟩
  have := h2 l
  rcases Nat.lt_trichotomy (ty_fi pl q m) k with y | y | y
  · have := hinc _ _ y hk; omega
  · exact y
  · have := hinc _ _ y l; omega
section
variable (pa : Nat → Nat) (o a k h m cr : Nat) (mk : Nat → Prop) (mc : Nat → Nat) (f : Nat → Nat)
def fr_ok : Prop :=
  (o = 2 → f a ≠ 0 ∧ f a < 51) ∧ (o = 7 → f (3 + h) = 1 ∧ f (2 + h) = 1) ∧ (o = 8 → ∀ s, 4 ≤ s → s < 4 + h → f s ≠ 11 + k) ∧ (o = 9 → 11 ≤ f (3 + h) ∧ f (3 + h) < 51 ∧ f (3 + h) - 11 < m ∧ mk (f (3 + h) - 11)) ∧
  (o = 10 ∨ o = 14 ∨ o = 19 → 2 ≤ f (3 + h) ∧ f (3 + h) < 11) ∧ (o = 11 ∨ o = 18 → ty_le pa (f (3 + h)) (3 + a)) ∧ (o = 13 → f (3 + h) = 1) ∧ (o = 16 → f a = 51 + cr)
def fr_om : Prop :=
  (o = 2 → f a ≠ 0 ∧ f a < 51) ∧ (o = 7 → f (3 + h) = 1 ∧ f (2 + h) = 1) ∧ (o = 9 → 11 ≤ f (3 + h) ∧ f (3 + h) < 51 ∧ f (3 + h) - 11 < m ∧ mk (f (3 + h) - 11)) ∧
  (o = 10 ∨ o = 14 ∨ o = 19 → 2 ≤ f (3 + h) ∧ f (3 + h) < 11) ∧ (o = 11 ∨ o = 18 → ty_le pa (f (3 + h)) (3 + a)) ∧ (o = 13 → f (3 + h) = 1) ∧ (o = 16 → f a = 51 + cr)
def fr_f : Nat → Nat :=
  if o = 0 then aa_up f (4 + h) 1 else if o = 1 then aa_up f (4 + h) 2 else if o = 2 then aa_up f (4 + h) (f a) else if o = 3 then aa_up f a (f (3 + h)) else if o = 5 then aa_up f (4 + h) (f (3 + h)) else if o = 6 then aa_up (aa_up f (3 + h) (f (2 + h))) (2 + h) (f (3 + h))
  else if o = 8 then aa_up (fun s => if s < 4 ∧ f s = 11 + k then 0 else f s) (4 + h) (11 + k) else if o = 9 then (fun s => if f s = f (3 + h) then 3 + mc (f (3 + h) - 11) else f s) else if o = 10 then aa_up f (3 + h) (3 + a) else if o = 15 then aa_up f (4 + h) (51 + k) else f
def fr_fm : Nat → Nat :=
  if o = 0 then aa_up f (4 + h) 1 else if o = 1 then aa_up f (4 + h) 2 else if o = 2 then aa_up f (4 + h) (f a) else if o = 3 then aa_up f a (f (3 + h)) else if o = 5 then aa_up f (4 + h) (f (3 + h)) else if o = 6 then aa_up (aa_up f (3 + h) (f (2 + h))) (2 + h) (f (3 + h))
  else if o = 8 then aa_up f (4 + h) (11 + k) else if o = 9 then (fun s => if f s = f (3 + h) then 3 + mc (f (3 + h) - 11) else f s) else if o = 10 then aa_up f (3 + h) (3 + a) else if o = 15 then aa_up f (4 + h) (51 + k) else f
end
section
variable {pa : Nat → Nat} {o a k h m cr : Nat} {mk : Nat → Prop} {mc : Nat → Nat} {f g : Nat → Nat}
theorem fr_nm (hn : ∀ s, s < 4 + h → f s ≠ 11 + k) : (fr_ok pa o a k h m cr mk f ↔ fr_om pa o a h m cr mk f) ∧ ∀ s, s < 4 + h → fr_f o a k h mc f s = fr_fm o a k h mc f s := by
  refine ⟨⟨fun ⟨a1, a2, a3, a4, a5, a6, a7, a8⟩ => ⟨a1, a2, a4, a5, a6, a7, a8⟩, fun ⟨a1, a2, a4, a5, a6, a7, a8⟩ => ⟨a1, a2, fun _ s _ hs => hn s hs, a4, a5, a6, a7, a8⟩⟩, fun s hs => ?_⟩
  unfold fr_f fr_fm
  by_cases e : o = 8
  · subst e
    rw [if_neg (by omega), if_neg (by omega), if_neg (by omega), if_neg (by omega), if_neg (by omega), if_neg (by omega), if_pos rfl, if_neg (by omega), if_neg (by omega), if_neg (by omega), if_neg (by omega), if_neg (by omega), if_neg (by omega), if_pos rfl]
    rw [aa_un (by omega), aa_un (by omega), if_neg (fun z => hn s hs z.2)]
  · rw [if_neg e, if_neg e]
theorem fr_nm4 (hn : ∀ s, s < 4 + h → f s ≠ 11 + k) : ∀ s, s < 4 + (h - aa_tk o + aa_pt o) → fr_f o a k h mc f s = fr_fm o a k h mc f s := by
  intro s hs
  rcases Nat.lt_or_ge s (4 + h) with l | l
  · exact (fr_nm (pa := fun _ => 0) (m := 0) (cr := 0) (mk := fun _ => True) hn).2 s l
  · unfold fr_f fr_fm
    by_cases e : o = 8
    · subst e
      rw [if_neg (by omega), if_neg (by omega), if_neg (by omega), if_neg (by omega), if_neg (by omega), if_neg (by omega), if_pos rfl, if_neg (by omega), if_neg (by omega), if_neg (by omega), if_neg (by omega), if_neg (by omega), if_neg (by omega), if_pos rfl]
      have : s = 4 + h := by have e1 : aa_tk 8 = 0 := rfl; have e2 : aa_pt 8 = 1 := rfl; omega
      rw [this, aa_us, aa_us]
    · rw [if_neg e, if_neg e]
theorem fr_up {x v v' s : Nat} (hv : ty_le pa v v') (hs : s ≠ x → ty_le pa (f s) (g s)) : ty_le pa (aa_up f x v s) (aa_up g x v' s) := by
  by_cases e : s = x
  · rw [e, aa_us, aa_us]; exact hv
  · rw [aa_un e, aa_un e]; exact hs e
theorem fr_mono (ho : o < 20) (ht : aa_tk o ≤ h) (ha : o = 2 ∨ o = 3 ∨ o = 16 → a < 4) (hp : ∀ c, pa c < 8 ∧ (0 < c → pa c < c)) (hfg : ∀ s, s < 4 + h → ty_le pa (f s) (g s)) (ok : fr_om pa o a h m cr mk g) :
    fr_om pa o a h m cr mk f ∧ ∀ s, s < 4 + (h - aa_tk o + aa_pt o) → ty_le pa (fr_fm o a k h mc f s) (fr_fm o a k h mc g s) := by
  obtain ⟨k2, k7, k9, k10, k11, k13, k16⟩ := ok
  have top : 1 ≤ h → ty_le pa (f (3 + h)) (g (3 + h)) := fun z => hfg _ (by omega)
  constructor
  · refine ⟨fun e => ?_, fun e => ?_, fun e => ?_, fun e => ?_, fun e => ?_, fun e => ?_, fun e => ?_⟩
    · obtain ⟨z1, z2⟩ := k2 e
      have a4 := ha (Or.inl e)
      rcases hfg a (by omega) with z | z | ⟨b1, b2, b3⟩
      · rw [z]; exact ⟨z1, z2⟩
      · exact absurd z z1
      · rcases b3 with y | ⟨y1, y2, -⟩ <;> omega
    · subst e
      have t2 : aa_tk 7 = 2 := rfl
      obtain ⟨z1, z2⟩ := k7 rfl
      have q1 := hfg (3 + h) (by omega)
      have q2 := hfg (2 + h) (by omega)
      rw [z1] at q1; rw [z2] at q2
      exact ⟨ty_le_new (by omega) (by omega) q1, ty_le_new (by omega) (by omega) q2⟩
    · subst e
      have t2 : aa_tk 9 = 1 := rfl
      obtain ⟨z1, z2, z3, z4⟩ := k9 rfl
      have q1 := ty_le_new (by omega) (by omega) (top (by omega))
      rw [q1]; exact ⟨z1, z2, z3, z4⟩
    · have t1 : aa_tk o = 1 := by rcases e with rfl | rfl | rfl <;> rfl
      obtain ⟨z1, z2⟩ := k10 e
      rcases top (by omega) with z | z | ⟨b1, b2, b3⟩
      · rw [z]; exact ⟨z1, z2⟩
      · omega
      · rcases b3 with y | ⟨y1, y2, -⟩ <;> omega
    · have t1 : aa_tk o = 1 := by rcases e with rfl | rfl <;> rfl
      exact ty_trans hp (top (by omega)) (k11 e)
    · subst e
      have t2 : aa_tk 13 = 1 := rfl
      have q1 := top (by omega)
      rw [k13 rfl] at q1
      exact ty_le_new (by omega) (by omega) q1
    · have a4 := ha (Or.inr (Or.inr e))
      have q1 := hfg a (by omega)
      have := k16 e
      rw [this] at q1
      exact ty_le_new (by omega) (by omega) q1
  · intro s hs
    rcases aa_c20 ho with rfl | rfl | rfl | rfl | rfl | rfl | rfl | rfl | rfl | rfl | rfl | rfl | rfl | rfl | rfl | rfl | rfl | rfl | rfl | rfl
    · have e1 : aa_tk 0 = 0 := rfl; have e2 : aa_pt 0 = 1 := rfl
      exact fr_up (ty_refl 1) (fun z => hfg s (by omega))
    · have e1 : aa_tk 1 = 0 := rfl; have e2 : aa_pt 1 = 1 := rfl
      exact fr_up (ty_refl 2) (fun z => hfg s (by omega))
    · have e1 : aa_tk 2 = 0 := rfl; have e2 : aa_pt 2 = 1 := rfl
      exact fr_up (hfg a (by have := ha (Or.inl rfl); omega)) (fun z => hfg s (by omega))
    · have e1 : aa_tk 3 = 1 := rfl; have e2 : aa_pt 3 = 0 := rfl
      exact fr_up (top (by omega)) (fun z => hfg s (by omega))
    · have e1 : aa_tk 4 = 1 := rfl; have e2 : aa_pt 4 = 0 := rfl
      exact hfg s (by omega)
    · have e1 : aa_tk 5 = 1 := rfl; have e2 : aa_pt 5 = 2 := rfl
      exact fr_up (top (by omega)) (fun z => hfg s (by omega))
    · have e1 : aa_tk 6 = 2 := rfl; have e2 : aa_pt 6 = 2 := rfl
      exact fr_up (top (by omega)) (fun z => fr_up (hfg _ (by omega)) (fun z => hfg s (by omega)))
    · have e1 : aa_tk 7 = 2 := rfl; have e2 : aa_pt 7 = 1 := rfl
      exact hfg s (by omega)
    · have e1 : aa_tk 8 = 0 := rfl; have e2 : aa_pt 8 = 1 := rfl
      exact fr_up (ty_refl _) (fun z => hfg s (by omega))
    · have e1 : aa_tk 9 = 1 := rfl; have e2 : aa_pt 9 = 0 := rfl
      obtain ⟨z1, z2, z3, z4⟩ := k9 rfl
      have q1 : f (3 + h) = g (3 + h) := ty_le_new (by omega) (by omega) (top (by omega))
      show ty_le pa (if f s = f (3 + h) then 3 + mc (f (3 + h) - 11) else f s) (if g s = g (3 + h) then 3 + mc (g (3 + h) - 11) else g s)
      rw [q1]
      have hs' := hfg s (by omega)
      by_cases c : g s = g (3 + h)
      · have : f s = g (3 + h) := by
          rw [c] at hs'
          exact ty_le_new (by omega) (by omega) hs'
        rw [if_pos c, if_pos this]; exact ty_refl _
      · by_cases d : f s = g (3 + h)
        · rw [if_neg c, if_pos d]
          rw [d] at hs'
          rcases hs' with y | y | ⟨y1, y2, y3⟩
          · exact absurd y.symm c
          · rw [y]; exact ty_top _
          · rcases y3 with y | ⟨-, y, -⟩ <;> omega
        · rw [if_neg c, if_neg d]; exact hs'
    · have e1 : aa_tk 10 = 1 := rfl; have e2 : aa_pt 10 = 1 := rfl
      exact fr_up (ty_refl _) (fun z => hfg s (by omega))
    · have e1 : aa_tk 11 = 1 := rfl; have e2 : aa_pt 11 = 0 := rfl
      exact hfg s (by omega)
    · have e1 : aa_tk 12 = 0 := rfl; have e2 : aa_pt 12 = 0 := rfl
      exact hfg s (by omega)
    · have e1 : aa_tk 13 = 1 := rfl; have e2 : aa_pt 13 = 0 := rfl
      exact hfg s (by omega)
    · have e1 : aa_tk 14 = 1 := rfl; have e2 : aa_pt 14 = 0 := rfl
      exact hfg s (by omega)
    · have e1 : aa_tk 15 = 0 := rfl; have e2 : aa_pt 15 = 1 := rfl
      exact fr_up (ty_refl _) (fun z => hfg s (by omega))
    · have e1 : aa_tk 16 = 0 := rfl; have e2 : aa_pt 16 = 0 := rfl
      exact hfg s (by omega)
    · have e1 : aa_tk 17 = 0 := rfl; have e2 : aa_pt 17 = 0 := rfl
      exact hfg s (by omega)
    · have e1 : aa_tk 18 = 1 := rfl; have e2 : aa_pt 18 = 0 := rfl
      exact hfg s (by omega)
    · have e1 : aa_tk 19 = 1 := rfl; have e2 : aa_pt 19 = 0 := rfl
      exact hfg s (by omega)
/-- where types come from, and that they stay small -/
theorem fr_src (ho : o < 20) (ht : aa_tk o ≤ h) (hk : k < 40) (ha : o = 2 ∨ o = 3 ∨ o = 16 → a < 4) (ha8 : o = 10 → a < 8) (hmc : ∀ p, o = 9 → p < m → mk p → mc p < 8) (ok : fr_om pa o a h m cr mk f) (hf : ∀ s, s < 4 + h → f s < 91) :
    ∀ s, s < 4 + (h - aa_tk o + aa_pt o) → fr_fm o a k h mc f s < 91 ∧ ∀ j, j < 40 → fr_fm o a k h mc f s = 11 + j → j = k ∨ ∃ s', s' < 4 + h ∧ f s' = 11 + j := by
  have up : ∀ (f' : Nat → Nat) x v s, v < 91 → (∀ j, j < 40 → v = 11 + j → j = k ∨ ∃ s', s' < 4 + h ∧ f s' = 11 + j) → (s ≠ x → f' s < 91 ∧ ∀ j, j < 40 → f' s = 11 + j → j = k ∨ ∃ s', s' < 4 + h ∧ f s' = 11 + j) → aa_up f' x v s < 91 ∧ ∀ j, j < 40 → aa_up f' x v s = 11 + j → j = k ∨ ∃ s', s' < 4 + h ∧ f s' = 11 + j := by
    intro f' x v s h1 h2 h3
    by_cases e : s = x
    · rw [e, aa_us]; exact ⟨h1, h2⟩
    · rw [aa_un e]; exact h3 e
  have own : ∀ s, s < 4 + h → f s < 91 ∧ ∀ j, j < 40 → f s = 11 + j → j = k ∨ ∃ s', s' < 4 + h ∧ f s' = 11 + j := fun s hs => ⟨hf s hs, fun j _ e => Or.inr ⟨s, hs, e⟩⟩
  obtain ⟨k2, k7, k9, k10, k11, k13, k16⟩ := ok
  intro s hs
  rcases aa_c20 ho with rfl | rfl | rfl | rfl | rfl | rfl | rfl | rfl | rfl | rfl | rfl | rfl | rfl | rfl | rfl | rfl | rfl | rfl | rfl | rfl
  · have e1 : aa_tk 0 = 0 := rfl; have e2 : aa_pt 0 = 1 := rfl
    exact up f _ 1 s (by omega) (fun j _ e => by omega) (fun z => own s (by omega))
  · have e1 : aa_tk 1 = 0 := rfl; have e2 : aa_pt 1 = 1 := rfl
    exact up f _ 2 s (by omega) (fun j _ e => by omega) (fun z => own s (by omega))
  · have e1 : aa_tk 2 = 0 := rfl; have e2 : aa_pt 2 = 1 := rfl
    have a4 := ha (Or.inl rfl)
    exact up f _ _ s (own a (by omega)).1 (own a (by omega)).2 (fun z => own s (by omega))
  · have e1 : aa_tk 3 = 1 := rfl; have e2 : aa_pt 3 = 0 := rfl
    exact up f _ _ s (own (3 + h) (by omega)).1 (own (3 + h) (by omega)).2 (fun z => own s (by omega))
  · have e1 : aa_tk 4 = 1 := rfl; have e2 : aa_pt 4 = 0 := rfl
    exact own s (by omega)
  · have e1 : aa_tk 5 = 1 := rfl; have e2 : aa_pt 5 = 2 := rfl
    exact up f _ _ s (own (3 + h) (by omega)).1 (own (3 + h) (by omega)).2 (fun z => own s (by omega))
  · have e1 : aa_tk 6 = 2 := rfl; have e2 : aa_pt 6 = 2 := rfl
    exact up _ _ _ s (own (3 + h) (by omega)).1 (own (3 + h) (by omega)).2 (fun z => up f _ _ s (own (2 + h) (by omega)).1 (own (2 + h) (by omega)).2 (fun z => own s (by omega)))
  · have e1 : aa_tk 7 = 2 := rfl; have e2 : aa_pt 7 = 1 := rfl
    exact own s (by omega)
  · have e1 : aa_tk 8 = 0 := rfl; have e2 : aa_pt 8 = 1 := rfl
    exact up f _ _ s (by omega) (fun j _ e => Or.inl (by omega)) (fun z => own s (by omega))
  · have e1 : aa_tk 9 = 1 := rfl; have e2 : aa_pt 9 = 0 := rfl
    obtain ⟨z1, z2, z3, z4⟩ := k9 rfl
    have hc := hmc _ rfl z3 z4
    show (if f s = f (3 + h) then 3 + mc (f (3 + h) - 11) else f s) < 91 ∧ ∀ j, j < 40 → (if f s = f (3 + h) then 3 + mc (f (3 + h) - 11) else f s) = 11 + j → j = k ∨ ∃ s', s' < 4 + h ∧ f s' = 11 + j
    by_cases c : f s = f (3 + h)
    · rw [if_pos c]; exact ⟨by omega, fun j _ e => by omega⟩
    · rw [if_neg c]; exact own s (by omega)
  · have e1 : aa_tk 10 = 1 := rfl; have e2 : aa_pt 10 = 1 := rfl
    have a8 := ha8 rfl
    exact up f _ _ s (by omega) (fun j _ e => by omega) (fun z => own s (by omega))
  · have e1 : aa_tk 11 = 1 := rfl; have e2 : aa_pt 11 = 0 := rfl
    exact own s (by omega)
  · have e1 : aa_tk 12 = 0 := rfl; have e2 : aa_pt 12 = 0 := rfl
    exact own s (by omega)
  · have e1 : aa_tk 13 = 1 := rfl; have e2 : aa_pt 13 = 0 := rfl
    exact own s (by omega)
  · have e1 : aa_tk 14 = 1 := rfl; have e2 : aa_pt 14 = 0 := rfl
    exact own s (by omega)
  · have e1 : aa_tk 15 = 0 := rfl; have e2 : aa_pt 15 = 1 := rfl
    exact up f _ _ s (by omega) (fun j _ e => by omega) (fun z => own s (by omega))
  · have e1 : aa_tk 16 = 0 := rfl; have e2 : aa_pt 16 = 0 := rfl
    exact own s (by omega)
  · have e1 : aa_tk 17 = 0 := rfl; have e2 : aa_pt 17 = 0 := rfl
    exact own s (by omega)
  · have e1 : aa_tk 18 = 1 := rfl; have e2 : aa_pt 18 = 0 := rfl
    exact own s (by omega)
  · have e1 : aa_tk 19 = 1 := rfl; have e2 : aa_pt 19 = 0 := rfl
    exact own s (by omega)
end
end
section
/-! the iteration over places: solutions, what a step keeps, what falls; pure -/
def it_le (pa va : Nat → Nat) (k : Nat) (f g : Nat → Nat) : Prop := ∀ s, s < 4 + va k → ty_le pa (f s) (g s)
def it_sol (pa va : Nat → Nat) (m : Nat) (OK : Nat → (Nat → Nat) → Prop) (EH EN : Nat → (Nat → Nat) → Nat → (Nat → Nat) → Prop) (be : Nat → Nat) (K : Nat → Prop) (F : Nat → Nat → Nat) : Prop :=
  K 0 ∧ it_le pa va 0 be (F 0) ∧ ∀ k, K k → k < m ∧ OK k (F k) ∧ ∀ j g, EH k (F k) j g ∨ EN k (F k) j g → K j ∧ it_le pa va j g (F j)
/-- what the places and their edges are like -/
def it_sys (pa va : Nat → Nat) (m : Nat) (OK : Nat → (Nat → Nat) → Prop) (EH EN : Nat → (Nat → Nat) → Nat → (Nat → Nat) → Prop) : Prop :=
  m ≤ 40 ∧ 0 < m ∧ (∀ k, k < m → va k ≤ 6) ∧ (∀ c, pa c < 8 ∧ (0 < c → pa c < c)) ∧
  (∀ k f j g, k < m → EH k f j g → j < m ∧ (∀ s, s < 4 + va k → f s < 91) → ∀ s, s < 4 + va j → g s < 91 ∧ ∀ i, i < 40 → g s = 11 + i → i = k ∨ ∃ s', s' < 4 + va k ∧ f s' = 11 + i) ∧
  (∀ k f j g, k < m → EN k f j g → OK k f → j < m ∧ (∀ s, s < 4 + va k → f s < 91) → ∀ s, s < 4 + va j → g s < 91 ∧ ∀ i, i < 40 → g s = 11 + i → i = k ∨ ∃ s', s' < 4 + va k ∧ f s' = 11 + i) ∧
  (∀ k f j g, k < m → EH k f j g ∨ EN k f j g → j < m) ∧
  (∀ k f f', k < m → it_le pa va k f f' → ∀ j g, EH k f j g → ∃ g', EH k f' j g' ∧ it_le pa va j g g') ∧
  (∀ k f f', k < m → it_le pa va k f f' → OK k f' → OK k f ∧ ∀ j g, EN k f j g → ∃ g', EN k f' j g' ∧ it_le pa va j g g')
def it_I (va : Nat → Nat) (m : Nat) (kn : Nat → Prop) (ty : Nat → Nat → Nat) : Prop := ∀ k, kn k → k < m ∧ ∀ s, s < 4 + va k → ty k s < 91 ∧ ∀ j, j < 40 → ty k s = 11 + j → kn j ∧ j ≠ k
def it_k (kn : Nat → Prop) (j : Nat) : Nat → Prop := fun x => kn x ∨ x = j
noncomputable def it_t (pa : Nat → Nat) (kn : Nat → Prop) (ty : Nat → Nat → Nat) (j : Nat) (f : Nat → Nat) : Nat → Nat → Nat := fun x s => if x = j then @ite Nat (kn j) (Classical.propDecidable _) (ty_jn pa (ty j s) (f s)) (f s) else ty x s
def it_c (pa va : Nat → Nat) (kn : Nat → Prop) (ty : Nat → Nat → Nat) (j : Nat) (f : Nat → Nat) : Prop := ¬ kn j ∨ ∃ s, s < 4 + va j ∧ ty_jn pa (ty j s) (f s) ≠ ty j s
def it_gr (pa va : Nat → Nat) (kn : Nat → Prop) (ty : Nat → Nat → Nat) (kn' : Nat → Prop) (ty' : Nat → Nat → Nat) : Prop := ∀ x, kn x → kn' x ∧ it_le pa va x (ty x) (ty' x)
/-- all solutions bound the state -/
def it_LB (pa va : Nat → Nat) (m : Nat) (OK : Nat → (Nat → Nat) → Prop) (EH EN : Nat → (Nat → Nat) → Nat → (Nat → Nat) → Prop) (be : Nat → Nat) (kn : Nat → Prop) (ty : Nat → Nat → Nat) : Prop := ∀ K F, it_sol pa va m OK EH EN be K F → ∀ k, kn k → K k ∧ it_le pa va k (ty k) (F k)
/-- a frame that may be handed on from a place -/
def it_R (pa va : Nat → Nat) (m : Nat) (OK : Nat → (Nat → Nat) → Prop) (EH EN : Nat → (Nat → Nat) → Nat → (Nat → Nat) → Prop) (be : Nat → Nat) (kn : Nat → Prop) (k : Nat) (f : Nat → Nat) : Prop :=
  k < m ∧ kn k ∧ (∀ K F, it_sol pa va m OK EH EN be K F → K k ∧ it_le pa va k f (F k)) ∧ ∀ s, s < 4 + va k → f s < 91 ∧ ∀ i, i < 40 → f s = 11 + i → kn i ∧ i ≠ k
def it_sm (g : Nat → Nat) : Nat → Nat
  | 0 => 0
  | n + 1 => it_sm g n + g n
theorem it_sm_le {g g' : Nat → Nat} : ∀ {n : Nat}, (∀ k, k < n → g k ≤ g' k) → it_sm g n ≤ it_sm g' n
  | 0, _ => Nat.le_refl _
  | n + 1, h => by
    have := it_sm_le (n := n) (fun k hk => h k (by omega))
    have := h n (by omega)
    simp only [it_sm]; omega
theorem it_sm_lt {g g' : Nat → Nat} {a : Nat} (ha : g a < g' a) : ∀ {n : Nat}, (∀ k, k < n → g k ≤ g' k) → a < n → it_sm g n < it_sm g' n
  | 0, _, h => by omega
  | n + 1, h, hn => by
    have h1 := h n (by omega)
    simp only [it_sm]
    rcases Nat.lt_or_ge a n with z | z
    · have := it_sm_lt ha (n := n) (fun k hk => h k (by omega)) z
      omega
    · have : a = n := by omega
      subst this
      have := it_sm_le (n := a) (fun k hk => h k (by omega))
      omega
theorem it_sm_b {g : Nat → Nat} {c : Nat} : ∀ {n : Nat}, (∀ k, k < n → g k ≤ c) → it_sm g n ≤ n * c
  | 0, _ => by simp only [it_sm]; omega
  | n + 1, h => by
    have := it_sm_b (n := n) (fun k hk => h k (by omega))
    have := h n (by omega)
    simp only [it_sm]
    rw [Nat.succ_mul]; omega
noncomputable def it_row (va : Nat → Nat) (kn : Nat → Prop) (ty : Nat → Nat → Nat) (k : Nat) : Nat := @ite Nat (kn k) (Classical.propDecidable _) (it_sm (fun s => ty_pot (ty k s)) (4 + va k)) 200
noncomputable def it_P (va : Nat → Nat) (m : Nat) (kn : Nat → Prop) (ty : Nat → Nat → Nat) : Nat := it_sm (it_row va kn ty) m
theorem it_row_t {va : Nat → Nat} {kn : Nat → Prop} {ty : Nat → Nat → Nat} {k : Nat} (h : kn k) : it_row va kn ty k = it_sm (fun s => ty_pot (ty k s)) (4 + va k) := by unfold it_row; rw [if_pos h]
theorem it_row_f {va : Nat → Nat} {kn : Nat → Prop} {ty : Nat → Nat → Nat} {k : Nat} (h : ¬ kn k) : it_row va kn ty k = 200 := by unfold it_row; rw [if_neg h]
theorem it_row_b {va : Nat → Nat} {kn : Nat → Prop} {ty : Nat → Nat → Nat} {k : Nat} (h : kn k) (hv : va k ≤ 6) : it_row va kn ty k ≤ 90 := by
  rw [it_row_t h]
  have := it_sm_b (g := fun s => ty_pot (ty k s)) (c := 9) (n := 4 + va k) (fun s _ => ty_pot9 _)
  omega
section
variable {pa va : Nat → Nat} {m : Nat} {OK : Nat → (Nat → Nat) → Prop} {EH EN : Nat → (Nat → Nat) → Nat → (Nat → Nat) → Prop} {be : Nat → Nat} {kn : Nat → Prop} {ty : Nat → Nat → Nat} {j k : Nat} {f g : Nat → Nat}
theorem it_t_ne {x s : Nat} (h : x ≠ j) : it_t pa kn ty j f x s = ty x s := if_neg h
theorem it_t_kn {s : Nat} (h : kn j) : it_t pa kn ty j f j s = ty_jn pa (ty j s) (f s) := by unfold it_t; rw [if_pos rfl, if_pos h]
theorem it_t_un {s : Nat} (h : ¬ kn j) : it_t pa kn ty j f j s = f s := by unfold it_t; rw [if_pos rfl, if_neg h]
theorem it_gr_give (hp : ∀ c, pa c < 8 ∧ (0 < c → pa c < c)) : it_gr pa va kn ty (it_k kn j) (it_t pa kn ty j f) := by
  intro x hx
  refine ⟨Or.inl hx, fun s hs => ?_⟩
  by_cases e : x = j
  · subst e; rw [it_t_kn hx]; exact ty_jn_l hp _ _
  · rw [it_t_ne e]; exact ty_refl _
theorem it_gr_tr {kn' kn'' : Nat → Prop} {ty' ty'' : Nat → Nat → Nat} (hp : ∀ c, pa c < 8 ∧ (0 < c → pa c < c)) (h1 : it_gr pa va kn ty kn' ty') (h2 : it_gr pa va kn' ty' kn'' ty'') : it_gr pa va kn ty kn'' ty'' := fun x hx =>
  ⟨(h2 x (h1 x hx).1).1, fun s hs => ty_trans hp ((h1 x hx).2 s hs) ((h2 x (h1 x hx).1).2 s hs)⟩
theorem it_gr_rf : it_gr pa va kn ty kn ty := fun x hx => ⟨hx, fun s _ => ty_refl _⟩
theorem it_got (hp : ∀ c, pa c < 8 ∧ (0 < c → pa c < c)) : it_le pa va j f (it_t pa kn ty j f j) := by
  intro s hs
  by_cases h : kn j
  · rw [it_t_kn h]; exact ty_jn_r hp _ _
  · rw [it_t_un h]; exact ty_refl _
theorem it_P_le (hp : ∀ c, pa c < 8 ∧ (0 < c → pa c < c)) (hv : ∀ k, k < m → va k ≤ 6) : it_P va m (it_k kn j) (it_t pa kn ty j f) ≤ it_P va m kn ty := by
  refine it_sm_le (fun x hx => ?_)
  by_cases e : x = j
  · subst e
    by_cases h : kn x
    · rw [it_row_t (Or.inl h), it_row_t h]
      refine it_sm_le (fun s hs => ?_)
      rw [it_t_kn h]; exact ty_pot_le (ty_jn_l hp _ _)
    · have := it_row_b (va := va) (kn := it_k kn x) (ty := it_t pa kn ty x f) (k := x) (Or.inr rfl) (hv x hx)
      rw [it_row_f h]; omega
  · by_cases h : kn x
    · rw [it_row_t (Or.inl h), it_row_t h]
      refine it_sm_le (fun s hs => ?_)
      rw [it_t_ne e]; exact Nat.le_refl _
    · rw [it_row_f h, it_row_f (fun z => z.elim h e)]; exact Nat.le_refl _
theorem it_P_lt (hp : ∀ c, pa c < 8 ∧ (0 < c → pa c < c)) (hv : ∀ k, k < m → va k ≤ 6) (hj : j < m) (hc : it_c pa va kn ty j f) : it_P va m (it_k kn j) (it_t pa kn ty j f) < it_P va m kn ty := by
  refine it_sm_lt (a := j) ?_ (fun x hx => ?_) hj
  · by_cases h : kn j
    · rw [it_row_t (Or.inl h), it_row_t h]
      rcases hc with z | ⟨s, hs, ne⟩
      · exact absurd h z
      · refine it_sm_lt (a := s) ?_ (fun x hx => ?_) hs
        · rw [it_t_kn h]; exact ty_pot_lt (ty_jn_l hp _ _) (fun z => ne z.symm)
        · rw [it_t_kn h]; exact ty_pot_le (ty_jn_l hp _ _)
    · have := it_row_b (va := va) (kn := it_k kn j) (ty := it_t pa kn ty j f) (k := j) (Or.inr rfl) (hv j hj)
      rw [it_row_f h]; omega
  · by_cases e : x = j
    · subst e
      by_cases h : kn x
      · rw [it_row_t (Or.inl h), it_row_t h]
        refine it_sm_le (fun s hs => ?_)
        rw [it_t_kn h]; exact ty_pot_le (ty_jn_l hp _ _)
      · have := it_row_b (va := va) (kn := it_k kn x) (ty := it_t pa kn ty x f) (k := x) (Or.inr rfl) (hv x hx)
        rw [it_row_f h]; omega
    · by_cases h : kn x
      · rw [it_row_t (Or.inl h), it_row_t h]
        refine it_sm_le (fun s hs => ?_)
        rw [it_t_ne e]; exact Nat.le_refl _
      · rw [it_row_f h, it_row_f (fun z => z.elim h e)]; exact Nat.le_refl _
theorem it_R_of (hI : it_I va m kn ty) (hB : it_LB pa va m OK EH EN be kn ty) (hk : kn k) : it_R pa va m OK EH EN be kn k (ty k) :=
  ⟨(hI k hk).1, hk, fun K F S => hB K F S k hk, fun s hs => (hI k hk).2 s hs⟩
theorem it_R_mono {kn' : Nat → Prop} (h : it_R pa va m OK EH EN be kn k f) (hg : ∀ x, kn x → kn' x) : it_R pa va m OK EH EN be kn' k f :=
  ⟨h.1, hg _ h.2.1, h.2.2.1, fun s hs => ⟨(h.2.2.2 s hs).1, fun i hi e => ⟨hg _ ((h.2.2.2 s hs).2 i hi e).1, ((h.2.2.2 s hs).2 i hi e).2⟩⟩⟩
/-- a gift keeps what is kept -/
theorem it_give (Y : it_sys pa va m OK EH EN) (hI : it_I va m kn ty) (hB : it_LB pa va m OK EH EN be kn ty) (hR : it_R pa va m OK EH EN be kn k f) (hE : EH k f j g ∨ (OK k f ∧ EN k f j g)) :
    it_I va m (it_k kn j) (it_t pa kn ty j g) ∧ it_LB pa va m OK EH EN be (it_k kn j) (it_t pa kn ty j g) ∧ j < m ∧ (∀ s, s < 4 + va j → g s < 91) := by
  obtain ⟨y1, y2, y3, y4, y5, y6, y7, y8, y9⟩ := Y
  obtain ⟨r1, r2, r3, r4⟩ := hR
  have hj : j < m := y7 k f j g r1 (hE.imp id (fun z => z.2))
  have hs0 : ∀ s, s < 4 + va j → g s < 91 ∧ ∀ i, i < 40 → g s = 11 + i → i = k ∨ ∃ s', s' < 4 + va k ∧ f s' = 11 + i := by
    rcases hE with z | ⟨z1, z2⟩
    · exact y5 k f j g r1 z ⟨hj, fun s hs => (r4 s hs).1⟩
    · exact y6 k f j g r1 z2 z1 ⟨hj, fun s hs => (r4 s hs).1⟩
  have src : ∀ s, s < 4 + va j → ∀ i, i < 40 → g s = 11 + i → kn i := by
    intro s hs i hi e
    rcases (hs0 s hs).2 i hi e with z | ⟨s', h1, h2⟩
    · rw [z]; exact r2
    · exact ((r4 s' h1).2 i hi h2).1
  refine ⟨fun x hx => ?_, fun K F S x hx => ?_, hj, fun s hs => (hs0 s hs).1⟩
  · by_cases e : x = j
    · subst e
      refine ⟨hj, fun s hs => ?_⟩
      by_cases h : kn x
      · rw [it_t_kn h]
        refine ⟨ty_jn_lt y4 ((hI x h).2 s hs).1 (hs0 s hs).1, fun i hi e => ?_⟩
        obtain ⟨e1, e2⟩ := ty_jn_new (by omega) y4 e
        obtain ⟨z1, z2⟩ := ((hI x h).2 s hs).2 i hi e1
        exact ⟨Or.inl z1, z2⟩
      · rw [it_t_un h]
        refine ⟨(hs0 s hs).1, fun i hi e => ?_⟩
        have := src s hs i hi e
        exact ⟨Or.inl this, fun z => h (z ▸ this)⟩
    · have hx' : kn x := hx.resolve_right e
      refine ⟨(hI x hx').1, fun s hs => ?_⟩
      rw [it_t_ne e]
      refine ⟨((hI x hx').2 s hs).1, fun i hi z => ?_⟩
      obtain ⟨z1, z2⟩ := ((hI x hx').2 s hs).2 i hi z
      exact ⟨Or.inl z1, z2⟩
  · by_cases e : x = j
    · subst e
      obtain ⟨s1, s2, s3⟩ := id S
      obtain ⟨b1, b2⟩ := r3 K F S
      obtain ⟨c1, c2, c3⟩ := s3 k b1
      have hg : K x ∧ it_le pa va x g (F x) := by
        rcases hE with z | ⟨z1, z2⟩
        · obtain ⟨g', g1, g2⟩ := y8 k f (F k) r1 b2 x g z
          obtain ⟨d1, d2⟩ := c3 x g' (Or.inl g1)
          exact ⟨d1, fun s hs => ty_trans y4 (g2 s hs) (d2 s hs)⟩
        · obtain ⟨g', g1, g2⟩ := (y9 k f (F k) r1 b2 c2).2 x g z2
          obtain ⟨d1, d2⟩ := c3 x g' (Or.inr g1)
          exact ⟨d1, fun s hs => ty_trans y4 (g2 s hs) (d2 s hs)⟩
      refine ⟨hg.1, fun s hs => ?_⟩
      by_cases h : kn x
      · rw [it_t_kn h]; exact ty_jn_lub y4 ((hB K F S x h).2 s hs) (hg.2 s hs)
      · rw [it_t_un h]; exact hg.2 s hs
    · have hx' : kn x := hx.resolve_right e
      obtain ⟨b1, b2⟩ := hB K F S x hx'
      exact ⟨b1, fun s hs => by rw [it_t_ne e]; exact b2 s hs⟩
/-- where a step fails there is no solution -/
theorem it_fail (Y : it_sys pa va m OK EH EN) (hR : it_R pa va m OK EH EN be kn k f) (hno : ¬ OK k f) : ∀ K F, ¬ it_sol pa va m OK EH EN be K F := fun K F S => by
  obtain ⟨b1, b2⟩ := hR.2.2.1 K F S
  exact hno ((Y.2.2.2.2.2.2.2.2 k f (F k) hR.1 b2 (S.2.2 k b1).2.1).1)
/-- all edges of a frame are met -/
def it_S (pa va : Nat → Nat) (EH EN : Nat → (Nat → Nat) → Nat → (Nat → Nat) → Prop) (kn : Nat → Prop) (ty : Nat → Nat → Nat) (k : Nat) (f : Nat → Nat) : Prop := ∀ j g, EH k f j g ∨ EN k f j g → kn j ∧ it_le pa va j g (ty j)
theorem it_S_gr {kn' : Nat → Prop} {ty' : Nat → Nat → Nat} (hp : ∀ c, pa c < 8 ∧ (0 < c → pa c < c)) (h : it_S pa va EH EN kn ty k f) (hg : it_gr pa va kn ty kn' ty') : it_S pa va EH EN kn' ty' k f := fun j g hE => by
  obtain ⟨a, b⟩ := h j g hE
  obtain ⟨c, d⟩ := hg j a
  exact ⟨c, fun s hs => ty_trans hp (b s hs) (d s hs)⟩
theorem it_S_eq {f' : Nat → Nat} (Y : it_sys pa va m OK EH EN) (hk : k < m) (h : it_S pa va EH EN kn ty k f) (ok : OK k f) (e : ∀ s, s < 4 + va k → f' s = f s) : OK k f' ∧ it_S pa va EH EN kn ty k f' := by
  obtain ⟨y1, y2, y3, y4, y5, y6, y7, y8, y9⟩ := Y
  have le : it_le pa va k f' f := fun s hs => by rw [e s hs]; exact ty_refl _
  refine ⟨(y9 k f' f hk le ok).1, fun j g hE => ?_⟩
  rcases hE with z | z
  · obtain ⟨g', g1, g2⟩ := y8 k f' f hk le j g z
    obtain ⟨a, b⟩ := h j g' (Or.inl g1)
    exact ⟨a, fun s hs => ty_trans y4 (g2 s hs) (b s hs)⟩
  · obtain ⟨g', g1, g2⟩ := (y9 k f' f hk le ok).2 j g z
    obtain ⟨a, b⟩ := h j g' (Or.inr g1)
    exact ⟨a, fun s hs => ty_trans y4 (g2 s hs) (b s hs)⟩
/-- the least solution -/
def it_L (pa va : Nat → Nat) (m : Nat) (OK : Nat → (Nat → Nat) → Prop) (EH EN : Nat → (Nat → Nat) → Nat → (Nat → Nat) → Prop) (be : Nat → Nat) (kn : Nat → Prop) (ty : Nat → Nat → Nat) : Prop :=
  it_sol pa va m OK EH EN be kn ty ∧ it_LB pa va m OK EH EN be kn ty
theorem ty_anti {t u : Nat} (h1 : ty_le pa t u) (h2 : ty_le pa u t) : t = u := by
  rcases h1 with z | rfl | ⟨a1, a2, a3⟩
  · exact z
  · rcases h2 with z | z | ⟨b1, b2, b3⟩
    · exact z.symm
    · exact z
    · rcases b3 with z | ⟨z, -⟩ <;> omega
  · rcases h2 with z | z | ⟨b1, b2, b3⟩
    · exact z.symm
    · rcases a3 with y | ⟨y, -⟩ <;> omega
    · rcases a3 with y | ⟨y1, y2, y3⟩
      · omega
      · rcases b3 with z | ⟨z1, z2, z3⟩
        · omega
        · have := ty_ab_lt y3
          have := ty_ab_lt z3
          omega
theorem it_L_u {kn' : Nat → Prop} {ty' : Nat → Nat → Nat} (h1 : it_L pa va m OK EH EN be kn ty) (h2 : it_L pa va m OK EH EN be kn' ty') : ∀ k, kn k → kn' k ∧ ∀ s, s < 4 + va k → ty k s = ty' k s := fun k hk => by
  obtain ⟨a1, a2⟩ := h1.2 kn' ty' h2.1 k hk
  obtain ⟨b1, b2⟩ := h2.2 kn ty h1.1 k a1
  exact ⟨a1, fun s hs => ty_anti (a2 s hs) (b2 s hs)⟩
end
end
section
/-! the places laid in order: facts; the iteration's system -/
def la_L (cn hn : Nat) (op fr tt tg : Nat → Nat) (ar : Nat → Int32) (m : Nat) (pl va : Nat → Nat) : Prop :=
  m ≤ 40 ∧ (∀ k, k < m → ex_R (pp_W cn op) (pp_S hn op fr tt tg ar) (pl k) (va k) ∧ pp_W cn op (pl k) (va k) = 0) ∧ (∀ i j, i < j → j < m → pl i < pl j) ∧ (∀ q h, ex_R (pp_W cn op) (pp_S hn op fr tt tg ar) q h → ∃ k, k < m ∧ pl k = q ∧ va k = h)
def la_OK (pa op : Nat → Nat) (ar : Nat → Int32) (pl va : Nat → Nat) (m k : Nat) (f : Nat → Nat) : Prop := fr_om pa (op (pl k % 25)) (pp_g ar (pl k % 25)) (va k) m (ty_fi pl (kk_cal (pl k)) m) (fun p => op (pl p % 25) = 8) f
def la_F (op : Nat → Nat) (ar : Nat → Int32) (pl va : Nat → Nat) (k : Nat) (f : Nat → Nat) : Nat → Nat := fr_fm (op (pl k % 25)) (pp_g ar (pl k % 25)) k (va k) (fun p => pp_g ar (pl p % 25)) f
def la_EH (hn : Nat) (fr tt tg ct pl : Nat → Nat) (m k : Nat) (f : Nat → Nat) (j : Nat) (g : Nat → Nat) : Prop := ∃ x, x < hn ∧ pp_cv fr tt x (pl k % 25) = true ∧ j = ty_fi pl (kk_at (pl k) (tg x)) m ∧ g = aa_up f 4 (3 + ct x)
def la_EN (op : Nat → Nat) (ar : Nat → Int32) (pl va : Nat → Nat) (m k : Nat) (f : Nat → Nat) (j : Nat) (g : Nat → Nat) : Prop := (aa_fl (op (pl k % 25)) = true ∧ j = k + 1 ∧ g = la_F op ar pl va k f) ∨ ((aa_ld (op (pl k % 25)) = true ∨ op (pl k % 25) = 16) ∧ j = ty_fi pl (pp_to op ar (pl k)) m ∧ g = la_F op ar pl va k f)
section
variable {cn hn : Nat} {op fr tt tg ct pa be : Nat → Nat} {ar : Nat → Int32} {m : Nat} {pl va : Nat → Nat}
theorem la_fi (L : la_L cn hn op fr tt tg ar m pl va) {k q : Nat} (hk : k < m) (e : pl k = q) : ty_fi pl q m = k := ty_fi_eq L.2.2.1 hk e
theorem la_V (P : pp_P cn hn op fr tt tg ct pa be ar) (M : pp_M cn hn op tg ar) (L : la_L cn hn op fr tt tg ar m pl va) {k : Nat} (hk : k < m) : kk_V (pl k) ∧ pl k % 25 < cn ∧ va k ≤ 6 := by
  obtain ⟨-, h6, ⟨hv, hi⟩, -⟩ := pp_RI P M (L.2.1 k hk).1
  exact ⟨hv, hi, h6⟩
theorem la_S (L : la_L cn hn op fr tt tg ar m pl va) {k q h : Nat} (hk : k < m) (hs : pp_S hn op fr tt tg ar (pl k) (va k) q h) : ty_fi pl q m < m ∧ pl (ty_fi pl q m) = q ∧ va (ty_fi pl q m) = h := by
  obtain ⟨r, w⟩ := L.2.1 k hk
  obtain ⟨j, j1, j2, j3⟩ := L.2.2.2 q h (ex_Rs r w hs)
  rw [la_fi L j1 j2]; exact ⟨j1, j2, j3⟩
theorem la_hand (L : la_L cn hn op fr tt tg ar m pl va) {k x : Nat} (hk : k < m) (hx : x < hn) (hc : pp_cv fr tt x (pl k % 25) = true) : ty_fi pl (kk_at (pl k) (tg x)) m < m ∧ pl (ty_fi pl (kk_at (pl k) (tg x)) m) = kk_at (pl k) (tg x) ∧ va (ty_fi pl (kk_at (pl k) (tg x)) m) = 1 := la_S L hk (Or.inl ⟨x, hx, hc, rfl, rfl⟩)
theorem la_jump (L : la_L cn hn op fr tt tg ar m pl va) {k : Nat} (hk : k < m) (h : aa_ld (op (pl k % 25)) = true ∨ op (pl k % 25) = 16) : ty_fi pl (pp_to op ar (pl k)) m < m ∧ pl (ty_fi pl (pp_to op ar (pl k)) m) = pp_to op ar (pl k) ∧ va (ty_fi pl (pp_to op ar (pl k)) m) = pp_lf op (pl k) (va k) := la_S L hk (Or.inr (Or.inr ⟨h, rfl, rfl⟩))
theorem la_fall (L : la_L cn hn op fr tt tg ar m pl va) {k : Nat} (hk : k < m) (h : aa_fl (op (pl k % 25)) = true) : k + 1 < m ∧ pl (k + 1) = pl k + 1 ∧ va (k + 1) = pp_lf op (pl k) (va k) := by
  obtain ⟨a, b, c⟩ := la_S L hk (Or.inr (Or.inl ⟨h, rfl, rfl⟩))
  have e : ty_fi pl (pl k + 1) m = k + 1 := by
    rcases Nat.lt_trichotomy (ty_fi pl (pl k + 1) m) (k + 1) with z | z | z
    · rcases Nat.lt_or_ge (ty_fi pl (pl k + 1) m) k with y | y
      · have := L.2.2.1 _ _ y hk; omega
      · have : ty_fi pl (pl k + 1) m = k := by omega
        rw [this] at b; omega
    · exact z
    · have h1 := L.2.2.1 k (k + 1) (by omega) (by omega)
      have h2 := L.2.2.1 (k + 1) _ z a
      omega
  rw [e] at a b c; exact ⟨a, b, c⟩
theorem la_cal (P : pp_P cn hn op fr tt tg ct pa be ar) (M : pp_M cn hn op tg ar) (L : la_L cn hn op fr tt tg ar m pl va) {k : Nat} (hk : k < m) (hn0 : 0 < pl k / 390625) : ty_fi pl (kk_cal (pl k)) m < m ∧ pl (ty_fi pl (kk_cal (pl k)) m) = kk_cal (pl k) ∧ kk_V (kk_cal (pl k)) := by
  obtain ⟨-, h6, ⟨hv, hi⟩, hJ, -⟩ := pp_RI P M (L.2.1 k hk).1
  obtain ⟨⟨h, hr⟩, hv', -⟩ := hJ hn0
  obtain ⟨j, j1, j2, j3⟩ := L.2.2.2 _ h hr
  rw [la_fi L j1 j2]; exact ⟨j1, j2, hv'⟩
theorem la_0 (L : la_L cn hn op fr tt tg ar m pl va) : 0 < m ∧ pl 0 = 0 ∧ va 0 = 0 := by
  obtain ⟨j, j1, j2, j3⟩ := L.2.2.2 0 0 ex_R0
  rcases Nat.eq_zero_or_pos j with z | z
  · subst z; exact ⟨j1, j2, j3⟩
  · have := L.2.2.1 0 j z j1; omega
theorem la_16 (L : la_L cn hn op fr tt tg ar m pl va) (P : pp_P cn hn op fr tt tg ct pa be ar) (M : pp_M cn hn op tg ar) {k : Nat} (hk : k < m) : (op (pl k % 25) = 15 → pl k / 390625 < 3) ∧ (op (pl k % 25) = 16 → 0 < pl k / 390625 ∧ kk_cal (pl k) % 25 + 1 < 24) := by
  obtain ⟨-, h6, ⟨hv, hi⟩, hJ, -⟩ := pp_RI P M (L.2.1 k hk).1
  obtain ⟨w1, w2, w3, w4, w5⟩ := pp_W0 (L.2.1 k hk).2
  have hc := P.1
  constructor
  · intro a
    have := kk_Vn hv
    have : pl k / 390625 ≠ 3 := fun z => w4 ⟨a, Or.inl z⟩
    omega
  · intro a
    have n0 : 0 < pl k / 390625 := by have : pl k / 390625 ≠ 0 := fun z => w5 ⟨a, z⟩; omega
    have := (hJ n0).2.2
    have ei := kk_cal_i hv n0
    have hne : kk_cal (pl k) % 25 + 1 ≠ cn := fun z => w1 (Or.inr ⟨a, n0, by rw [← ei]; exact z⟩)
    exact ⟨n0, by omega⟩
theorem la_tk (L : la_L cn hn op fr tt tg ar m pl va) {k : Nat} (hk : k < m) : aa_tk (op (pl k % 25)) ≤ va k ∧ va k - aa_tk (op (pl k % 25)) + aa_pt (op (pl k % 25)) ≤ 6 := by
  obtain ⟨w1, w2, w3, w4, w5⟩ := pp_W0 (L.2.1 k hk).2
  exact ⟨w2, w3⟩
theorem la_sys (P : pp_P cn hn op fr tt tg ct pa be ar) (M : pp_M cn hn op tg ar) (L : la_L cn hn op fr tt tg ar m pl va) : it_sys pa va m (la_OK pa op ar pl va m) (la_EH hn fr tt tg ct pl m) (la_EN op ar pl va m) := by
  obtain ⟨hc, hh, hop, hx, hpa, hbe, hfit⟩ := id P
  have g4 : ∀ k, op (pl k % 25) = 2 ∨ op (pl k % 25) = 3 ∨ op (pl k % 25) = 16 → pp_g ar (pl k % 25) < 4 := fun k z => (pp_g4 P z).2
  have tgt : ∀ k f j g, k < m → la_EN op ar pl va m k f j g → j < m ∧ va j = pp_lf op (pl k) (va k) ∧ g = la_F op ar pl va k f := by
    intro k f j g hk hE
    rcases hE with ⟨e1, rfl, rfl⟩ | ⟨e1, rfl, rfl⟩
    · obtain ⟨a, b, c⟩ := la_fall L hk e1
      exact ⟨a, c, rfl⟩
    · obtain ⟨a, b, c⟩ := la_jump L hk e1
      exact ⟨a, c, rfl⟩
  refine ⟨L.1, (la_0 L).1, fun k hk => (la_V P M L hk).2.2, hpa, ?_, ?_, ?_, ?_, ?_⟩
  · rintro k f j g hk ⟨x, x1, x2, rfl, rfl⟩ ⟨hj, hf⟩ s hs
    have hct := (hx x).2.2.2
    obtain ⟨a, b, c⟩ := la_hand L hk x1 x2
    rw [c] at hs
    by_cases e : s = 4
    · rw [e, aa_us]; exact ⟨by omega, fun i _ z => by omega⟩
    · rw [aa_un e]
      exact ⟨hf s (by omega), fun i _ z => Or.inr ⟨s, by omega, z⟩⟩
  · intro k f j g hk hE ok ⟨hj, hf⟩ s hs
    obtain ⟨a, b, rfl⟩ := tgt k f j g hk hE
    rw [b] at hs
    obtain ⟨t1, t2⟩ := la_tk L hk
    have m40 := L.1
    refine fr_src (m := m) (mk := fun p => op (pl p % 25) = 8) (hop _) t1 (by omega) (g4 k) (fun z => (pp_g8 P (Or.inr (Or.inl z))).2) (fun p _ hp hm => (pp_g8 P (Or.inl hm)).2) ok hf s hs
  · intro k f j g hk hE
    rcases hE with ⟨x, x1, x2, rfl, rfl⟩ | hE
    · exact (la_hand L hk x1 x2).1
    · exact (tgt k f j g hk hE).1
  · rintro k f f' hk hle j g ⟨x, x1, x2, rfl, rfl⟩
    refine ⟨aa_up f' 4 (3 + ct x), ⟨x, x1, x2, rfl, rfl⟩, fun s hs => ?_⟩
    obtain ⟨a, b, c⟩ := la_hand L hk x1 x2
    rw [c] at hs
    exact fr_up (ty_refl _) (fun z => hle s (by omega))
  · intro k f f' hk hle ok
    obtain ⟨t1, t2⟩ := la_tk L hk
    obtain ⟨o1, o2⟩ := fr_mono (k := k) (mc := fun p => pp_g ar (pl p % 25)) (hop _) t1 (g4 k) hpa hle ok
    refine ⟨o1, fun j g hE => ?_⟩
    obtain ⟨a, b, rfl⟩ := tgt k f j g hk hE
    refine ⟨la_F op ar pl va k f', ?_, fun s hs => ?_⟩
    · rcases hE with ⟨e1, e2, e3⟩ | ⟨e1, e2, e3⟩
      · exact Or.inl ⟨e1, e2, rfl⟩
      · exact Or.inr ⟨e1, e2, rfl⟩
    · rw [b] at hs; exact o2 s hs
/-- every place is reached along the edges -/
theorem la_all (L : la_L cn hn op fr tt tg ar m pl va) {K : Nat → Prop} {F : Nat → Nat → Nat} (S : it_sol pa va m (la_OK pa op ar pl va m) (la_EH hn fr tt tg ct pl m) (la_EN op ar pl va m) be K F) : ∀ k, k < m → K k := by
  obtain ⟨s1, s2, s3⟩ := S
  have key : ∀ q h, ex_R (pp_W cn op) (pp_S hn op fr tt tg ar) q h → ∃ k, k < m ∧ pl k = q ∧ va k = h ∧ K k := by
    intro q h hr
    refine hr (fun q h => ∃ k, k < m ∧ pl k = q ∧ va k = h ∧ K k) ⟨?_, ?_⟩
    · obtain ⟨a, b, c⟩ := la_0 L
      exact ⟨0, a, b, c, s1⟩
    · rintro q h ⟨k, k1, rfl, rfl, k4⟩ hw q' h' hs
      obtain ⟨a, b, c⟩ := la_S L k1 hs
      have cl := (s3 k k4).2.2
      refine ⟨_, a, b, c, ?_⟩
      rcases hs with ⟨x, x1, x2, rfl, rfl⟩ | ⟨hf, rfl, rfl⟩ | ⟨hj, rfl, rfl⟩
      · exact (cl _ _ (Or.inl ⟨x, x1, x2, rfl, rfl⟩)).1
      · obtain ⟨a', b', c'⟩ := la_fall L k1 hf
        rw [la_fi L a' b']
        exact (cl _ _ (Or.inr (Or.inl ⟨hf, rfl, rfl⟩))).1
      · exact (cl _ _ (Or.inr (Or.inr ⟨hj, rfl, rfl⟩))).1
  intro k hk
  obtain ⟨j, j1, j2, j3, j4⟩ := key _ _ (L.2.1 k hk).1
  have : j = k := by
    rcases Nat.lt_trichotomy j k with z | z | z
    · have := L.2.2.1 _ _ z hk; omega
    · exact z
    · have := L.2.2.1 _ _ z j1; omega
  rw [← this]; exact j4
end
end
section
/-! the component's agrees, join, push, make, init, apply -/
theorem xa_b1 (i : Nat) : bt 1 i = decide (i = 0) := by
  unfold bt
  show (BitVec.ofNat 32 1).getLsbD i = _
  rw [BitVec.getLsbD_ofNat, show (1 : Nat) = 2 ^ 0 from rfl, Nat.testBit_two_pow]
  rcases Nat.eq_zero_or_pos i with z | z
  · subst z; rfl
  · rw [show decide (0 = i) = false from decide_eq_false (by omega), Bool.and_false, show decide (i = 0) = false from decide_eq_false (by omega)]
theorem xa_and1 (x : Int32) : (x &&& 1) = 0 ↔ bt x 0 = false := by
  constructor
  · intro h
    have := b_and x 1 0
    rw [h, b_0, xa_b1] at this
    cases e : bt x 0
    · rfl
    · rw [e] at this; exact absurd this (by decide)
  · intro h
    refine b_ext (fun i hi => ?_)
    rw [b_and, b_0, xa_b1]
    rcases Nat.eq_zero_or_pos i with z | z
    · subst z; rw [h]; rfl
    · rw [decide_eq_false (by omega), Bool.and_false]
theorem xa_bit {x : Int32} {d : Nat} (hd : d < 32) : ((x >>> (nI d &&& 31)) &&& 1) = 0 ↔ bt x d = false := by
  rw [xa_and1, b_sshr d hd x (by decide), if_pos (by omega)]; rfl
/-- the ancestors as bits -/
def xa_A (pa : Nat → Nat) (an : Nat → Int32) : Prop := ∀ c, c < 8 → ∀ d, d < 8 → bt (an c) d = ty_ab pa d c
theorem xa_upf {n x t : Nat} {nw : Nat → Int32} {f : Nat → Nat} (h : ∀ s, s < n → s ≠ x → nw s = nI (f s)) : ∀ s, s < n → upd nw x (nI t) s = nI (aa_up f x t s) := by
  intro s hs
  by_cases e : s = x
  · rw [e, pk_us, aa_us]
  · rw [pk_un e, aa_un e]; exact h s hs e
section
variable {cn hn : Nat} {op fr tt tg ct pa be : Nat → Nat} {ar an : Nat → Int32}
variable {f_count f_handlers f_met f_waiting f_tooMany f_size f_height f_why f_found f_objects f_high f_at f_here f_steps f_outcome f_last f_ran : Int32} {a_parents a_ancestors a_begins a_ops a_operands a_froms a_tos a_targets a_catches a_keys a_heights a_faults a_table a_todo a_said a_sorted a_instruction a_values a_jumps a_caught a_caller a_mapped a_known a_types a_maps a_now a_sort a_made a_number a_ready : Nat → Int32}
theorem xx_agrees {post : Int32 → Prop} {t u : Nat} (A : xa_A pa an) (ht : t < 91) (hu : u < 91) (K1 : ty_le pa t u → post 1) (K0 : ¬ ty_le pa t u → post 0) : wpX_agrees post ((nI cn), (nI hn), f_met, f_waiting, f_tooMany, f_size, f_height, f_why, f_found, f_objects, f_high, f_at, f_here, f_steps, f_outcome, f_last, f_ran, (aa_N pa), an, (aa_N be), (aa_N op), ar, (aa_N fr), (aa_N tt), (aa_N tg), (aa_N ct), a_keys, a_heights, a_faults, a_table, a_todo, a_said, a_sorted, a_instruction, a_values, a_jumps, a_caught, a_caller, a_mapped, a_known, a_types, a_maps, a_now, a_sort, a_made, a_number, a_ready) (nI t) (nI u) := by
  refine pk_eq t u (fun a => K1 (Or.inl a)) (fun a => pk_eq u 0 (fun b => K1 (Or.inr (Or.inl b))) (fun b => pk_lt u 3 (fun c => K0 ?_) (fun c => pk_lt u 11 (fun d => ?_) (fun d => K0 ?_))))
  · rintro (z | z | ⟨z, -⟩) <;> omega
  · refine pk_eq t 2 (fun e => K1 (Or.inr (Or.inr ⟨c, d, Or.inl e⟩))) (fun e => pk_lt t 3 (fun g => K0 ?_) (fun g => pk_le 11 t (fun i => K0 ?_) (fun i => ?_)))
    · rintro (z | z | ⟨-, -, z | ⟨z, -⟩⟩) <;> omega
    · rintro (z | z | ⟨-, -, z | ⟨-, z, -⟩⟩) <;> omega
    · have e1 : nI t - 3 = nI (t - 3) := pk_sub (b := 3) g
      have e2 : nI u - 3 = nI (u - 3) := pk_sub (b := 3) c
      have e3 : (nI (t - 3)).toNatClampNeg = t - 3 := nI_clamp (by omega)
      rw [e1, e2, e3]
      refine And.intro (vp_in_nI (by omega) (by decide)) (br_c (fun z => K0 ?_) (fun z => K1 ?_))
      · rw [xa_bit (by omega), A _ (by omega) _ (by omega)] at z
        rintro (y | y | ⟨-, -, y | ⟨-, -, y⟩⟩)
        · exact a y
        · exact b y
        · exact e y
        · rw [z] at y; exact absurd y (by decide)
      · rw [xa_bit (by omega), A _ (by omega) _ (by omega)] at z
        exact Or.inr (Or.inr ⟨c, d, Or.inr ⟨g, i, ts_nf z⟩⟩)
  · rintro (z | z | ⟨-, z, -⟩) <;> omega
theorem xx_join {post : Int32 → Prop} {t u : Nat} (hpa : ∀ c, pa c < 8 ∧ (0 < c → pa c < c)) (A : xa_A pa an) (ht : t < 91) (hu : u < 91) (K : post (nI (ty_jn pa t u))) : wpX_join post ((nI cn), (nI hn), f_met, f_waiting, f_tooMany, f_size, f_height, f_why, f_found, f_objects, f_high, f_at, f_here, f_steps, f_outcome, f_last, f_ran, (aa_N pa), an, (aa_N be), (aa_N op), ar, (aa_N fr), (aa_N tt), (aa_N tg), (aa_N ct), a_keys, a_heights, a_faults, a_table, a_todo, a_said, a_sorted, a_instruction, a_values, a_jumps, a_caught, a_caller, a_mapped, a_known, a_types, a_maps, a_now, a_sort, a_made, a_number, a_ready) (nI t) (nI u) := by
  unfold wpX_join
  dsimp only
  refine xx_agrees A ht hu (fun a => br_f (by decide) ?_) (fun a => br_t rfl (xx_agrees A hu ht (fun b => br_f (by decide) ?_) (fun b => br_t rfl (pk_lt t 3 (fun c => ?_) (fun c => pk_le 11 t (fun d => ?_) (fun d => pk_lt u 3 (fun e => ?_) (fun e => pk_lt u 11 (fun g => ?_) (fun g => ?_))))))))
  · rw [ty_jn1 a] at K; exact K
  · rw [ty_jn2 a b] at K; exact K
  · rw [ty_jn3 a b (Or.inl c)] at K; exact K
  · rw [ty_jn3 a b (Or.inr (Or.inl d))] at K; exact K
  · rw [ty_jn3 a b (Or.inr (Or.inr (Or.inl e)))] at K; exact K
  · rw [ty_jn4 a b (by omega)] at K
    have e1 : nI t - 3 = nI (t - 3) := pk_sub (b := 3) c
    have e2 : nI u - 3 = nI (u - 3) := pk_sub (b := 3) e
    have e3 : (nI (t - 3)).toNatClampNeg = t - 3 := nI_clamp (by omega)
    have e4 : (nI (u - 3)).toNatClampNeg = u - 3 := nI_clamp (by omega)
    rw [e1, e2, e3, e4]
    refine And.intro (vp_in_nI (by omega) (by decide)) (And.intro (vp_in_nI (by omega) (by decide)) (nm_e ⟨8, ?_⟩))
    have bits : ∀ c, c < 8 → bt ((an (t - 3) &&& an (u - 3)) &&& 255) c = (ty_ab pa c (t - 3) && ty_ab pa c (u - 3)) := by
      intro c hc
      rw [b_and, b_and, b_255, decide_eq_true hc, Bool.and_true, A _ (by omega) c hc, A _ (by omega) c hc]
    have key : ∀ c, c < 8 → post (nI (3 + ty_lc pa (t - 3) (u - 3) c)) → wX_join_72 post ((an (t - 3) &&& an (u - 3)) &&& 255) (nI cn) (nI hn) f_met f_waiting f_tooMany f_size f_height f_why f_found f_objects f_high f_at f_here f_steps f_outcome f_last f_ran (aa_N pa) an (aa_N be) (aa_N op) ar (aa_N fr) (aa_N tt) (aa_N tg) (aa_N ct) a_keys a_heights a_faults a_table a_todo a_said a_sorted a_instruction a_values a_jumps a_caught a_caller a_mapped a_known a_types a_maps a_now a_sort a_made a_number a_ready (c + 1) (nI c) := by
      intro c
      induction c with
      | zero =>
        intro _ hK
        refine br_f ?_ hK
        rw [xa_bit (by omega), bits 0 (by omega), ty_ab_0 hpa _ (by omega), ty_ab_0 hpa _ (by omega)]; decide
      | succ c ih =>
        intro hc hK
        refine br_c (fun z => nm_r (pk_m1 c) (ih (by omega) ?_)) (fun z => ?_)
        · rw [xa_bit (by omega), bits _ hc] at z
          simp only [ty_lc] at hK
          rw [if_neg] at hK
          · exact hK
          · rintro ⟨y1, y2⟩; rw [y1, y2] at z; exact absurd z (by decide)
        · rw [xa_bit (by omega), bits _ hc] at z
          simp only [ty_lc] at hK
          have z' := ts_nf z
          rw [if_pos ((Bool.and_eq_true _ _).mp z')] at hK
          rw [show (3 : Int32) + nI (c + 1) = nI (3 + (c + 1)) from nI_add 3 (c + 1)]; exact hK
    exact key 7 (by omega) K
  · rw [ty_jn3 a b (Or.inr (Or.inr (Or.inr g)))] at K; exact K
theorem xa_push {post : SX → Prop} {h t : Nat} (hh : h ≤ 6) (ht : t < 128) (K : post (f_count, f_handlers, f_met, f_waiting, f_tooMany, f_size, (nI (h + 1)), f_why, f_found, f_objects, f_high, f_at, f_here, f_steps, f_outcome, f_last, f_ran, a_parents, a_ancestors, a_begins, a_ops, a_operands, a_froms, a_tos, a_targets, a_catches, a_keys, a_heights, a_faults, a_table, a_todo, a_said, a_sorted, a_instruction, a_values, a_jumps, a_caught, a_caller, a_mapped, a_known, a_types, a_maps, (upd a_now (4 + h) (nI t)), a_sort, a_made, a_number, a_ready)) : wpX_push post (f_count, f_handlers, f_met, f_waiting, f_tooMany, f_size, (nI h), f_why, f_found, f_objects, f_high, f_at, f_here, f_steps, f_outcome, f_last, f_ran, a_parents, a_ancestors, a_begins, a_ops, a_operands, a_froms, a_tos, a_targets, a_catches, a_keys, a_heights, a_faults, a_table, a_todo, a_said, a_sorted, a_instruction, a_values, a_jumps, a_caught, a_caller, a_mapped, a_known, a_types, a_maps, a_now, a_sort, a_made, a_number, a_ready) (nI t) := by
  have e4 : (4 : Int32) + nI h = nI (4 + h) := nI_add 4 h
  have ec : (nI (4 + h)).toNatClampNeg = 4 + h := nI_clamp (by omega)
  refine nm_r (nI_1 h) ?_
  rw [e4]
  exact And.intro (vp_in_nI (by omega) (by decide)) (nm_r (e' := upd a_now (4 + h) (nI t)) (by rw [ec, aa_nb ht]) K)
theorem xx_isReference {post : Int32 → Prop} {t : Nat} (ht : t < 91) (K1 : 2 ≤ t ∧ t < 11 → post 1) (K0 : ¬ (2 ≤ t ∧ t < 11) → post 0) : wpX_isReference post (nI t) :=
  pk_lt t 2 (fun a => K0 (by omega)) (fun a => pk_le 11 t (fun b => K0 (by omega)) (fun b => K1 (by omega)))
theorem xa_make {post : Int32 → SX → Prop} {h v : Nat} {f : Nat → Nat} (hh : h ≤ 6) (hv : v < 128) (hf : ∀ s, s < 4 + h → a_now s = nI (f s) ∧ f s < 91)
    (K1 : (∀ s, 4 ≤ s → s < 4 + h → f s ≠ v) → ∀ nw, (∀ s, s < 4 + (h + 1) → nw s = nI (aa_up (fun s => if s < 4 ∧ f s = v then 0 else f s) (4 + h) v s)) → post 1 (f_count, f_handlers, f_met, f_waiting, f_tooMany, f_size, (nI (h + 1)), f_why, f_found, f_objects, f_high, f_at, f_here, f_steps, f_outcome, f_last, f_ran, a_parents, a_ancestors, a_begins, a_ops, a_operands, a_froms, a_tos, a_targets, a_catches, a_keys, a_heights, a_faults, a_table, a_todo, a_said, a_sorted, a_instruction, a_values, a_jumps, a_caught, a_caller, a_mapped, a_known, a_types, a_maps, nw, a_sort, a_made, a_number, a_ready))
    (K0 : ¬ (∀ s, 4 ≤ s → s < 4 + h → f s ≠ v) → post 0 (f_count, f_handlers, f_met, f_waiting, f_tooMany, f_size, (nI h), f_why, f_found, f_objects, f_high, f_at, f_here, f_steps, f_outcome, f_last, f_ran, a_parents, a_ancestors, a_begins, a_ops, a_operands, a_froms, a_tos, a_targets, a_catches, a_keys, a_heights, a_faults, a_table, a_todo, a_said, a_sorted, a_instruction, a_values, a_jumps, a_caught, a_caller, a_mapped, a_known, a_types, a_maps, a_now, a_sort, a_made, a_number, a_ready)) : wpX_make post (f_count, f_handlers, f_met, f_waiting, f_tooMany, f_size, (nI h), f_why, f_found, f_objects, f_high, f_at, f_here, f_steps, f_outcome, f_last, f_ran, a_parents, a_ancestors, a_begins, a_ops, a_operands, a_froms, a_tos, a_targets, a_catches, a_keys, a_heights, a_faults, a_table, a_todo, a_said, a_sorted, a_instruction, a_values, a_jumps, a_caught, a_caller, a_mapped, a_known, a_types, a_maps, a_now, a_sort, a_made, a_number, a_ready) (nI v) := by
  have e4 : (4 : Int32) + nI h = nI (4 + h) := nI_add 4 h
  -- the locals
  have r32 : (∀ s, 4 ≤ s → s < 4 + h → f s ≠ v) → ∀ d l, l + d = 4 → ∀ nw, (∀ s, s < 4 + h → nw s = nI (if s < l ∧ f s = v then 0 else f s)) → wX_make_32 post (nI v) f_count f_handlers f_met f_waiting f_tooMany f_size (nI h) f_why f_found f_objects f_high f_at f_here f_steps f_outcome f_last f_ran (d + 1) (nI l) a_parents a_ancestors a_begins a_ops a_operands a_froms a_tos a_targets a_catches a_keys a_heights a_faults a_table a_todo a_said a_sorted a_instruction a_values a_jumps a_caught a_caller a_mapped a_known a_types a_maps nw a_sort a_made a_number a_ready := by
    intro hno d
    induction d with
    | zero =>
      intro l hl nw hnw
      have : l = 4 := by omega
      subst this
      refine br_t (by decide) (xa_push hh hv (K1 hno _ ?_))
      exact xa_upf (fun s hs hne => hnw s (by omega))
    | succ d ih =>
      intro l hl nw hnw
      have el : (nI l).toNatClampNeg = l := nI_clamp (by omega)
      have hin := vp_in_nI (n := l) (N := 12) (by omega) (by decide)
      have hfl := (hf l (by omega)).2
      refine br_f (nI_ge (b := 4) (by omega) (by decide)) (And.intro hin ?_)
      rw [el, hnw l (by omega), if_neg (by omega)]
      refine pk_eq (f l) v (fun z => And.intro hin (nm_r (e' := upd nw l (nI 0)) (by rw [show vp_nar .byte 0 = nI 0 from aa_nb1 (n := 0) (by decide)]) (nm_r (nI_1 l) (ih (l + 1) (by omega) _ (fun s hs => ?_))))) (fun z => nm_r (nI_1 l) (ih (l + 1) (by omega) _ (fun s hs => ?_)))
      · by_cases e : s = l
        · rw [e, pk_us, if_pos ⟨by omega, z⟩]
        · rw [pk_un e, hnw s hs]
          by_cases c : s < l ∧ f s = v
          · rw [if_pos c, if_pos ⟨by omega, c.2⟩]
          · rw [if_neg c, if_neg (fun y => c ⟨by omega, y.2⟩)]
      · rw [hnw s hs]
        by_cases c : s < l ∧ f s = v
        · rw [if_pos c, if_pos ⟨by omega, c.2⟩]
        · rw [if_neg c, if_neg]
          rintro ⟨y1, y2⟩
          by_cases e : s = l
          · rw [e] at y2; exact z y2
          · exact c ⟨by omega, y2⟩
  have r2 : ∀ d s, s + d = 4 + h → 4 ≤ s → (∀ s', 4 ≤ s' → s' < s → f s' ≠ v) → wX_make_2 post (nI v) f_count f_handlers f_met f_waiting f_tooMany f_size (nI h) f_why f_found f_objects f_high f_at f_here f_steps f_outcome f_last f_ran a_parents a_ancestors a_begins a_ops a_operands a_froms a_tos a_targets a_catches a_keys a_heights a_faults a_table a_todo a_said a_sorted a_instruction a_values a_jumps a_caught a_caller a_mapped a_known a_types a_maps a_now a_sort a_made a_number a_ready (d + 1) (nI s) := by
    intro d
    induction d with
    | zero =>
      intro s hs h4 hno
      refine br_t ?_ ⟨5, r32 (fun s' h1 h2 => hno s' h1 (by omega)) 4 0 (by omega) a_now (fun s' hs' => by rw [if_neg (by omega)]; exact (hf s' hs').1)⟩
      rw [e4]; exact nI_le (by omega) (by omega)
    | succ d ih =>
      intro s hs h4 hno
      have es : (nI s).toNatClampNeg = s := nI_clamp (by omega)
      have hfs := hf s (by omega)
      refine br_f ?_ (And.intro (vp_in_nI (by omega) (by decide)) ?_)
      · rw [e4]; exact nI_ge (by omega) (by omega)
      · rw [es, hfs.1]
        refine pk_eq (f s) v (fun z => K0 (fun y => y s h4 (by omega) z)) (fun z => nm_r (nI_1 s) (ih (s + 1) (by omega) (by omega) (fun s' h1 h2 => ?_))) rfl rfl (by omega) (by omega)
        by_cases e : s' = s
        · rw [e]; exact z
        · exact hno s' h1 (by omega)
  exact ⟨h + 1, r2 h 4 (by omega) (by omega) (fun s' h1 h2 => by omega)⟩
theorem xa_init {post : Int32 → SX → Prop} {h t m : Nat} {f mi : Nat → Nat} (P : pp_P cn hn op fr tt tg ct pa be ar) (hh : h ≤ 6) (h1 : 1 ≤ h) (hm : m ≤ 40) (hmi : ∀ p, p < m → a_instruction p = nI (mi p) ∧ mi p < 24) (ht : t < 91) (hf : ∀ s, s < 4 + h → a_now s = nI (f s) ∧ f s < 91)
    (K1 : 11 ≤ t ∧ t < 51 ∧ t - 11 < m ∧ op (mi (t - 11)) = 8 → ∀ nw, (∀ s, s < 4 + (h - 1) → nw s = nI (if f s = t then 3 + pp_g ar (mi (t - 11)) else f s)) → post 1 ((nI cn), (nI hn), f_met, f_waiting, f_tooMany, (nI m), (nI (h - 1)), f_why, f_found, f_objects, f_high, f_at, f_here, f_steps, f_outcome, f_last, f_ran, (aa_N pa), an, (aa_N be), (aa_N op), ar, (aa_N fr), (aa_N tt), (aa_N tg), (aa_N ct), a_keys, a_heights, a_faults, a_table, a_todo, a_said, a_sorted, a_instruction, a_values, a_jumps, a_caught, a_caller, a_mapped, a_known, a_types, a_maps, nw, a_sort, a_made, a_number, a_ready))
    (K0 : ¬ (11 ≤ t ∧ t < 51 ∧ t - 11 < m ∧ op (mi (t - 11)) = 8) → post 0 ((nI cn), (nI hn), f_met, f_waiting, f_tooMany, (nI m), (nI (h - 1)), f_why, f_found, f_objects, f_high, f_at, f_here, f_steps, f_outcome, f_last, f_ran, (aa_N pa), an, (aa_N be), (aa_N op), ar, (aa_N fr), (aa_N tt), (aa_N tg), (aa_N ct), a_keys, a_heights, a_faults, a_table, a_todo, a_said, a_sorted, a_instruction, a_values, a_jumps, a_caught, a_caller, a_mapped, a_known, a_types, a_maps, a_now, a_sort, a_made, a_number, a_ready)) : wpX_init_ post ((nI cn), (nI hn), f_met, f_waiting, f_tooMany, (nI m), (nI h), f_why, f_found, f_objects, f_high, f_at, f_here, f_steps, f_outcome, f_last, f_ran, (aa_N pa), an, (aa_N be), (aa_N op), ar, (aa_N fr), (aa_N tt), (aa_N tg), (aa_N ct), a_keys, a_heights, a_faults, a_table, a_todo, a_said, a_sorted, a_instruction, a_values, a_jumps, a_caught, a_caller, a_mapped, a_known, a_types, a_maps, a_now, a_sort, a_made, a_number, a_ready) (nI t) := by
  have eh : nI h - 1 = nI (h - 1) := pk_sub (b := 1) h1
  have e4 : (4 : Int32) + nI (h - 1) = nI (4 + (h - 1)) := nI_add 4 (h - 1)
  refine nm_e (nm_r eh ?_)
  rcases Nat.lt_or_ge t 11 with z | z
  · have : nI t - 11 < 0 := pk_sneg (b := 11) (by decide) z
    exact xx_outn this (br_f (by decide) (K0 (by omega)))
  · have et : nI t - 11 = nI (t - 11) := pk_sub (b := 11) z
    rw [et]
    rcases Nat.lt_or_ge (t - 11) m with y | y
    · have ec : (nI (t - 11)).toNatClampNeg = t - 11 := nI_clamp (by omega)
      obtain ⟨i1, i2⟩ := hmi _ y
      have ei : (nI (mi (t - 11))).toNatClampNeg = mi (t - 11) := nI_clamp (by omega)
      have ho := P.2.2.1 (mi (t - 11))
      have hin1 := vp_in_nI (n := t - 11) (N := 40) (by omega) (by decide)
      have hin2 := vp_in_nI (n := mi (t - 11)) (N := 24) i2 (by decide)
      refine xx_out0 y (by omega) (br_t rfl (And.intro hin1 ?_))
      rw [ec, i1, ei]
      refine And.intro hin2 (pk_eq (op (mi (t - 11))) 8 (fun o8 => ⟨4 + (h - 1) + 1, ?_⟩) (fun o8 => K0 (fun x => o8 x.2.2.2)))
      have okk : 11 ≤ t ∧ t < 51 ∧ t - 11 < m ∧ op (mi (t - 11)) = 8 := ⟨z, by omega, y, o8⟩
      obtain ⟨g1, g2⟩ := pp_g8 P (i := mi (t - 11)) (Or.inl o8)
      have key : ∀ d s, s + d = 4 + (h - 1) → ∀ nw, (∀ x, x < 4 + (h - 1) → nw x = nI (if x < s ∧ f x = t then 3 + pp_g ar (mi (t - 11)) else f x)) → wX_init__46 post (nI t) (nI (t - 11)) (nI cn) (nI hn) f_met f_waiting f_tooMany (nI m) (nI (h - 1)) f_why f_found f_objects f_high f_at f_here f_steps f_outcome f_last f_ran (d + 1) (nI s) (aa_N pa) an (aa_N be) (aa_N op) ar (aa_N fr) (aa_N tt) (aa_N tg) (aa_N ct) a_keys a_heights a_faults a_table a_todo a_said a_sorted a_instruction a_values a_jumps a_caught a_caller a_mapped a_known a_types a_maps nw a_sort a_made a_number a_ready := by
        intro d
        induction d with
        | zero =>
          intro s hs nw hnw
          refine br_t ?_ (K1 okk nw (fun x hx => ?_))
          · rw [e4]; exact nI_le (by omega) (by omega)
          · rw [hnw x hx]
            by_cases c : f x = t
            · rw [if_pos c, if_pos ⟨by omega, c⟩]
            · rw [if_neg c, if_neg (fun w => c w.2)]
        | succ d ih =>
          intro s hs nw hnw
          have es : (nI s).toNatClampNeg = s := nI_clamp (by omega)
          have hfs := (hf s (by omega)).2
          have hins := vp_in_nI (n := s) (N := 12) (by omega) (by decide)
          refine br_f ?_ (And.intro hins ?_)
          · rw [e4]; exact nI_ge (by omega) (by omega)
          · rw [es, hnw s (by omega), if_neg (by omega)]
            refine pk_eq (f s) t (fun c => And.intro hin1 ?_) (fun c => nm_r (nI_1 s) (ih (s + 1) (by omega) _ (fun x hx => ?_)))
            · rw [ec, i1, ei]
              refine And.intro hin2 (And.intro hins (nm_r (e' := upd nw s (nI (3 + pp_g ar (mi (t - 11))))) ?_ (nm_r (nI_1 s) (ih (s + 1) (by omega) _ (fun x hx => ?_)))))
              · rw [g1, show (3 : Int32) + nI (pp_g ar (mi (t - 11))) = nI (3 + pp_g ar (mi (t - 11))) from nI_add 3 _, aa_nb (by omega)]
              · by_cases e : x = s
                · rw [e, pk_us, if_pos ⟨by omega, c⟩]
                · rw [pk_un e, hnw x hx]
                  by_cases c' : x < s ∧ f x = t
                  · rw [if_pos c', if_pos ⟨by omega, c'.2⟩]
                  · rw [if_neg c', if_neg (fun w => c' ⟨by omega, w.2⟩)]
            · rw [hnw x hx]
              by_cases c' : x < s ∧ f x = t
              · rw [if_pos c', if_pos ⟨by omega, c'.2⟩]
              · rw [if_neg c', if_neg]
                rintro ⟨w1, w2⟩
                by_cases e : x = s
                · rw [e] at w2; exact c w2
                · exact c' ⟨by omega, w2⟩
      exact key (4 + (h - 1)) 0 (by omega) a_now (fun x hx => by rw [if_neg (by omega)]; exact (hf x (by omega)).1)
    · exact xx_outg (nI_le y (by omega)) (br_f (by decide) (K0 (by omega)))
end
end
section
/-! the component's apply -/
section
variable {pa : Nat → Nat} {a k h m cr : Nat} {mk : Nat → Prop} {f : Nat → Nat}
theorem fk_t {o : Nat} (hne : o ≠ 2 ∧ o ≠ 7 ∧ o ≠ 8 ∧ o ≠ 9 ∧ o ≠ 10 ∧ o ≠ 14 ∧ o ≠ 19 ∧ o ≠ 11 ∧ o ≠ 18 ∧ o ≠ 13 ∧ o ≠ 16) : fr_ok pa o a k h m cr mk f := by
  obtain ⟨h1, h2, h3, h4, h5, h6, h7, h8, h9, h10, h11⟩ := hne
  exact ⟨fun e => absurd e h1, fun e => absurd e h2, fun e => absurd e h3, fun e => absurd e h4, fun e => by omega, fun e => by omega, fun e => absurd e h10, fun e => absurd e h11⟩
theorem fk_2 : fr_ok pa 2 a k h m cr mk f ↔ (f a ≠ 0 ∧ f a < 51) := by simp [fr_ok]
theorem fk_7 : fr_ok pa 7 a k h m cr mk f ↔ (f (3 + h) = 1 ∧ f (2 + h) = 1) := by simp [fr_ok]
theorem fk_8 : fr_ok pa 8 a k h m cr mk f ↔ (∀ s, 4 ≤ s → s < 4 + h → f s ≠ 11 + k) := by simp [fr_ok]
theorem fk_9 : fr_ok pa 9 a k h m cr mk f ↔ (11 ≤ f (3 + h) ∧ f (3 + h) < 51 ∧ f (3 + h) - 11 < m ∧ mk (f (3 + h) - 11)) := by simp [fr_ok]
theorem fk_10 : fr_ok pa 10 a k h m cr mk f ↔ (2 ≤ f (3 + h) ∧ f (3 + h) < 11) := by simp [fr_ok]
theorem fk_14 : fr_ok pa 14 a k h m cr mk f ↔ (2 ≤ f (3 + h) ∧ f (3 + h) < 11) := by simp [fr_ok]
theorem fk_19 : fr_ok pa 19 a k h m cr mk f ↔ (2 ≤ f (3 + h) ∧ f (3 + h) < 11) := by simp [fr_ok]
theorem fk_11 : fr_ok pa 11 a k h m cr mk f ↔ ty_le pa (f (3 + h)) (3 + a) := by simp [fr_ok]
theorem fk_18 : fr_ok pa 18 a k h m cr mk f ↔ ty_le pa (f (3 + h)) (3 + a) := by simp [fr_ok]
theorem fk_13 : fr_ok pa 13 a k h m cr mk f ↔ f (3 + h) = 1 := by simp [fr_ok]
theorem fk_16 : fr_ok pa 16 a k h m cr mk f ↔ f a = 51 + cr := by simp [fr_ok]
end
section
variable {cn hn : Nat} {op fr tt tg ct pa be : Nat → Nat} {ar an : Nat → Int32}
variable {f_count f_handlers f_met f_waiting f_tooMany f_size f_height f_why f_found f_objects f_high f_at f_here f_steps f_outcome f_last f_ran : Int32} {a_parents a_ancestors a_begins a_ops a_operands a_froms a_tos a_targets a_catches a_keys a_heights a_faults a_table a_todo a_said a_sorted a_instruction a_values a_jumps a_caught a_caller a_mapped a_known a_types a_maps a_now a_sort a_made a_number a_ready : Nat → Int32}
variable {post : Int32 → SX → Prop}
theorem xa_goes {o a k h m cr i : Nat} {x3 z0 : Int32} {mk : Nat → Prop} {mc f : Nat → Nat} (A : xa_A pa an) (hoo : 11 ≤ o) (ho : o < 20) (ht : aa_tk o ≤ h) (hl6 : h - aa_tk o + aa_pt o ≤ 6) (hh : h ≤ 6) (hk : k < 40)
    (ha4 : o = 16 → x3 = nI a ∧ a < 4) (ha8 : o = 11 ∨ o = 18 → x3 = nI a ∧ a < 8) (hz : 1 ≤ h → z0 = nI (f (3 + h))) (hcr : o = 16 → a_caller k = nI cr ∧ cr < 40) (hf : ∀ s, s < 4 + h → a_now s = nI (f s) ∧ f s < 91)
    (K1 : fr_ok pa o a k h m cr mk f → ∀ nw, (∀ s, s < 4 + (h - aa_tk o + aa_pt o) → nw s = nI (fr_f o a k h mc f s)) → post 1 ((nI cn), (nI hn), f_met, f_waiting, f_tooMany, f_size, (nI (h - aa_tk o + aa_pt o)), f_why, f_found, f_objects, f_high, f_at, f_here, f_steps, f_outcome, f_last, f_ran, (aa_N pa), an, (aa_N be), (aa_N op), ar, (aa_N fr), (aa_N tt), (aa_N tg), (aa_N ct), a_keys, a_heights, a_faults, a_table, a_todo, a_said, a_sorted, a_instruction, a_values, a_jumps, a_caught, a_caller, a_mapped, a_known, a_types, a_maps, nw, a_sort, a_made, a_number, a_ready))
    (K0 : ¬ fr_ok pa o a k h m cr mk f → ∀ hh nw, post 0 ((nI cn), (nI hn), f_met, f_waiting, f_tooMany, f_size, hh, f_why, f_found, f_objects, f_high, f_at, f_here, f_steps, f_outcome, f_last, f_ran, (aa_N pa), an, (aa_N be), (aa_N op), ar, (aa_N fr), (aa_N tt), (aa_N tg), (aa_N ct), a_keys, a_heights, a_faults, a_table, a_todo, a_said, a_sorted, a_instruction, a_values, a_jumps, a_caught, a_caller, a_mapped, a_known, a_types, a_maps, nw, a_sort, a_made, a_number, a_ready)) : wpX_goes post ((nI cn), (nI hn), f_met, f_waiting, f_tooMany, f_size, (nI h), f_why, f_found, f_objects, f_high, f_at, f_here, f_steps, f_outcome, f_last, f_ran, (aa_N pa), an, (aa_N be), (aa_N op), ar, (aa_N fr), (aa_N tt), (aa_N tg), (aa_N ct), a_keys, a_heights, a_faults, a_table, a_todo, a_said, a_sorted, a_instruction, a_values, a_jumps, a_caught, a_caller, a_mapped, a_known, a_types, a_maps, a_now, a_sort, a_made, a_number, a_ready) (nI k) (nI o) x3 z0 := by
  have eh : 1 ≤ h → nI h - 1 = nI (h - 1) := fun z => pk_sub (b := 1) z
  have hff : ∀ s, s < 4 + h → a_now s = nI (f s) := fun s hs => (hf s hs).1
  have g52 : (o = 11 ∨ o = 18) → (fr_ok pa o a k h m cr mk f ↔ ty_le pa (f (3 + h)) (3 + a)) → 1 ≤ h → (h - aa_tk o + aa_pt o = h - 1) → fr_f o a k h mc f = f → wX_goes_52 post x3 z0 (nI cn) (nI hn) f_met f_waiting f_tooMany f_size (nI h) f_why f_found f_objects f_high f_at f_here f_steps f_outcome f_last f_ran (aa_N pa) an (aa_N be) (aa_N op) ar (aa_N fr) (aa_N tt) (aa_N tg) (aa_N ct) a_keys a_heights a_faults a_table a_todo a_said a_sorted a_instruction a_values a_jumps a_caught a_caller a_mapped a_known a_types a_maps a_now a_sort a_made a_number a_ready := by
    intro o' fk h1 e1 e2
    obtain ⟨c1, c2⟩ := ha8 o'
    have := hf (3 + h) (by omega)
    unfold wX_goes_52
    refine nm_r (eh h1) ?_
    rw [c1, hz h1, show (3 : Int32) + nI a = nI (3 + a) from nI_add 3 a]
    refine xx_agrees A this.2 (by omega) (fun z => And.intro rfl ?_) (fun z => And.intro rfl ?_)
    · have := K1 (fk.mpr z) a_now (fun s hs => by rw [e2]; exact hff s (by omega))
      rw [e1] at this; exact this
    · exact K0 (fun y => z (fk.mp y)) _ _
  have g94 : (fr_ok pa o a k h m cr mk f ↔ (2 ≤ f (3 + h) ∧ f (3 + h) < 11)) → 1 ≤ h → (h - aa_tk o + aa_pt o = h - 1) → fr_f o a k h mc f = f → wX_goes_94 post z0 (nI cn) (nI hn) f_met f_waiting f_tooMany f_size (nI h) f_why f_found f_objects f_high f_at f_here f_steps f_outcome f_last f_ran (aa_N pa) an (aa_N be) (aa_N op) ar (aa_N fr) (aa_N tt) (aa_N tg) (aa_N ct) a_keys a_heights a_faults a_table a_todo a_said a_sorted a_instruction a_values a_jumps a_caught a_caller a_mapped a_known a_types a_maps a_now a_sort a_made a_number a_ready := by
    intro fk h1 e1 e2
    have := hf (3 + h) (by omega)
    unfold wX_goes_94
    refine nm_r (eh h1) ?_
    rw [hz h1]
    refine xx_isReference this.2 (fun z => And.intro rfl ?_) (fun z => And.intro rfl ?_)
    · have := K1 (fk.mpr z) a_now (fun s hs => by rw [e2]; exact hff s (by omega))
      rw [e1] at this; exact this
    · exact K0 (fun y => z (fk.mp y)) _ _
  have hc : o = 11 ∨ o = 12 ∨ o = 13 ∨ o = 14 ∨ o = 15 ∨ o = 16 ∨ o = 17 ∨ o = 18 ∨ o = 19 := by omega
  rcases hc with rfl | rfl | rfl | rfl | rfl | rfl | rfl | rfl | rfl
  · have t1 : aa_tk 11 = 1 := rfl
    have t2 : aa_pt 11 = 0 := rfl
    exact br_f (by decide) (br_f (by decide) (br_t (by decide) (g52 (Or.inl rfl) fk_11 (by omega) (by omega) rfl)))
  · exact br_f (by decide) (br_f (by decide) (br_f (by decide) (br_t (by decide) (K1 (fk_t (by decide)) a_now (fun s hs => hff s hs)))))
  · have t1 : aa_tk 13 = 1 := rfl
    have t2 : aa_pt 13 = 0 := rfl
    have h1 : 1 ≤ h := by omega
    have := hf (3 + h) (by omega)
    refine br_f (by decide) (br_f (by decide) (br_f (by decide) (br_f (by decide) (br_t (by decide) (nm_r (eh h1) ?_)))))
    rw [hz h1]
    refine pk_eq (f (3 + h)) 1 (fun z => ?_) (fun z => K0 (fun y => z (fk_13.mp y)) _ _) rfl rfl (by omega) (by omega)
    have := K1 (fk_13.mpr z) a_now (fun s hs => hff s (by omega))
    exact this
  · have t1 : aa_tk 14 = 1 := rfl
    have t2 : aa_pt 14 = 0 := rfl
    exact br_f (by decide) (br_f (by decide) (br_f (by decide) (br_f (by decide) (br_f (by decide) (br_t (by decide) (g94 fk_14 (by omega) (by omega) rfl))))))
  · have t1 : aa_tk 15 = 0 := rfl
    have t2 : aa_pt 15 = 1 := rfl
    refine br_f (by decide) (br_f (by decide) (br_f (by decide) (br_f (by decide) (br_f (by decide) (br_f (by decide) (br_t (by decide) (?_)))))))
    rw [show (51 : Int32) + nI k = nI (51 + k) from nI_add 51 k]
    exact xa_push hh (by omega) (K1 (fk_t (by decide)) _ (xa_upf (fun s hs hne => hff s (by omega))))
  · obtain ⟨c1, c2⟩ := ha4 rfl
    obtain ⟨d1, d2⟩ := hcr rfl
    have ea : (nI a).toNatClampNeg = a := nI_clamp (by omega)
    have ek : (nI k).toNatClampNeg = k := nI_clamp (by omega)
    have := hf a (by omega)
    rw [c1]
    refine br_f (by decide) (br_f (by decide) (br_f (by decide) (br_f (by decide) (br_f (by decide) (br_f (by decide) (br_f (by decide) (br_t (by decide) (And.intro (vp_in_nI (by omega) (by decide)) (And.intro (vp_in_nI (by omega) (by decide)) ?_)))))))))
    rw [ea, ek, d1, this.1, show (51 : Int32) + nI cr = nI (51 + cr) from nI_add 51 cr]
    exact pk_eq (f a) (51 + cr) (fun z => K1 (fk_16.mpr z) a_now (fun s hs => hff s hs)) (fun z => K0 (fun y => z (fk_16.mp y)) _ _) rfl rfl (by omega) (by omega)
  · exact br_f (by decide) (br_f (by decide) (br_f (by decide) (br_f (by decide) (br_f (by decide) (br_f (by decide) (br_f (by decide) (br_f (by decide) (br_t (by decide) (K1 (fk_t (by decide)) a_now (fun s hs => hff s hs))))))))))
  · have t1 : aa_tk 18 = 1 := rfl
    have t2 : aa_pt 18 = 0 := rfl
    exact br_f (by decide) (br_f (by decide) (br_f (by decide) (br_f (by decide) (br_f (by decide) (br_f (by decide) (br_f (by decide) (br_f (by decide) (br_f (by decide) (br_t (by decide) (g52 (Or.inr rfl) fk_18 (by omega) (by omega) rfl))))))))))
  · have t1 : aa_tk 19 = 1 := rfl
    have t2 : aa_pt 19 = 0 := rfl
    exact br_f (by decide) (br_f (by decide) (br_f (by decide) (br_f (by decide) (br_f (by decide) (br_f (by decide) (br_f (by decide) (br_f (by decide) (br_f (by decide) (br_f (by decide) (br_t (by decide) (g94 fk_19 (by omega) (by omega) rfl)))))))))))
theorem xa_a40 {o a k h m cr i : Nat} {z0 : Int32} {mi f : Nat → Nat} (P : pp_P cn hn op fr tt tg ct pa be ar) (A : xa_A pa an) (hi : i < 24) (hoi : op i = o) (hai : pp_g ar i = a) (ht : aa_tk o ≤ h) (hl6 : h - aa_tk o + aa_pt o ≤ 6) (hh : h ≤ 6) (hk : k < 40) (hm : m ≤ 40)
    (hmi : ∀ p, p < m → a_instruction p = nI (mi p) ∧ mi p < 24) (hz : 1 ≤ h → z0 = nI (f (3 + h))) (hcr : o = 16 → a_caller k = nI cr ∧ cr < 40) (hf : ∀ s, s < 4 + h → a_now s = nI (f s) ∧ f s < 91)
    (K1 : fr_ok pa o a k h m cr (fun p => op (mi p) = 8) f → ∀ nw, (∀ s, s < 4 + (h - aa_tk o + aa_pt o) → nw s = nI (fr_f o a k h (fun p => pp_g ar (mi p)) f s)) → post 1 ((nI cn), (nI hn), f_met, f_waiting, f_tooMany, (nI m), (nI (h - aa_tk o + aa_pt o)), f_why, f_found, f_objects, f_high, f_at, f_here, f_steps, f_outcome, f_last, f_ran, (aa_N pa), an, (aa_N be), (aa_N op), ar, (aa_N fr), (aa_N tt), (aa_N tg), (aa_N ct), a_keys, a_heights, a_faults, a_table, a_todo, a_said, a_sorted, a_instruction, a_values, a_jumps, a_caught, a_caller, a_mapped, a_known, a_types, a_maps, nw, a_sort, a_made, a_number, a_ready))
    (K0 : ¬ fr_ok pa o a k h m cr (fun p => op (mi p) = 8) f → ∀ hh nw, post 0 ((nI cn), (nI hn), f_met, f_waiting, f_tooMany, (nI m), hh, f_why, f_found, f_objects, f_high, f_at, f_here, f_steps, f_outcome, f_last, f_ran, (aa_N pa), an, (aa_N be), (aa_N op), ar, (aa_N fr), (aa_N tt), (aa_N tg), (aa_N ct), a_keys, a_heights, a_faults, a_table, a_todo, a_said, a_sorted, a_instruction, a_values, a_jumps, a_caught, a_caller, a_mapped, a_known, a_types, a_maps, nw, a_sort, a_made, a_number, a_ready)) : wX_apply_40 post (nI k) (nI i) (ar i) (3 + nI h) z0 (nI cn) (nI hn) f_met f_waiting f_tooMany (nI m) (nI h) f_why f_found f_objects f_high f_at f_here f_steps f_outcome f_last f_ran (aa_N pa) an (aa_N be) (aa_N op) ar (aa_N fr) (aa_N tt) (aa_N tg) (aa_N ct) a_keys a_heights a_faults a_table a_todo a_said a_sorted a_instruction a_values a_jumps a_caught a_caller a_mapped a_known a_types a_maps a_now a_sort a_made a_number a_ready := by
  have ei : (nI i).toNatClampNeg = i := nI_clamp (by omega)
  have hin := vp_in_nI (n := i) (N := 24) hi (by decide)
  have eh : 1 ≤ h → nI h - 1 = nI (h - 1) := fun z => pk_sub (b := 1) z
  have hff : ∀ s, s < 4 + h → a_now s = nI (f s) := fun s hs => (hf s hs).1
  have e3 : (3 : Int32) + nI h = nI (3 + h) := nI_add 3 h
  have ho : o < 20 := by rw [← hoi]; exact P.2.2.1 i
  have g4 : o = 2 ∨ o = 3 ∨ o = 16 → ar i = nI a ∧ a < 4 := fun z => by rw [← hai]; exact pp_g4 P (by rw [hoi]; exact z)
  have g8 : o = 8 ∨ o = 10 ∨ o = 11 ∨ o = 18 → ar i = nI a ∧ a < 8 := fun z => by rw [← hai]; exact pp_g8 P (by rw [hoi]; exact z)
  refine And.intro hin (nm_r (e' := nI o) (by rw [ei]; show nI (op i) = nI o; rw [hoi]) ?_)
  rcases Nat.lt_or_ge 10 o with big | small
  · refine br_f (nI_pos (by omega)) (br_t (nI_lt (a := 10) big (by omega)) (And.intro hin ?_))
    rw [ei, show aa_N op i = nI o from by show nI (op i) = nI o; rw [hoi]]
    exact xa_goes (mc := fun p => pp_g ar (mi p)) (i := i) A (by omega) ho ht hl6 hh hk (fun z => g4 (by omega)) (fun z => g8 (by omega)) hz hcr hf (fun ok nw hnw => And.intro rfl (K1 ok nw hnw)) (fun ok hh nw => And.intro rfl (K0 ok hh nw))
  · have hc : o = 0 ∨ o = 1 ∨ o = 2 ∨ o = 3 ∨ o = 4 ∨ o = 5 ∨ o = 6 ∨ o = 7 ∨ o = 8 ∨ o = 9 ∨ o = 10 := by omega
    rcases hc with rfl | rfl | rfl | rfl | rfl | rfl | rfl | rfl | rfl | rfl | rfl
    · exact br_f (by decide) (br_f (by decide) (br_t (by decide) (xa_push (t := 1) hh (by decide) (K1 (fk_t (by decide)) _ (xa_upf (fun s hs hne => hff s (by have t1 : aa_tk 0 = 0 := rfl; have t2 : aa_pt 0 = 1 := rfl; omega)))))))
    · exact br_f (by decide) (br_f (by decide) (br_f (by decide) (br_t (by decide) (xa_push (t := 2) hh (by decide) (K1 (fk_t (by decide)) _ (xa_upf (fun s hs hne => hff s (by have t1 : aa_tk 1 = 0 := rfl; have t2 : aa_pt 1 = 1 := rfl; omega))))))))
    · obtain ⟨c1, c2⟩ := g4 (Or.inl rfl)
      have t1 : aa_tk 2 = 0 := rfl
      have t2 : aa_pt 2 = 1 := rfl
      have ea : (nI a).toNatClampNeg = a := nI_clamp (by omega)
      have hfa := hf a (by omega)
      have hina := vp_in_nI (n := a) (N := 12) (by omega) (by decide)
      rw [c1]
      refine br_f (by decide) (br_f (by decide) (br_f (by decide) (br_f (by decide) (br_t (by decide) (And.intro hina ?_)))))
      rw [ea, hfa.1]
      refine xa_push hh (by omega) (And.intro hina ?_)
      rw [pk_un (by omega), hfa.1]
      have nwf : ∀ s, s < 4 + (h - aa_tk 2 + aa_pt 2) → upd a_now (4 + h) (nI (f a)) s = nI (fr_f 2 a k h (fun p => pp_g ar (mi p)) f s) := xa_upf (fun s hs hne => hff s (by omega))
      refine pk_eq (f a) 0 (fun z => K0 (fun y => (fk_2.mp y).1 z) _ _) (fun z => And.intro hina (pk_le 51 (f a) (fun y => K0 (fun x => by have := (fk_2.mp x).2; omega) _ _) (fun y => K1 (fk_2.mpr ⟨z, y⟩) _ nwf) rfl rfl (by omega) (by omega))) rfl rfl (by omega) (by omega)
    · obtain ⟨c1, c2⟩ := g4 (Or.inr (Or.inl rfl))
      have t1 : aa_tk 3 = 1 := rfl
      have t2 : aa_pt 3 = 0 := rfl
      have h1 : 1 ≤ h := by omega
      have ea : (nI a).toNatClampNeg = a := nI_clamp (by omega)
      have hft := hf (3 + h) (by omega)
      rw [c1, hz h1]
      exact br_f (by decide) (br_f (by decide) (br_f (by decide) (br_f (by decide) (br_f (by decide) (br_t (by decide) (And.intro (vp_in_nI (by omega) (by decide)) (nm_r (e' := upd a_now a (nI (f (3 + h)))) (by rw [ea, aa_nb (by omega)]) (nm_r (eh h1) (K1 (fk_t (by decide)) _ (xa_upf (fun s hs hne => hff s (by omega))))))))))))
    · have t1 : aa_tk 4 = 1 := rfl
      have t2 : aa_pt 4 = 0 := rfl
      exact br_f (by decide) (br_f (by decide) (br_f (by decide) (br_f (by decide) (br_f (by decide) (br_f (by decide) (br_t (by decide) (nm_r (eh (by omega)) (K1 (fk_t (by decide)) a_now (fun s hs => hff s (by omega))))))))))
    · have t1 : aa_tk 5 = 1 := rfl
      have t2 : aa_pt 5 = 2 := rfl
      have h1 : 1 ≤ h := by omega
      have hft := hf (3 + h) (by omega)
      have eh2 : h - aa_tk 5 + aa_pt 5 = h + 1 := by omega
      rw [hz h1]
      rw [eh2] at K1
      exact br_f (by decide) (br_f (by decide) (br_f (by decide) (br_f (by decide) (br_f (by decide) (br_f (by decide) (br_f (by decide) (br_t (by decide) (xa_push hh (by omega) (K1 (fk_t (by decide)) _ (xa_upf (fun s hs hne => hff s (by omega))))))))))))
    · have t1 : aa_tk 6 = 2 := rfl
      have t2 : aa_pt 6 = 2 := rfl
      have h1 : 1 ≤ h := by omega
      have hft := hf (3 + h) (by omega)
      have hfu := hf (2 + h) (by omega)
      have eh2 : h - aa_tk 6 + aa_pt 6 = h := by omega
      have e2 : (3 : Int32) + nI h - 1 = nI (2 + h) := by rw [e3]; exact (pk_sub (b := 1) (by omega)).trans (congrArg nI (by omega))
      have ec3 : (nI (3 + h)).toNatClampNeg = 3 + h := nI_clamp (by omega)
      have ec2 : (nI (2 + h)).toNatClampNeg = 2 + h := nI_clamp (by omega)
      have hin3 := vp_in_nI (n := 3 + h) (N := 12) (by omega) (by decide)
      have hin2 := vp_in_nI (n := 2 + h) (N := 12) (by omega) (by decide)
      rw [eh2] at K1
      rw [hz h1, e2, e3]
      exact br_f (by decide) (br_f (by decide) (br_f (by decide) (br_f (by decide) (br_f (by decide) (br_f (by decide) (br_f (by decide) (br_f (by decide) (br_t (by decide) (And.intro hin2 (And.intro hin3 (nm_r (e' := upd a_now (3 + h) (nI (f (2 + h)))) (by rw [ec3, ec2, hfu.1, aa_nb1 (by omega)]) (And.intro hin2 (nm_r (e' := upd (upd a_now (3 + h) (nI (f (2 + h)))) (2 + h) (nI (f (3 + h)))) (by rw [ec2, aa_nb (by omega)]) (K1 (fk_t (by decide)) _ (xa_upf (fun s hs _ => xa_upf (fun s hs _ => hff s hs) s hs))))))))))))))))
    · have t1 : aa_tk 7 = 2 := rfl
      have t2 : aa_pt 7 = 1 := rfl
      have h1 : 1 ≤ h := by omega
      have hft := hf (3 + h) (by omega)
      have hfu := hf (2 + h) (by omega)
      have eh2 : h - aa_tk 7 + aa_pt 7 = h - 1 := by omega
      have e2 : (3 : Int32) + nI h - 1 = nI (2 + h) := by rw [e3]; exact (pk_sub (b := 1) (by omega)).trans (congrArg nI (by omega))
      have ec2 : (nI (2 + h)).toNatClampNeg = 2 + h := nI_clamp (by omega)
      have hin2 := vp_in_nI (n := 2 + h) (N := 12) (by omega) (by decide)
      rw [eh2] at K1
      rw [hz h1, e2]
      refine br_f (by decide) (br_f (by decide) (br_f (by decide) (br_f (by decide) (br_f (by decide) (br_f (by decide) (br_f (by decide) (br_f (by decide) (br_f (by decide) (br_t (by decide) (nm_r (eh h1) (pk_eq (f (3 + h)) 1 (fun y => And.intro hin2 ?_) (fun y => K0 (fun x => y (fk_7.mp x).1) _ _) rfl rfl (by omega) (by omega))))))))))))
      rw [ec2, hfu.1]
      exact pk_eq (f (2 + h)) 1 (fun x => K1 (fk_7.mpr ⟨y, x⟩) a_now (fun s hs => hff s (by omega))) (fun x => K0 (fun w => x (fk_7.mp w).2) _ _) rfl rfl (by omega) (by omega)
    · have t1 : aa_tk 8 = 0 := rfl
      have t2 : aa_pt 8 = 1 := rfl
      rw [show (11 : Int32) + nI k = nI (11 + k) from nI_add 11 k]
      exact br_f (by decide) (br_f (by decide) (br_f (by decide) (br_f (by decide) (br_f (by decide) (br_f (by decide) (br_f (by decide) (br_f (by decide) (br_f (by decide) (br_f (by decide) (br_t (by decide) (xa_make hh (by omega) hf (fun ok nw hnw => And.intro rfl (K1 (fk_8.mpr ok) nw hnw)) (fun ok => And.intro rfl (K0 (fun y => ok (fk_8.mp y)) _ _)))))))))))))
    · have t1 : aa_tk 9 = 1 := rfl
      have t2 : aa_pt 9 = 0 := rfl
      have h1 : 1 ≤ h := by omega
      have hft := hf (3 + h) (by omega)
      rw [hz h1]
      exact br_f (by decide) (br_f (by decide) (br_f (by decide) (br_f (by decide) (br_f (by decide) (br_f (by decide) (br_f (by decide) (br_f (by decide) (br_f (by decide) (br_f (by decide) (br_f (by decide) (br_t (by decide) (xa_init P hh h1 hm hmi hft.2 hf (fun ok nw hnw => And.intro rfl (K1 (fk_9.mpr ok) nw hnw)) (fun ok => And.intro rfl (K0 (fun y => ok (fk_9.mp y)) _ _))))))))))))))
    · obtain ⟨c1, c2⟩ := g8 (Or.inr (Or.inl rfl))
      have t1 : aa_tk 10 = 1 := rfl
      have t2 : aa_pt 10 = 1 := rfl
      have h1 : 1 ≤ h := by omega
      have hft := hf (3 + h) (by omega)
      have ec3 : (nI (3 + h)).toNatClampNeg = 3 + h := nI_clamp (by omega)
      have eh2 : h - aa_tk 10 + aa_pt 10 = h := by omega
      rw [eh2] at K1
      rw [c1, hz h1, e3]
      exact br_f (by decide) (br_f (by decide) (br_f (by decide) (br_f (by decide) (br_f (by decide) (br_f (by decide) (br_f (by decide) (br_f (by decide) (br_f (by decide) (br_f (by decide) (br_f (by decide) (br_f (by decide) (br_t (by decide) (And.intro (vp_in_nI (by omega) (by decide)) (nm_r (e' := upd a_now (3 + h) (nI (3 + a))) (by rw [ec3, show (3 : Int32) + nI a = nI (3 + a) from nI_add 3 a, aa_nb (by omega)]) (xx_isReference hft.2 (fun z => And.intro rfl (K1 (fk_10.mpr z) _ (xa_upf (fun s hs _ => hff s hs)))) (fun z => And.intro rfl (K0 (fun y => z (fk_10.mp y)) _ _)))))))))))))))))
theorem xa_apply {k m : Nat} {pl va f : Nat → Nat} (P : pp_P cn hn op fr tt tg ct pa be ar) (M : pp_M cn hn op tg ar) (L : la_L cn hn op fr tt tg ar m pl va) (A : xa_A pa an) (hk : k < m)
    (hmi : ∀ p, p < m → a_instruction p = nI (pl p % 25)) (hcr : ∀ p, p < m → 0 < pl p / 390625 → a_caller p = nI (ty_fi pl (kk_cal (pl p)) m)) (hf : ∀ s, s < 4 + va k → a_now s = nI (f s) ∧ f s < 91)
    (K1 : fr_ok pa (op (pl k % 25)) (pp_g ar (pl k % 25)) k (va k) m (ty_fi pl (kk_cal (pl k)) m) (fun p => op (pl p % 25) = 8) f → ∀ nw, (∀ s, s < 4 + pp_lf op (pl k) (va k) → nw s = nI (fr_f (op (pl k % 25)) (pp_g ar (pl k % 25)) k (va k) (fun p => pp_g ar (pl p % 25)) f s)) → post 1 ((nI cn), (nI hn), f_met, f_waiting, f_tooMany, (nI m), (nI (pp_lf op (pl k) (va k))), f_why, f_found, f_objects, f_high, f_at, f_here, f_steps, f_outcome, f_last, f_ran, (aa_N pa), an, (aa_N be), (aa_N op), ar, (aa_N fr), (aa_N tt), (aa_N tg), (aa_N ct), a_keys, a_heights, a_faults, a_table, a_todo, a_said, a_sorted, a_instruction, a_values, a_jumps, a_caught, a_caller, a_mapped, a_known, a_types, a_maps, nw, a_sort, a_made, a_number, a_ready))
    (K0 : ¬ fr_ok pa (op (pl k % 25)) (pp_g ar (pl k % 25)) k (va k) m (ty_fi pl (kk_cal (pl k)) m) (fun p => op (pl p % 25) = 8) f → ∀ hh nw, post 0 ((nI cn), (nI hn), f_met, f_waiting, f_tooMany, (nI m), hh, f_why, f_found, f_objects, f_high, f_at, f_here, f_steps, f_outcome, f_last, f_ran, (aa_N pa), an, (aa_N be), (aa_N op), ar, (aa_N fr), (aa_N tt), (aa_N tg), (aa_N ct), a_keys, a_heights, a_faults, a_table, a_todo, a_said, a_sorted, a_instruction, a_values, a_jumps, a_caught, a_caller, a_mapped, a_known, a_types, a_maps, nw, a_sort, a_made, a_number, a_ready)) : wpX_apply post ((nI cn), (nI hn), f_met, f_waiting, f_tooMany, (nI m), (nI (va k)), f_why, f_found, f_objects, f_high, f_at, f_here, f_steps, f_outcome, f_last, f_ran, (aa_N pa), an, (aa_N be), (aa_N op), ar, (aa_N fr), (aa_N tt), (aa_N tg), (aa_N ct), a_keys, a_heights, a_faults, a_table, a_todo, a_said, a_sorted, a_instruction, a_values, a_jumps, a_caught, a_caller, a_mapped, a_known, a_types, a_maps, a_now, a_sort, a_made, a_number, a_ready) (nI k) := by
  obtain ⟨hv, hi, hv6⟩ := la_V P M L hk
  obtain ⟨t1, t2⟩ := la_tk L hk
  have hc := P.1
  have m40 := L.1
  have ek : (nI k).toNatClampNeg = k := nI_clamp (by omega)
  have ei : (nI (pl k % 25)).toNatClampNeg = pl k % 25 := nI_clamp (by omega)
  have e3 : (3 : Int32) + nI (va k) = nI (3 + va k) := nI_add 3 (va k)
  have ec3 : (nI (3 + va k)).toNatClampNeg = 3 + va k := nI_clamp (by omega)
  have hcr' : op (pl k % 25) = 16 → a_caller k = nI (ty_fi pl (kk_cal (pl k)) m) ∧ ty_fi pl (kk_cal (pl k)) m < 40 := fun z => by
    have n0 := ((la_16 L P M hk).2 z).1
    have := (la_cal P M L hk n0).1
    exact ⟨hcr k hk n0, by omega⟩
  have go : ∀ z0, (1 ≤ va k → z0 = nI (f (3 + va k))) → wX_apply_40 post (nI k) (nI (pl k % 25)) (ar (pl k % 25)) (3 + nI (va k)) z0 (nI cn) (nI hn) f_met f_waiting f_tooMany (nI m) (nI (va k)) f_why f_found f_objects f_high f_at f_here f_steps f_outcome f_last f_ran (aa_N pa) an (aa_N be) (aa_N op) ar (aa_N fr) (aa_N tt) (aa_N tg) (aa_N ct) a_keys a_heights a_faults a_table a_todo a_said a_sorted a_instruction a_values a_jumps a_caught a_caller a_mapped a_known a_types a_maps a_now a_sort a_made a_number a_ready := fun z0 hz0 =>
    xa_a40 (mi := fun p => pl p % 25) P A (by omega) rfl rfl t1 t2 hv6 (by omega) m40 (fun p hp => ⟨hmi p hp, by have := (la_V P M L hp).2.1; omega⟩) hz0 hcr' hf K1 K0
  refine And.intro (vp_in_nI (by omega) (by decide)) (nm_r (e' := nI (pl k % 25)) (by rw [ek]; exact hmi k hk) (And.intro (vp_in_nI (by omega) (by decide)) (nm_r (e' := ar (pl k % 25)) (by rw [ei]) (nm_e (pk_le (va k) 0 (fun z => go 0 (fun y => by omega)) (fun z => And.intro (by rw [e3]; exact vp_in_nI (by omega) (by decide)) ?_))))))
  refine go _ (fun _ => ?_)
  rw [e3, ec3]; exact (hf _ (by omega)).1
end
end
section
/-! the component's give, hand, take -/
def lo_b (x : Int64) (i : Nat) : Bool := x.toBitVec.getLsbD i
theorem lo_ext {x y : Int64} (h : ∀ i, i < 64 → lo_b x i = lo_b y i) : x = y := Int64.toBitVec_inj.mp (BitVec.eq_of_getLsbD_eq (fun i hi => h i hi))
theorem lo_0 (i : Nat) : lo_b 0 i = false := by unfold lo_b; show (0#64).getLsbD i = false; exact BitVec.getLsbD_zero
theorem lo_or (x y : Int64) (i : Nat) : lo_b (x ||| y) i = (lo_b x i || lo_b y i) := by unfold lo_b; rw [Int64.toBitVec_or, BitVec.getLsbD_or]
theorem lo_and (x y : Int64) (i : Nat) : lo_b (x &&& y) i = (lo_b x i && lo_b y i) := by unfold lo_b; rw [Int64.toBitVec_and, BitVec.getLsbD_and]
theorem lo_xor (x y : Int64) (i : Nat) : lo_b (x ^^^ y) i = (lo_b x i ^^ lo_b y i) := by unfold lo_b; rw [Int64.toBitVec_xor, BitVec.getLsbD_xor]
theorem lo_m1 : ∀ i, i < 64 → lo_b (-1) i = true := by decide +kernel
theorem lo_1 {j i : Nat} (hj : j < 64) (hi : i < 64) : lo_b ((1 : Int64) <<< ((nI j).toInt64 &&& 63)) i = decide (j = i) := by
  have e : (1 : Int64) <<< ((nI j).toInt64 &&& 63) = lN (1 * 2 ^ j) := wb_shl 1 hj
  rw [e, Nat.one_mul]
  unfold lo_b
  rw [wb_tb, BitVec.getLsbD_ofNat, Nat.testBit_two_pow, decide_eq_true hi, Bool.true_and]
theorem lo_clr (x : Int64) {j i : Nat} (hj : j < 64) (hi : i < 64) : lo_b (x &&& (((1 : Int64) <<< ((nI j).toInt64 &&& 63)) ^^^ (-1))) i = (lo_b x i && !decide (j = i)) := by
  rw [lo_and, lo_xor, lo_1 hj hi, lo_m1 i hi]
  cases decide (j = i) <;> rfl
theorem lo_and1 (x : Int64) : (x &&& 1) = 0 ↔ lo_b x 0 = false := by
  have b1 : ∀ i, i < 64 → lo_b 1 i = decide (i = 0) := by decide +kernel
  constructor
  · intro h
    have := lo_and x 1 0
    rw [h, lo_0, b1 0 (by decide)] at this
    cases e : lo_b x 0
    · rfl
    · rw [e] at this; exact absurd this (by decide)
  · intro h
    refine lo_ext (fun i hi => ?_)
    rw [lo_and, lo_0, b1 i hi]
    rcases Nat.eq_zero_or_pos i with z | z
    · subst z; rw [h]; rfl
    · rw [decide_eq_false (by omega), Bool.and_false]
theorem lo_tst (x : Int64) {k : Nat} (hk : k < 64) : ((x >>> ((nI k).toInt64 &&& 63)) &&& 1) = 0 ↔ lo_b x k = false := by
  rw [lo_and1]
  have e : lo_b (x >>> ((nI k).toInt64 &&& 63)) 0 = lo_b x k := by
    unfold lo_b
    rw [wb_c k hk, Int64.toBitVec_shiftRight, wb_tb]
    show (x.toBitVec.sshiftRight ((BitVec.ofNat 64 k).smod 64).toNat).getLsbD 0 = _
    rw [wb_sm k hk, BitVec.toNat_ofNat, Nat.mod_eq_of_lt (by omega), BitVec.getLsbD_sshiftRight]
    simp [hk]
  rw [e]
theorem lo_z (x : Int64) : x = 0 ↔ ∀ i, i < 64 → lo_b x i = false := ⟨fun h i _ => by rw [h]; exact lo_0 i, fun h => lo_ext (fun i hi => by rw [h i hi, lo_0])⟩
/-- the arrays show the state of the iteration -/
def ar_T (m : Nat) (va : Nat → Nat) (kn : Nat → Prop) (ty : Nat → Nat → Nat) (known types : Nat → Int32) : Prop := ∀ k, k < m → (kn k → known k = 1 ∧ ∀ s, s < 4 + va k → types (10 * k + s) = nI (ty k s)) ∧ (¬ kn k → known k = 0)
theorem ar_T_give {m j : Nat} {va : Nat → Nat} {pa : Nat → Nat} {kn : Nat → Prop} {ty : Nat → Nat → Nat} {g : Nat → Nat} {known types tys : Nat → Int32} (T : ar_T m va kn ty known types) (hv : ∀ k, k < m → va k ≤ 6) (hj : j < m)
    (h1 : ∀ s, s < 4 + va j → tys (10 * j + s) = nI (it_t pa kn ty j g j s)) (h2 : ∀ i, (i < 10 * j ∨ 10 * j + (4 + va j) ≤ i) → tys i = types i) : ar_T m va (it_k kn j) (it_t pa kn ty j g) (upd known j 1) tys := by
  intro k hk
  by_cases e : k = j
  · subst e
    exact ⟨fun _ => ⟨pk_us, h1⟩, fun z => absurd (Or.inr rfl) z⟩
  · obtain ⟨t1, t2⟩ := T k hk
    have v1 := hv k hk
    have v2 := hv j hj
    refine ⟨fun z => ?_, fun z => ?_⟩
    · obtain ⟨a, b⟩ := t1 (z.resolve_right e)
      refine ⟨by rw [pk_un e]; exact a, fun s hs => ?_⟩
      rw [h2 _ (by omega), it_t_ne e]; exact b s hs
    · rw [pk_un e]; exact t2 (fun y => z (Or.inl y))
section
variable {cn hn : Nat} {op fr tt tg ct pa be : Nat → Nat} {ar an : Nat → Int32}
variable {f_count f_handlers f_met f_waiting f_tooMany f_size f_height f_why f_found f_objects f_high f_at f_here f_steps f_outcome f_last f_ran : Int32} {a_parents a_ancestors a_begins a_ops a_operands a_froms a_tos a_targets a_catches a_keys a_heights a_faults a_table a_todo a_said a_sorted a_instruction a_values a_jumps a_caught a_caller a_mapped a_known a_types a_maps a_now a_sort a_made a_number a_ready : Nat → Int32}
theorem xg_17 {post : Int64 → SX → Prop} {j h b : Nat} {f t0 nv : Nat → Nat} (A : xa_A pa an) (hpa : ∀ c, pa c < 8 ∧ (0 < c → pa c < c)) (hj : j < 40) (hh : h ≤ 6) (hf : ∀ s, s < 4 + h → a_now s = nI (f s) ∧ f s < 91)
    (hb : (b = 1 ∧ a_known j = 1 ∧ ∀ s, s < 4 + h → a_types (10 * j + s) = nI (t0 s) ∧ t0 s < 91) ∨ (b = 0 ∧ a_known j = 0)) (hnv : ∀ s, s < 4 + h → nv s = if b = 1 then ty_jn pa (t0 s) (f s) else f s)
    (K : ∀ tp, (∀ s, s < 4 + h → tp (10 * j + s) = nI (nv s)) → (∀ i, (i < 10 * j ∨ 10 * j + (4 + h) ≤ i) → tp i = a_types i) →
      ((b = 0 ∨ ∃ s, s < 4 + h ∧ nv s ≠ t0 s) → post ((1 : Int64) <<< ((nI j).toInt64 &&& 63)) ((nI cn), (nI hn), f_met, f_waiting, f_tooMany, f_size, (nI h), f_why, f_found, f_objects, f_high, f_at, f_here, f_steps, f_outcome, f_last, f_ran, (aa_N pa), an, (aa_N be), (aa_N op), ar, (aa_N fr), (aa_N tt), (aa_N tg), (aa_N ct), a_keys, a_heights, a_faults, a_table, a_todo, a_said, a_sorted, a_instruction, a_values, a_jumps, a_caught, a_caller, a_mapped, (upd a_known j 1), tp, a_maps, a_now, a_sort, a_made, a_number, a_ready)) ∧ (¬ (b = 0 ∨ ∃ s, s < 4 + h ∧ nv s ≠ t0 s) → post 0 ((nI cn), (nI hn), f_met, f_waiting, f_tooMany, f_size, (nI h), f_why, f_found, f_objects, f_high, f_at, f_here, f_steps, f_outcome, f_last, f_ran, (aa_N pa), an, (aa_N be), (aa_N op), ar, (aa_N fr), (aa_N tt), (aa_N tg), (aa_N ct), a_keys, a_heights, a_faults, a_table, a_todo, a_said, a_sorted, a_instruction, a_values, a_jumps, a_caught, a_caller, a_mapped, (upd a_known j 1), tp, a_maps, a_now, a_sort, a_made, a_number, a_ready))) :
    ∀ d s, s + d = 4 + h → ∀ tp c, (∀ x, x < s → tp (10 * j + x) = nI (nv x)) → (∀ i, (i < 10 * j ∨ 10 * j + s ≤ i) → tp i = a_types i) → ((c = 1 ∧ (b = 0 ∨ ∃ x, x < s ∧ nv x ≠ t0 x)) ∨ (c = 0 ∧ ¬ (b = 0 ∨ ∃ x, x < s ∧ nv x ≠ t0 x))) →
      wX_give_17 post (nI j) (nI cn) (nI hn) f_met f_waiting f_tooMany f_size (nI h) f_why f_found f_objects f_high f_at f_here f_steps f_outcome f_last f_ran (d + 1) (nI c) (nI s) (aa_N pa) an (aa_N be) (aa_N op) ar (aa_N fr) (aa_N tt) (aa_N tg) (aa_N ct) a_keys a_heights a_faults a_table a_todo a_said a_sorted a_instruction a_values a_jumps a_caught a_caller a_mapped a_known tp a_maps a_now a_sort a_made a_number a_ready := by
  have ej : (nI j).toNatClampNeg = j := nI_clamp (by omega)
  have hinj := vp_in_nI (n := j) (N := 40) hj (by decide)
  have e4 : (4 : Int32) + nI h = nI (4 + h) := nI_add 4 h
  intro d
  induction d with
  | zero =>
    intro s hs tp c h1 h2 h3
    have : s = 4 + h := by omega
    subst this
    obtain ⟨k1, k2⟩ := K tp h1 h2
    refine br_t ?_ (And.intro hinj (nm_r (e' := upd a_known j 1) (by rw [ej, aa_nz1]) ?_))
    · rw [e4]; exact nI_le (Nat.le_refl _) (by omega)
    · rcases h3 with ⟨rfl, z⟩ | ⟨rfl, z⟩
      · exact br_f (by decide) (k1 z)
      · exact br_t rfl (k2 z)
  | succ d ih =>
    intro s hs tp c h1 h2 h3
    have es : (nI s).toNatClampNeg = s := nI_clamp (by omega)
    have e10 : (10 : Int32) * nI j + nI s = nI (10 * j + s) := by rw [show (10 : Int32) * nI j = nI (10 * j) from pk_mul 10 j, nI_add]
    have ec : (nI (10 * j + s)).toNatClampNeg = 10 * j + s := nI_clamp (by omega)
    have hins := vp_in_nI (n := s) (N := 12) (by omega) (by decide)
    have hinc := vp_in_nI (n := 10 * j + s) (N := 400) (by omega) (by decide)
    have hfs := hf s (by omega)
    have hnvs := hnv s (by omega)
    -- the store
    have r95 : ∀ c', nv s < 128 → ((c' = 1 ∧ (b = 0 ∨ ∃ x, x < s + 1 ∧ nv x ≠ t0 x)) ∨ (c' = 0 ∧ ¬ (b = 0 ∨ ∃ x, x < s + 1 ∧ nv x ≠ t0 x))) → wX_give_95 post (wX_give_17 post (nI j) (nI cn) (nI hn) f_met f_waiting f_tooMany f_size (nI h) f_why f_found f_objects f_high f_at f_here f_steps f_outcome f_last f_ran (d + 1)) (nI j) (nI c') (nI s) (nI (10 * j + s)) (nI (nv s)) (nI cn) (nI hn) f_met f_waiting f_tooMany f_size (nI h) f_why f_found f_objects f_high f_at f_here f_steps f_outcome f_last f_ran (aa_N pa) an (aa_N be) (aa_N op) ar (aa_N fr) (aa_N tt) (aa_N tg) (aa_N ct) a_keys a_heights a_faults a_table a_todo a_said a_sorted a_instruction a_values a_jumps a_caught a_caller a_mapped a_known tp a_maps a_now a_sort a_made a_number a_ready := by
      intro c' hn3 hc'
      refine And.intro hinc (nm_r (e' := upd tp (10 * j + s) (nI (nv s))) (by rw [ec, aa_nb hn3]) (nm_r (nI_1 s) (ih (s + 1) (by omega) _ c' (fun x hx => ?_) (fun i hi => ?_) hc')))
      · by_cases e : x = s
        · rw [e, pk_us]
        · rw [pk_un (by omega)]; exact h1 x (by omega)
      · rw [pk_un (by omega)]; exact h2 i (by omega)
    refine br_f ?_ (nm_r e10 (And.intro hinj ?_))
    · rw [e4]; exact nI_ge (by omega) (by omega)
    · rw [ej]
      rcases hb with ⟨rfl, b1, b2⟩ | ⟨rfl, b1⟩
      · obtain ⟨c1, c2⟩ := b2 s (by omega)
        have ec1 : tp (10 * j + s) = nI (t0 s) := by rw [h2 _ (by omega)]; exact c1
        have hlt := ty_jn_lt hpa c2 hfs.2
        rw [if_pos rfl] at hnvs
        rw [b1, ec, es, ec1, hfs.1]
        refine br_f (by decide) (And.intro hinc (And.intro hins (xx_join hpa A c2 hfs.2 ?_)))
        rw [← hnvs] at hlt ⊢
        refine And.intro hinj ?_
        rw [ej, b1, ec, ec1]
        refine br_f (by decide) (And.intro hinc (pk_eq (nv s) (t0 s) (fun z => r95 c (by omega) ?_) (fun z => r95 1 (by omega) (Or.inl ⟨rfl, Or.inr ⟨s, by omega, z⟩⟩))))
        have ext : (1 = 0 ∨ ∃ x, x < s + 1 ∧ nv x ≠ t0 x) ↔ (1 = 0 ∨ ∃ x, x < s ∧ nv x ≠ t0 x) := by
          refine ⟨fun y => y.imp id (fun ⟨x, x1, x2⟩ => ⟨x, ?_, x2⟩), fun y => y.imp id (fun ⟨x, x1, x2⟩ => ⟨x, by omega, x2⟩)⟩
          have : x ≠ s := fun w => x2 (by rw [w]; exact z)
          omega
        rw [ext]; exact h3
      · rw [if_neg (by omega)] at hnvs
        rw [b1, es, hfs.1, ← hnvs]
        refine br_t rfl (And.intro hins (And.intro hinj ?_))
        rw [ej, b1]
        refine br_t rfl (r95 c (by omega) ?_)
        rcases h3 with ⟨z1, z2⟩ | ⟨z1, z2⟩
        · exact Or.inl ⟨z1, Or.inl rfl⟩
        · exact absurd (Or.inl rfl) z2
theorem xg_give {post : Int64 → SX → Prop} {m j : Nat} {va g : Nat → Nat} {kn : Nat → Prop} {ty : Nat → Nat → Nat} (A : xa_A pa an) (hpa : ∀ c, pa c < 8 ∧ (0 < c → pa c < c)) (hm : m ≤ 40) (hv : ∀ k, k < m → va k ≤ 6) (T : ar_T m va kn ty a_known a_types) (hI : it_I va m kn ty) (hj : j < m)
    (hf : ∀ s, s < 4 + va j → a_now s = nI (g s) ∧ g s < 91) (K : ∀ r kno tys, ar_T m va (it_k kn j) (it_t pa kn ty j g) kno tys → (∀ i, i < 64 → (lo_b r i = true ↔ i = j ∧ it_c pa va kn ty j g)) → post r ((nI cn), (nI hn), f_met, f_waiting, f_tooMany, f_size, (nI (va j)), f_why, f_found, f_objects, f_high, f_at, f_here, f_steps, f_outcome, f_last, f_ran, (aa_N pa), an, (aa_N be), (aa_N op), ar, (aa_N fr), (aa_N tt), (aa_N tg), (aa_N ct), a_keys, a_heights, a_faults, a_table, a_todo, a_said, a_sorted, a_instruction, a_values, a_jumps, a_caught, a_caller, a_mapped, kno, tys, a_maps, a_now, a_sort, a_made, a_number, a_ready)) : wpX_give post ((nI cn), (nI hn), f_met, f_waiting, f_tooMany, f_size, (nI (va j)), f_why, f_found, f_objects, f_high, f_at, f_here, f_steps, f_outcome, f_last, f_ran, (aa_N pa), an, (aa_N be), (aa_N op), ar, (aa_N fr), (aa_N tt), (aa_N tg), (aa_N ct), a_keys, a_heights, a_faults, a_table, a_todo, a_said, a_sorted, a_instruction, a_values, a_jumps, a_caught, a_caller, a_mapped, a_known, a_types, a_maps, a_now, a_sort, a_made, a_number, a_ready) (nI j) := by
  have ej : (nI j).toNatClampNeg = j := nI_clamp (by omega)
  have hv6 := hv j hj
  obtain ⟨t1, t2⟩ := T j hj
  refine And.intro (vp_in_nI (by omega) (by decide)) ?_
  rw [ej]
  by_cases h : kn j
  · obtain ⟨a1, a2⟩ := t1 h
    rw [a1]
    refine br_f (by decide) ⟨4 + va j + 1, xg_17 (h := va j) (b := 1) (f := g) (t0 := ty j) (nv := fun s => ty_jn pa (ty j s) (g s)) A hpa (by omega) hv6 hf (Or.inl ⟨rfl, a1, fun s hs => ⟨a2 s hs, ((hI j h).2 s hs).1⟩⟩) (fun s hs => by rw [if_pos rfl]) (fun tp p1 p2 => ?_) (4 + va j) 0 (by omega) a_types 0 (fun x hx => by omega) (fun i hi => rfl) (Or.inr ⟨rfl, fun z => z.elim (by omega) (fun ⟨x, x1, _⟩ => by omega)⟩)⟩
    have T' := ar_T_give (pa := pa) (g := g) T hv hj (fun s hs => by rw [it_t_kn h]; exact p1 s hs) p2
    refine ⟨fun z => K _ _ _ T' (fun i hi => ?_), fun z => K _ _ _ T' (fun i hi => ?_)⟩
    · rw [lo_1 (by omega) hi, decide_eq_true_eq]
      refine ⟨fun y => ⟨y.symm, Or.inr ?_⟩, fun y => y.1.symm⟩
      obtain ⟨s, s1, s2⟩ := z.resolve_left (by omega)
      exact ⟨s, s1, s2⟩
    · rw [lo_0]
      refine ⟨fun y => absurd y (by decide), fun ⟨_, y⟩ => ?_⟩
      rcases y with y | ⟨s, s1, s2⟩
      · exact absurd h y
      · exact absurd (Or.inr ⟨s, s1, s2⟩) z
  · rw [t2 h]
    refine br_t rfl ⟨4 + va j + 1, xg_17 (h := va j) (b := 0) (f := g) (t0 := ty j) (nv := g) A hpa (by omega) hv6 hf (Or.inr ⟨rfl, t2 h⟩) (fun s hs => by rw [if_neg (by omega)]) (fun tp p1 p2 => ?_) (4 + va j) 0 (by omega) a_types 1 (fun x hx => by omega) (fun i hi => rfl) (Or.inl ⟨rfl, Or.inl rfl⟩)⟩
    have T' := ar_T_give (pa := pa) (g := g) T hv hj (fun s hs => by rw [it_t_un h]; exact p1 s hs) p2
    refine ⟨fun z => K _ _ _ T' (fun i hi => ?_), fun z => absurd (Or.inl rfl) z⟩
    rw [lo_1 (by omega) hi, decide_eq_true_eq]
    exact ⟨fun y => ⟨y.symm, Or.inl h⟩, fun y => y.1.symm⟩
theorem xg_take_types {post : SX → Prop} {k h : Nat} {f : Nat → Nat} (hk : k < 40) (hh : h ≤ 6) (hv : a_values k = nI h) (hf : ∀ s, s < 4 + h → a_types (10 * k + s) = nI (f s) ∧ f s < 91)
    (K : ∀ nw, (∀ s, s < 4 + h → nw s = nI (f s)) → post (f_count, f_handlers, f_met, f_waiting, f_tooMany, f_size, (nI h), f_why, f_found, f_objects, f_high, f_at, f_here, f_steps, f_outcome, f_last, f_ran, a_parents, a_ancestors, a_begins, a_ops, a_operands, a_froms, a_tos, a_targets, a_catches, a_keys, a_heights, a_faults, a_table, a_todo, a_said, a_sorted, a_instruction, a_values, a_jumps, a_caught, a_caller, a_mapped, a_known, a_types, a_maps, nw, a_sort, a_made, a_number, a_ready)) : wpX_take__types post (f_count, f_handlers, f_met, f_waiting, f_tooMany, f_size, f_height, f_why, f_found, f_objects, f_high, f_at, f_here, f_steps, f_outcome, f_last, f_ran, a_parents, a_ancestors, a_begins, a_ops, a_operands, a_froms, a_tos, a_targets, a_catches, a_keys, a_heights, a_faults, a_table, a_todo, a_said, a_sorted, a_instruction, a_values, a_jumps, a_caught, a_caller, a_mapped, a_known, a_types, a_maps, a_now, a_sort, a_made, a_number, a_ready) (nI k) := by
  have ek : (nI k).toNatClampNeg = k := nI_clamp (by omega)
  have e4 : (4 : Int32) + nI h = nI (4 + h) := nI_add 4 h
  have key : ∀ d s, s + d = 4 + h → ∀ nw, (∀ x, x < s → nw x = nI (f x)) → wX_take__types_12 post (nI k) f_count f_handlers f_met f_waiting f_tooMany f_size (nI h) f_why f_found f_objects f_high f_at f_here f_steps f_outcome f_last f_ran (d + 1) (nI s) a_parents a_ancestors a_begins a_ops a_operands a_froms a_tos a_targets a_catches a_keys a_heights a_faults a_table a_todo a_said a_sorted a_instruction a_values a_jumps a_caught a_caller a_mapped a_known a_types a_maps nw a_sort a_made a_number a_ready := by
    intro d
    induction d with
    | zero =>
      intro s hs nw hnw
      refine br_t ?_ (K nw (fun x hx => hnw x (by omega)))
      rw [e4]; exact nI_le (by omega) (by omega)
    | succ d ih =>
      intro s hs nw hnw
      have es : (nI s).toNatClampNeg = s := nI_clamp (by omega)
      have e10 : (10 : Int32) * nI k + nI s = nI (10 * k + s) := by rw [show (10 : Int32) * nI k = nI (10 * k) from pk_mul 10 k, nI_add]
      have ec : (nI (10 * k + s)).toNatClampNeg = 10 * k + s := nI_clamp (by omega)
      obtain ⟨f1, f2⟩ := hf s (by omega)
      refine br_f ?_ ?_
      · rw [e4]; exact nI_ge (by omega) (by omega)
      · rw [e10]
        refine And.intro (vp_in_nI (by omega) (by decide)) (And.intro (vp_in_nI (by omega) (by decide)) (nm_r (e' := upd nw s (nI (f s))) (by rw [es, ec, f1, aa_nb1 (by omega)]) (nm_r (nI_1 s) (ih (s + 1) (by omega) _ (fun x hx => ?_)))))
        by_cases e : x = s
        · rw [e, pk_us]
        · rw [pk_un e]; exact hnw x (by omega)
  exact And.intro (vp_in_nI (by omega) (by decide)) (nm_r (e' := nI h) (by rw [ek]; exact hv) ⟨4 + h + 1, key (4 + h) 0 (by omega) a_now (fun x hx => by omega)⟩)
theorem xg_take_maps {post : SX → Prop} {k h : Nat} {f : Nat → Nat} (hk : k < 40) (hh : h ≤ 6) (hv : a_values k = nI h) (hf : ∀ s, s < 4 + h → a_maps (10 * k + s) = nI (f s) ∧ f s < 91)
    (K : ∀ nw, (∀ s, s < 4 + h → nw s = nI (f s)) → post (f_count, f_handlers, f_met, f_waiting, f_tooMany, f_size, (nI h), f_why, f_found, f_objects, f_high, f_at, f_here, f_steps, f_outcome, f_last, f_ran, a_parents, a_ancestors, a_begins, a_ops, a_operands, a_froms, a_tos, a_targets, a_catches, a_keys, a_heights, a_faults, a_table, a_todo, a_said, a_sorted, a_instruction, a_values, a_jumps, a_caught, a_caller, a_mapped, a_known, a_types, a_maps, nw, a_sort, a_made, a_number, a_ready)) : wpX_take__maps post (f_count, f_handlers, f_met, f_waiting, f_tooMany, f_size, f_height, f_why, f_found, f_objects, f_high, f_at, f_here, f_steps, f_outcome, f_last, f_ran, a_parents, a_ancestors, a_begins, a_ops, a_operands, a_froms, a_tos, a_targets, a_catches, a_keys, a_heights, a_faults, a_table, a_todo, a_said, a_sorted, a_instruction, a_values, a_jumps, a_caught, a_caller, a_mapped, a_known, a_types, a_maps, a_now, a_sort, a_made, a_number, a_ready) (nI k) := by
  have ek : (nI k).toNatClampNeg = k := nI_clamp (by omega)
  have e4 : (4 : Int32) + nI h = nI (4 + h) := nI_add 4 h
  have key : ∀ d s, s + d = 4 + h → ∀ nw, (∀ x, x < s → nw x = nI (f x)) → wX_take__maps_12 post (nI k) f_count f_handlers f_met f_waiting f_tooMany f_size (nI h) f_why f_found f_objects f_high f_at f_here f_steps f_outcome f_last f_ran (d + 1) (nI s) a_parents a_ancestors a_begins a_ops a_operands a_froms a_tos a_targets a_catches a_keys a_heights a_faults a_table a_todo a_said a_sorted a_instruction a_values a_jumps a_caught a_caller a_mapped a_known a_types a_maps nw a_sort a_made a_number a_ready := by
    intro d
    induction d with
    | zero =>
      intro s hs nw hnw
      refine br_t ?_ (K nw (fun x hx => hnw x (by omega)))
      rw [e4]; exact nI_le (by omega) (by omega)
    | succ d ih =>
      intro s hs nw hnw
      have es : (nI s).toNatClampNeg = s := nI_clamp (by omega)
      have e10 : (10 : Int32) * nI k + nI s = nI (10 * k + s) := by rw [show (10 : Int32) * nI k = nI (10 * k) from pk_mul 10 k, nI_add]
      have ec : (nI (10 * k + s)).toNatClampNeg = 10 * k + s := nI_clamp (by omega)
      obtain ⟨f1, f2⟩ := hf s (by omega)
      refine br_f ?_ ?_
      · rw [e4]; exact nI_ge (by omega) (by omega)
      · rw [e10]
        refine And.intro (vp_in_nI (by omega) (by decide)) (And.intro (vp_in_nI (by omega) (by decide)) (nm_r (e' := upd nw s (nI (f s))) (by rw [es, ec, f1, aa_nb1 (by omega)]) (nm_r (nI_1 s) (ih (s + 1) (by omega) _ (fun x hx => ?_)))))
        by_cases e : x = s
        · rw [e, pk_us]
        · rw [pk_un e]; exact hnw x (by omega)
  exact And.intro (vp_in_nI (by omega) (by decide)) (nm_r (e' := nI h) (by rw [ek]; exact hv) ⟨4 + h + 1, key (4 + h) 0 (by omega) a_now (fun x hx => by omega)⟩)
end
end
section
/-! the component's hand and infer -/
/-- a step at a place, so far -/
def it_st (pa va : Nat → Nat) (m : Nat) (OK : Nat → (Nat → Nat) → Prop) (EH EN : Nat → (Nat → Nat) → Nat → (Nat → Nat) → Prop) (be : Nat → Nat) (k : Nat) (f : Nat → Nat) (kn0 : Nat → Prop) (ty0 : Nat → Nat → Nat) (kn : Nat → Prop) (ty : Nat → Nat → Nat) (mo : Nat → Prop) : Prop :=
  it_I va m kn ty ∧ it_LB pa va m OK EH EN be kn ty ∧ it_R pa va m OK EH EN be kn k f ∧ it_gr pa va kn0 ty0 kn ty ∧ (∀ z, kn z → mo z ∨ (kn0 z ∧ ∀ s, s < 4 + va z → ty z s = ty0 z s)) ∧ (∀ z, mo z → kn z) ∧ ((∃ z, mo z) → it_P va m kn ty < it_P va m kn0 ty0) ∧ it_P va m kn ty ≤ it_P va m kn0 ty0
section
variable {pa va : Nat → Nat} {m : Nat} {OK : Nat → (Nat → Nat) → Prop} {EH EN : Nat → (Nat → Nat) → Nat → (Nat → Nat) → Prop} {be : Nat → Nat} {kn0 kn : Nat → Prop} {ty0 ty : Nat → Nat → Nat} {mo : Nat → Prop} {j k : Nat} {f g : Nat → Nat}
theorem it_st_0 (hI : it_I va m kn ty) (hB : it_LB pa va m OK EH EN be kn ty) (hk : kn k) : it_st pa va m OK EH EN be k (ty k) kn ty kn ty (fun _ => False) :=
  ⟨hI, hB, it_R_of hI hB hk, it_gr_rf, fun z hz => Or.inr ⟨hz, fun _ _ => rfl⟩, fun z hz => hz.elim, fun ⟨z, hz⟩ => hz.elim, Nat.le_refl _⟩
theorem it_st_give (Y : it_sys pa va m OK EH EN) (h : it_st pa va m OK EH EN be k f kn0 ty0 kn ty mo) (hE : EH k f j g ∨ (OK k f ∧ EN k f j g)) :
    it_st pa va m OK EH EN be k f kn0 ty0 (it_k kn j) (it_t pa kn ty j g) (fun z => mo z ∨ (z = j ∧ it_c pa va kn ty j g)) ∧ j < m ∧ (∀ s, s < 4 + va j → g s < 91) := by
  obtain ⟨s1, s2, s3, s4, s5, s6, s7, s8⟩ := h
  obtain ⟨g1, g2, g3, g4⟩ := it_give Y s1 s2 s3 hE
  have hp := Y.2.2.2.1
  have hv := Y.2.2.1
  have p1 := it_P_le (kn := kn) (ty := ty) (j := j) (f := g) hp hv
  refine ⟨⟨g1, g2, it_R_mono s3 (fun x hx => Or.inl hx), it_gr_tr hp s4 (it_gr_give hp), fun z hz => ?_, fun z hz => ?_, fun ⟨z, hz⟩ => ?_, by omega⟩, g3, g4⟩
  · by_cases e : z = j
    · subst e
      by_cases c : it_c pa va kn ty z g
      · exact Or.inl (Or.inr ⟨rfl, c⟩)
      · have hkn : kn z := Classical.byContradiction fun y => c (Or.inl y)
        rcases s5 z hkn with y | ⟨y1, y2⟩
        · exact Or.inl (Or.inl y)
        · refine Or.inr ⟨y1, fun s hs => ?_⟩
          rw [it_t_kn hkn, ← y2 s hs]
          exact Classical.byContradiction fun w => c (Or.inr ⟨s, hs, w⟩)
    · rcases s5 z (hz.resolve_right e) with y | ⟨y1, y2⟩
      · exact Or.inl (Or.inl y)
      · exact Or.inr ⟨y1, fun s hs => by rw [it_t_ne e]; exact y2 s hs⟩
  · rcases hz with y | ⟨y, -⟩
    · exact Or.inl (s6 z y)
    · exact Or.inr y
  · rcases hz with y | ⟨rfl, y⟩
    · have := s7 ⟨z, y⟩; omega
    · have := it_P_lt hp hv g3 y; omega
/-- a step at a place, done -/
theorem it_st_end (Y : it_sys pa va m OK EH EN) {O O' : Nat → Prop} (h : it_st pa va m OK EH EN be k f kn0 ty0 kn ty mo) (hf : f = ty0 k) (hO : ∀ x, kn0 x → O x ∨ (OK x (ty0 x) ∧ it_S pa va EH EN kn0 ty0 x (ty0 x))) (ok : OK k f) (hS : it_S pa va EH EN kn ty k f) (hO' : ∀ x, x < m → (O' x ↔ (O x ∧ x ≠ k) ∨ mo x)) :
    ∀ x, kn x → O' x ∨ (OK x (ty x) ∧ it_S pa va EH EN kn ty x (ty x)) := by
  obtain ⟨s1, s2, s3, s4, s5, s6, s7, s8⟩ := h
  have hp := Y.2.2.2.1
  intro x hx
  have xm := (s1 x hx).1
  rcases s5 x hx with y | ⟨y1, y2⟩
  · exact Or.inl ((hO' x xm).mpr (Or.inr y))
  · by_cases e : x = k
    · subst e
      rw [hf] at ok hS
      exact Or.inr (it_S_eq Y xm hS ok y2)
    · rcases hO x y1 with z | ⟨z1, z2⟩
      · exact Or.inl ((hO' x xm).mpr (Or.inl ⟨z, e⟩))
      · exact Or.inr (it_S_eq Y xm (it_S_gr hp z2 s4) z1 y2)
end
section
variable {cn hn : Nat} {op fr tt tg ct pa be : Nat → Nat} {ar an : Nat → Int32}
variable {f_count f_handlers f_met f_waiting f_tooMany f_size f_height f_why f_found f_objects f_high f_at f_here f_steps f_outcome f_last f_ran : Int32} {a_parents a_ancestors a_begins a_ops a_operands a_froms a_tos a_targets a_catches a_keys a_heights a_faults a_table a_todo a_said a_sorted a_instruction a_values a_jumps a_caught a_caller a_mapped a_known a_types a_maps a_now a_sort a_made a_number a_ready : Nat → Int32}
variable {m : Nat} {pl va : Nat → Nat}
/-- the component's links -/
def xl_A (hn : Nat) (op fr tt tg pl : Nat → Nat) (ar : Nat → Int32) (va : Nat → Nat) (m : Nat) (instruction values jumps caught caller : Nat → Int32) : Prop :=
  (∀ k, k < m → instruction k = nI (pl k % 25) ∧ values k = nI (va k)) ∧ (∀ k, k < m → 0 < pl k / 390625 → caller k = nI (ty_fi pl (kk_cal (pl k)) m)) ∧
  (∀ k, k < m → ((aa_ld (op (pl k % 25)) = true ∨ op (pl k % 25) = 16) → jumps k = nI (ty_fi pl (pp_to op ar (pl k)) m)) ∧ (¬ (aa_ld (op (pl k % 25)) = true ∨ op (pl k % 25) = 16) → jumps k = -1)) ∧
  (∀ k x, k < m → x < 4 → ((x < hn ∧ pp_cv fr tt x (pl k % 25) = true) → caught (4 * k + x) = nI (ty_fi pl (kk_at (pl k) (tg x)) m)) ∧ (¬ (x < hn ∧ pp_cv fr tt x (pl k % 25) = true) → caught (4 * k + x) = -1))
theorem xg_give' {post : Int64 → SX → Prop} {j : Nat} {g : Nat → Nat} {kn : Nat → Prop} {ty : Nat → Nat → Nat} {hg : Int32} (eh : hg = nI (va j)) (A : xa_A pa an) (hpa : ∀ c, pa c < 8 ∧ (0 < c → pa c < c)) (hm : m ≤ 40) (hv : ∀ k, k < m → va k ≤ 6) (T : ar_T m va kn ty a_known a_types) (hI : it_I va m kn ty) (hj : j < m)
    (hf : ∀ s, s < 4 + va j → a_now s = nI (g s) ∧ g s < 91) (K : ∀ r kno tys, ar_T m va (it_k kn j) (it_t pa kn ty j g) kno tys → (∀ i, i < 64 → (lo_b r i = true ↔ i = j ∧ it_c pa va kn ty j g)) → post r ((nI cn), (nI hn), f_met, f_waiting, f_tooMany, f_size, hg, f_why, f_found, f_objects, f_high, f_at, f_here, f_steps, f_outcome, f_last, f_ran, (aa_N pa), an, (aa_N be), (aa_N op), ar, (aa_N fr), (aa_N tt), (aa_N tg), (aa_N ct), a_keys, a_heights, a_faults, a_table, a_todo, a_said, a_sorted, a_instruction, a_values, a_jumps, a_caught, a_caller, a_mapped, kno, tys, a_maps, a_now, a_sort, a_made, a_number, a_ready)) : wpX_give post ((nI cn), (nI hn), f_met, f_waiting, f_tooMany, f_size, hg, f_why, f_found, f_objects, f_high, f_at, f_here, f_steps, f_outcome, f_last, f_ran, (aa_N pa), an, (aa_N be), (aa_N op), ar, (aa_N fr), (aa_N tt), (aa_N tg), (aa_N ct), a_keys, a_heights, a_faults, a_table, a_todo, a_said, a_sorted, a_instruction, a_values, a_jumps, a_caught, a_caller, a_mapped, a_known, a_types, a_maps, a_now, a_sort, a_made, a_number, a_ready) (nI j) := by
  subst eh
  exact xg_give A hpa hm hv T hI hj hf K
theorem xi_hand {post : Int64 → SX → Prop} {k : Nat} {f : Nat → Nat} {kn0 : Nat → Prop} {ty0 : Nat → Nat → Nat} (P : pp_P cn hn op fr tt tg ct pa be ar) (M : pp_M cn hn op tg ar) (L : la_L cn hn op fr tt tg ar m pl va) (A : xa_A pa an) (X : xl_A hn op fr tt tg pl ar va m a_instruction a_values a_jumps a_caught a_caller) (hk : k < m)
    (T : ar_T m va kn0 ty0 a_known a_types) (S : it_st pa va m (la_OK pa op ar pl va m) (la_EH hn fr tt tg ct pl m) (la_EN op ar pl va m) be k f kn0 ty0 kn0 ty0 (fun _ => False)) (hf : ∀ s, s < 4 + va k → a_now s = nI (f s))
    (K : ∀ r kn ty mo kno tys nw, ar_T m va kn ty kno tys → it_st pa va m (la_OK pa op ar pl va m) (la_EH hn fr tt tg ct pl m) (la_EN op ar pl va m) be k f kn0 ty0 kn ty mo → (∀ i, i < 64 → (lo_b r i = true ↔ mo i)) → (∀ j g, la_EH hn fr tt tg ct pl m k f j g → kn j ∧ it_le pa va j g (ty j)) → (∀ s, s < 4 + va k → nw s = nI (f s)) → post r ((nI cn), (nI hn), f_met, f_waiting, f_tooMany, f_size, (nI (va k)), f_why, f_found, f_objects, f_high, f_at, f_here, f_steps, f_outcome, f_last, f_ran, (aa_N pa), an, (aa_N be), (aa_N op), ar, (aa_N fr), (aa_N tt), (aa_N tg), (aa_N ct), a_keys, a_heights, a_faults, a_table, a_todo, a_said, a_sorted, a_instruction, a_values, a_jumps, a_caught, a_caller, a_mapped, kno, tys, a_maps, nw, a_sort, a_made, a_number, a_ready)) : wpX_hand post ((nI cn), (nI hn), f_met, f_waiting, f_tooMany, f_size, (nI (va k)), f_why, f_found, f_objects, f_high, f_at, f_here, f_steps, f_outcome, f_last, f_ran, (aa_N pa), an, (aa_N be), (aa_N op), ar, (aa_N fr), (aa_N tt), (aa_N tg), (aa_N ct), a_keys, a_heights, a_faults, a_table, a_todo, a_said, a_sorted, a_instruction, a_values, a_jumps, a_caught, a_caller, a_mapped, a_known, a_types, a_maps, a_now, a_sort, a_made, a_number, a_ready) (nI k) := by
  obtain ⟨hc, hh4, hop, hx, hpa, hbe, hfit⟩ := id P
  have Y := la_sys P M L
  have m40 := L.1
  have hv6 : ∀ k, k < m → va k ≤ 6 := Y.2.2.1
  obtain ⟨x1, x2, x3, x4⟩ := X
  have hfl := S.2.2.1.2.2.2
  have key : ∀ d x, x + d = 4 → ∀ r kn ty mo kno tys nw, ar_T m va kn ty kno tys → it_st pa va m (la_OK pa op ar pl va m) (la_EH hn fr tt tg ct pl m) (la_EN op ar pl va m) be k f kn0 ty0 kn ty mo → (∀ i, i < 64 → (lo_b r i = true ↔ mo i)) →
      (∀ y, y < x → y < hn → pp_cv fr tt y (pl k % 25) = true → kn (ty_fi pl (kk_at (pl k) (tg y)) m) ∧ it_le pa va (ty_fi pl (kk_at (pl k) (tg y)) m) (aa_up f 4 (3 + ct y)) (ty (ty_fi pl (kk_at (pl k) (tg y)) m))) → (∀ s, s < 4 + va k → s ≠ 4 → nw s = nI (f s)) → wX_hand_24 post (nI k) (nI (va k)) (a_now 4) (d + 1) r (nI x) (nI cn) (nI hn) f_met f_waiting f_tooMany f_size 1 f_why f_found f_objects f_high f_at f_here f_steps f_outcome f_last f_ran (aa_N pa) an (aa_N be) (aa_N op) ar (aa_N fr) (aa_N tt) (aa_N tg) (aa_N ct) a_keys a_heights a_faults a_table a_todo a_said a_sorted a_instruction a_values a_jumps a_caught a_caller a_mapped kno tys a_maps nw a_sort a_made a_number a_ready := by
    intro d
    induction d with
    | zero =>
      intro x hxd r kn ty mo kno tys nw T' S' hr hm hnw
      refine br_t (nI_le (a := 4) (by omega) (by omega)) (nm_e (K r kn ty mo kno tys _ T' S' hr (fun j g ⟨y, y1, y2, y3, y4⟩ => ?_) (fun s hs => ?_)))
      · rw [y3, y4]; exact hm y (by omega) y1 y2
      · by_cases e : s = 4
        · rw [e, pk_us, hf 4 (by omega), aa_nb (by have := (hfl 4 (by omega)).1; omega)]
        · rw [pk_un e]; exact hnw s hs e
    | succ d ih =>
      intro x hxd r kn ty mo kno tys nw T' S' hr hm hnw
      have ex : (nI x).toNatClampNeg = x := nI_clamp (by omega)
      have e4 : (4 : Int32) * nI k + nI x = nI (4 * k + x) := by rw [show (4 : Int32) * nI k = nI (4 * k) from pk_mul 4 k, nI_add]
      have ec : (nI (4 * k + x)).toNatClampNeg = 4 * k + x := nI_clamp (by omega)
      have hin := vp_in_nI (n := 4 * k + x) (N := 160) (by omega) (by decide)
      obtain ⟨c1, c2⟩ := x4 k x hk (by omega)
      have hct := (hx x).2.2.2
      refine br_f (nI_ge (b := 4) (by omega) (by decide)) ?_
      rw [e4]
      refine And.intro hin ?_
      rw [ec]
      by_cases cv : x < hn ∧ pp_cv fr tt x (pl k % 25) = true
      · obtain ⟨j1, j2, j3⟩ := la_hand L hk cv.1 cv.2
        rw [c1 cv, ex]
        refine br_t (nI_pos' (by omega)) (And.intro (vp_in_nI (by omega) (by decide)) (nm_r (e' := upd nw 4 (nI (3 + ct x))) (by rw [show (3 : Int32) + aa_N ct x = nI (3 + ct x) from nI_add 3 (ct x), aa_nb (by omega)]) (And.intro hin ?_)))
        obtain ⟨S2, -, -⟩ := it_st_give Y S' (j := ty_fi pl (kk_at (pl k) (tg x)) m) (g := aa_up f 4 (3 + ct x)) (Or.inl ⟨x, cv.1, cv.2, rfl, rfl⟩)
        have hv1 : (1 : Int32) = nI (va (ty_fi pl (kk_at (pl k) (tg x)) m)) := by rw [j3]; rfl
        refine xg_give' hv1 A hpa m40 hv6 T' S'.1 j1 (g := aa_up f 4 (3 + ct x)) (fun s hs => ?_) (fun r' kno' tys' T2 hr' => nm_e (nm_r (nI_1 x) (ih (x + 1) (by omega) (r ||| r') _ _ _ kno' tys' _ T2 S2 (fun i hi => ?_) (fun y y1 y2 y3 => ?_) (fun s hs hne => ?_))))
        · rw [j3] at hs
          by_cases e : s = 4
          · rw [e, pk_us, aa_us]; exact ⟨rfl, by omega⟩
          · rw [pk_un e, aa_un e]; exact ⟨hnw s (by omega) e, (hfl s (by omega)).1⟩
        · rw [lo_or, Bool.or_eq_true, hr i hi, hr' i hi]
        · rcases Nat.lt_or_ge y x with l | l
          · obtain ⟨w1, w2⟩ := hm y l y2 y3
            exact ⟨Or.inl w1, fun s hs => ty_trans hpa (w2 s hs) ((it_gr_give hpa _ w1).2 s hs)⟩
          · have : y = x := by omega
            subst this
            exact ⟨Or.inr rfl, it_got hpa⟩
        · rw [pk_un hne]; exact hnw s hs hne
      · rw [c2 cv]
        refine br_f (by decide) (nm_r (nI_1 x) (ih (x + 1) (by omega) r kn ty mo kno tys nw T' S' hr (fun y y1 y2 y3 => hm y ?_ y2 y3) hnw))
        have : y ≠ x := fun z => cv (z ▸ ⟨y2, y3⟩)
        omega
  exact nm_e ⟨5, key 4 0 (by omega) 0 kn0 ty0 _ a_known a_types a_now T S (fun i _ => by rw [lo_0]; exact ⟨fun z => absurd z (by decide), fun z => z.elim⟩) (fun y hy => by omega) (fun s hs _ => hf s hs)⟩
end
end
section
/-! the component's infer whole -/
section
variable {cn hn : Nat} {op fr tt tg ct pa be : Nat → Nat} {ar an : Nat → Int32}
variable {f_count f_handlers f_met f_waiting f_tooMany f_size f_height f_why f_found f_objects f_high f_at f_here f_steps f_outcome f_last f_ran : Int32} {a_parents a_ancestors a_begins a_ops a_operands a_froms a_tos a_targets a_catches a_keys a_heights a_faults a_table a_todo a_said a_sorted a_instruction a_values a_jumps a_caught a_caller a_mapped a_known a_types a_maps a_now a_sort a_made a_number a_ready : Nat → Int32}
variable {m : Nat} {pl va : Nat → Nat} {post : Int32 → SX → Prop}
theorem xi_150 {J57 : _} {x1 r : Int64} {k : Nat} {f : Nat → Nat} {kn0 kn mo : Nat → Prop} {ty0 ty : Nat → Nat → Nat} (P : pp_P cn hn op fr tt tg ct pa be ar) (M : pp_M cn hn op tg ar) (L : la_L cn hn op fr tt tg ar m pl va) (A : xa_A pa an) (X : xl_A hn op fr tt tg pl ar va m a_instruction a_values a_jumps a_caught a_caller) (hk : k < m)
    (T : ar_T m va kn ty a_known a_types) (S : it_st pa va m (la_OK pa op ar pl va m) (la_EH hn fr tt tg ct pl m) (la_EN op ar pl va m) be k f kn0 ty0 kn ty mo) (ok : la_OK pa op ar pl va m k f) (hr : ∀ i, i < 64 → (lo_b r i = true ↔ mo i)) (hnw : ∀ s, s < 4 + pp_lf op (pl k) (va k) → a_now s = nI (la_F op ar pl va k f s))
    (K : ∀ r' kn' ty' mo' kno tys, ar_T m va kn' ty' kno tys → it_st pa va m (la_OK pa op ar pl va m) (la_EH hn fr tt tg ct pl m) (la_EN op ar pl va m) be k f kn0 ty0 kn' ty' mo' → (∀ i, i < 64 → (lo_b r' i = true ↔ mo' i)) → it_gr pa va kn ty kn' ty' →
      ((aa_ld (op (pl k % 25)) = true ∨ op (pl k % 25) = 16) → kn' (ty_fi pl (pp_to op ar (pl k)) m) ∧ it_le pa va (ty_fi pl (pp_to op ar (pl k)) m) (la_F op ar pl va k f) (ty' (ty_fi pl (pp_to op ar (pl k)) m))) → J57 (x1 ||| r') (nI cn) (nI hn) f_met f_waiting f_tooMany f_size (nI (pp_lf op (pl k) (va k))) f_why f_found f_objects f_high f_at f_here f_steps f_outcome f_last f_ran (aa_N pa) an (aa_N be) (aa_N op) ar (aa_N fr) (aa_N tt) (aa_N tg) (aa_N ct) a_keys a_heights a_faults a_table a_todo a_said a_sorted a_instruction a_values a_jumps a_caught a_caller a_mapped kno tys a_maps a_now a_sort a_made a_number a_ready) :
    wX_infer_150 post J57 x1 (nI k) r (nI cn) (nI hn) f_met f_waiting f_tooMany f_size (nI (pp_lf op (pl k) (va k))) f_why f_found f_objects f_high f_at f_here f_steps f_outcome f_last f_ran (aa_N pa) an (aa_N be) (aa_N op) ar (aa_N fr) (aa_N tt) (aa_N tg) (aa_N ct) a_keys a_heights a_faults a_table a_todo a_said a_sorted a_instruction a_values a_jumps a_caught a_caller a_mapped a_known a_types a_maps a_now a_sort a_made a_number a_ready := by
  have Y := la_sys P M L
  have m40 := L.1
  have hpa := P.2.2.2.2.1
  have ek : (nI k).toNatClampNeg = k := nI_clamp (by omega)
  have hin := vp_in_nI (n := k) (N := 40) (by omega) (by decide)
  obtain ⟨j1, j0⟩ := X.2.2.1 k hk
  refine And.intro hin ?_
  rw [ek]
  by_cases h : aa_ld (op (pl k % 25)) = true ∨ op (pl k % 25) = 16
  · obtain ⟨b1, b2, b3⟩ := la_jump L hk h
    obtain ⟨S2, -, g91⟩ := it_st_give Y S (j := ty_fi pl (pp_to op ar (pl k)) m) (g := la_F op ar pl va k f) (Or.inr ⟨ok, Or.inr ⟨h, rfl, rfl⟩⟩)
    rw [j1 h]
    refine br_f (nI_pos (by omega)) (And.intro hin (xg_give' (by rw [b3]) A hpa m40 Y.2.2.1 T S.1 b1 (g := la_F op ar pl va k f) (fun s hs => ⟨hnw s (by rw [b3] at hs; exact hs), g91 s hs⟩) (fun r' kno tys T2 hr' => nm_e (nm_e (K (r ||| r') _ _ _ kno tys T2 S2 (fun i hi => ?_) (it_gr_give hpa) (fun _ => ⟨Or.inr rfl, it_got hpa⟩))))))
    rw [lo_or, Bool.or_eq_true, hr i hi, hr' i hi]
  · rw [j0 h]
    exact br_t (by decide) (nm_e (K r kn ty mo _ _ T S hr it_gr_rf (fun z => absurd z h)))
theorem xi_scan {J57 : _} {x1 : Int64} {k : Nat} (hk : k < 64) (hno : ∀ i, i < k → lo_b x1 i = false) (hbase : wX_infer_65 post J57 x1 f_count f_handlers f_met f_waiting f_tooMany f_size f_height f_why f_found f_objects f_high f_at f_here f_steps f_outcome f_last f_ran a_parents a_ancestors a_begins a_ops a_operands a_froms a_tos a_targets a_catches a_keys a_heights a_faults a_table a_todo a_said a_sorted a_instruction a_values a_jumps a_caught a_caller a_mapped a_known a_types a_maps a_now a_sort a_made a_number a_ready 1 (nI k)) : ∃ n65, wX_infer_65 post J57 x1 f_count f_handlers f_met f_waiting f_tooMany f_size f_height f_why f_found f_objects f_high f_at f_here f_steps f_outcome f_last f_ran a_parents a_ancestors a_begins a_ops a_operands a_froms a_tos a_targets a_catches a_keys a_heights a_faults a_table a_todo a_said a_sorted a_instruction a_values a_jumps a_caught a_caller a_mapped a_known a_types a_maps a_now a_sort a_made a_number a_ready n65 0 := by
  have key : ∀ e, e ≤ k → wX_infer_65 post J57 x1 f_count f_handlers f_met f_waiting f_tooMany f_size f_height f_why f_found f_objects f_high f_at f_here f_steps f_outcome f_last f_ran a_parents a_ancestors a_begins a_ops a_operands a_froms a_tos a_targets a_catches a_keys a_heights a_faults a_table a_todo a_said a_sorted a_instruction a_values a_jumps a_caught a_caller a_mapped a_known a_types a_maps a_now a_sort a_made a_number a_ready (e + 1) (nI (k - e)) := by
    intro e
    induction e with
    | zero => intro _; exact hbase
    | succ e ih =>
      intro he
      refine br_t ((lo_tst x1 (by omega)).mpr (hno _ (by omega))) (nm_r (e' := nI (k - e)) ?_ (ih (by omega)))
      rw [nI_1]; exact congrArg nI (by omega)
  have := key k (Nat.le_refl _)
  rw [Nat.sub_self] at this
  exact ⟨_, this⟩
theorem xi_57 (P : pp_P cn hn op fr tt tg ct pa be ar) (M : pp_M cn hn op tg ar) (L : la_L cn hn op fr tt tg ar m pl va) (A : xa_A pa an) (X : xl_A hn op fr tt tg pl ar va m a_instruction a_values a_jumps a_caught a_caller)
    (K1 : ∀ kn ty hg kno tys nw, it_L pa va m (la_OK pa op ar pl va m) (la_EH hn fr tt tg ct pl m) (la_EN op ar pl va m) be kn ty → it_I va m kn ty → ar_T m va kn ty kno tys → post 1 ((nI cn), (nI hn), f_met, f_waiting, f_tooMany, (nI m), hg, f_why, f_found, f_objects, f_high, f_at, f_here, f_steps, f_outcome, f_last, f_ran, (aa_N pa), an, (aa_N be), (aa_N op), ar, (aa_N fr), (aa_N tt), (aa_N tg), (aa_N ct), a_keys, a_heights, a_faults, a_table, a_todo, a_said, a_sorted, a_instruction, a_values, a_jumps, a_caught, a_caller, a_mapped, kno, tys, a_maps, nw, a_sort, a_made, a_number, a_ready))
    (K0 : (∀ K F, ¬ it_sol pa va m (la_OK pa op ar pl va m) (la_EH hn fr tt tg ct pl m) (la_EN op ar pl va m) be K F) → ∀ hg kno tys nw, post 0 ((nI cn), (nI hn), f_met, f_waiting, f_tooMany, (nI m), hg, f_why, f_found, f_objects, f_high, f_at, f_here, f_steps, f_outcome, f_last, f_ran, (aa_N pa), an, (aa_N be), (aa_N op), ar, (aa_N fr), (aa_N tt), (aa_N tg), (aa_N ct), a_keys, a_heights, a_faults, a_table, a_todo, a_said, a_sorted, a_instruction, a_values, a_jumps, a_caught, a_caller, a_mapped, kno, tys, a_maps, nw, a_sort, a_made, a_number, a_ready)) :
    ∀ B x1 kn ty O hg kno tys nw, ar_T m va kn ty kno tys → it_I va m kn ty → it_LB pa va m (la_OK pa op ar pl va m) (la_EH hn fr tt tg ct pl m) (la_EN op ar pl va m) be kn ty → (∀ i, i < 64 → (lo_b x1 i = true ↔ O i)) → (∀ i, O i → kn i) →
      (∀ x, kn x → O x ∨ (la_OK pa op ar pl va m x (ty x) ∧ it_S pa va (la_EH hn fr tt tg ct pl m) (la_EN op ar pl va m) kn ty x (ty x))) → kn 0 → it_le pa va 0 be (ty 0) → 64 * it_P va m kn ty + ex_cn O 40 ≤ B → wX_infer_57 post (B + 1) x1 (nI cn) (nI hn) f_met f_waiting f_tooMany (nI m) hg f_why f_found f_objects f_high f_at f_here f_steps f_outcome f_last f_ran (aa_N pa) an (aa_N be) (aa_N op) ar (aa_N fr) (aa_N tt) (aa_N tg) (aa_N ct) a_keys a_heights a_faults a_table a_todo a_said a_sorted a_instruction a_values a_jumps a_caught a_caller a_mapped kno tys a_maps nw a_sort a_made a_number a_ready := by
  have Y := la_sys P M L
  have m40 := L.1
  have hpa := P.2.2.2.2.1
  have hc24 := P.1
  intro B
  induction B with
  | zero =>
    intro x1 kn ty O hg kno tys nw T hI hB hO hOk hS h0 hbe hμ
    have : ∀ i, ¬ O i := fun i hi => by
      have := (hI i (hOk i hi)).1
      have := ex_clt (P := fun _ => False) (Q := O) (a := i) (fun z => z) hi (N := 40) (fun k _ z => z.elim) (by omega)
      omega
    have x0 : x1 = 0 := (lo_z x1).mpr (fun i hi => by
      cases e : lo_b x1 i
      · rfl
      · exact absurd ((hO i hi).mp e) (this i))
    refine br_t x0 (K1 kn ty hg kno tys nw ⟨⟨h0, hbe, fun k hk => ?_⟩, hB⟩ hI T)
    obtain ⟨a, b⟩ := (hS k hk).resolve_left (this k)
    exact ⟨(hI k hk).1, a, b⟩
  | succ B ih =>
    intro x1 kn ty O hg kno tys nw T hI hB hO hOk hS h0 hbe hμ
    by_cases ne : ∃ i, O i
    · have ex : ∃ i, i < 64 ∧ O i := by
        obtain ⟨i, hi⟩ := ne
        have := (hI i (hOk i hi)).1
        exact ⟨i, by omega, hi⟩
      obtain ⟨k, ⟨k64, hOk1⟩, hmin⟩ := pk_least _ ex
      have hkk := hOk k hOk1
      have hkm := (hI k hkk).1
      have x0 : ¬ x1 = 0 := fun z => by
        have := (lo_z x1).mp z k k64
        rw [(hO k k64).mpr hOk1] at this; exact absurd this (by decide)
      obtain ⟨v1, v2, v3⟩ := la_V P M L hkm
      have ek : (nI k).toNatClampNeg = k := nI_clamp (by omega)
      have ei : (nI (pl k % 25)).toNatClampNeg = pl k % 25 := nI_clamp (by omega)
      refine br_f x0 (xi_scan k64 (fun i hi => ?_) ?_)
      · cases e : lo_b x1 i
        · rfl
        · exact absurd ⟨by omega, (hO i (by omega)).mp e⟩ (hmin i hi)
      · refine br_f (fun z => ?_) (nm_e (xg_take_types (h := va k) (f := ty k) (by omega) v3 (X.1 k hkm).2 (fun s hs => ⟨((T k hkm).1 hkk).2 s hs, ((hI k hkk).2 s hs).1⟩) (fun nw1 hnw1 => ?_)))
        · have := (lo_tst x1 k64).mp z
          rw [(hO k k64).mpr hOk1] at this; exact absurd this (by decide)
        · have St := it_st_0 hI hB hkk
          have hnm : ∀ s, s < 4 + va k → ty k s ≠ 11 + k := fun s hs z => (((hI k hkk).2 s hs).2 k (by omega) z).2 rfl
          have okI := (fr_nm (pa := pa) (o := op (pl k % 25)) (a := pp_g ar (pl k % 25)) (m := m) (cr := ty_fi pl (kk_cal (pl k)) m) (mk := fun p => op (pl p % 25) = 8) (mc := fun p => pp_g ar (pl p % 25)) hnm).1
          have feq := fr_nm4 (o := op (pl k % 25)) (a := pp_g ar (pl k % 25)) (mc := fun p => pp_g ar (pl p % 25)) hnm
          refine xi_hand P M L A X hkm T St hnw1 (fun r kn1 ty1 mo1 kno1 tys1 nw2 T1 S1 hr1 hE1 hnw2 => ?_)
          have hfl := S1.2.2.1.2.2.2
          refine xa_apply P M L A hkm (fun p hp => (X.1 p hp).1) X.2.1 (fun s hs => ⟨hnw2 s hs, (hfl s hs).1⟩) (fun okk nw3 hnw3 => ?_) (fun nok hh nw3 => br_t rfl (K0 (it_fail Y (it_R_of hI hB hkk) (fun z => nok (okI.mpr z))) _ _ _ _))
          have ok : la_OK pa op ar pl va m k (ty k) := okI.mp okk
          have hnw4 : ∀ s, s < 4 + pp_lf op (pl k) (va k) → nw3 s = nI (la_F op ar pl va k (ty k) s) := fun s hs => by
            rw [hnw3 s hs]; exact congrArg nI (feq s hs)
          -- the end of the step
          have fin : ∀ r' kn' ty' mo' kno' tys', ar_T m va kn' ty' kno' tys' → it_st pa va m (la_OK pa op ar pl va m) (la_EH hn fr tt tg ct pl m) (la_EN op ar pl va m) be k (ty k) kn ty kn' ty' mo' → (∀ i, i < 64 → (lo_b r' i = true ↔ mo' i)) → it_S pa va (la_EH hn fr tt tg ct pl m) (la_EN op ar pl va m) kn' ty' k (ty k) →
              wX_infer_57 post (B + 1) ((x1 &&& (((1 : Int64) <<< ((nI k).toInt64 &&& 63)) ^^^ (-1))) ||| r') (nI cn) (nI hn) f_met f_waiting f_tooMany (nI m) (nI (pp_lf op (pl k) (va k))) f_why f_found f_objects f_high f_at f_here f_steps f_outcome f_last f_ran (aa_N pa) an (aa_N be) (aa_N op) ar (aa_N fr) (aa_N tt) (aa_N tg) (aa_N ct) a_keys a_heights a_faults a_table a_todo a_said a_sorted a_instruction a_values a_jumps a_caught a_caller a_mapped kno' tys' a_maps nw3 a_sort a_made a_number a_ready := by
            intro r' kn' ty' mo' kno' tys' T' S' hr' hS'
            have hO2 : ∀ i, i < 64 → (lo_b ((x1 &&& (((1 : Int64) <<< ((nI k).toInt64 &&& 63)) ^^^ (-1))) ||| r') i = true ↔ (O i ∧ i ≠ k) ∨ mo' i) := by
              intro i hi
              rw [lo_or, lo_clr x1 k64 hi, Bool.or_eq_true, Bool.and_eq_true, hO i hi, hr' i hi]
              refine or_congr (and_congr Iff.rfl ?_) Iff.rfl
              rw [Bool.not_eq_true', decide_eq_false_iff_not]
              exact ⟨fun z y => z y.symm, fun z y => z y.symm⟩
            have S'' := S'
            obtain ⟨s1, s2, s3, s4, s5, s6, s7, s8⟩ := S''
            refine ih _ kn' ty' (fun i => (O i ∧ i ≠ k) ∨ mo' i) _ kno' tys' nw3 T' s1 s2 hO2 (fun i hi => ?_) (it_st_end Y S' rfl hS ok hS' (fun x _ => Iff.rfl)) (s4 0 h0).1 (fun s hs => ty_trans hpa (hbe s hs) ((s4 0 h0).2 s hs)) ?_
            · rcases hi with ⟨hi, -⟩ | hi
              · exact (s4 i (hOk i hi)).1
              · exact s6 i hi
            · by_cases mz : ∃ z, mo' z
              · have h1 := s7 mz
                have h2 := ex_cle (fun i => (O i ∧ i ≠ k) ∨ mo' i) 40
                omega
              · have h2 := ex_clt (P := fun i => (O i ∧ i ≠ k) ∨ mo' i) (Q := O) (a := k) (N := 40) (fun z => z.elim (fun y => y.2 rfl) (fun y => mz ⟨k, y⟩)) hOk1 (fun i _ z => z.elim (fun y => y.1) (fun y => absurd ⟨i, y⟩ mz)) (by omega)
                omega
          refine br_f (by decide) (And.intro (vp_in_nI (by omega) (by decide)) ?_)
          rw [ek, (X.1 k hkm).1, ei]
          refine And.intro (vp_in_nI (by omega) (by decide)) (xx_falls (P.2.2.1 _) ?_)
          by_cases fl : aa_fl (op (pl k % 25)) = true
          · rw [fl]
            obtain ⟨b1, b2, b3⟩ := la_fall L hkm fl
            obtain ⟨S2, -, g91⟩ := it_st_give Y S1 (j := k + 1) (g := la_F op ar pl va k (ty k)) (Or.inr ⟨ok, Or.inl ⟨fl, rfl, rfl⟩⟩)
            refine br_f (by decide) ?_
            rw [nI_1]
            refine xg_give' (by rw [b3]) A hpa m40 Y.2.2.1 T1 S1.1 b1 (g := la_F op ar pl va k (ty k)) (fun s hs => ⟨hnw4 s (by rw [b3] at hs; exact hs), g91 s hs⟩) (fun r' kno2 tys2 T2 hr2 => nm_e (xi_150 P M L A X hkm T2 S2 ok (fun i hi => ?_) hnw4 (fun r3 kn3 ty3 mo3 kno3 tys3 T3 S3 hr3 gr3 hj3 => fin r3 kn3 ty3 mo3 kno3 tys3 T3 S3 hr3 ?_)))
            · rw [lo_or, Bool.or_eq_true, hr1 i hi, hr2 i hi]
            · rintro j g (hE | ⟨_, rfl, rfl⟩ | ⟨hj, rfl, rfl⟩)
              · obtain ⟨w1, w2⟩ := hE1 j g hE
                obtain ⟨w3, w4⟩ := it_gr_give (pa := pa) (va := va) (kn := kn1) (ty := ty1) (j := k + 1) (f := la_F op ar pl va k (ty k)) hpa j w1
                obtain ⟨w5, w6⟩ := gr3 j w3
                exact ⟨w5, fun s hs => ty_trans hpa (w2 s hs) (ty_trans hpa (w4 s hs) (w6 s hs))⟩
              · obtain ⟨w5, w6⟩ := gr3 (k + 1) (Or.inr rfl)
                exact ⟨w5, fun s hs => ty_trans hpa (it_got hpa s hs) (w6 s hs)⟩
              · exact hj3 hj
          · rw [ts_nt fl]
            refine br_t (by decide) (xi_150 P M L A X hkm T1 S1 ok hr1 hnw4 (fun r3 kn3 ty3 mo3 kno3 tys3 T3 S3 hr3 gr3 hj3 => fin r3 kn3 ty3 mo3 kno3 tys3 T3 S3 hr3 ?_))
            rintro j g (hE | ⟨hf', -, -⟩ | ⟨hj, rfl, rfl⟩)
            · obtain ⟨w1, w2⟩ := hE1 j g hE
              obtain ⟨w5, w6⟩ := gr3 j w1
              exact ⟨w5, fun s hs => ty_trans hpa (w2 s hs) (w6 s hs)⟩
            · exact absurd hf' fl
            · exact hj3 hj
    · have x0 : x1 = 0 := (lo_z x1).mpr (fun i hi => by
        cases e : lo_b x1 i
        · rfl
        · exact absurd ⟨i, (hO i hi).mp e⟩ ne)
      refine br_t x0 (K1 kn ty hg kno tys nw ⟨⟨h0, hbe, fun k hk => ?_⟩, hB⟩ hI T)
      obtain ⟨a, b⟩ := (hS k hk).resolve_left (fun z => ne ⟨k, z⟩)
      exact ⟨(hI k hk).1, a, b⟩
theorem xi_infer (P : pp_P cn hn op fr tt tg ct pa be ar) (M : pp_M cn hn op tg ar) (L : la_L cn hn op fr tt tg ar m pl va) (A : xa_A pa an) (X : xl_A hn op fr tt tg pl ar va m a_instruction a_values a_jumps a_caught a_caller)
    (K1 : ∀ kn ty hg kno tys nw, it_L pa va m (la_OK pa op ar pl va m) (la_EH hn fr tt tg ct pl m) (la_EN op ar pl va m) be kn ty → it_I va m kn ty → ar_T m va kn ty kno tys → post 1 ((nI cn), (nI hn), f_met, f_waiting, f_tooMany, (nI m), hg, f_why, f_found, f_objects, f_high, f_at, f_here, f_steps, f_outcome, f_last, f_ran, (aa_N pa), an, (aa_N be), (aa_N op), ar, (aa_N fr), (aa_N tt), (aa_N tg), (aa_N ct), a_keys, a_heights, a_faults, a_table, a_todo, a_said, a_sorted, a_instruction, a_values, a_jumps, a_caught, a_caller, a_mapped, kno, tys, a_maps, nw, a_sort, a_made, a_number, a_ready))
    (K0 : (∀ K F, ¬ it_sol pa va m (la_OK pa op ar pl va m) (la_EH hn fr tt tg ct pl m) (la_EN op ar pl va m) be K F) → ∀ hg kno tys nw, post 0 ((nI cn), (nI hn), f_met, f_waiting, f_tooMany, (nI m), hg, f_why, f_found, f_objects, f_high, f_at, f_here, f_steps, f_outcome, f_last, f_ran, (aa_N pa), an, (aa_N be), (aa_N op), ar, (aa_N fr), (aa_N tt), (aa_N tg), (aa_N ct), a_keys, a_heights, a_faults, a_table, a_todo, a_said, a_sorted, a_instruction, a_values, a_jumps, a_caught, a_caller, a_mapped, kno, tys, a_maps, nw, a_sort, a_made, a_number, a_ready)) : wpX_infer post ((nI cn), (nI hn), f_met, f_waiting, f_tooMany, (nI m), f_height, f_why, f_found, f_objects, f_high, f_at, f_here, f_steps, f_outcome, f_last, f_ran, (aa_N pa), an, (aa_N be), (aa_N op), ar, (aa_N fr), (aa_N tt), (aa_N tg), (aa_N ct), a_keys, a_heights, a_faults, a_table, a_todo, a_said, a_sorted, a_instruction, a_values, a_jumps, a_caught, a_caller, a_mapped, a_known, a_types, a_maps, a_now, a_sort, a_made, a_number, a_ready) := by
  have Y := la_sys P M L
  have m40 := L.1
  obtain ⟨m0, p0, v0⟩ := la_0 L
  have hbe := P.2.2.2.2.2.1
  -- the types of the first place
  have r34 : ∀ kno, (∀ k, k < m → kno k = if k = 0 then 1 else 0) → ∀ d s, s + d = 4 → ∀ tys, (∀ x, x < s → tys x = nI (be x)) → wX_infer_34 post 1 (nI cn) (nI hn) f_met f_waiting f_tooMany (nI m) f_height f_why f_found f_objects f_high f_at f_here f_steps f_outcome f_last f_ran (d + 1) (nI s) (aa_N pa) an (aa_N be) (aa_N op) ar (aa_N fr) (aa_N tt) (aa_N tg) (aa_N ct) a_keys a_heights a_faults a_table a_todo a_said a_sorted a_instruction a_values a_jumps a_caught a_caller a_mapped kno tys a_maps a_now a_sort a_made a_number a_ready := by
    intro kno hkno d
    induction d with
    | zero =>
      intro s hs tys htys
      have : s = 4 := by omega
      subst this
      refine br_t (by decide) ⟨_, xi_57 P M L A X K1 K0 (64 * it_P va m (fun x => x = 0) (fun _ => be) + ex_cn (fun x => x = 0) 40) 1 (fun x => x = 0) (fun _ => be) (fun x => x = 0) _ kno tys _ (fun k hk => ⟨fun z => ?_, fun z => ?_⟩) (fun k hk => ?_) (fun K F S k hk => ?_) (fun i hi => ?_) (fun i hi => hi) (fun x hx => Or.inl hx) rfl (fun s _ => ty_refl _) (Nat.le_refl _)⟩
      · subst z
        rw [hkno 0 hk, if_pos rfl]
        refine ⟨rfl, fun s hs => ?_⟩
        rw [Nat.mul_zero, Nat.zero_add]; exact htys s (by omega)
      · rw [hkno k hk, if_neg z]
      · subst hk
        refine ⟨m0, fun s hs => ⟨?_, fun j hj e => ?_⟩⟩
        · have := hbe s; show be s < 91; omega
        · have := hbe s; have e' : be s = 11 + j := e; omega
      · subst hk; exact ⟨S.1, S.2.1⟩
      · exact (by decide +kernel : ∀ i, i < 64 → (lo_b 1 i = true ↔ i = 0)) i hi
    | succ d ih =>
      intro s hs tys htys
      have es : (nI s).toNatClampNeg = s := nI_clamp (by omega)
      refine br_f (nI_ge (b := 4) (by omega) (by decide)) (And.intro (vp_in_nI (by omega) (by decide)) (And.intro (vp_in_nI (by omega) (by decide)) (nm_r (e' := upd tys s (nI (be s))) (by rw [es, show aa_N be s = nI (be s) from rfl, aa_nb1 (by have := hbe s; omega)]) (nm_r (nI_1 s) (ih (s + 1) (by omega) _ (fun x hx => ?_))))))
      by_cases e : x = s
      · rw [e, pk_us]
      · rw [pk_un e]; exact htys x (by omega)
  have r4 : ∀ d k, k + d = m → ∀ kno, (∀ x, x < k → kno x = 0) → wX_infer_4 post 1 (nI cn) (nI hn) f_met f_waiting f_tooMany (nI m) f_height f_why f_found f_objects f_high f_at f_here f_steps f_outcome f_last f_ran (d + 1) (nI k) (aa_N pa) an (aa_N be) (aa_N op) ar (aa_N fr) (aa_N tt) (aa_N tg) (aa_N ct) a_keys a_heights a_faults a_table a_todo a_said a_sorted a_instruction a_values a_jumps a_caught a_caller a_mapped kno a_types a_maps a_now a_sort a_made a_number a_ready := by
    intro d
    induction d with
    | zero =>
      intro k hk kno hkno
      refine br_t (nI_le (by omega) (by omega)) (nm_r (e' := upd kno 0 1) (by rw [aa_nz1]) ⟨5, r34 _ (fun x hx => ?_) 4 0 (by omega) a_types (fun x hx => by omega)⟩)
      by_cases e : x = 0
      · rw [e, pk_us, if_pos rfl]
      · rw [pk_un e, if_neg e]; exact hkno x (by omega)
    | succ d ih =>
      intro k hk kno hkno
      have ek : (nI k).toNatClampNeg = k := nI_clamp (by omega)
      refine br_f (nI_ge (by omega) (by omega)) (And.intro (vp_in_nI (by omega) (by decide)) (nm_r (e' := upd kno k 0) (by rw [ek, aa_nz0]) (nm_r (nI_1 k) (ih (k + 1) (by omega) _ (fun x hx => ?_)))))
      by_cases e : x = k
      · rw [e, pk_us]
      · rw [pk_un e]; exact hkno x (by omega)
  exact ⟨m + 1, r4 m 0 (by omega) a_known (fun x hx => by omega)⟩
end
end
section
/-! the reference's isAbove, fits, join, does -/
section
variable {cn hn : Nat} {op fr tt tg ct pa be : Nat → Nat} {ar an : Nat → Int32}
variable {g_length g_handlers g_many g_there g_typed g_wrongNumber g_wrongPlace g_size g_why g_height g_objects g_line g_begun g_last g_end : Int32} {b_parent b_begin b_op b_arg b_from b_to b_target b_caught b_places b_heights b_gone b_worst b_frames b_maps b_high b_known b_mapped b_now b_sorts b_ints b_classes b_ready : Nat → Int32}
variable {m : Nat} {pl va : Nat → Nat}
theorem yn_number {post : Int32 → Prop} {q : Nat} (hm : m ≤ 41) (hk : ∀ k, k < m → b_places k = nI (kk_y (pl k)) ∧ kk_V (pl k)) (hv : kk_V q) (hin : ∃ k, k < m ∧ pl k = q) (hinc : ∀ i j, i < j → j < m → pl i < pl j) (h : post (nI (ty_fi pl q m))) : wpY_number post (g_length, g_handlers, (nI m), g_there, g_typed, g_wrongNumber, g_wrongPlace, g_size, g_why, g_height, g_objects, g_line, g_begun, g_last, g_end, b_parent, b_begin, b_op, b_arg, b_from, b_to, b_target, b_caught, b_places, b_heights, b_gone, b_worst, b_frames, b_maps, b_high, b_known, b_mapped, b_now, b_sorts, b_ints, b_classes, b_ready) (nI (kk_y q)) := by
  refine yy_number hm hk hv (fun k h1 h2 _ => ?_) (fun z => ?_)
  · rw [ty_fi_eq hinc h1 h2] at h; exact h
  · obtain ⟨k, k1, k2⟩ := hin
    exact absurd k2 (z k k1)
theorem yy_isClass {post : Int32 → Prop} {t : Nat} (ht : t < 2 ^ 31) (K1 : 3 ≤ t ∧ t < 11 → post 1) (K0 : ¬ (3 ≤ t ∧ t < 11) → post 0) : wpY_isClass post (nI t) :=
  pk_lt t 3 (fun a => K0 (by omega)) (fun a => pk_le 11 t (fun b => K0 (by omega)) (fun b => K1 (by omega)))
theorem yy_isAbove {post : Int32 → Prop} {c d : Nat} (hpa : ∀ c, pa c < 8 ∧ (0 < c → pa c < c)) (hc : c < 8) (hd : d < 8) (h : post (nI (aa_b2 (ty_ab pa c d)))) : wpY_isAbove post ((nI cn), (nI hn), g_many, g_there, g_typed, g_wrongNumber, g_wrongPlace, g_size, g_why, g_height, g_objects, g_line, g_begun, g_last, g_end, (aa_N pa), (aa_N be), (aa_N op), ar, (aa_N fr), (aa_N tt), (aa_N tg), (aa_N ct), b_places, b_heights, b_gone, b_worst, b_frames, b_maps, b_high, b_known, b_mapped, b_now, b_sorts, b_ints, b_classes, b_ready) (nI c) (nI d) := by
  have key : ∀ n d, d < n → d < 8 → post (nI (aa_b2 (ty_ab pa c d))) → wY_isAbove_2 post (nI c) (nI cn) (nI hn) g_many g_there g_typed g_wrongNumber g_wrongPlace g_size g_why g_height g_objects g_line g_begun g_last g_end (aa_N pa) (aa_N be) (aa_N op) ar (aa_N fr) (aa_N tt) (aa_N tg) (aa_N ct) b_places b_heights b_gone b_worst b_frames b_maps b_high b_known b_mapped b_now b_sorts b_ints b_classes b_ready n (nI d) := by
    intro n
    induction n with
    | zero => intro d h; omega
    | succ n ih =>
      intro d hdn hd8 hp
      refine pk_le d c (fun z => pk_eq d c (fun y => ?_) (fun y => ?_)) (fun z => And.intro (vp_in_nI hd8 (by decide)) (nm_r (e' := nI (pa d)) ?_ (ih (pa d) ?_ (hpa d).1 ?_)))
      · rw [ty_ab_le z, decide_eq_true y] at hp; exact hp
      · rw [ty_ab_le z, decide_eq_false y] at hp; exact hp
      · rw [nI_clamp (show d < 2 ^ 31 by omega)]; rfl
      · have := (hpa d).2 (by omega); omega
      · rw [ty_ab_gt hpa hd8 z] at hp; exact hp
  exact ⟨8, key 8 d hd hd h⟩
theorem yy_fits {post : Int32 → Prop} {t u : Nat} (hpa : ∀ c, pa c < 8 ∧ (0 < c → pa c < c)) (ht : t < 91) (hu : u < 91) (K1 : ty_le pa t u → post 1) (K0 : ¬ ty_le pa t u → post 0) : wpY_fits post ((nI cn), (nI hn), g_many, g_there, g_typed, g_wrongNumber, g_wrongPlace, g_size, g_why, g_height, g_objects, g_line, g_begun, g_last, g_end, (aa_N pa), (aa_N be), (aa_N op), ar, (aa_N fr), (aa_N tt), (aa_N tg), (aa_N ct), b_places, b_heights, b_gone, b_worst, b_frames, b_maps, b_high, b_known, b_mapped, b_now, b_sorts, b_ints, b_classes, b_ready) (nI t) (nI u) := by
  refine pk_eq t u (fun a => K1 (Or.inl a)) (fun a => pk_eq u 0 (fun b => K1 (Or.inr (Or.inl b))) (fun b => yy_isClass (by omega) (fun c => br_f (by decide) (pk_eq t 2 (fun d => K1 (Or.inr (Or.inr ⟨c.1, c.2, Or.inl d⟩))) (fun d => yy_isClass (by omega) (fun e => br_f (by decide) ?_) (fun e => br_t rfl (K0 ?_))))) (fun c => br_t rfl (K0 ?_))))
  · have e1 : nI t - 3 = nI (t - 3) := pk_sub (b := 3) e.1
    have e2 : nI u - 3 = nI (u - 3) := pk_sub (b := 3) c.1
    rw [e1, e2]
    refine yy_isAbove hpa (by omega) (by omega) ?_
    by_cases z : ty_ab pa (u - 3) (t - 3) = true
    · rw [z]; exact br_f (by decide) (K1 (Or.inr (Or.inr ⟨c.1, c.2, Or.inr ⟨e.1, e.2, z⟩⟩)))
    · rw [ts_nt z]
      refine br_t (by decide) (K0 ?_)
      rintro (y | y | ⟨-, -, y | ⟨-, -, y⟩⟩)
      · exact a y
      · exact b y
      · exact d y
      · exact z y
  · rintro (y | y | ⟨-, -, y | ⟨y1, y2, -⟩⟩)
    · exact a y
    · exact b y
    · exact d y
    · exact e ⟨y1, y2⟩
  · rintro (y | y | ⟨y1, y2, -⟩)
    · exact a y
    · exact b y
    · exact c ⟨y1, y2⟩
theorem yy_join {post : Int32 → Prop} {t u : Nat} (hpa : ∀ c, pa c < 8 ∧ (0 < c → pa c < c)) (ht : t < 91) (hu : u < 91) (K : post (nI (ty_jn pa t u))) : wpY_join post ((nI cn), (nI hn), g_many, g_there, g_typed, g_wrongNumber, g_wrongPlace, g_size, g_why, g_height, g_objects, g_line, g_begun, g_last, g_end, (aa_N pa), (aa_N be), (aa_N op), ar, (aa_N fr), (aa_N tt), (aa_N tg), (aa_N ct), b_places, b_heights, b_gone, b_worst, b_frames, b_maps, b_high, b_known, b_mapped, b_now, b_sorts, b_ints, b_classes, b_ready) (nI t) (nI u) := by
  unfold wpY_join
  dsimp only
  have last : ¬ ty_le pa t u → ¬ ty_le pa u t → wpY_isClass (fun r_79 => (((r_79 = 0 → (post 0)) ∧ (¬ r_79 = 0 → (wpY_isClass (fun r_81 => (((r_81 = 0 → (post 0)) ∧ (¬ r_81 = 0 → (∃ n48 : Nat, wY_join_48 post (nI t) (nI u) (nI cn) (nI hn) g_many g_there g_typed g_wrongNumber g_wrongPlace g_size g_why g_height g_objects g_line g_begun g_last g_end (aa_N pa) (aa_N be) (aa_N op) ar (aa_N fr) (aa_N tt) (aa_N tg) (aa_N ct) b_places b_heights b_gone b_worst b_frames b_maps b_high b_known b_mapped b_now b_sorts b_ints b_classes b_ready n48 7))))) (nI u)))))) (nI t) := by
    intro a b
    refine yy_isClass (by omega) (fun c => br_f (by decide) (yy_isClass (by omega) (fun d => br_f (by decide) ⟨8, ?_⟩) (fun d => br_t rfl ?_))) (fun c => br_t rfl ?_)
    · rw [ty_jn4 a b (by omega)] at K
      have e1 : nI t - 3 = nI (t - 3) := pk_sub (b := 3) c.1
      have e2 : nI u - 3 = nI (u - 3) := pk_sub (b := 3) d.1
      have key : ∀ c, c < 8 → post (nI (3 + ty_lc pa (t - 3) (u - 3) c)) → wY_join_48 post (nI t) (nI u) (nI cn) (nI hn) g_many g_there g_typed g_wrongNumber g_wrongPlace g_size g_why g_height g_objects g_line g_begun g_last g_end (aa_N pa) (aa_N be) (aa_N op) ar (aa_N fr) (aa_N tt) (aa_N tg) (aa_N ct) b_places b_heights b_gone b_worst b_frames b_maps b_high b_known b_mapped b_now b_sorts b_ints b_classes b_ready (c + 1) (nI c) := by
        intro c
        induction c with
        | zero =>
          intro _ hK
          unfold wY_join_48
          rw [e1, e2]
          refine yy_isAbove hpa (by omega) (by omega) ?_
          rw [ty_ab_0 hpa _ (by omega)]
          refine br_f (by decide) (yy_isAbove hpa (by omega) (by omega) ?_)
          rw [ty_ab_0 hpa _ (by omega)]
          exact br_f (by decide) hK
        | succ c ih =>
          intro hc hK
          unfold wY_join_48
          rw [e1, e2]
          refine yy_isAbove hpa hc (by omega) ?_
          simp only [ty_lc] at hK
          by_cases z1 : ty_ab pa (c + 1) (t - 3) = true
          · rw [z1]
            refine br_f (by decide) (yy_isAbove hpa hc (by omega) ?_)
            by_cases z2 : ty_ab pa (c + 1) (u - 3) = true
            · rw [if_pos ⟨z1, z2⟩] at hK
              rw [z2, show (3 : Int32) + nI (c + 1) = nI (3 + (c + 1)) from nI_add 3 (c + 1)]
              exact br_f (by decide) hK
            · rw [if_neg (fun y => z2 y.2)] at hK
              rw [ts_nt z2]
              exact br_t (by decide) (nm_r (pk_m1 c) (ih (by omega) hK))
          · rw [if_neg (fun y => z1 y.1)] at hK
            rw [ts_nt z1]
            exact br_t (by decide) (nm_r (pk_m1 c) (ih (by omega) hK))
      exact key 7 (by omega) K
    · rw [ty_jn3 a b (by omega)] at K; exact K
    · rw [ty_jn3 a b (by omega)] at K; exact K
  refine yy_fits hpa ht hu (fun a => yy_fits hpa hu ht (fun b => br_f (by decide) ?_) (fun b => br_f (by decide) ?_)) (fun a => yy_fits hpa hu ht (fun b => br_t rfl (br_f (by decide) ?_)) (fun b => br_t rfl (br_t rfl (last a b))))
  · rw [ty_jn1 a] at K; exact K
  · rw [ty_jn1 a] at K; exact K
  · rw [ty_jn2 a b] at K; exact K
theorem yy_isReference {post : Int32 → Prop} {t : Nat} (ht : t < 91) (K1 : 2 ≤ t ∧ t < 11 → post 1) (K0 : ¬ (2 ≤ t ∧ t < 11) → post 0) : wpY_isReference post (nI t) :=
  pk_eq t 2 (fun a => K1 (by omega)) (fun a => yy_isClass (by omega) (fun b => br_f (by decide) (K1 (by omega))) (fun b => br_t rfl (K0 (by omega))))
theorem ya_push {post : SY → Prop} {h : Nat} {t : Int32} (hh : h ≤ 7) (K : post (g_length, g_handlers, g_many, g_there, g_typed, g_wrongNumber, g_wrongPlace, (nI (h + 1)), g_why, g_height, g_objects, g_line, g_begun, g_last, g_end, b_parent, b_begin, b_op, b_arg, b_from, b_to, b_target, b_caught, b_places, b_heights, b_gone, b_worst, b_frames, b_maps, b_high, b_known, b_mapped, (upd b_now (4 + h) t), b_sorts, b_ints, b_classes, b_ready)) : wpY_push post (g_length, g_handlers, g_many, g_there, g_typed, g_wrongNumber, g_wrongPlace, (nI h), g_why, g_height, g_objects, g_line, g_begun, g_last, g_end, b_parent, b_begin, b_op, b_arg, b_from, b_to, b_target, b_caught, b_places, b_heights, b_gone, b_worst, b_frames, b_maps, b_high, b_known, b_mapped, b_now, b_sorts, b_ints, b_classes, b_ready) t := by
  have e4 : (4 : Int32) + nI h = nI (4 + h) := nI_add 4 h
  have ec : (nI (4 + h)).toNatClampNeg = 4 + h := nI_clamp (by omega)
  unfold wpY_push
  dsimp only
  rw [e4]
  exact And.intro (vp_in_nI (by omega) (by decide)) (nm_r (e' := upd b_now (4 + h) t) (by rw [ec]) (nm_r (nI_1 h) K))
theorem ya_pull {post : Int32 → SY → Prop} {h : Nat} (hh : h ≤ 6) (h1 : 1 ≤ h) (K : post (b_now (3 + h)) (g_length, g_handlers, g_many, g_there, g_typed, g_wrongNumber, g_wrongPlace, (nI (h - 1)), g_why, g_height, g_objects, g_line, g_begun, g_last, g_end, b_parent, b_begin, b_op, b_arg, b_from, b_to, b_target, b_caught, b_places, b_heights, b_gone, b_worst, b_frames, b_maps, b_high, b_known, b_mapped, b_now, b_sorts, b_ints, b_classes, b_ready)) : wpY_pull post (g_length, g_handlers, g_many, g_there, g_typed, g_wrongNumber, g_wrongPlace, (nI h), g_why, g_height, g_objects, g_line, g_begun, g_last, g_end, b_parent, b_begin, b_op, b_arg, b_from, b_to, b_target, b_caught, b_places, b_heights, b_gone, b_worst, b_frames, b_maps, b_high, b_known, b_mapped, b_now, b_sorts, b_ints, b_classes, b_ready) := by
  have eh : nI h - 1 = nI (h - 1) := pk_sub (b := 1) h1
  have e3 : (3 : Int32) + nI (h - 1) + 1 = nI (3 + h) := by rw [show (3 : Int32) + nI (h - 1) = nI (3 + (h - 1)) from nI_add 3 (h - 1), nI_1]; exact congrArg nI (by omega)
  have ec : (nI (3 + h)).toNatClampNeg = 3 + h := nI_clamp (by omega)
  refine nm_r eh ?_
  rw [e3, ec]
  exact And.intro (vp_in_nI (by omega) (by decide)) K
theorem ya_begun {post : Int32 → SY → Prop} {h t : Nat} {f : Nat → Nat} (P : pp_P cn hn op fr tt tg ct pa be ar) (hh : h ≤ 6) (hm : m ≤ 40) (hpl : ∀ p, p < m → b_places p = nI (kk_y (pl p)) ∧ kk_V (pl p)) (ht : t < 91) (hf : ∀ s, s < 4 + h → b_now s = nI (f s) ∧ f s < 91)
    (K1 : 11 ≤ t ∧ t < 51 ∧ t - 11 < m ∧ op (pl (t - 11) % 25) = 8 → ∀ nw, (∀ s, s < 4 + h → nw s = nI (if f s = t then 3 + pp_g ar (pl (t - 11) % 25) else f s)) → post 1 ((nI cn), (nI hn), (nI m), g_there, g_typed, g_wrongNumber, g_wrongPlace, (nI h), g_why, g_height, g_objects, g_line, g_begun, g_last, g_end, (aa_N pa), (aa_N be), (aa_N op), ar, (aa_N fr), (aa_N tt), (aa_N tg), (aa_N ct), b_places, b_heights, b_gone, b_worst, b_frames, b_maps, b_high, b_known, b_mapped, nw, b_sorts, b_ints, b_classes, b_ready))
    (K0 : ¬ (11 ≤ t ∧ t < 51 ∧ t - 11 < m ∧ op (pl (t - 11) % 25) = 8) → post 0 ((nI cn), (nI hn), (nI m), g_there, g_typed, g_wrongNumber, g_wrongPlace, (nI h), g_why, g_height, g_objects, g_line, g_begun, g_last, g_end, (aa_N pa), (aa_N be), (aa_N op), ar, (aa_N fr), (aa_N tt), (aa_N tg), (aa_N ct), b_places, b_heights, b_gone, b_worst, b_frames, b_maps, b_high, b_known, b_mapped, b_now, b_sorts, b_ints, b_classes, b_ready)) : wpY_begun post ((nI cn), (nI hn), (nI m), g_there, g_typed, g_wrongNumber, g_wrongPlace, (nI h), g_why, g_height, g_objects, g_line, g_begun, g_last, g_end, (aa_N pa), (aa_N be), (aa_N op), ar, (aa_N fr), (aa_N tt), (aa_N tg), (aa_N ct), b_places, b_heights, b_gone, b_worst, b_frames, b_maps, b_high, b_known, b_mapped, b_now, b_sorts, b_ints, b_classes, b_ready) (nI t) := by
  have e4 : (4 : Int32) + nI h = nI (4 + h) := nI_add 4 h
  refine pk_lt t 11 (fun a => K0 (by omega)) (fun a => pk_le 51 t (fun b => K0 (by omega)) (fun b => ?_))
  have et : nI t - 11 = nI (t - 11) := pk_sub (b := 11) a
  have ec : (nI (t - 11)).toNatClampNeg = t - 11 := nI_clamp (by omega)
  rw [et]
  refine pk_le m (t - 11) (fun c => K0 (by omega)) (fun c => And.intro (vp_in_nI (by omega) (by decide)) ?_)
  obtain ⟨p1, p2⟩ := hpl _ c
  have hi := kk_Vi p2
  have ei : (nI (pl (t - 11) % 25)).toNatClampNeg = pl (t - 11) % 25 := nI_clamp (by omega)
  have ho := P.2.2.1 (pl (t - 11) % 25)
  rw [ec, p1]
  refine yy_instruction p2 (And.intro (vp_in_nI hi (by decide)) ?_)
  rw [ei]
  refine pk_eq (op (pl (t - 11) % 25)) 8 (fun o8 => And.intro (vp_in_nI (by omega) (by decide)) ?_) (fun o8 => K0 (fun x => o8 x.2.2.2))
  have okk : 11 ≤ t ∧ t < 51 ∧ t - 11 < m ∧ op (pl (t - 11) % 25) = 8 := ⟨a, b, c, o8⟩
  obtain ⟨g1, g2⟩ := pp_g8 P (i := pl (t - 11) % 25) (Or.inl o8)
  refine yy_instruction p2 (And.intro (vp_in_nI hi (by decide)) (nm_r (e' := nI (pp_g ar (pl (t - 11) % 25))) (by rw [ei]; exact g1) ⟨4 + h + 1, ?_⟩))
  have key : ∀ d s, s + d = 4 + h → ∀ nw, (∀ x, x < 4 + h → nw x = nI (if x < s ∧ f x = t then 3 + pp_g ar (pl (t - 11) % 25) else f x)) → wY_begun_67 post (nI t) (nI (pp_g ar (pl (t - 11) % 25))) (nI cn) (nI hn) (nI m) g_there g_typed g_wrongNumber g_wrongPlace (nI h) g_why g_height g_objects g_line g_begun g_last g_end (d + 1) (nI s) (aa_N pa) (aa_N be) (aa_N op) ar (aa_N fr) (aa_N tt) (aa_N tg) (aa_N ct) b_places b_heights b_gone b_worst b_frames b_maps b_high b_known b_mapped nw b_sorts b_ints b_classes b_ready := by
    intro d
    induction d with
    | zero =>
      intro s hs nw hnw
      refine br_t ?_ (K1 okk nw (fun x hx => ?_))
      · rw [e4]; exact nI_le (by omega) (by omega)
      · rw [hnw x hx]
        by_cases c' : f x = t
        · rw [if_pos c', if_pos ⟨by omega, c'⟩]
        · rw [if_neg c', if_neg (fun w => c' w.2)]
    | succ d ih =>
      intro s hs nw hnw
      have es : (nI s).toNatClampNeg = s := nI_clamp (by omega)
      have hfs := (hf s (by omega)).2
      have hins := vp_in_nI (n := s) (N := 12) (by omega) (by decide)
      refine br_f ?_ (And.intro hins ?_)
      · rw [e4]; exact nI_ge (by omega) (by omega)
      · rw [es, hnw s (by omega), if_neg (by omega)]
        refine pk_eq (f s) t (fun c' => And.intro hins (nm_r (e' := upd nw s (nI (3 + pp_g ar (pl (t - 11) % 25)))) (by rw [show (3 : Int32) + nI (pp_g ar (pl (t - 11) % 25)) = nI (3 + pp_g ar (pl (t - 11) % 25)) from nI_add 3 _]) (nm_r (nI_1 s) (ih (s + 1) (by omega) _ (fun x hx => ?_))))) (fun c' => nm_r (nI_1 s) (ih (s + 1) (by omega) _ (fun x hx => ?_)))
        · by_cases e : x = s
          · rw [e, pk_us, if_pos ⟨by omega, c'⟩]
          · rw [pk_un e, hnw x hx]
            by_cases c2 : x < s ∧ f x = t
            · rw [if_pos c2, if_pos ⟨by omega, c2.2⟩]
            · rw [if_neg c2, if_neg (fun w => c2 ⟨by omega, w.2⟩)]
        · rw [hnw x hx]
          by_cases c2 : x < s ∧ f x = t
          · rw [if_pos c2, if_pos ⟨by omega, c2.2⟩]
          · rw [if_neg c2, if_neg]
            rintro ⟨w1, w2⟩
            by_cases e : x = s
            · rw [e] at w2; exact c' w2
            · exact c2 ⟨by omega, w2⟩
  exact key (4 + h) 0 (by omega) b_now (fun x hx => by rw [if_neg (by omega)]; exact (hf x hx).1)
theorem ya_make {post : Int32 → SY → Prop} {h v : Nat} {f : Nat → Nat} (hh : h ≤ 6) (hv : v < 128) (hf : ∀ s, s < 4 + h → b_now s = nI (f s) ∧ f s < 91)
    (K1 : (∀ s, 4 ≤ s → s < 4 + h → f s ≠ v) → ∀ nw, (∀ s, s < 4 + (h + 1) → nw s = nI (aa_up (fun s => if s < 4 ∧ f s = v then 0 else f s) (4 + h) v s)) → post 1 (g_length, g_handlers, g_many, g_there, g_typed, g_wrongNumber, g_wrongPlace, (nI (h + 1)), g_why, g_height, g_objects, g_line, g_begun, g_last, g_end, b_parent, b_begin, b_op, b_arg, b_from, b_to, b_target, b_caught, b_places, b_heights, b_gone, b_worst, b_frames, b_maps, b_high, b_known, b_mapped, nw, b_sorts, b_ints, b_classes, b_ready))
    (K0 : ¬ (∀ s, 4 ≤ s → s < 4 + h → f s ≠ v) → ∀ nw, post 0 (g_length, g_handlers, g_many, g_there, g_typed, g_wrongNumber, g_wrongPlace, (nI h), g_why, g_height, g_objects, g_line, g_begun, g_last, g_end, b_parent, b_begin, b_op, b_arg, b_from, b_to, b_target, b_caught, b_places, b_heights, b_gone, b_worst, b_frames, b_maps, b_high, b_known, b_mapped, nw, b_sorts, b_ints, b_classes, b_ready)) : ∃ n286, wY_does_286 post (nI v) g_length g_handlers g_many g_there g_typed g_wrongNumber g_wrongPlace (nI h) g_why g_height g_objects g_line g_begun g_last g_end n286 0 b_parent b_begin b_op b_arg b_from b_to b_target b_caught b_places b_heights b_gone b_worst b_frames b_maps b_high b_known b_mapped b_now b_sorts b_ints b_classes b_ready := by
  have e4 : (4 : Int32) + nI h = nI (4 + h) := nI_add 4 h
  have r321 : ∀ nw, (∀ s, s < 4 + h → nw s = nI (if s < 4 ∧ f s = v then 0 else f s)) → ∀ d s, s + d = 4 + h → 4 ≤ s → (∀ s', 4 ≤ s' → s' < s → f s' ≠ v) → wY_does_321 post (nI v) g_length g_handlers g_many g_there g_typed g_wrongNumber g_wrongPlace (nI h) g_why g_height g_objects g_line g_begun g_last g_end b_parent b_begin b_op b_arg b_from b_to b_target b_caught b_places b_heights b_gone b_worst b_frames b_maps b_high b_known b_mapped nw b_sorts b_ints b_classes b_ready (d + 1) (nI s) := by
    intro nw hnw d
    induction d with
    | zero =>
      intro s hs h4 hno
      refine br_t ?_ (ya_push (by omega) (K1 (fun s' h1 h2 => hno s' h1 (by omega)) _ (xa_upf (fun s' hs' hne => hnw s' (by omega)))))
      rw [e4]; exact nI_le (by omega) (by omega)
    | succ d ih =>
      intro s hs h4 hno
      have es : (nI s).toNatClampNeg = s := nI_clamp (by omega)
      have hfs := hf s (by omega)
      refine br_f ?_ (And.intro (vp_in_nI (by omega) (by decide)) ?_)
      · rw [e4]; exact nI_ge (by omega) (by omega)
      · rw [es, hnw s (by omega), if_neg (by omega)]
        refine pk_eq (f s) v (fun z => K0 (fun y => y s h4 (by omega) z) _) (fun z => nm_r (nI_1 s) (ih (s + 1) (by omega) (by omega) (fun s' h1 h2 => ?_))) rfl rfl (by omega) (by omega)
        by_cases e : s' = s
        · rw [e]; exact z
        · exact hno s' h1 (by omega)
  have r286 : ∀ d l, l + d = 4 → ∀ nw, (∀ s, s < 4 + h → nw s = nI (if s < l ∧ f s = v then 0 else f s)) → wY_does_286 post (nI v) g_length g_handlers g_many g_there g_typed g_wrongNumber g_wrongPlace (nI h) g_why g_height g_objects g_line g_begun g_last g_end (d + 1) (nI l) b_parent b_begin b_op b_arg b_from b_to b_target b_caught b_places b_heights b_gone b_worst b_frames b_maps b_high b_known b_mapped nw b_sorts b_ints b_classes b_ready := by
    intro d
    induction d with
    | zero =>
      intro l hl nw hnw
      have : l = 4 := by omega
      subst this
      exact br_t (by decide) ⟨h + 1, r321 nw hnw h 4 (by omega) (by omega) (fun s' h1 h2 => by omega)⟩
    | succ d ih =>
      intro l hl nw hnw
      have el : (nI l).toNatClampNeg = l := nI_clamp (by omega)
      have hin := vp_in_nI (n := l) (N := 12) (by omega) (by decide)
      have hfl := (hf l (by omega)).2
      refine br_f (nI_ge (b := 4) (by omega) (by decide)) (And.intro hin ?_)
      rw [el, hnw l (by omega), if_neg (by omega)]
      refine pk_eq (f l) v (fun z => And.intro hin (nm_r (e' := upd nw l (nI 0)) rfl (nm_r (nI_1 l) (ih (l + 1) (by omega) _ (fun s hs => ?_))))) (fun z => nm_r (nI_1 l) (ih (l + 1) (by omega) _ (fun s hs => ?_)))
      · by_cases e : s = l
        · rw [e, pk_us, if_pos ⟨by omega, z⟩]
        · rw [pk_un e, hnw s hs]
          by_cases c : s < l ∧ f s = v
          · rw [if_pos c, if_pos ⟨by omega, c.2⟩]
          · rw [if_neg c, if_neg (fun y => c ⟨by omega, y.2⟩)]
      · rw [hnw s hs]
        by_cases c : s < l ∧ f s = v
        · rw [if_pos c, if_pos ⟨by omega, c.2⟩]
        · rw [if_neg c, if_neg]
          rintro ⟨y1, y2⟩
          by_cases e : s = l
          · rw [e] at y2; exact z y2
          · exact c ⟨by omega, y2⟩
  exact ⟨5, r286 4 0 (by omega) b_now (fun s hs => by rw [if_neg (by omega)]; exact (hf s hs).1)⟩
end
end
section
/-! the reference's does -/
/-- the place of the last call, as it is found -/
def ya_C (pl : Nat → Nat) (m q cr : Nat) : Prop := 0 < q / 390625 ∧ kk_V (kk_cal q) ∧ (∃ j, j < m ∧ pl j = kk_cal q) ∧ cr = ty_fi pl (kk_cal q) m ∧ cr < 40
section
variable {cn hn : Nat} {op fr tt tg ct pa be : Nat → Nat} {ar an : Nat → Int32}
variable {g_length g_handlers g_many g_there g_typed g_wrongNumber g_wrongPlace g_size g_why g_height g_objects g_line g_begun g_last g_end : Int32} {b_parent b_begin b_op b_arg b_from b_to b_target b_caught b_places b_heights b_gone b_worst b_frames b_maps b_high b_known b_mapped b_now b_sorts b_ints b_classes b_ready : Nat → Int32}
variable {m : Nat} {pl va : Nat → Nat} {post : Int32 → SY → Prop}
theorem ya_69 {o a k h cr : Nat} {q : Nat} {x5 x7 z0 : Int32} {f : Nat → Nat} (P : pp_P cn hn op fr tt tg ct pa be ar) (hpa : ∀ c, pa c < 8 ∧ (0 < c → pa c < c)) (ho : o < 20) (ht : aa_tk o ≤ h) (hl6 : h - aa_tk o + aa_pt o ≤ 6) (hh : h ≤ 6) (hk : k < 40) (hm : m ≤ 40)
    (hpl : ∀ p, p < m → b_places p = nI (kk_y (pl p)) ∧ kk_V (pl p)) (hq : kk_V q) (g4 : o = 2 ∨ o = 3 ∨ o = 16 → x5 = nI a ∧ a < 4) (g8 : o = 8 ∨ o = 10 ∨ o = 11 ∨ o = 18 → x5 = nI a ∧ a < 8)
    (h7 : 1 ≤ aa_tk o → x7 = nI (f (3 + h))) (hz : 2 ≤ aa_tk o → z0 = nI (f (2 + h))) (hcr : o = 16 → ya_C pl m q cr) (hinc : ∀ i j, i < j → j < m → pl i < pl j) (hf : ∀ s, s < 4 + h → b_now s = nI (f s) ∧ f s < 91)
    (K1 : fr_ok pa o a k h m cr (fun p => op (pl p % 25) = 8) f → ∀ nw, (∀ s, s < 4 + (h - aa_tk o + aa_pt o) → nw s = nI (fr_f o a k h (fun p => pp_g ar (pl p % 25)) f s)) → post 1 ((nI cn), (nI hn), (nI m), g_there, g_typed, g_wrongNumber, g_wrongPlace, (nI (h - aa_tk o + aa_pt o)), g_why, g_height, g_objects, g_line, g_begun, g_last, g_end, (aa_N pa), (aa_N be), (aa_N op), ar, (aa_N fr), (aa_N tt), (aa_N tg), (aa_N ct), b_places, b_heights, b_gone, b_worst, b_frames, b_maps, b_high, b_known, b_mapped, nw, b_sorts, b_ints, b_classes, b_ready))
    (K0 : ¬ fr_ok pa o a k h m cr (fun p => op (pl p % 25) = 8) f → ∀ hh nw, post 0 ((nI cn), (nI hn), (nI m), g_there, g_typed, g_wrongNumber, g_wrongPlace, hh, g_why, g_height, g_objects, g_line, g_begun, g_last, g_end, (aa_N pa), (aa_N be), (aa_N op), ar, (aa_N fr), (aa_N tt), (aa_N tg), (aa_N ct), b_places, b_heights, b_gone, b_worst, b_frames, b_maps, b_high, b_known, b_mapped, nw, b_sorts, b_ints, b_classes, b_ready)) : wY_does_69 post (nI k) (nI (kk_y q)) (nI o) x5 (11 + nI k) x7 z0 (nI cn) (nI hn) (nI m) g_there g_typed g_wrongNumber g_wrongPlace (nI (h - aa_tk o)) g_why g_height g_objects g_line g_begun g_last g_end (aa_N pa) (aa_N be) (aa_N op) ar (aa_N fr) (aa_N tt) (aa_N tg) (aa_N ct) b_places b_heights b_gone b_worst b_frames b_maps b_high b_known b_mapped b_now b_sorts b_ints b_classes b_ready := by
  have hff : ∀ s, s < 4 + h → b_now s = nI (f s) := fun s hs => (hf s hs).1
  rcases aa_c20 ho with rfl | rfl | rfl | rfl | rfl | rfl | rfl | rfl | rfl | rfl | rfl | rfl | rfl | rfl | rfl | rfl | rfl | rfl | rfl | rfl
  · have t1 : aa_tk 0 = 0 := rfl
    have t2 : aa_pt 0 = 1 := rfl
    exact br_f (by decide) (br_f (by decide) (br_t (by decide) (ya_push (t := nI 1) (by omega) (K1 (fk_t (by decide)) _ (xa_upf (fun s hs hne => hff s (by omega)))))))
  · have t1 : aa_tk 1 = 0 := rfl
    have t2 : aa_pt 1 = 1 := rfl
    exact br_f (by decide) (br_f (by decide) (br_f (by decide) (br_t (by decide) (ya_push (t := nI 2) (by omega) (K1 (fk_t (by decide)) _ (xa_upf (fun s hs hne => hff s (by omega))))))))
  · obtain ⟨c1, c2⟩ := g4 (Or.inl rfl)
    have t1 : aa_tk 2 = 0 := rfl
    have t2 : aa_pt 2 = 1 := rfl
    have ea : (nI a).toNatClampNeg = a := nI_clamp (by omega)
    have hfa := hf a (by omega)
    have hina := vp_in_nI (n := a) (N := 12) (by omega) (by decide)
    rw [c1]
    refine br_f (by decide) (br_f (by decide) (br_f (by decide) (br_f (by decide) (br_t (by decide) (And.intro hina ?_)))))
    rw [ea, hfa.1]
    refine ya_push (by omega) (And.intro hina ?_)
    rw [pk_un (by omega), hfa.1]
    have nwf : ∀ s, s < 4 + (h - aa_tk 2 + aa_pt 2) → upd b_now (4 + (h - aa_tk 2)) (nI (f a)) s = nI (fr_f 2 a k h (fun p => pp_g ar (pl p % 25)) f s) := xa_upf (fun s hs hne => hff s (by omega))
    exact pk_eq (f a) 0 (fun z => K0 (fun y => (fk_2.mp y).1 z) _ _) (fun z => And.intro hina (pk_le 51 (f a) (fun y => K0 (fun x => by have := (fk_2.mp x).2; omega) _ _) (fun y => K1 (fk_2.mpr ⟨z, y⟩) _ nwf) rfl rfl (by omega) (by omega))) rfl rfl (by omega) (by omega)
  · obtain ⟨c1, c2⟩ := g4 (Or.inr (Or.inl rfl))
    have t1 : aa_tk 3 = 1 := rfl
    have t2 : aa_pt 3 = 0 := rfl
    have ea : (nI a).toNatClampNeg = a := nI_clamp (by omega)
    rw [c1, h7 (by omega)]
    exact br_f (by decide) (br_f (by decide) (br_f (by decide) (br_f (by decide) (br_f (by decide) (br_t (by decide) (And.intro (vp_in_nI (by omega) (by decide)) (nm_r (e' := upd b_now a (nI (f (3 + h)))) (by rw [ea]) (K1 (fk_t (by decide)) _ (xa_upf (fun s hs hne => hff s (by omega)))))))))))
  · have t1 : aa_tk 4 = 1 := rfl
    have t2 : aa_pt 4 = 0 := rfl
    exact br_f (by decide) (br_f (by decide) (br_f (by decide) (br_f (by decide) (br_f (by decide) (br_f (by decide) (br_t (by decide) (K1 (fk_t (by decide)) b_now (fun s hs => hff s (by omega)))))))))
  · have t1 : aa_tk 5 = 1 := rfl
    have t2 : aa_pt 5 = 2 := rfl
    rw [h7 (by omega)]
    refine br_f (by decide) (br_f (by decide) (br_f (by decide) (br_f (by decide) (br_f (by decide) (br_f (by decide) (br_f (by decide) (br_t (by decide) (ya_push (by omega) (ya_push (by omega) (K1 (fk_t (by decide)) _ (fun s hs => ?_)))))))))))
    show _ = nI (aa_up f (4 + h) (f (3 + h)) s)
    have e1 : 4 + (h - aa_tk 5 + 1) = 4 + h := by omega
    have e2 : 4 + (h - aa_tk 5) = 3 + h := by omega
    rw [e1, e2]
    refine xa_upf (n := 4 + h + 1) (fun s hs hne => ?_) s (by omega)
    by_cases e : s = 3 + h
    · rw [e, pk_us]
    · rw [pk_un e]; exact hff s (by omega)
  · have t1 : aa_tk 6 = 2 := rfl
    have t2 : aa_pt 6 = 2 := rfl
    rw [h7 (by omega), hz (by omega)]
    refine br_f (by decide) (br_f (by decide) (br_f (by decide) (br_f (by decide) (br_f (by decide) (br_f (by decide) (br_f (by decide) (br_f (by decide) (br_t (by decide) (ya_push (by omega) (ya_push (by omega) (K1 (fk_t (by decide)) _ (fun s hs => ?_))))))))))))
    show _ = nI (aa_up (aa_up f (3 + h) (f (2 + h))) (2 + h) (f (3 + h)) s)
    have e1 : 4 + (h - aa_tk 6 + 1) = 3 + h := by omega
    have e2 : 4 + (h - aa_tk 6) = 2 + h := by omega
    rw [e1, e2]
    by_cases c : s = 2 + h
    · rw [c, pk_un (by omega), pk_us, aa_us]
    · rw [aa_un c]
      by_cases c' : s = 3 + h
      · rw [c', pk_us, aa_us]
      · rw [pk_un c', pk_un c, aa_un c']; exact hff s (by omega)
  · have t1 : aa_tk 7 = 2 := rfl
    have t2 : aa_pt 7 = 1 := rfl
    have hft := hf (3 + h) (by omega)
    have hfu := hf (2 + h) (by omega)
    rw [h7 (by omega), hz (by omega)]
    refine br_f (by decide) (br_f (by decide) (br_f (by decide) (br_f (by decide) (br_f (by decide) (br_f (by decide) (br_f (by decide) (br_f (by decide) (br_f (by decide) (br_t (by decide) (ya_push (t := nI 1) (by omega) (pk_eq (f (3 + h)) 1 (fun y => pk_eq (f (2 + h)) 1 (fun x => K1 (fk_7.mpr ⟨y, x⟩) _ (fun s hs => ?_)) (fun x => K0 (fun w => x (fk_7.mp w).2) _ _) rfl rfl (by omega) (by omega)) (fun y => K0 (fun x => y (fk_7.mp x).1) _ _) rfl rfl (by omega) (by omega))))))))))))
    show _ = nI (f s)
    have e2 : 4 + (h - aa_tk 7) = 2 + h := by omega
    rw [e2]
    by_cases e : s = 2 + h
    · rw [e, pk_us, x]
    · rw [pk_un e]; exact hff s (by omega)
  · have t1 : aa_tk 8 = 0 := rfl
    have t2 : aa_pt 8 = 1 := rfl
    rw [show (11 : Int32) + nI k = nI (11 + k) from nI_add 11 k]
    exact br_f (by decide) (br_f (by decide) (br_f (by decide) (br_f (by decide) (br_f (by decide) (br_f (by decide) (br_f (by decide) (br_f (by decide) (br_f (by decide) (br_f (by decide) (br_t (by decide) (ya_make (h := h) hh (by omega) hf (fun ok nw hnw => K1 (fk_8.mpr ok) nw hnw) (fun ok nw => K0 (fun y => ok (fk_8.mp y)) _ _))))))))))))
  · have t1 : aa_tk 9 = 1 := rfl
    have t2 : aa_pt 9 = 0 := rfl
    have hft := hf (3 + h) (by omega)
    rw [h7 (by omega)]
    exact br_f (by decide) (br_f (by decide) (br_f (by decide) (br_f (by decide) (br_f (by decide) (br_f (by decide) (br_f (by decide) (br_f (by decide) (br_f (by decide) (br_f (by decide) (br_f (by decide) (br_t (by decide) (ya_begun P (by omega) hm hpl hft.2 (fun s hs => hf s (by omega)) (fun ok nw hnw => And.intro rfl (K1 (fk_9.mpr ok) nw hnw)) (fun ok => And.intro rfl (K0 (fun y => ok (fk_9.mp y)) _ _))))))))))))))
  · obtain ⟨c1, c2⟩ := g8 (Or.inr (Or.inl rfl))
    have t1 : aa_tk 10 = 1 := rfl
    have t2 : aa_pt 10 = 1 := rfl
    have hft := hf (3 + h) (by omega)
    have e2 : 4 + (h - aa_tk 10) = 3 + h := by omega
    rw [c1, h7 (by omega)]
    refine br_f (by decide) (br_f (by decide) (br_f (by decide) (br_f (by decide) (br_f (by decide) (br_f (by decide) (br_f (by decide) (br_f (by decide) (br_f (by decide) (br_f (by decide) (br_f (by decide) (br_f (by decide) (br_t (by decide) (?_)))))))))))))
    rw [show (3 : Int32) + nI a = nI (3 + a) from nI_add 3 a]
    refine ya_push (by omega) (yy_isReference hft.2 (fun z => And.intro rfl (K1 (fk_10.mpr z) _ ?_)) (fun z => And.intro rfl (K0 (fun y => z (fk_10.mp y)) _ _)))
    rw [e2]
    exact xa_upf (fun s hs _ => hff s (by omega))
  · obtain ⟨c1, c2⟩ := g8 (Or.inr (Or.inr (Or.inl rfl)))
    have t1 : aa_tk 11 = 1 := rfl
    have t2 : aa_pt 11 = 0 := rfl
    have hft := hf (3 + h) (by omega)
    refine br_f (by decide) (br_f (by decide) (br_f (by decide) (br_f (by decide) (br_f (by decide) (br_f (by decide) (br_f (by decide) (br_f (by decide) (br_f (by decide) (br_f (by decide) (br_f (by decide) (br_f (by decide) (br_f (by decide) (br_t (by decide) (?_))))))))))))))
    unfold wY_does_381
    rw [c1, h7 (by omega), show (3 : Int32) + nI a = nI (3 + a) from nI_add 3 a]
    exact yy_fits hpa hft.2 (by omega) (fun z => And.intro rfl (K1 (fk_11.mpr z) _ (fun s hs => hff s (by omega)))) (fun z => And.intro rfl (K0 (fun y => z (fk_11.mp y)) _ _))
  · have t1 : aa_tk 12 = 0 := rfl
    have t2 : aa_pt 12 = 0 := rfl
    exact br_f (by decide) (br_f (by decide) (br_f (by decide) (br_f (by decide) (br_f (by decide) (br_f (by decide) (br_f (by decide) (br_f (by decide) (br_f (by decide) (br_f (by decide) (br_f (by decide) (br_f (by decide) (br_f (by decide) (br_f (by decide) (br_t (by decide) (K1 (fk_t (by decide)) b_now (fun s hs => hff s (by omega)))))))))))))))))
  · have t1 : aa_tk 13 = 1 := rfl
    have t2 : aa_pt 13 = 0 := rfl
    have hft := hf (3 + h) (by omega)
    rw [h7 (by omega)]
    exact br_f (by decide) (br_f (by decide) (br_f (by decide) (br_f (by decide) (br_f (by decide) (br_f (by decide) (br_f (by decide) (br_f (by decide) (br_f (by decide) (br_f (by decide) (br_f (by decide) (br_f (by decide) (br_f (by decide) (br_f (by decide) (br_f (by decide) (br_t (by decide) (pk_eq (f (3 + h)) 1 (fun z => K1 (fk_13.mpr z) b_now (fun s hs => hff s (by omega))) (fun z => K0 (fun y => z (fk_13.mp y)) _ _) rfl rfl (by omega) (by omega)))))))))))))))))
  · have t1 : aa_tk 14 = 1 := rfl
    have t2 : aa_pt 14 = 0 := rfl
    have hft := hf (3 + h) (by omega)
    refine br_f (by decide) (br_f (by decide) (br_f (by decide) (br_f (by decide) (br_f (by decide) (br_f (by decide) (br_f (by decide) (br_f (by decide) (br_f (by decide) (br_f (by decide) (br_f (by decide) (br_f (by decide) (br_f (by decide) (br_f (by decide) (br_f (by decide) (br_f (by decide) (br_t (by decide) (?_)))))))))))))))))
    unfold wY_does_404
    rw [h7 (by omega)]
    exact yy_isReference hft.2 (fun z => And.intro rfl (K1 (fk_14.mpr z) b_now (fun s hs => hff s (by omega)))) (fun z => And.intro rfl (K0 (fun y => z (fk_14.mp y)) _ _))
  · have t1 : aa_tk 15 = 0 := rfl
    have t2 : aa_pt 15 = 1 := rfl
    refine br_f (by decide) (br_f (by decide) (br_f (by decide) (br_f (by decide) (br_f (by decide) (br_f (by decide) (br_f (by decide) (br_f (by decide) (br_f (by decide) (br_f (by decide) (br_f (by decide) (br_f (by decide) (br_f (by decide) (br_f (by decide) (br_f (by decide) (br_f (by decide) (br_f (by decide) (br_t (by decide) (?_))))))))))))))))))
    rw [show (51 : Int32) + nI k = nI (51 + k) from nI_add 51 k]
    exact ya_push (by omega) (K1 (fk_t (by decide)) _ (xa_upf (fun s hs hne => hff s (by omega))))
  · obtain ⟨c1, c2⟩ := g4 (Or.inr (Or.inr rfl))
    obtain ⟨d1, d2, d3, d4, d5⟩ := hcr rfl
    have t1 : aa_tk 16 = 0 := rfl
    have t2 : aa_pt 16 = 0 := rfl
    have ea : (nI a).toNatClampNeg = a := nI_clamp (by omega)
    have hfa := hf a (by omega)
    rw [c1]
    refine br_f (by decide) (br_f (by decide) (br_f (by decide) (br_f (by decide) (br_f (by decide) (br_f (by decide) (br_f (by decide) (br_f (by decide) (br_f (by decide) (br_f (by decide) (br_f (by decide) (br_f (by decide) (br_f (by decide) (br_f (by decide) (br_f (by decide) (br_f (by decide) (br_f (by decide) (br_f (by decide) (br_t (by decide) (yy_caller hq d1 (And.intro (vp_in_nI (by omega) (by decide)) (yn_number (by omega) hpl d2 d3 hinc ?_)))))))))))))))))))))
    rw [ea, hfa.1, ← d4, show (51 : Int32) + nI cr = nI (51 + cr) from nI_add 51 cr]
    exact pk_eq (f a) (51 + cr) (fun z => K1 (fk_16.mpr z) b_now (fun s hs => hff s (by omega))) (fun z => K0 (fun y => z (fk_16.mp y)) _ _) rfl rfl (by omega) (by omega)
  · have t1 : aa_tk 17 = 0 := rfl
    have t2 : aa_pt 17 = 0 := rfl
    exact br_f (by decide) (br_f (by decide) (br_f (by decide) (br_f (by decide) (br_f (by decide) (br_f (by decide) (br_f (by decide) (br_f (by decide) (br_f (by decide) (br_f (by decide) (br_f (by decide) (br_f (by decide) (br_f (by decide) (br_f (by decide) (br_f (by decide) (br_f (by decide) (br_f (by decide) (br_f (by decide) (br_f (by decide) (br_t (by decide) (K1 (fk_t (by decide)) b_now (fun s hs => hff s (by omega))))))))))))))))))))))
  · obtain ⟨c1, c2⟩ := g8 (Or.inr (Or.inr (Or.inr rfl)))
    have t1 : aa_tk 18 = 1 := rfl
    have t2 : aa_pt 18 = 0 := rfl
    have hft := hf (3 + h) (by omega)
    refine br_f (by decide) (br_f (by decide) (br_f (by decide) (br_f (by decide) (br_f (by decide) (br_f (by decide) (br_f (by decide) (br_f (by decide) (br_f (by decide) (br_f (by decide) (br_f (by decide) (br_f (by decide) (br_f (by decide) (br_f (by decide) (br_f (by decide) (br_f (by decide) (br_f (by decide) (br_f (by decide) (br_f (by decide) (br_f (by decide) (br_t (by decide) (?_)))))))))))))))))))))
    unfold wY_does_381
    rw [c1, h7 (by omega), show (3 : Int32) + nI a = nI (3 + a) from nI_add 3 a]
    exact yy_fits hpa hft.2 (by omega) (fun z => And.intro rfl (K1 (fk_18.mpr z) _ (fun s hs => hff s (by omega)))) (fun z => And.intro rfl (K0 (fun y => z (fk_18.mp y)) _ _))
  · have t1 : aa_tk 19 = 1 := rfl
    have t2 : aa_pt 19 = 0 := rfl
    have hft := hf (3 + h) (by omega)
    refine br_f (by decide) (br_f (by decide) (br_f (by decide) (br_f (by decide) (br_f (by decide) (br_f (by decide) (br_f (by decide) (br_f (by decide) (br_f (by decide) (br_f (by decide) (br_f (by decide) (br_f (by decide) (br_f (by decide) (br_f (by decide) (br_f (by decide) (br_f (by decide) (br_f (by decide) (br_f (by decide) (br_f (by decide) (br_f (by decide) (br_f (by decide) (br_t (by decide) (?_))))))))))))))))))))))
    unfold wY_does_404
    rw [h7 (by omega)]
    exact yy_isReference hft.2 (fun z => And.intro rfl (K1 (fk_19.mpr z) b_now (fun s hs => hff s (by omega)))) (fun z => And.intro rfl (K0 (fun y => z (fk_19.mp y)) _ _))
theorem ya_does {k : Nat} {f : Nat → Nat} (P : pp_P cn hn op fr tt tg ct pa be ar) (M : pp_M cn hn op tg ar) (L : la_L cn hn op fr tt tg ar m pl va) (hk : k < m) (hpl : ∀ p, p < m → b_places p = nI (kk_y (pl p))) (hf : ∀ s, s < 4 + va k → b_now s = nI (f s) ∧ f s < 91)
    (K1 : fr_ok pa (op (pl k % 25)) (pp_g ar (pl k % 25)) k (va k) m (ty_fi pl (kk_cal (pl k)) m) (fun p => op (pl p % 25) = 8) f → ∀ nw, (∀ s, s < 4 + pp_lf op (pl k) (va k) → nw s = nI (fr_f (op (pl k % 25)) (pp_g ar (pl k % 25)) k (va k) (fun p => pp_g ar (pl p % 25)) f s)) → post 1 ((nI cn), (nI hn), (nI m), g_there, g_typed, g_wrongNumber, g_wrongPlace, (nI (pp_lf op (pl k) (va k))), g_why, g_height, g_objects, g_line, g_begun, g_last, g_end, (aa_N pa), (aa_N be), (aa_N op), ar, (aa_N fr), (aa_N tt), (aa_N tg), (aa_N ct), b_places, b_heights, b_gone, b_worst, b_frames, b_maps, b_high, b_known, b_mapped, nw, b_sorts, b_ints, b_classes, b_ready))
    (K0 : ¬ fr_ok pa (op (pl k % 25)) (pp_g ar (pl k % 25)) k (va k) m (ty_fi pl (kk_cal (pl k)) m) (fun p => op (pl p % 25) = 8) f → ∀ hh nw, post 0 ((nI cn), (nI hn), (nI m), g_there, g_typed, g_wrongNumber, g_wrongPlace, hh, g_why, g_height, g_objects, g_line, g_begun, g_last, g_end, (aa_N pa), (aa_N be), (aa_N op), ar, (aa_N fr), (aa_N tt), (aa_N tg), (aa_N ct), b_places, b_heights, b_gone, b_worst, b_frames, b_maps, b_high, b_known, b_mapped, nw, b_sorts, b_ints, b_classes, b_ready)) : wpY_does post ((nI cn), (nI hn), (nI m), g_there, g_typed, g_wrongNumber, g_wrongPlace, (nI (va k)), g_why, g_height, g_objects, g_line, g_begun, g_last, g_end, (aa_N pa), (aa_N be), (aa_N op), ar, (aa_N fr), (aa_N tt), (aa_N tg), (aa_N ct), b_places, b_heights, b_gone, b_worst, b_frames, b_maps, b_high, b_known, b_mapped, b_now, b_sorts, b_ints, b_classes, b_ready) (nI k) := by
  obtain ⟨hv, hi, hv6⟩ := la_V P M L hk
  obtain ⟨t1, t2⟩ := la_tk L hk
  have hc := P.1
  have m40 := L.1
  have hpa := P.2.2.2.2.1
  have ho := P.2.2.1 (pl k % 25)
  have tk2 := aa_tk2 (op (pl k % 25))
  have ek : (nI k).toNatClampNeg = k := nI_clamp (by omega)
  have ei : (nI (pl k % 25)).toNatClampNeg = pl k % 25 := nI_clamp (by omega)
  have hcr : op (pl k % 25) = 16 → ya_C pl m (pl k) (ty_fi pl (kk_cal (pl k)) m) := fun z => by
    have n0 := ((la_16 L P M hk).2 z).1
    obtain ⟨a1, a2, a3⟩ := la_cal P M L hk n0
    exact ⟨n0, a3, ⟨_, a1, a2⟩, rfl, by omega⟩
  have go : ∀ x7 z0, (1 ≤ aa_tk (op (pl k % 25)) → x7 = nI (f (3 + va k))) → (2 ≤ aa_tk (op (pl k % 25)) → z0 = nI (f (2 + va k))) → wY_does_69 post (nI k) (nI (kk_y (pl k))) (nI (op (pl k % 25))) (ar (pl k % 25)) (11 + nI k) x7 z0 (nI cn) (nI hn) (nI m) g_there g_typed g_wrongNumber g_wrongPlace (nI (va k - aa_tk (op (pl k % 25)))) g_why g_height g_objects g_line g_begun g_last g_end (aa_N pa) (aa_N be) (aa_N op) ar (aa_N fr) (aa_N tt) (aa_N tg) (aa_N ct) b_places b_heights b_gone b_worst b_frames b_maps b_high b_known b_mapped b_now b_sorts b_ints b_classes b_ready := fun x7 z0 h7 hz =>
    ya_69 P hpa ho t1 t2 hv6 (by omega) m40 (fun p hp => ⟨hpl p hp, (la_V P M L hp).1⟩) hv (fun z => pp_g4 P z) (fun z => pp_g8 P z) h7 hz hcr L.2.2.1 hf K1 K0
  refine And.intro (vp_in_nI (by omega) (by decide)) (nm_r (e' := nI (kk_y (pl k))) (by rw [ek]; exact hpl k hk) (yy_instruction hv (And.intro (vp_in_nI (by omega) (by decide)) (nm_r (e' := nI (op (pl k % 25))) (by rw [ei]; rfl) (And.intro (vp_in_nI (by omega) (by decide)) (nm_r (e' := ar (pl k % 25)) (by rw [ei]) (nm_e (yy_takes ho ?_))))))))
  refine pk_le (aa_tk (op (pl k % 25))) 0 (fun z => yy_takes ho (pk_le (aa_tk (op (pl k % 25))) 1 (fun y => ?_) (fun y => by omega))) (fun z => ya_pull (by omega) (by omega) (yy_takes ho (pk_le (aa_tk (op (pl k % 25))) 1 (fun y => ?_) (fun y => ya_pull (by omega) (by omega) ?_))))
  · have := go 0 0 (fun w => by omega) (fun w => by omega)
    rw [show va k - aa_tk (op (pl k % 25)) = va k from by omega] at this; exact this
  · have := go (b_now (3 + va k)) 0 (fun w => (hf _ (by omega)).1) (fun w => by omega)
    rw [show va k - aa_tk (op (pl k % 25)) = va k - 1 from by omega] at this; exact this
  · have := go (b_now (3 + va k)) (b_now (3 + (va k - 1))) (fun w => (hf _ (by omega)).1) (fun w => by rw [show 3 + (va k - 1) = 2 + va k from by omega]; exact (hf _ (by omega)).1)
    rw [show va k - aa_tk (op (pl k % 25)) = va k - 1 - 1 from by omega] at this; exact this
end
end
section
/-! the reference's give, take, throwTo -/
section
variable {cn hn : Nat} {op fr tt tg ct pa be : Nat → Nat} {ar an : Nat → Int32}
variable {g_length g_handlers g_many g_there g_typed g_wrongNumber g_wrongPlace g_size g_why g_height g_objects g_line g_begun g_last g_end : Int32} {b_parent b_begin b_op b_arg b_from b_to b_target b_caught b_places b_heights b_gone b_worst b_frames b_maps b_high b_known b_mapped b_now b_sorts b_ints b_classes b_ready : Nat → Int32}
variable {m : Nat} {pl va : Nat → Nat}
theorem yt_24 {post : Int32 → SY → Prop} {j h b : Nat} {f t0 nv : Nat → Nat} (hpa : ∀ c, pa c < 8 ∧ (0 < c → pa c < c)) (hj : j < 40) (hh : h ≤ 6) (hf : ∀ s, s < 4 + h → b_now s = nI (f s) ∧ f s < 91)
    (hb : (b = 1 ∧ b_known j = 1 ∧ ∀ s, s < 4 + h → b_frames (10 * j + s) = nI (t0 s) ∧ t0 s < 91) ∨ (b = 0 ∧ b_known j = 0)) (hnv : ∀ s, s < 4 + h → nv s = if b = 1 then ty_jn pa (t0 s) (f s) else f s)
    (K : ∀ tp, (∀ s, s < 4 + h → tp (10 * j + s) = nI (nv s)) → (∀ i, (i < 10 * j ∨ 10 * j + (4 + h) ≤ i) → tp i = b_frames i) →
      ((b = 0 ∨ ∃ s, s < 4 + h ∧ nv s ≠ t0 s) → post 1 ((nI cn), (nI hn), g_many, g_there, g_typed, g_wrongNumber, g_wrongPlace, (nI h), g_why, g_height, g_objects, g_line, g_begun, g_last, g_end, (aa_N pa), (aa_N be), (aa_N op), ar, (aa_N fr), (aa_N tt), (aa_N tg), (aa_N ct), b_places, b_heights, b_gone, b_worst, tp, b_maps, b_high, (upd b_known j 1), b_mapped, b_now, b_sorts, b_ints, b_classes, b_ready)) ∧ (¬ (b = 0 ∨ ∃ s, s < 4 + h ∧ nv s ≠ t0 s) → post 0 ((nI cn), (nI hn), g_many, g_there, g_typed, g_wrongNumber, g_wrongPlace, (nI h), g_why, g_height, g_objects, g_line, g_begun, g_last, g_end, (aa_N pa), (aa_N be), (aa_N op), ar, (aa_N fr), (aa_N tt), (aa_N tg), (aa_N ct), b_places, b_heights, b_gone, b_worst, tp, b_maps, b_high, (upd b_known j 1), b_mapped, b_now, b_sorts, b_ints, b_classes, b_ready))) :
    ∀ d s, s + d = 4 + h → ∀ (tp : Nat → Int32) (c : Int32), (∀ x, x < s → tp (10 * j + x) = nI (nv x)) → (∀ i, (i < 10 * j ∨ 10 * j + s ≤ i) → tp i = b_frames i) → ((c = 1 ∧ (b = 0 ∨ ∃ x, x < s ∧ nv x ≠ t0 x)) ∨ (c = 0 ∧ ¬ (b = 0 ∨ ∃ x, x < s ∧ nv x ≠ t0 x))) →
      wY_give_24 post (nI j) (nI cn) (nI hn) g_many g_there g_typed g_wrongNumber g_wrongPlace (nI h) g_why g_height g_objects g_line g_begun g_last g_end (d + 1) c (nI s) (aa_N pa) (aa_N be) (aa_N op) ar (aa_N fr) (aa_N tt) (aa_N tg) (aa_N ct) b_places b_heights b_gone b_worst tp b_maps b_high b_known b_mapped b_now b_sorts b_ints b_classes b_ready := by
  have ej : (nI j).toNatClampNeg = j := nI_clamp (by omega)
  have hinj := vp_in_nI (n := j) (N := 41) (by omega) (by decide)
  have e4 : (4 : Int32) + nI h = nI (4 + h) := nI_add 4 h
  intro d
  induction d with
  | zero =>
    intro s hs tp c h1 h2 h3
    have : s = 4 + h := by omega
    subst this
    obtain ⟨k1, k2⟩ := K tp h1 h2
    refine br_t ?_ (And.intro hinj (nm_r (e' := upd b_known j 1) (by rw [ej, aa_nz1]) ?_))
    · rw [e4]; exact nI_le (Nat.le_refl _) (by omega)
    · rcases h3 with ⟨rfl, z⟩ | ⟨rfl, z⟩
      · exact And.intro rfl (k1 z)
      · exact And.intro rfl (k2 z)
  | succ d ih =>
    intro s hs tp c h1 h2 h3
    have es : (nI s).toNatClampNeg = s := nI_clamp (by omega)
    have e10 : (10 : Int32) * nI j + nI s = nI (10 * j + s) := by rw [show (10 : Int32) * nI j = nI (10 * j) from pk_mul 10 j, nI_add]
    have ec : (nI (10 * j + s)).toNatClampNeg = 10 * j + s := nI_clamp (by omega)
    have hins := vp_in_nI (n := s) (N := 12) (by omega) (by decide)
    have hinc := vp_in_nI (n := 10 * j + s) (N := 410) (by omega) (by decide)
    have hfs := hf s (by omega)
    have hnvs := hnv s (by omega)
    have r96 : ∀ z c', c ||| z = c' → ((c' = 1 ∧ (b = 0 ∨ ∃ x, x < s + 1 ∧ nv x ≠ t0 x)) ∨ (c' = 0 ∧ ¬ (b = 0 ∨ ∃ x, x < s + 1 ∧ nv x ≠ t0 x))) → wY_give_96 post (wY_give_24 post (nI j) (nI cn) (nI hn) g_many g_there g_typed g_wrongNumber g_wrongPlace (nI h) g_why g_height g_objects g_line g_begun g_last g_end (d + 1)) (nI j) (nI s) (nI (nv s)) z c (nI cn) (nI hn) g_many g_there g_typed g_wrongNumber g_wrongPlace (nI h) g_why g_height g_objects g_line g_begun g_last g_end (aa_N pa) (aa_N be) (aa_N op) ar (aa_N fr) (aa_N tt) (aa_N tg) (aa_N ct) b_places b_heights b_gone b_worst tp b_maps b_high b_known b_mapped b_now b_sorts b_ints b_classes b_ready := by
      intro z c' ez hc'
      refine nm_r ez ?_
      rw [e10]
      refine And.intro hinc (nm_r (e' := upd tp (10 * j + s) (nI (nv s))) (by rw [ec]) (nm_r (nI_1 s) (ih (s + 1) (by omega) _ c' (fun x hx => ?_) (fun i hi => ?_) hc')))
      · by_cases e : x = s
        · rw [e, pk_us]
        · rw [pk_un (by omega)]; exact h1 x (by omega)
      · rw [pk_un (by omega)]; exact h2 i (by omega)
    refine br_f ?_ ?_
    · rw [e4]; exact nI_ge (by omega) (by omega)
    · rw [e10]
      refine And.intro hinc (nm_e (And.intro hinj ?_))
      rw [ej, ec]
      rcases hb with ⟨rfl, b1, b2⟩ | ⟨rfl, b1⟩
      · obtain ⟨c1, c2⟩ := b2 s (by omega)
        have ec1 : tp (10 * j + s) = nI (t0 s) := by rw [h2 _ (by omega)]; exact c1
        have hlt := ty_jn_lt hpa c2 hfs.2
        rw [if_pos rfl] at hnvs
        rw [b1, es, ec1, hfs.1]
        refine br_f (by decide) (And.intro hins (yy_join hpa c2 hfs.2 ?_))
        rw [← hnvs] at hlt ⊢
        refine pk_eq (nv s) (t0 s) (fun z => r96 0 c (by rcases h3 with ⟨rfl, -⟩ | ⟨rfl, -⟩ <;> decide) ?_) (fun z => r96 1 1 (by rcases h3 with ⟨rfl, -⟩ | ⟨rfl, -⟩ <;> decide) (Or.inl ⟨rfl, Or.inr ⟨s, by omega, z⟩⟩))
        have ext : (1 = 0 ∨ ∃ x, x < s + 1 ∧ nv x ≠ t0 x) ↔ (1 = 0 ∨ ∃ x, x < s ∧ nv x ≠ t0 x) := by
          refine ⟨fun y => y.imp id (fun ⟨x, x1, x2⟩ => ⟨x, ?_, x2⟩), fun y => y.imp id (fun ⟨x, x1, x2⟩ => ⟨x, by omega, x2⟩)⟩
          have : x ≠ s := fun w => x2 (by rw [w]; exact z)
          omega
        rw [ext]; exact h3
      · rw [if_neg (by omega)] at hnvs
        have c1 : c = 1 := by
          rcases h3 with ⟨z1, -⟩ | ⟨-, z2⟩
          · exact z1
          · exact absurd (Or.inl rfl) z2
        rw [b1, es, hfs.1, ← hnvs]
        exact br_t rfl (And.intro hins (br_c (fun _ => r96 0 1 (by rw [c1]; decide) (Or.inl ⟨rfl, Or.inl rfl⟩)) (fun _ => r96 1 1 (by rw [c1]; decide) (Or.inl ⟨rfl, Or.inl rfl⟩))))
/-- the reference's places in order -/
def yl_A (pl va : Nat → Nat) (m : Nat) (places high : Nat → Int32) : Prop := ∀ k, k < m → places k = nI (kk_y (pl k)) ∧ kk_V (pl k) ∧ high k = nI (va k)
theorem yt_give {post : Int32 → SY → Prop} {j q : Nat} {g : Nat → Nat} {kn : Nat → Prop} {ty : Nat → Nat → Nat} {hg : Int32} (eh : hg = nI (va j)) (hpa : ∀ c, pa c < 8 ∧ (0 < c → pa c < c)) (hm : m ≤ 40) (hv : ∀ k, k < m → va k ≤ 6) (hinc : ∀ i j, i < j → j < m → pl i < pl j) (yA : yl_A pl va m b_places b_high) (T : ar_T m va kn ty b_known b_frames) (hI : it_I va m kn ty) (hj : j < m) (hq : pl j = q)
    (hf : ∀ s, s < 4 + va j → b_now s = nI (g s) ∧ g s < 91) (K : ∀ r kno tys, ar_T m va (it_k kn j) (it_t pa kn ty j g) kno tys → ((r = 1 ∧ it_c pa va kn ty j g) ∨ (r = 0 ∧ ¬ it_c pa va kn ty j g)) → post r ((nI cn), (nI hn), (nI m), g_there, g_typed, g_wrongNumber, g_wrongPlace, hg, g_why, g_height, g_objects, g_line, g_begun, g_last, g_end, (aa_N pa), (aa_N be), (aa_N op), ar, (aa_N fr), (aa_N tt), (aa_N tg), (aa_N ct), b_places, b_heights, b_gone, b_worst, tys, b_maps, b_high, kno, b_mapped, b_now, b_sorts, b_ints, b_classes, b_ready)) : wpY_give post ((nI cn), (nI hn), (nI m), g_there, g_typed, g_wrongNumber, g_wrongPlace, hg, g_why, g_height, g_objects, g_line, g_begun, g_last, g_end, (aa_N pa), (aa_N be), (aa_N op), ar, (aa_N fr), (aa_N tt), (aa_N tg), (aa_N ct), b_places, b_heights, b_gone, b_worst, b_frames, b_maps, b_high, b_known, b_mapped, b_now, b_sorts, b_ints, b_classes, b_ready) (nI (kk_y q)) := by
  subst eh hq
  have ej : (nI j).toNatClampNeg = j := nI_clamp (by omega)
  have hv6 := hv j hj
  obtain ⟨t1, t2⟩ := T j hj
  unfold wpY_give
  dsimp only
  refine yn_number (pl := pl) (by omega) (fun k hk => ⟨(yA k hk).1, (yA k hk).2.1⟩) (yA j hj).2.1 ⟨j, hj, rfl⟩ hinc ?_
  rw [ty_fi_eq hinc hj rfl]
  refine And.intro (vp_in_nI (by omega) (by decide)) ?_
  rw [ej]
  by_cases h : kn j
  · obtain ⟨a1, a2⟩ := t1 h
    rw [a1]
    refine br_f (by decide) ⟨4 + va j + 1, yt_24 (h := va j) (b := 1) (f := g) (t0 := ty j) (nv := fun s => ty_jn pa (ty j s) (g s)) hpa (by omega) hv6 hf (Or.inl ⟨rfl, a1, fun s hs => ⟨a2 s hs, ((hI j h).2 s hs).1⟩⟩) (fun s hs => by rw [if_pos rfl]) (fun tp p1 p2 => ?_) (4 + va j) 0 (by omega) b_frames 0 (fun x hx => by omega) (fun i hi => rfl) (Or.inr ⟨rfl, fun z => z.elim (by omega) (fun ⟨x, x1, _⟩ => by omega)⟩)⟩
    have T' := ar_T_give (pa := pa) (g := g) T hv hj (fun s hs => by rw [it_t_kn h]; exact p1 s hs) p2
    refine ⟨fun z => K _ _ _ T' (Or.inl ⟨rfl, Or.inr (z.resolve_left (by omega))⟩), fun z => K _ _ _ T' (Or.inr ⟨rfl, fun y => z (Or.inr (y.resolve_left (fun w => w h)))⟩)⟩
  · rw [t2 h]
    refine br_t rfl ⟨4 + va j + 1, yt_24 (h := va j) (b := 0) (f := g) (t0 := ty j) (nv := g) hpa (by omega) hv6 hf (Or.inr ⟨rfl, t2 h⟩) (fun s hs => by rw [if_neg (by omega)]) (fun tp p1 p2 => ?_) (4 + va j) 0 (by omega) b_frames 1 (fun x hx => by omega) (fun i hi => rfl) (Or.inl ⟨rfl, Or.inl rfl⟩)⟩
    have T' := ar_T_give (pa := pa) (g := g) T hv hj (fun s hs => by rw [it_t_un h]; exact p1 s hs) p2
    exact ⟨fun z => K _ _ _ T' (Or.inl ⟨rfl, Or.inl h⟩), fun z => absurd (Or.inl rfl) z⟩
theorem yt_take_frames {post : SY → Prop} {k h : Nat} {f : Nat → Nat} (hk : k < 40) (hh : h ≤ 6) (hv : b_high k = nI h) (hf : ∀ s, s < 4 + h → b_frames (10 * k + s) = nI (f s) ∧ f s < 91)
    (K : ∀ nw, (∀ s, s < 4 + h → nw s = nI (f s)) → post (g_length, g_handlers, g_many, g_there, g_typed, g_wrongNumber, g_wrongPlace, (nI h), g_why, g_height, g_objects, g_line, g_begun, g_last, g_end, b_parent, b_begin, b_op, b_arg, b_from, b_to, b_target, b_caught, b_places, b_heights, b_gone, b_worst, b_frames, b_maps, b_high, b_known, b_mapped, nw, b_sorts, b_ints, b_classes, b_ready)) : wpY_take__frames post (g_length, g_handlers, g_many, g_there, g_typed, g_wrongNumber, g_wrongPlace, g_size, g_why, g_height, g_objects, g_line, g_begun, g_last, g_end, b_parent, b_begin, b_op, b_arg, b_from, b_to, b_target, b_caught, b_places, b_heights, b_gone, b_worst, b_frames, b_maps, b_high, b_known, b_mapped, b_now, b_sorts, b_ints, b_classes, b_ready) (nI k) := by
  have ek : (nI k).toNatClampNeg = k := nI_clamp (by omega)
  have e4 : (4 : Int32) + nI h = nI (4 + h) := nI_add 4 h
  have key : ∀ d s, s + d = 4 + h → ∀ nw, (∀ x, x < s → nw x = nI (f x)) → wY_take__frames_12 post (nI k) g_length g_handlers g_many g_there g_typed g_wrongNumber g_wrongPlace (nI h) g_why g_height g_objects g_line g_begun g_last g_end (d + 1) (nI s) b_parent b_begin b_op b_arg b_from b_to b_target b_caught b_places b_heights b_gone b_worst b_frames b_maps b_high b_known b_mapped nw b_sorts b_ints b_classes b_ready := by
    intro d
    induction d with
    | zero =>
      intro s hs nw hnw
      refine br_t ?_ (K nw (fun x hx => hnw x (by omega)))
      rw [e4]; exact nI_le (by omega) (by omega)
    | succ d ih =>
      intro s hs nw hnw
      have es : (nI s).toNatClampNeg = s := nI_clamp (by omega)
      have e10 : (10 : Int32) * nI k + nI s = nI (10 * k + s) := by rw [show (10 : Int32) * nI k = nI (10 * k) from pk_mul 10 k, nI_add]
      have ec : (nI (10 * k + s)).toNatClampNeg = 10 * k + s := nI_clamp (by omega)
      obtain ⟨f1, f2⟩ := hf s (by omega)
      refine br_f ?_ ?_
      · rw [e4]; exact nI_ge (by omega) (by omega)
      · rw [e10]
        refine And.intro (vp_in_nI (by omega) (by decide)) (And.intro (vp_in_nI (by omega) (by decide)) (nm_r (e' := upd nw s (nI (f s))) (by rw [es, ec, f1]) (nm_r (nI_1 s) (ih (s + 1) (by omega) _ (fun x hx => ?_)))))
        by_cases e : x = s
        · rw [e, pk_us]
        · rw [pk_un e]; exact hnw x (by omega)
  exact And.intro (vp_in_nI (by omega) (by decide)) (nm_r (e' := nI h) (by rw [ek]; exact hv) ⟨4 + h + 1, key (4 + h) 0 (by omega) b_now (fun x hx => by omega)⟩)
theorem yt_take_maps {post : SY → Prop} {k h : Nat} {f : Nat → Nat} (hk : k < 40) (hh : h ≤ 6) (hv : b_high k = nI h) (hf : ∀ s, s < 4 + h → b_maps (10 * k + s) = nI (f s) ∧ f s < 91)
    (K : ∀ nw, (∀ s, s < 4 + h → nw s = nI (f s)) → post (g_length, g_handlers, g_many, g_there, g_typed, g_wrongNumber, g_wrongPlace, (nI h), g_why, g_height, g_objects, g_line, g_begun, g_last, g_end, b_parent, b_begin, b_op, b_arg, b_from, b_to, b_target, b_caught, b_places, b_heights, b_gone, b_worst, b_frames, b_maps, b_high, b_known, b_mapped, nw, b_sorts, b_ints, b_classes, b_ready)) : wpY_take__maps post (g_length, g_handlers, g_many, g_there, g_typed, g_wrongNumber, g_wrongPlace, g_size, g_why, g_height, g_objects, g_line, g_begun, g_last, g_end, b_parent, b_begin, b_op, b_arg, b_from, b_to, b_target, b_caught, b_places, b_heights, b_gone, b_worst, b_frames, b_maps, b_high, b_known, b_mapped, b_now, b_sorts, b_ints, b_classes, b_ready) (nI k) := by
  have ek : (nI k).toNatClampNeg = k := nI_clamp (by omega)
  have e4 : (4 : Int32) + nI h = nI (4 + h) := nI_add 4 h
  have key : ∀ d s, s + d = 4 + h → ∀ nw, (∀ x, x < s → nw x = nI (f x)) → wY_take__maps_12 post (nI k) g_length g_handlers g_many g_there g_typed g_wrongNumber g_wrongPlace (nI h) g_why g_height g_objects g_line g_begun g_last g_end (d + 1) (nI s) b_parent b_begin b_op b_arg b_from b_to b_target b_caught b_places b_heights b_gone b_worst b_frames b_maps b_high b_known b_mapped nw b_sorts b_ints b_classes b_ready := by
    intro d
    induction d with
    | zero =>
      intro s hs nw hnw
      refine br_t ?_ (K nw (fun x hx => hnw x (by omega)))
      rw [e4]; exact nI_le (by omega) (by omega)
    | succ d ih =>
      intro s hs nw hnw
      have es : (nI s).toNatClampNeg = s := nI_clamp (by omega)
      have e10 : (10 : Int32) * nI k + nI s = nI (10 * k + s) := by rw [show (10 : Int32) * nI k = nI (10 * k) from pk_mul 10 k, nI_add]
      have ec : (nI (10 * k + s)).toNatClampNeg = 10 * k + s := nI_clamp (by omega)
      obtain ⟨f1, f2⟩ := hf s (by omega)
      refine br_f ?_ ?_
      · rw [e4]; exact nI_ge (by omega) (by omega)
      · rw [e10]
        refine And.intro (vp_in_nI (by omega) (by decide)) (And.intro (vp_in_nI (by omega) (by decide)) (nm_r (e' := upd nw s (nI (f s))) (by rw [es, ec, f1]) (nm_r (nI_1 s) (ih (s + 1) (by omega) _ (fun x hx => ?_)))))
        by_cases e : x = s
        · rw [e, pk_us]
        · rw [pk_un e]; exact hnw x (by omega)
  exact And.intro (vp_in_nI (by omega) (by decide)) (nm_r (e' := nI h) (by rw [ek]; exact hv) ⟨4 + h + 1, key (4 + h) 0 (by omega) b_now (fun x hx => by omega)⟩)
theorem yt_start {post : SY → Prop} (hbe : ∀ l, be l < 11) (K : ∀ nw, (∀ s, s < 4 → nw s = nI (be s)) → post ((nI cn), (nI hn), g_many, g_there, g_typed, g_wrongNumber, g_wrongPlace, 0, g_why, g_height, g_objects, g_line, g_begun, g_last, g_end, (aa_N pa), (aa_N be), (aa_N op), ar, (aa_N fr), (aa_N tt), (aa_N tg), (aa_N ct), b_places, b_heights, b_gone, b_worst, b_frames, b_maps, b_high, b_known, b_mapped, nw, b_sorts, b_ints, b_classes, b_ready)) : wpY_start post ((nI cn), (nI hn), g_many, g_there, g_typed, g_wrongNumber, g_wrongPlace, g_size, g_why, g_height, g_objects, g_line, g_begun, g_last, g_end, (aa_N pa), (aa_N be), (aa_N op), ar, (aa_N fr), (aa_N tt), (aa_N tg), (aa_N ct), b_places, b_heights, b_gone, b_worst, b_frames, b_maps, b_high, b_known, b_mapped, b_now, b_sorts, b_ints, b_classes, b_ready) := by
  have key : ∀ d s, s + d = 4 → ∀ nw, (∀ x, x < s → nw x = nI (be x)) → wY_start_7 post (nI cn) (nI hn) g_many g_there g_typed g_wrongNumber g_wrongPlace 0 g_why g_height g_objects g_line g_begun g_last g_end (d + 1) (nI s) (aa_N pa) (aa_N be) (aa_N op) ar (aa_N fr) (aa_N tt) (aa_N tg) (aa_N ct) b_places b_heights b_gone b_worst b_frames b_maps b_high b_known b_mapped nw b_sorts b_ints b_classes b_ready := by
    intro d
    induction d with
    | zero =>
      intro s hs nw hnw
      exact br_t (nI_le (a := 4) (by omega) (by omega)) (K nw (fun x hx => hnw x (by omega)))
    | succ d ih =>
      intro s hs nw hnw
      have es : (nI s).toNatClampNeg = s := nI_clamp (by omega)
      refine br_f (nI_ge (b := 4) (by omega) (by decide)) (And.intro (vp_in_nI (by omega) (by decide)) (And.intro (vp_in_nI (by omega) (by decide)) (nm_r (e' := upd nw s (nI (be s))) (by rw [es]; rfl) (nm_r (nI_1 s) (ih (s + 1) (by omega) _ (fun x hx => ?_))))))
      by_cases e : x = s
      · rw [e, pk_us]
      · rw [pk_un e]; exact hnw x (by omega)
  exact ⟨5, key 4 0 (by omega) b_now (fun x hx => by omega)⟩
theorem yt_throwTo {post : Int32 → SY → Prop} {k x : Nat} {kn : Nat → Prop} {ty : Nat → Nat → Nat} (P : pp_P cn hn op fr tt tg ct pa be ar) (M : pp_M cn hn op tg ar) (L : la_L cn hn op fr tt tg ar m pl va) (yA : yl_A pl va m b_places b_high) (T : ar_T m va kn ty b_known b_frames) (hI : it_I va m kn ty) (hk : kn k) (hx : x < hn) (hcv : pp_cv fr tt x (pl k % 25) = true)
    (K : ∀ r kno tys nw, ar_T m va (it_k kn (ty_fi pl (kk_at (pl k) (tg x)) m)) (it_t pa kn ty (ty_fi pl (kk_at (pl k) (tg x)) m) (aa_up (ty k) 4 (3 + ct x))) kno tys → ((r = 1 ∧ it_c pa va kn ty (ty_fi pl (kk_at (pl k) (tg x)) m) (aa_up (ty k) 4 (3 + ct x))) ∨ (r = 0 ∧ ¬ it_c pa va kn ty (ty_fi pl (kk_at (pl k) (tg x)) m) (aa_up (ty k) 4 (3 + ct x)))) → post r ((nI cn), (nI hn), (nI m), g_there, g_typed, g_wrongNumber, g_wrongPlace, 1, g_why, g_height, g_objects, g_line, g_begun, g_last, g_end, (aa_N pa), (aa_N be), (aa_N op), ar, (aa_N fr), (aa_N tt), (aa_N tg), (aa_N ct), b_places, b_heights, b_gone, b_worst, tys, b_maps, b_high, kno, b_mapped, nw, b_sorts, b_ints, b_classes, b_ready)) : wpY_throwTo post ((nI cn), (nI hn), (nI m), g_there, g_typed, g_wrongNumber, g_wrongPlace, g_size, g_why, g_height, g_objects, g_line, g_begun, g_last, g_end, (aa_N pa), (aa_N be), (aa_N op), ar, (aa_N fr), (aa_N tt), (aa_N tg), (aa_N ct), b_places, b_heights, b_gone, b_worst, b_frames, b_maps, b_high, b_known, b_mapped, b_now, b_sorts, b_ints, b_classes, b_ready) (nI k) (nI x) := by
  obtain ⟨hc, hh4, hop, hxx, hpa, hbe, hfit⟩ := id P
  have m40 := L.1
  obtain ⟨km, kI⟩ := hI k hk
  obtain ⟨v1, v2, v3⟩ := la_V P M L km
  obtain ⟨x1, x2, x3, x4⟩ := hxx x
  obtain ⟨j1, j2, j3⟩ := la_hand L km hx hcv
  have ek : (nI k).toNatClampNeg = k := nI_clamp (by omega)
  have ex : (nI x).toNatClampNeg = x := nI_clamp (by omega)
  have hv6 : ∀ k, k < m → va k ≤ 6 := fun k hk => (la_V P M L hk).2.2
  unfold wpY_throwTo
  dsimp only
  refine yt_take_frames (h := va k) (f := ty k) (by omega) v3 (yA k km).2.2 (fun s hs => ⟨((T k km).1 hk).2 s hs, (kI s hs).1⟩) (fun nw hnw => And.intro (vp_in_nI (by omega) (by decide)) (nm_r (e' := upd nw 4 (nI (3 + ct x))) (by rw [ex]; exact congrArg (upd nw 4) (nI_add 3 (ct x))) (And.intro (vp_in_nI (by omega) (by decide)) (And.intro (vp_in_nI (by omega) (by decide)) ?_))))
  dsimp only
  rw [ek, ex, (yA k km).1]
  refine yy_at v1 x3 (yt_give (by rw [j3]; rfl) hpa m40 hv6 L.2.2.1 yA T hI j1 j2 (g := aa_up (ty k) 4 (3 + ct x)) (fun s hs => ?_) (fun r kno tys T' hr => And.intro ?_ (K r kno tys _ T' hr)))
  · rw [j3] at hs
    by_cases e : s = 4
    · rw [e, pk_us, aa_us]; exact ⟨rfl, by omega⟩
    · rw [pk_un e, aa_un e]; exact ⟨hnw s (by omega), (kI s (by omega)).1⟩
  · rcases hr with ⟨rfl, -⟩ | ⟨rfl, -⟩ <;> rfl
end
end
section
/-! the reference's findTypes -/
/-- a sweep, so far -/
def yf_I (pa va : Nat → Nat) (m : Nat) (OK : Nat → (Nat → Nat) → Prop) (EH EN : Nat → (Nat → Nat) → Nat → (Nat → Nat) → Prop) (be : Nat → Nat) (x1 : Int32) (kn0 : Nat → Prop) (ty0 : Nat → Nat → Nat) (kn : Nat → Prop) (ty : Nat → Nat → Nat) : Prop :=
  it_I va m kn ty ∧ it_LB pa va m OK EH EN be kn ty ∧ it_gr pa va kn0 ty0 kn ty ∧ it_P va m kn ty ≤ it_P va m kn0 ty0 ∧ ((x1 = 0 ∧ (∀ x, kn x ↔ kn0 x) ∧ ∀ x, kn0 x → ∀ s, s < 4 + va x → ty x s = ty0 x s) ∨ (x1 = 1 ∧ it_P va m kn ty < it_P va m kn0 ty0))
section
variable {pa va : Nat → Nat} {m : Nat} {OK : Nat → (Nat → Nat) → Prop} {EH EN : Nat → (Nat → Nat) → Nat → (Nat → Nat) → Prop} {be : Nat → Nat} {kn0 kn : Nat → Prop} {ty0 ty : Nat → Nat → Nat} {j k : Nat} {g : Nat → Nat} {x1 r : Int32}
theorem yf_0 (hI : it_I va m kn ty) (hB : it_LB pa va m OK EH EN be kn ty) : yf_I pa va m OK EH EN be 0 kn ty kn ty := ⟨hI, hB, it_gr_rf, Nat.le_refl _, Or.inl ⟨rfl, fun _ => Iff.rfl, fun _ _ _ _ => rfl⟩⟩
theorem yf_giveR {f : Nat → Nat} (Y : it_sys pa va m OK EH EN) (h : yf_I pa va m OK EH EN be x1 kn0 ty0 kn ty) (hR : it_R pa va m OK EH EN be kn k f) (hE : EH k f j g ∨ (OK k f ∧ EN k f j g)) (hr : (r = 1 ∧ it_c pa va kn ty j g) ∨ (r = 0 ∧ ¬ it_c pa va kn ty j g)) :
    yf_I pa va m OK EH EN be (x1 ||| r) kn0 ty0 (it_k kn j) (it_t pa kn ty j g) ∧ (x1 ||| r = 0 → x1 = 0 ∧ kn0 j ∧ it_le pa va j g (ty0 j)) := by
  obtain ⟨s1, s2, s3, s4, s5⟩ := h
  obtain ⟨g1, g2, g3, g4⟩ := it_give Y s1 s2 hR hE
  have hp := Y.2.2.2.1
  have hv := Y.2.2.1
  have p1 := it_P_le (kn := kn) (ty := ty) (j := j) (f := g) hp hv
  have x01 : x1 = 0 ∨ x1 = 1 := s5.imp (fun z => z.1) (fun z => z.1)
  have o10 : (1 : Int32) ||| 0 = 1 := by decide
  have o11 : (1 : Int32) ||| 1 = 1 := by decide
  have o01 : (0 : Int32) ||| 1 = 1 := by decide
  have o00 : (0 : Int32) ||| 0 = 0 := by decide
  rcases hr with ⟨rfl, c⟩ | ⟨rfl, c⟩
  · have p2 := it_P_lt hp hv g3 c
    have e1 : x1 ||| 1 = 1 := by rcases x01 with z | z <;> rw [z] <;> decide
    refine ⟨⟨g1, g2, it_gr_tr hp s3 (it_gr_give hp), by omega, Or.inr ⟨e1, by omega⟩⟩, fun z => ?_⟩
    rw [e1] at z; exact absurd z (by decide)
  · have hkn : kn j := Classical.byContradiction fun y => c (Or.inl y)
    have eqv : ∀ s, s < 4 + va j → ty_jn pa (ty j s) (g s) = ty j s := fun s hs => Classical.byContradiction fun w => c (Or.inr ⟨s, hs, w⟩)
    rcases s5 with ⟨z, z1, z2⟩ | ⟨z, z1⟩
    · rw [z, o00]
      refine ⟨⟨g1, g2, it_gr_tr hp s3 (it_gr_give hp), by omega, Or.inl ⟨rfl, fun x => ⟨fun y => ?_, fun y => Or.inl ((z1 x).mpr y)⟩, fun x hx s hs => ?_⟩⟩, fun _ => ⟨rfl, (z1 j).mp hkn, fun s hs => ?_⟩⟩
      · rcases y with y | y
        · exact (z1 x).mp y
        · rw [y]; exact (z1 j).mp hkn
      · by_cases e : x = j
        · subst e; rw [it_t_kn hkn, eqv s hs]; exact z2 x hx s hs
        · rw [it_t_ne e]; exact z2 x hx s hs
      · have h1 := ty_jn_r hp (ty j s) (g s)
        rw [eqv s hs, z2 j ((z1 j).mp hkn) s hs] at h1; exact h1
    · rw [z, o10]
      exact ⟨⟨g1, g2, it_gr_tr hp s3 (it_gr_give hp), by omega, Or.inr ⟨rfl, by omega⟩⟩, fun y => absurd y (by decide)⟩
theorem yf_give (Y : it_sys pa va m OK EH EN) (h : yf_I pa va m OK EH EN be x1 kn0 ty0 kn ty) (hk : kn k) (hE : EH k (ty k) j g ∨ (OK k (ty k) ∧ EN k (ty k) j g)) (hr : (r = 1 ∧ it_c pa va kn ty j g) ∨ (r = 0 ∧ ¬ it_c pa va kn ty j g)) :
    yf_I pa va m OK EH EN be (x1 ||| r) kn0 ty0 (it_k kn j) (it_t pa kn ty j g) ∧ (x1 ||| r = 0 → x1 = 0 ∧ kn0 j ∧ it_le pa va j g (ty0 j)) := yf_giveR Y h (it_R_of h.1 h.2.1 hk) hE hr
end
section
variable {cn hn : Nat} {op fr tt tg ct pa be : Nat → Nat} {ar an : Nat → Int32}
variable {g_length g_handlers g_many g_there g_typed g_wrongNumber g_wrongPlace g_size g_why g_height g_objects g_line g_begun g_last g_end : Int32} {b_parent b_begin b_op b_arg b_from b_to b_target b_caught b_places b_heights b_gone b_worst b_frames b_maps b_high b_known b_mapped b_now b_sorts b_ints b_classes b_ready : Nat → Int32}
variable {m : Nat} {pl va : Nat → Nat} {post : Int32 → SY → Prop}
theorem yf_154 {J33 : _} {J41 : _} {x1 x4 : Int32} {k : Nat} {kn0 kn : Nat → Prop} {ty0 ty : Nat → Nat → Nat} {f : Nat → Nat} (P : pp_P cn hn op fr tt tg ct pa be ar) (M : pp_M cn hn op tg ar) (L : la_L cn hn op fr tt tg ar m pl va) (yA : yl_A pl va m b_places b_high) (hk : k < m) (T : ar_T m va kn ty b_known b_frames)
    (hx4 : ((aa_ld (op (pl k % 25)) = true ∨ op (pl k % 25) = 16) ∧ x4 = nI (kk_y (pp_to op ar (pl k)))) ∨ (¬ (aa_ld (op (pl k % 25)) = true ∨ op (pl k % 25) = 16) ∧ x4 = -1)) (hI : it_I va m kn ty) (hnw : ∀ s, s < 4 + pp_lf op (pl k) (va k) → b_now s = nI (la_F op ar pl va k f s) ∧ la_F op ar pl va k f s < 91)
    (K0 : ¬ (aa_ld (op (pl k % 25)) = true ∨ op (pl k % 25) = 16) → J41 x1 (nI (k + 1)) (nI cn) (nI hn) (nI m) g_there g_typed g_wrongNumber g_wrongPlace (nI (pp_lf op (pl k) (va k))) g_why g_height g_objects g_line g_begun g_last g_end (aa_N pa) (aa_N be) (aa_N op) ar (aa_N fr) (aa_N tt) (aa_N tg) (aa_N ct) b_places b_heights b_gone b_worst b_frames b_maps b_high b_known b_mapped b_now b_sorts b_ints b_classes b_ready)
    (K1 : (aa_ld (op (pl k % 25)) = true ∨ op (pl k % 25) = 16) → ∀ r kno tys, ar_T m va (it_k kn (ty_fi pl (pp_to op ar (pl k)) m)) (it_t pa kn ty (ty_fi pl (pp_to op ar (pl k)) m) (la_F op ar pl va k f)) kno tys → ((r = 1 ∧ it_c pa va kn ty (ty_fi pl (pp_to op ar (pl k)) m) (la_F op ar pl va k f)) ∨ (r = 0 ∧ ¬ it_c pa va kn ty (ty_fi pl (pp_to op ar (pl k)) m) (la_F op ar pl va k f))) → J41 (x1 ||| r) (nI (k + 1)) (nI cn) (nI hn) (nI m) g_there g_typed g_wrongNumber g_wrongPlace (nI (pp_lf op (pl k) (va k))) g_why g_height g_objects g_line g_begun g_last g_end (aa_N pa) (aa_N be) (aa_N op) ar (aa_N fr) (aa_N tt) (aa_N tg) (aa_N ct) b_places b_heights b_gone b_worst tys b_maps b_high kno b_mapped b_now b_sorts b_ints b_classes b_ready) :
    wY_findTypes_154 post J33 J41 x1 (nI k) x4 (nI cn) (nI hn) (nI m) g_there g_typed g_wrongNumber g_wrongPlace (nI (pp_lf op (pl k) (va k))) g_why g_height g_objects g_line g_begun g_last g_end (aa_N pa) (aa_N be) (aa_N op) ar (aa_N fr) (aa_N tt) (aa_N tg) (aa_N ct) b_places b_heights b_gone b_worst b_frames b_maps b_high b_known b_mapped b_now b_sorts b_ints b_classes b_ready := by
  have Y := la_sys P M L
  have m40 := L.1
  rcases hx4 with ⟨h, rfl⟩ | ⟨h, rfl⟩
  · obtain ⟨b1, b2, b3⟩ := la_jump L hk h
    have hv' : kk_V (pp_to op ar (pl k)) := by rw [← b2]; exact (la_V P M L b1).1
    have := kk_ylt hv'
    exact br_f (nI_pos (by omega)) (yt_give (by rw [b3]) P.2.2.2.2.1 m40 Y.2.2.1 L.2.2.1 yA T hI b1 b2 (g := la_F op ar pl va k f) (fun s hs => hnw s (by rw [b3] at hs; exact hs)) (fun r kno tys T' hr => nm_e (nm_r (nI_1 k) (K1 h r kno tys T' hr))))
  · exact br_t (by decide) (nm_r (nI_1 k) (K0 h))
/-- the end at one place -/
theorem yf_end {Z : Prop} {J33 : _} {J41 : _} {x1 : Int32} {k n : Nat} {kn0 kn : Nat → Prop} {ty0 ty : Nat → Nat → Nat} (P : pp_P cn hn op fr tt tg ct pa be ar) (M : pp_M cn hn op tg ar) (L : la_L cn hn op fr tt tg ar m pl va) (yA : yl_A pl va m b_places b_high) (T : ar_T m va kn ty b_known b_frames)
    (I : yf_I pa va m (la_OK pa op ar pl va m) (la_EH hn fr tt tg ct pl m) (la_EN op ar pl va m) be x1 kn0 ty0 kn ty) (hk : kn k) (hH : x1 = 0 → Z ∧ ∀ j g, la_EH hn fr tt tg ct pl m k (ty0 k) j g → kn0 j ∧ it_le pa va j g (ty0 j))
    (K0 : (∀ K F, ¬ it_sol pa va m (la_OK pa op ar pl va m) (la_EH hn fr tt tg ct pl m) (la_EN op ar pl va m) be K F) → ∀ hg kno tys nw, post 0 ((nI cn), (nI hn), (nI m), g_there, g_typed, g_wrongNumber, g_wrongPlace, hg, g_why, g_height, g_objects, g_line, g_begun, g_last, g_end, (aa_N pa), (aa_N be), (aa_N op), ar, (aa_N fr), (aa_N tt), (aa_N tg), (aa_N ct), b_places, b_heights, b_gone, b_worst, tys, b_maps, b_high, kno, b_mapped, nw, b_sorts, b_ints, b_classes, b_ready))
    (HJ : ∀ x1 kn ty hg kno tys nw, yf_I pa va m (la_OK pa op ar pl va m) (la_EH hn fr tt tg ct pl m) (la_EN op ar pl va m) be x1 kn0 ty0 kn ty → ar_T m va kn ty kno tys → (x1 = 0 → Z ∧ la_OK pa op ar pl va m k (ty0 k) ∧ it_S pa va (la_EH hn fr tt tg ct pl m) (la_EN op ar pl va m) kn0 ty0 k (ty0 k)) → J41 x1 (nI (k + 1)) (nI cn) (nI hn) (nI m) g_there g_typed g_wrongNumber g_wrongPlace hg g_why g_height g_objects g_line g_begun g_last g_end (aa_N pa) (aa_N be) (aa_N op) ar (aa_N fr) (aa_N tt) (aa_N tg) (aa_N ct) b_places b_heights b_gone b_worst tys b_maps b_high kno b_mapped nw b_sorts b_ints b_classes b_ready) :
    wY_findTypes_63 post J33 J41 (nI k) (n + 1) x1 (nI hn) (nI cn) (nI hn) (nI m) g_there g_typed g_wrongNumber g_wrongPlace g_size g_why g_height g_objects g_line g_begun g_last g_end (aa_N pa) (aa_N be) (aa_N op) ar (aa_N fr) (aa_N tt) (aa_N tg) (aa_N ct) b_places b_heights b_gone b_worst b_frames b_maps b_high b_known b_mapped b_now b_sorts b_ints b_classes b_ready := by
  have Y := la_sys P M L
  have m40 := L.1
  have hpa := P.2.2.2.2.1
  have hh4 := P.2.1
  obtain ⟨i1, i2, i3, i4, i5⟩ := id I
  obtain ⟨km, kI⟩ := i1 k hk
  obtain ⟨v1, v2, v3⟩ := la_V P M L km
  obtain ⟨h15, h16⟩ := la_16 L P M km
  have ek : (nI k).toNatClampNeg = k := nI_clamp (by omega)
  have hin := vp_in_nI (n := k) (N := 41) (by omega) (by decide)
  have hnm : ∀ s, s < 4 + va k → ty k s ≠ 11 + k := fun s hs z => ((kI s hs).2 k (by omega) z).2 rfl
  have okI := (fr_nm (pa := pa) (o := op (pl k % 25)) (a := pp_g ar (pl k % 25)) (m := m) (cr := ty_fi pl (kk_cal (pl k)) m) (mk := fun p => op (pl p % 25) = 8) (mc := fun p => pp_g ar (pl p % 25)) hnm).1
  have feq := fr_nm4 (o := op (pl k % 25)) (a := pp_g ar (pl k % 25)) (mc := fun p => pp_g ar (pl p % 25)) hnm
  refine br_t (nI_le (Nat.le_refl hn) (by omega)) (yt_take_frames (h := va k) (f := ty k) (by omega) v3 (yA k km).2.2 (fun s hs => ⟨((T k km).1 hk).2 s hs, (kI s hs).1⟩) (fun nw1 hnw1 => ?_))
  refine ya_does P M L km (fun p hp => (yA p hp).1) (fun s hs => ⟨hnw1 s hs, (kI s hs).1⟩) (fun okk nw3 hnw3 => ?_) (fun nok hh nw3 => br_t rfl (K0 (it_fail Y (it_R_of i1 i2 hk) (fun z => nok (okI.mpr z))) _ _ _ _))
  have ok : la_OK pa op ar pl va m k (ty k) := okI.mp okk
  have src := fr_src (m := m) (cr := ty_fi pl (kk_cal (pl k)) m) (mk := fun p => op (pl p % 25) = 8) (mc := fun p => pp_g ar (pl p % 25)) (k := k) (P.2.2.1 (pl k % 25)) (la_tk L km).1 (by omega) (fun z => (pp_g4 P z).2) (fun z => (pp_g8 P (Or.inr (Or.inl z))).2) (fun p _ hp hm => (pp_g8 P (Or.inl hm)).2) ok (fun s hs => (kI s hs).1)
  have hnw4 : ∀ s, s < 4 + pp_lf op (pl k) (va k) → nw3 s = nI (la_F op ar pl va k (ty k) s) ∧ la_F op ar pl va k (ty k) s < 91 := fun s hs => by
    refine ⟨?_, (src s hs).1⟩
    rw [hnw3 s hs]; exact congrArg nI (feq s hs)
  have eq0 : x1 = 0 → ∀ s, s < 4 + va k → ty0 k s = ty k s := fun z s hs => by
    rcases i5 with ⟨-, a, b⟩ | ⟨a, -⟩
    · exact (b k ((a k).mp hk) s hs).symm
    · rw [z] at a; exact absurd a (by decide)
  have kn00 : x1 = 0 → kn0 k := fun z => by
    rcases i5 with ⟨-, a, b⟩ | ⟨a, -⟩
    · exact (a k).mp hk
    · rw [z] at a; exact absurd a (by decide)
  -- what is met, if nothing changed
  have fin : x1 = 0 → (∀ j g, la_EN op ar pl va m k (ty k) j g → kn0 j ∧ it_le pa va j g (ty0 j)) → Z ∧ la_OK pa op ar pl va m k (ty0 k) ∧ it_S pa va (la_EH hn fr tt tg ct pl m) (la_EN op ar pl va m) kn0 ty0 k (ty0 k) := by
    intro z hN
    have le : it_le pa va k (ty0 k) (ty k) := fun s hs => by rw [eq0 z s hs]; exact ty_refl _
    obtain ⟨o1, o2⟩ := Y.2.2.2.2.2.2.2.2 k (ty0 k) (ty k) km le ok
    refine ⟨(hH z).1, o1, fun j g hE => ?_⟩
    rcases hE with hE | hE
    · exact (hH z).2 j g hE
    · obtain ⟨g', g1, g2⟩ := o2 j g hE
      obtain ⟨w1, w2⟩ := hN j g' g1
      exact ⟨w1, fun s hs => ty_trans hpa (g2 s hs) (w2 s hs)⟩
  refine br_f (by decide) (And.intro hin ?_)
  rw [ek, (yA k km).1]
  -- both values of behind
  refine yy_behind v1 (P.2.2.1 _) (fun fl => And.intro hin ?_) (fun fl => And.intro hin ?_)
  · obtain ⟨b1, b2, b3⟩ := la_fall L km fl
    have ey : kk_y (pl k) + 1 = kk_y (pl k + 1) := by
      obtain ⟨w1, -⟩ := pp_W0 (L.2.1 k km).2
      have hc := P.1
      have : pl k % 25 + 1 ≠ cn := fun z => w1 (Or.inl ⟨z, fl⟩)
      exact (kk_ys v1 (by omega)).symm
    have hv' : kk_V (pl k + 1) := by rw [← b2]; exact (la_V P M L b1).1
    have yl := kk_ylt hv'
    rw [ey]
    have step : ∀ x4, (((aa_ld (op (pl k % 25)) = true ∨ op (pl k % 25) = 16) ∧ x4 = nI (kk_y (pp_to op ar (pl k)))) ∨ (¬ (aa_ld (op (pl k % 25)) = true ∨ op (pl k % 25) = 16) ∧ x4 = -1)) → ∀ r kno tys, ar_T m va (it_k kn (k + 1)) (it_t pa kn ty (k + 1) (la_F op ar pl va k (ty k))) kno tys → ((r = 1 ∧ it_c pa va kn ty (k + 1) (la_F op ar pl va k (ty k))) ∨ (r = 0 ∧ ¬ it_c pa va kn ty (k + 1) (la_F op ar pl va k (ty k)))) → wY_findTypes_154 post J33 J41 (x1 ||| r) (nI k) x4 (nI cn) (nI hn) (nI m) g_there g_typed g_wrongNumber g_wrongPlace (nI (pp_lf op (pl k) (va k))) g_why g_height g_objects g_line g_begun g_last g_end (aa_N pa) (aa_N be) (aa_N op) ar (aa_N fr) (aa_N tt) (aa_N tg) (aa_N ct) b_places b_heights b_gone b_worst tys b_maps b_high kno b_mapped nw3 b_sorts b_ints b_classes b_ready := by
      intro x4 hx4 r kno tys T2 hr
      obtain ⟨I2, z2⟩ := yf_give Y I hk (j := k + 1) (g := la_F op ar pl va k (ty k)) (Or.inr ⟨ok, Or.inl ⟨fl, rfl, rfl⟩⟩) hr
      refine yf_154 (kn0 := kn0) (ty0 := ty0) P M L yA km T2 hx4 I2.1 hnw4 (fun h => HJ _ _ _ _ _ _ _ I2 T2 (fun z => ?_)) (fun h r' kno' tys' T3 hr' => ?_)
      · obtain ⟨y0, y1, y2⟩ := z2 z
        refine fin y0 ?_
        rintro j g (⟨_, rfl, rfl⟩ | ⟨hj, -, -⟩)
        · exact ⟨y1, y2⟩
        · exact absurd hj h
      · -- the frame is that of the place as it was taken
        obtain ⟨t1, t2, t3⟩ := la_jump L km h
        have hE : la_EN op ar pl va m k (ty k) (ty_fi pl (pp_to op ar (pl k)) m) (la_F op ar pl va k (ty k)) := Or.inr ⟨h, rfl, rfl⟩
        have I3 := yf_giveR Y I2 (it_R_mono (it_R_of i1 i2 hk) (fun x hx => Or.inl hx)) (Or.inr ⟨ok, hE⟩) hr'
        refine HJ _ _ _ _ _ _ _ I3.1 T3 (fun z => ?_)
        obtain ⟨y0, y1, y2⟩ := I3.2 z
        obtain ⟨u0, u1, u2⟩ := z2 y0
        refine fin u0 ?_
        rintro j g (⟨_, rfl, rfl⟩ | ⟨hj, rfl, rfl⟩)
        · exact ⟨u1, u2⟩
        · exact ⟨y1, y2⟩
    refine yy_led P v1 h15 h16 (fun h => br_f (nI_pos (by omega)) (yt_give (by rw [b3]) hpa m40 Y.2.2.1 L.2.2.1 yA T i1 b1 b2 (g := la_F op ar pl va k (ty k)) (fun s hs => hnw4 s (by rw [b3] at hs; exact hs)) (fun r kno tys T2 hr => nm_e (step _ (Or.inl ⟨h, rfl⟩) r kno tys T2 hr)))) (fun h => br_f (nI_pos (by omega)) (yt_give (by rw [b3]) hpa m40 Y.2.2.1 L.2.2.1 yA T i1 b1 b2 (g := la_F op ar pl va k (ty k)) (fun s hs => hnw4 s (by rw [b3] at hs; exact hs)) (fun r kno tys T2 hr => nm_e (step _ (Or.inr ⟨h, rfl⟩) r kno tys T2 hr))))
  · have step : ∀ x4, (((aa_ld (op (pl k % 25)) = true ∨ op (pl k % 25) = 16) ∧ x4 = nI (kk_y (pp_to op ar (pl k)))) ∨ (¬ (aa_ld (op (pl k % 25)) = true ∨ op (pl k % 25) = 16) ∧ x4 = -1)) → wY_findTypes_154 post J33 J41 x1 (nI k) x4 (nI cn) (nI hn) (nI m) g_there g_typed g_wrongNumber g_wrongPlace (nI (pp_lf op (pl k) (va k))) g_why g_height g_objects g_line g_begun g_last g_end (aa_N pa) (aa_N be) (aa_N op) ar (aa_N fr) (aa_N tt) (aa_N tg) (aa_N ct) b_places b_heights b_gone b_worst b_frames b_maps b_high b_known b_mapped nw3 b_sorts b_ints b_classes b_ready := by
      intro x4 hx4
      refine yf_154 (kn0 := kn0) (ty0 := ty0) P M L yA km T hx4 i1 hnw4 (fun h => HJ _ _ _ _ _ _ _ I T (fun z => fin z ?_)) (fun h r' kno' tys' T3 hr' => ?_)
      · rintro j g (⟨f', -, -⟩ | ⟨hj, -, -⟩)
        · rw [fl] at f'; exact absurd f' (by decide)
        · exact absurd hj h
      · have hE : la_EN op ar pl va m k (ty k) (ty_fi pl (pp_to op ar (pl k)) m) (la_F op ar pl va k (ty k)) := Or.inr ⟨h, rfl, rfl⟩
        have I3 := yf_giveR Y I (it_R_of i1 i2 hk) (Or.inr ⟨ok, hE⟩) hr'
        refine HJ _ _ _ _ _ _ _ I3.1 T3 (fun z => ?_)
        obtain ⟨y0, y1, y2⟩ := I3.2 z
        refine fin y0 ?_
        rintro j g (⟨f', -, -⟩ | ⟨hj, rfl, rfl⟩)
        · rw [fl] at f'; exact absurd f' (by decide)
        · exact ⟨y1, y2⟩
    exact yy_led P v1 h15 h16 (fun h => br_t (by decide) (step _ (Or.inl ⟨h, rfl⟩))) (fun h => br_t (by decide) (step _ (Or.inr ⟨h, rfl⟩)))
end
end
section
/-! the reference's findTypes whole -/
section
variable {cn hn : Nat} {op fr tt tg ct pa be : Nat → Nat} {ar an : Nat → Int32}
variable {g_length g_handlers g_many g_there g_typed g_wrongNumber g_wrongPlace g_size g_why g_height g_objects g_line g_begun g_last g_end : Int32} {b_parent b_begin b_op b_arg b_from b_to b_target b_caught b_places b_heights b_gone b_worst b_frames b_maps b_high b_known b_mapped b_now b_sorts b_ints b_classes b_ready : Nat → Int32}
variable {m : Nat} {pl va : Nat → Nat} {post : Int32 → SY → Prop}
theorem yf_63 {Z : Prop} {J33 : _} {J41 : _} {k : Nat} {kn0 : Nat → Prop} {ty0 : Nat → Nat → Nat} (P : pp_P cn hn op fr tt tg ct pa be ar) (M : pp_M cn hn op tg ar) (L : la_L cn hn op fr tt tg ar m pl va) (yA : yl_A pl va m b_places b_high)
    (K0 : (∀ K F, ¬ it_sol pa va m (la_OK pa op ar pl va m) (la_EH hn fr tt tg ct pl m) (la_EN op ar pl va m) be K F) → ∀ hg kno tys nw, post 0 ((nI cn), (nI hn), (nI m), g_there, g_typed, g_wrongNumber, g_wrongPlace, hg, g_why, g_height, g_objects, g_line, g_begun, g_last, g_end, (aa_N pa), (aa_N be), (aa_N op), ar, (aa_N fr), (aa_N tt), (aa_N tg), (aa_N ct), b_places, b_heights, b_gone, b_worst, tys, b_maps, b_high, kno, b_mapped, nw, b_sorts, b_ints, b_classes, b_ready))
    (HJ : ∀ x1 kn ty hg kno tys nw, yf_I pa va m (la_OK pa op ar pl va m) (la_EH hn fr tt tg ct pl m) (la_EN op ar pl va m) be x1 kn0 ty0 kn ty → ar_T m va kn ty kno tys → (x1 = 0 → Z ∧ la_OK pa op ar pl va m k (ty0 k) ∧ it_S pa va (la_EH hn fr tt tg ct pl m) (la_EN op ar pl va m) kn0 ty0 k (ty0 k)) → J41 x1 (nI (k + 1)) (nI cn) (nI hn) (nI m) g_there g_typed g_wrongNumber g_wrongPlace hg g_why g_height g_objects g_line g_begun g_last g_end (aa_N pa) (aa_N be) (aa_N op) ar (aa_N fr) (aa_N tt) (aa_N tg) (aa_N ct) b_places b_heights b_gone b_worst tys b_maps b_high kno b_mapped nw b_sorts b_ints b_classes b_ready) :
    ∀ d x, x + d = hn → ∀ x1 kn ty hg kno tys nw, ar_T m va kn ty kno tys → yf_I pa va m (la_OK pa op ar pl va m) (la_EH hn fr tt tg ct pl m) (la_EN op ar pl va m) be x1 kn0 ty0 kn ty → kn k →
      (x1 = 0 → Z ∧ ∀ y, y < x → pp_cv fr tt y (pl k % 25) = true → kn0 (ty_fi pl (kk_at (pl k) (tg y)) m) ∧ it_le pa va (ty_fi pl (kk_at (pl k) (tg y)) m) (aa_up (ty0 k) 4 (3 + ct y)) (ty0 (ty_fi pl (kk_at (pl k) (tg y)) m))) →
      wY_findTypes_63 post J33 J41 (nI k) (d + 1) x1 (nI x) (nI cn) (nI hn) (nI m) g_there g_typed g_wrongNumber g_wrongPlace hg g_why g_height g_objects g_line g_begun g_last g_end (aa_N pa) (aa_N be) (aa_N op) ar (aa_N fr) (aa_N tt) (aa_N tg) (aa_N ct) b_places b_heights b_gone b_worst tys b_maps b_high kno b_mapped nw b_sorts b_ints b_classes b_ready := by
  have Y := la_sys P M L
  have m40 := L.1
  have hpa := P.2.2.2.2.1
  intro d
  induction d with
  | zero =>
    intro x hxd x1 kn ty hg kno tys nw T I hk hH
    have : x = hn := by omega
    subst this
    refine yf_end P M L yA T I hk (fun z => ⟨(hH z).1, fun j g hE => ?_⟩) K0 HJ
    obtain ⟨y, y1, y2, rfl, rfl⟩ := hE
    exact (hH z).2 y y1 y2
  | succ d ih =>
    intro x hxd x1 kn ty hg kno tys nw T I hk hH
    obtain ⟨i1, i2, i3, i4, i5⟩ := id I
    obtain ⟨km, kI⟩ := i1 k hk
    obtain ⟨v1, v2, v3⟩ := la_V P M L km
    obtain ⟨hh4, hx⟩ := And.intro P.2.1 (P.2.2.2.1 x)
    have ek : (nI k).toNatClampNeg = k := nI_clamp (by omega)
    refine br_f (nI_ge (by omega) (by omega)) (And.intro (vp_in_nI (by omega) (by decide)) ?_)
    rw [ek, (yA k km).1]
    refine yy_covers (by omega) v1 hx.1 hx.2.1 ?_
    by_cases c : pp_cv fr tt x (pl k % 25) = true
    · rw [c]
      refine br_f (by decide) (yt_throwTo P M L yA T i1 hk (by omega) c (fun r kno' tys' nw' T' hr => nm_e (nm_r (nI_1 x) ?_)))
      obtain ⟨I2, z2⟩ := yf_give Y I hk (Or.inl ⟨x, by omega, c, rfl, rfl⟩) hr
      refine ih (x + 1) (by omega) _ _ _ _ _ _ _ T' I2 (Or.inl hk) (fun z => ⟨(hH (z2 z).1).1, fun y hy hc => ?_⟩)
      obtain ⟨y0, y1, y2⟩ := z2 z
      rcases Nat.lt_or_ge y x with l | l
      · exact (hH y0).2 y l hc
      · have : y = x := by omega
        subst this
        refine ⟨y1, fun s hs => ?_⟩
        have e0 : ∀ s, s < 4 + va k → ty0 k s = ty k s := fun s hs => by
          rcases i5 with ⟨-, a, b⟩ | ⟨a, -⟩
          · exact (b k ((a k).mp hk) s hs).symm
          · rw [y0] at a; exact absurd a (by decide)
        have := y2 s hs
        have j3 := (la_hand L km (x := y) (by omega) c).2.2
        rw [j3] at hs
        by_cases e : s = 4
        · rw [e, aa_us] at this ⊢; exact this
        · rw [aa_un e] at this ⊢
          rw [e0 s (by omega)]; exact this
    · rw [ts_nt c]
      refine br_t (by decide) (nm_r (nI_1 x) (ih (x + 1) (by omega) _ _ _ _ _ _ _ T I hk (fun z => ⟨(hH z).1, fun y hy hc => (hH z).2 y ?_ hc⟩)))
      have : y ≠ x := fun e => c (e ▸ hc)
      omega
theorem yf_41 {J33 : _} {kn0 : Nat → Prop} {ty0 : Nat → Nat → Nat} (P : pp_P cn hn op fr tt tg ct pa be ar) (M : pp_M cn hn op tg ar) (L : la_L cn hn op fr tt tg ar m pl va) (yA : yl_A pl va m b_places b_high)
    (K0 : (∀ K F, ¬ it_sol pa va m (la_OK pa op ar pl va m) (la_EH hn fr tt tg ct pl m) (la_EN op ar pl va m) be K F) → ∀ hg kno tys nw, post 0 ((nI cn), (nI hn), (nI m), g_there, g_typed, g_wrongNumber, g_wrongPlace, hg, g_why, g_height, g_objects, g_line, g_begun, g_last, g_end, (aa_N pa), (aa_N be), (aa_N op), ar, (aa_N fr), (aa_N tt), (aa_N tg), (aa_N ct), b_places, b_heights, b_gone, b_worst, tys, b_maps, b_high, kno, b_mapped, nw, b_sorts, b_ints, b_classes, b_ready))
    (H0 : (∀ x, x < m → kn0 x → la_OK pa op ar pl va m x (ty0 x) ∧ it_S pa va (la_EH hn fr tt tg ct pl m) (la_EN op ar pl va m) kn0 ty0 x (ty0 x)) → ∀ kn ty hg kno tys nw, (∀ x, kn x ↔ kn0 x) → (∀ x, kn0 x → ∀ s, s < 4 + va x → ty x s = ty0 x s) → ar_T m va kn ty kno tys → J33 0 (nI cn) (nI hn) (nI m) g_there g_typed g_wrongNumber g_wrongPlace hg g_why g_height g_objects g_line g_begun g_last g_end (aa_N pa) (aa_N be) (aa_N op) ar (aa_N fr) (aa_N tt) (aa_N tg) (aa_N ct) b_places b_heights b_gone b_worst tys b_maps b_high kno b_mapped nw b_sorts b_ints b_classes b_ready)
    (H1 : ∀ kn ty hg kno tys nw, it_I va m kn ty → it_LB pa va m (la_OK pa op ar pl va m) (la_EH hn fr tt tg ct pl m) (la_EN op ar pl va m) be kn ty → it_gr pa va kn0 ty0 kn ty → it_P va m kn ty < it_P va m kn0 ty0 → ar_T m va kn ty kno tys → J33 1 (nI cn) (nI hn) (nI m) g_there g_typed g_wrongNumber g_wrongPlace hg g_why g_height g_objects g_line g_begun g_last g_end (aa_N pa) (aa_N be) (aa_N op) ar (aa_N fr) (aa_N tt) (aa_N tg) (aa_N ct) b_places b_heights b_gone b_worst tys b_maps b_high kno b_mapped nw b_sorts b_ints b_classes b_ready) :
    ∀ d k, k + d = m → ∀ x1 kn ty hg kno tys nw, ar_T m va kn ty kno tys → yf_I pa va m (la_OK pa op ar pl va m) (la_EH hn fr tt tg ct pl m) (la_EN op ar pl va m) be x1 kn0 ty0 kn ty →
      (x1 = 0 → ∀ x, x < k → kn0 x → la_OK pa op ar pl va m x (ty0 x) ∧ it_S pa va (la_EH hn fr tt tg ct pl m) (la_EN op ar pl va m) kn0 ty0 x (ty0 x)) → wY_findTypes_41 post J33 (d + 1) x1 (nI k) (nI cn) (nI hn) (nI m) g_there g_typed g_wrongNumber g_wrongPlace hg g_why g_height g_objects g_line g_begun g_last g_end (aa_N pa) (aa_N be) (aa_N op) ar (aa_N fr) (aa_N tt) (aa_N tg) (aa_N ct) b_places b_heights b_gone b_worst tys b_maps b_high kno b_mapped nw b_sorts b_ints b_classes b_ready := by
  have m40 := L.1
  intro d
  induction d with
  | zero =>
    intro k hkd x1 kn ty hg kno tys nw T I hD
    have : k = m := by omega
    subst this
    obtain ⟨i1, i2, i3, i4, i5⟩ := I
    refine br_t (nI_le (Nat.le_refl _) (by omega)) ?_
    rcases i5 with ⟨rfl, a, b⟩ | ⟨rfl, a⟩
    · exact H0 (hD rfl) kn ty hg kno tys nw a b T
    · exact H1 kn ty hg kno tys nw i1 i2 i3 a T
  | succ d ih =>
    intro k hkd x1 kn ty hg kno tys nw T I hD
    have ek : (nI k).toNatClampNeg = k := nI_clamp (by omega)
    obtain ⟨t1, t2⟩ := T k (by omega)
    refine br_f (nI_ge (by omega) (by omega)) (And.intro (vp_in_nI (by omega) (by decide)) ?_)
    rw [ek]
    by_cases h : kn k
    · rw [(t1 h).1]
      refine br_f (by decide) ⟨hn + 1, yf_63 (Z := x1 = 0) P M L yA K0 (fun x1' kn' ty' hg' kno' tys' nw' I' T' hz => ih (k + 1) (by omega) x1' kn' ty' hg' kno' tys' nw' T' I' (fun z x hx hx0 => ?_)) hn 0 (by omega) x1 kn ty hg kno tys nw T I h (fun z => ⟨z, fun y hy => by omega⟩)⟩
      rcases Nat.lt_or_ge x k with l | l
      · exact hD (hz z).1 x l hx0
      · have : x = k := by omega
        subst this; exact (hz z).2
    · rw [t2 h]
      refine br_t rfl (nm_r (nI_1 k) (ih (k + 1) (by omega) x1 kn ty hg kno tys nw T I (fun z x hx hx0 => ?_)))
      rcases Nat.lt_or_ge x k with l | l
      · exact hD z x l hx0
      · have : x = k := by omega
        subst this
        rcases I.2.2.2.2 with ⟨-, a, -⟩ | ⟨a, -⟩
        · exact absurd ((a x).mpr hx0) h
        · rw [z] at a; exact absurd a (by decide)
theorem yf_33 (P : pp_P cn hn op fr tt tg ct pa be ar) (M : pp_M cn hn op tg ar) (L : la_L cn hn op fr tt tg ar m pl va) (yA : yl_A pl va m b_places b_high)
    (K0 : (∀ K F, ¬ it_sol pa va m (la_OK pa op ar pl va m) (la_EH hn fr tt tg ct pl m) (la_EN op ar pl va m) be K F) → ∀ hg kno tys nw, post 0 ((nI cn), (nI hn), (nI m), g_there, g_typed, g_wrongNumber, g_wrongPlace, hg, g_why, g_height, g_objects, g_line, g_begun, g_last, g_end, (aa_N pa), (aa_N be), (aa_N op), ar, (aa_N fr), (aa_N tt), (aa_N tg), (aa_N ct), b_places, b_heights, b_gone, b_worst, tys, b_maps, b_high, kno, b_mapped, nw, b_sorts, b_ints, b_classes, b_ready))
    (K1 : ∀ kn ty hg kno tys nw, it_L pa va m (la_OK pa op ar pl va m) (la_EH hn fr tt tg ct pl m) (la_EN op ar pl va m) be kn ty → it_I va m kn ty → ar_T m va kn ty kno tys → post 1 ((nI cn), (nI hn), (nI m), g_there, g_typed, g_wrongNumber, g_wrongPlace, hg, g_why, g_height, g_objects, g_line, g_begun, g_last, g_end, (aa_N pa), (aa_N be), (aa_N op), ar, (aa_N fr), (aa_N tt), (aa_N tg), (aa_N ct), b_places, b_heights, b_gone, b_worst, tys, b_maps, b_high, kno, b_mapped, nw, b_sorts, b_ints, b_classes, b_ready)) :
    ∀ B kn0 ty0 hg kno tys nw, ar_T m va kn0 ty0 kno tys → it_I va m kn0 ty0 → it_LB pa va m (la_OK pa op ar pl va m) (la_EH hn fr tt tg ct pl m) (la_EN op ar pl va m) be kn0 ty0 → kn0 0 → it_le pa va 0 be (ty0 0) → it_P va m kn0 ty0 ≤ B → wY_findTypes_33 post (B + 2) 1 (nI cn) (nI hn) (nI m) g_there g_typed g_wrongNumber g_wrongPlace hg g_why g_height g_objects g_line g_begun g_last g_end (aa_N pa) (aa_N be) (aa_N op) ar (aa_N fr) (aa_N tt) (aa_N tg) (aa_N ct) b_places b_heights b_gone b_worst tys b_maps b_high kno b_mapped nw b_sorts b_ints b_classes b_ready := by
  have hpa := P.2.2.2.2.1
  -- the last sweep
  have done : ∀ kn0 ty0, it_I va m kn0 ty0 → it_LB pa va m (la_OK pa op ar pl va m) (la_EH hn fr tt tg ct pl m) (la_EN op ar pl va m) be kn0 ty0 → kn0 0 → it_le pa va 0 be (ty0 0) → (∀ x, x < m → kn0 x → la_OK pa op ar pl va m x (ty0 x) ∧ it_S pa va (la_EH hn fr tt tg ct pl m) (la_EN op ar pl va m) kn0 ty0 x (ty0 x)) → ∀ n kn ty hg kno tys nw, (∀ x, kn x ↔ kn0 x) → (∀ x, kn0 x → ∀ s, s < 4 + va x → ty x s = ty0 x s) → ar_T m va kn ty kno tys → wY_findTypes_33 post (n + 1) 0 (nI cn) (nI hn) (nI m) g_there g_typed g_wrongNumber g_wrongPlace hg g_why g_height g_objects g_line g_begun g_last g_end (aa_N pa) (aa_N be) (aa_N op) ar (aa_N fr) (aa_N tt) (aa_N tg) (aa_N ct) b_places b_heights b_gone b_worst tys b_maps b_high kno b_mapped nw b_sorts b_ints b_classes b_ready := by
    intro kn0 ty0 hI hB h0 hbe hall n kn ty hg kno tys nw a b T
    refine br_t rfl (K1 kn0 ty0 hg kno tys nw ⟨⟨h0, hbe, fun k hk => ⟨(hI k hk).1, hall k (hI k hk).1 hk⟩⟩, hB⟩ hI (fun k hk => ?_))
    obtain ⟨t1, t2⟩ := T k hk
    refine ⟨fun z => ?_, fun z => t2 (fun y => z ((a k).mp y))⟩
    obtain ⟨u1, u2⟩ := t1 ((a k).mpr z)
    exact ⟨u1, fun s hs => by rw [← b k z s hs]; exact u2 s hs⟩
  intro B
  induction B with
  | zero =>
    intro kn0 ty0 hg kno tys nw T hI hB h0 hbe hP
    refine br_f (by decide) ⟨m + 1, yf_41 P M L yA K0 (fun hall kn ty hg kno tys nw a b T' => done kn0 ty0 hI hB h0 hbe hall 0 kn ty hg kno tys nw a b T') (fun kn ty hg kno tys nw _ _ _ hlt _ => by omega) m 0 (by omega) 0 kn0 ty0 hg kno tys nw T (yf_0 hI hB) (fun _ x hx => by omega)⟩
  | succ B ih =>
    intro kn0 ty0 hg kno tys nw T hI hB h0 hbe hP
    exact br_f (by decide) ⟨m + 1, yf_41 P M L yA K0 (fun hall kn ty hg kno tys nw a b T' => done kn0 ty0 hI hB h0 hbe hall (B + 1) kn ty hg kno tys nw a b T') (fun kn ty hg kno tys nw i1 i2 i3 hlt T' => ih kn ty hg kno tys nw T' i1 i2 (i3 0 h0).1 (fun s hs => ty_trans hpa (hbe s hs) ((i3 0 h0).2 s hs)) (by omega)) m 0 (by omega) 0 kn0 ty0 hg kno tys nw T (yf_0 hI hB) (fun _ x hx => by omega)⟩
theorem yf_findTypes (P : pp_P cn hn op fr tt tg ct pa be ar) (M : pp_M cn hn op tg ar) (L : la_L cn hn op fr tt tg ar m pl va) (yA : yl_A pl va m b_places b_high)
    (K0 : (∀ K F, ¬ it_sol pa va m (la_OK pa op ar pl va m) (la_EH hn fr tt tg ct pl m) (la_EN op ar pl va m) be K F) → ∀ hg kno tys nw, post 0 ((nI cn), (nI hn), (nI m), g_there, g_typed, g_wrongNumber, g_wrongPlace, hg, g_why, g_height, g_objects, g_line, g_begun, g_last, g_end, (aa_N pa), (aa_N be), (aa_N op), ar, (aa_N fr), (aa_N tt), (aa_N tg), (aa_N ct), b_places, b_heights, b_gone, b_worst, tys, b_maps, b_high, kno, b_mapped, nw, b_sorts, b_ints, b_classes, b_ready))
    (K1 : ∀ kn ty hg kno tys nw, it_L pa va m (la_OK pa op ar pl va m) (la_EH hn fr tt tg ct pl m) (la_EN op ar pl va m) be kn ty → it_I va m kn ty → ar_T m va kn ty kno tys → post 1 ((nI cn), (nI hn), (nI m), g_there, g_typed, g_wrongNumber, g_wrongPlace, hg, g_why, g_height, g_objects, g_line, g_begun, g_last, g_end, (aa_N pa), (aa_N be), (aa_N op), ar, (aa_N fr), (aa_N tt), (aa_N tg), (aa_N ct), b_places, b_heights, b_gone, b_worst, tys, b_maps, b_high, kno, b_mapped, nw, b_sorts, b_ints, b_classes, b_ready)) : wpY_findTypes post ((nI cn), (nI hn), (nI m), g_there, g_typed, g_wrongNumber, g_wrongPlace, g_size, g_why, g_height, g_objects, g_line, g_begun, g_last, g_end, (aa_N pa), (aa_N be), (aa_N op), ar, (aa_N fr), (aa_N tt), (aa_N tg), (aa_N ct), b_places, b_heights, b_gone, b_worst, b_frames, b_maps, b_high, b_known, b_mapped, b_now, b_sorts, b_ints, b_classes, b_ready) := by
  have Y := la_sys P M L
  have m40 := L.1
  have hpa := P.2.2.2.2.1
  have hbe := P.2.2.2.2.2.1
  obtain ⟨m0, p0, v0⟩ := la_0 L
  have r2 : ∀ d k, k + d = m → ∀ kno, (∀ x, x < k → kno x = 0) → wY_findTypes_2 post (nI cn) (nI hn) (nI m) g_there g_typed g_wrongNumber g_wrongPlace g_size g_why g_height g_objects g_line g_begun g_last g_end (d + 1) (nI k) (aa_N pa) (aa_N be) (aa_N op) ar (aa_N fr) (aa_N tt) (aa_N tg) (aa_N ct) b_places b_heights b_gone b_worst b_frames b_maps b_high kno b_mapped b_now b_sorts b_ints b_classes b_ready := by
    intro d
    induction d with
    | zero =>
      intro k hk kno hkno
      have T0 : ar_T m va (fun _ => False) (fun _ => be) kno b_frames := fun x hx => ⟨fun z => z.elim, fun _ => hkno x (by omega)⟩
      refine br_t (nI_le (by omega) (by omega)) (yt_start hbe (fun nw hnw => ?_))
      refine yt_give (j := 0) (q := 0) (by rw [v0]; rfl) hpa m40 Y.2.2.1 L.2.2.1 yA T0 (fun x hx => hx.elim) m0 p0 (g := be) (fun s hs => ⟨hnw s (by rw [v0] at hs; omega), by have := hbe s; omega⟩) (fun r kno' tys T hr => ?_)
      have r1 : r = 1 := by
        rcases hr with ⟨z, -⟩ | ⟨-, z⟩
        · exact z
        · exact absurd (Or.inl (fun y => y)) z
      subst r1
      refine ⟨_, yf_33 P M L yA K0 K1 (it_P va m (it_k (fun _ => False) 0) (it_t pa (fun _ => False) (fun _ => be) 0 be)) _ _ _ _ _ _ T (fun k hk => ?_) (fun K F S k hk => ?_) (Or.inr rfl) (fun s hs => ?_) (Nat.le_refl _)⟩
      · have : k = 0 := hk.resolve_left (fun z => z)
        subst this
        refine ⟨m0, fun s hs => ?_⟩
        rw [it_t_un (fun z => z)]
        have := hbe s
        exact ⟨by omega, fun j _ e => by omega⟩
      · have : k = 0 := hk.resolve_left (fun z => z)
        subst this
        refine ⟨S.1, fun s hs => ?_⟩
        rw [it_t_un (fun z => z)]; exact S.2.1 s hs
      · rw [it_t_un (fun z => z)]; exact ty_refl _
    | succ d ih =>
      intro k hk kno hkno
      have ek : (nI k).toNatClampNeg = k := nI_clamp (by omega)
      refine br_f (nI_ge (by omega) (by omega)) (And.intro (vp_in_nI (by omega) (by decide)) (nm_r (e' := upd kno k 0) (by rw [ek, aa_nz0]) (nm_r (nI_1 k) (ih (k + 1) (by omega) _ (fun x hx => ?_)))))
      by_cases e : x = k
      · rw [e, pk_us]
      · rw [pk_un e]; exact hkno x (by omega)
  exact ⟨m + 1, r2 m 0 (by omega) b_known (fun x hx => by omega)⟩
end
end
section
/-! the component's number and link -/
def mp_A (m : Nat) (Q : Nat → Prop) (mapped : Nat → Int32) : Prop := ∀ j, j < m → (Q j → mapped j = 1) ∧ (¬ Q j → mapped j = 0)
theorem mp_set {m t : Nat} {Q : Nat → Prop} {mapped : Nat → Int32} (h : mp_A m Q mapped) : mp_A m (fun j => Q j ∨ j = t) (upd mapped t 1) := by
  intro j hj
  obtain ⟨h1, h2⟩ := h j hj
  by_cases e : j = t
  · rw [e, pk_us]; exact ⟨fun _ => rfl, fun z => absurd (Or.inr rfl) z⟩
  · rw [pk_un e]; exact ⟨fun z => h1 (z.resolve_right e), fun z => h2 (fun y => z (Or.inl y))⟩
theorem mp_iff {m : Nat} {Q Q' : Nat → Prop} {mapped : Nat → Int32} (h : mp_A m Q mapped) (e : ∀ j, j < m → (Q j ↔ Q' j)) : mp_A m Q' mapped := fun j hj =>
  ⟨fun z => (h j hj).1 ((e j hj).mpr z), fun z => (h j hj).2 (fun y => z ((e j hj).mp y))⟩
/-- place k has an edge by a jump, or to the first x handlers, to j -/
def la_mj (op : Nat → Nat) (ar : Nat → Int32) (pl : Nat → Nat) (m k j : Nat) : Prop := (aa_ld (op (pl k % 25)) = true ∨ op (pl k % 25) = 16) ∧ j = ty_fi pl (pp_to op ar (pl k)) m
def la_mh (fr tt tg pl : Nat → Nat) (m k x j : Nat) : Prop := ∃ y, y < x ∧ pp_cv fr tt y (pl k % 25) = true ∧ j = ty_fi pl (kk_at (pl k) (tg y)) m
def la_mp (hn : Nat) (op fr tt tg : Nat → Nat) (ar : Nat → Int32) (pl : Nat → Nat) (m n j : Nat) : Prop := ∃ k, k < n ∧ (la_mj op ar pl m k j ∨ la_mh fr tt tg pl m k hn j)
section
variable {cn hn : Nat} {op fr tt tg ct pa be : Nat → Nat} {ar an : Nat → Int32}
variable {f_count f_handlers f_met f_waiting f_tooMany f_size f_height f_why f_found f_objects f_high f_at f_here f_steps f_outcome f_last f_ran : Int32} {a_parents a_ancestors a_begins a_ops a_operands a_froms a_tos a_targets a_catches a_keys a_heights a_faults a_table a_todo a_said a_sorted a_instruction a_values a_jumps a_caught a_caller a_mapped a_known a_types a_maps a_now a_sort a_made a_number a_ready : Nat → Int32}
variable {m : Nat} {pl va : Nat → Nat} {post : SX → Prop}
theorem xl_number {post : Int32 → Prop} {j : Nat} (hm : m ≤ 40) (hs : ∀ k, k < m → a_sorted k = nI (pl k) ∧ pl k < 2 ^ 31) (hinc : ∀ i j, i < j → j < m → pl i < pl j) (hj : j < m) (h : post (nI j)) : wpX_number post (f_count, f_handlers, f_met, f_waiting, f_tooMany, (nI m), f_height, f_why, f_found, f_objects, f_high, f_at, f_here, f_steps, f_outcome, f_last, f_ran, a_parents, a_ancestors, a_begins, a_ops, a_operands, a_froms, a_tos, a_targets, a_catches, a_keys, a_heights, a_faults, a_table, a_todo, a_said, a_sorted, a_instruction, a_values, a_jumps, a_caught, a_caller, a_mapped, a_known, a_types, a_maps, a_now, a_sort, a_made, a_number, a_ready) (nI (pl j)) := by
  have key : ∀ n a b, b - a < n → a ≤ j → j ≤ b → b < m → wX_number_9 post (nI (pl j)) f_count f_handlers f_met f_waiting f_tooMany (nI m) f_height f_why f_found f_objects f_high f_at f_here f_steps f_outcome f_last f_ran a_parents a_ancestors a_begins a_ops a_operands a_froms a_tos a_targets a_catches a_keys a_heights a_faults a_table a_todo a_said a_sorted a_instruction a_values a_jumps a_caught a_caller a_mapped a_known a_types a_maps a_now a_sort a_made a_number a_ready n (nI a) (nI b) := by
    intro n
    induction n with
    | zero => intro a b h; omega
    | succ n ih =>
      intro a b hab h1 h2 h3
      refine pk_le b a (fun z => ?_) (fun z => ?_)
      · have : a = j := by omega
        subst this; exact h
      · have em : (nI a + nI b) >>> ((1 : Int32) &&& 31) = nI ((a + b) / 2) := by rw [nI_add, pk_shrN (by omega) _ 1 (by decide)]
        have ec : (nI ((a + b) / 2)).toNatClampNeg = (a + b) / 2 := nI_clamp (by omega)
        obtain ⟨s1, s2⟩ := hs ((a + b) / 2) (by omega)
        have s3 := (hs j hj).2
        refine nm_r em (And.intro (vp_in_nI (by omega) (by decide)) ?_)
        rw [ec, s1]
        refine pk_le (pl j) (pl ((a + b) / 2)) (fun y => ih a ((a + b) / 2) (by omega) h1 ?_ (by omega)) (fun y => nm_r (nI_1 _) (ih ((a + b) / 2 + 1) b (by omega) ?_ h2 h3))
        · rcases Nat.lt_or_ge ((a + b) / 2) j with w | w
          · have := hinc _ _ w hj; omega
          · exact w
        · rcases Nat.lt_or_ge ((a + b) / 2) j with w | w
          · omega
          · rcases Nat.lt_or_ge j ((a + b) / 2) with w' | w'
            · have := hinc _ _ w' (by omega); omega
            · have : (a + b) / 2 = j := by omega
              rw [this] at y; omega
  exact nm_r (e' := nI (m - 1)) (pk_sub (b := 1) (by omega)) ⟨m + 1, key (m + 1) 0 (m - 1) (by omega) (by omega) (by omega) (by omega)⟩
/-- number at a key that is there -/
theorem xl_numq {post : Int32 → Prop} {q : Nat} (hm : m ≤ 40) (hs : ∀ k, k < m → a_sorted k = nI (pl k) ∧ pl k < 2 ^ 31) (hinc : ∀ i j, i < j → j < m → pl i < pl j) (hj : ty_fi pl q m < m) (h : post (nI (ty_fi pl q m))) : wpX_number post (f_count, f_handlers, f_met, f_waiting, f_tooMany, (nI m), f_height, f_why, f_found, f_objects, f_high, f_at, f_here, f_steps, f_outcome, f_last, f_ran, a_parents, a_ancestors, a_begins, a_ops, a_operands, a_froms, a_tos, a_targets, a_catches, a_keys, a_heights, a_faults, a_table, a_todo, a_said, a_sorted, a_instruction, a_values, a_jumps, a_caught, a_caller, a_mapped, a_known, a_types, a_maps, a_now, a_sort, a_made, a_number, a_ready) (nI q) := by
  have e := (ty_fi_sp (pl := pl) (q := q) (m := m)).2.1 hj
  have := xl_number (post := post) (pl := pl) (f_count := f_count) (f_handlers := f_handlers) (f_met := f_met) (f_waiting := f_waiting) (f_tooMany := f_tooMany) (f_height := f_height) (f_why := f_why) (f_found := f_found) (f_objects := f_objects) (f_high := f_high) (f_at := f_at) (f_here := f_here) (f_steps := f_steps) (f_outcome := f_outcome) (f_last := f_last) (f_ran := f_ran) (a_parents := a_parents) (a_ancestors := a_ancestors) (a_begins := a_begins) (a_ops := a_ops) (a_operands := a_operands) (a_froms := a_froms) (a_tos := a_tos) (a_targets := a_targets) (a_catches := a_catches) (a_keys := a_keys) (a_heights := a_heights) (a_faults := a_faults) (a_table := a_table) (a_todo := a_todo) (a_said := a_said) (a_instruction := a_instruction) (a_values := a_values) (a_jumps := a_jumps) (a_caught := a_caught) (a_caller := a_caller) (a_mapped := a_mapped) (a_known := a_known) (a_types := a_types) (a_maps := a_maps) (a_now := a_now) (a_sort := a_sort) (a_made := a_made) (a_number := a_number) (a_ready := a_ready) hm hs hinc hj h
  rw [e] at this; exact this
def xl_J (op pl : Nat → Nat) (ar : Nat → Int32) (m n : Nat) (jumps : Nat → Int32) : Prop := ∀ k, k < n → ((aa_ld (op (pl k % 25)) = true ∨ op (pl k % 25) = 16) → jumps k = nI (ty_fi pl (pp_to op ar (pl k)) m)) ∧ (¬ (aa_ld (op (pl k % 25)) = true ∨ op (pl k % 25) = 16) → jumps k = -1)
def xl_C (pl : Nat → Nat) (m n : Nat) (caller : Nat → Int32) : Prop := ∀ k, k < n → 0 < pl k / 390625 → caller k = nI (ty_fi pl (kk_cal (pl k)) m)
def xl_H (hn : Nat) (fr tt tg pl : Nat → Nat) (m n x : Nat) (caught : Nat → Int32) : Prop := ∀ k y, y < 4 → (k < n ∨ (k = n ∧ y < x)) → ((y < hn ∧ pp_cv fr tt y (pl k % 25) = true) → caught (4 * k + y) = nI (ty_fi pl (kk_at (pl k) (tg y)) m)) ∧ (¬ (y < hn ∧ pp_cv fr tt y (pl k % 25) = true) → caught (4 * k + y) = -1)
theorem xl_197 {J25 : _} {k : Nat} {Q0 : Nat → Prop} (P : pp_P cn hn op fr tt tg ct pa be ar) (M : pp_M cn hn op tg ar) (L : la_L cn hn op fr tt tg ar m pl va) (hs : ∀ k, k < m → a_sorted k = nI (pl k)) (hk : k < m)
    (K : ∀ cau mpd, xl_H hn fr tt tg pl m (k + 1) 0 cau → mp_A m (fun j => Q0 j ∨ la_mh fr tt tg pl m k hn j) mpd → J25 (nI (k + 1)) (aa_N pa) an (aa_N be) (aa_N op) ar (aa_N fr) (aa_N tt) (aa_N tg) (aa_N ct) a_keys a_heights a_faults a_table a_todo a_said a_sorted a_instruction a_values a_jumps cau a_caller mpd a_known a_types a_maps a_now a_sort a_made a_number a_ready) :
    ∀ d x, x + d = 4 → ∀ cau mpd, xl_H hn fr tt tg pl m k x cau → mp_A m (fun j => Q0 j ∨ (∃ y, y < x ∧ y < hn ∧ pp_cv fr tt y (pl k % 25) = true ∧ j = ty_fi pl (kk_at (pl k) (tg y)) m)) mpd → wX_link_197 post J25 (nI k) (nI (pl k)) (nI (pl k % 25)) (nI cn) (nI hn) f_met f_waiting f_tooMany (nI m) f_height f_why f_found f_objects f_high f_at f_here f_steps f_outcome f_last f_ran (d + 1) (nI x) (aa_N pa) an (aa_N be) (aa_N op) ar (aa_N fr) (aa_N tt) (aa_N tg) (aa_N ct) a_keys a_heights a_faults a_table a_todo a_said a_sorted a_instruction a_values a_jumps cau a_caller mpd a_known a_types a_maps a_now a_sort a_made a_number a_ready := by
  obtain ⟨hc, hh4, hop, hx, hpa, hbe, hfit⟩ := id P
  have m40 := L.1
  obtain ⟨v1, v2, v3⟩ := la_V P M L hk
  have hql := kk_Vlt v1
  have hsv : ∀ k, k < m → a_sorted k = nI (pl k) ∧ pl k < 2 ^ 31 := fun k hk => ⟨hs k hk, by have := kk_Vlt (la_V P M L hk).1; omega⟩
  have hle : pl k % 25 ≤ pl k := Nat.mod_le _ _
  intro d
  induction d with
  | zero =>
    intro x hxd cau mpd hH hM
    have : x = 4 := by omega
    subst this
    refine br_t (by decide) (nm_r (nI_1 k) (K cau mpd (fun k' y hy hky => hH k' y hy ?_) (mp_iff hM (fun j hj => ?_))))
    · omega
    · refine or_congr Iff.rfl ⟨fun ⟨y, y1, y2, y3⟩ => ⟨y, y2, y3⟩, fun ⟨y, y1, y2⟩ => ⟨y, by omega, y1, y2⟩⟩
  | succ d ih =>
    intro x hxd cau mpd hH hM
    have e4 : (4 : Int32) * nI k + nI x = nI (4 * k + x) := by rw [show (4 : Int32) * nI k = nI (4 * k) from pk_mul 4 k, nI_add]
    have ec : (nI (4 * k + x)).toNatClampNeg = 4 * k + x := nI_clamp (by omega)
    have hin := vp_in_nI (n := 4 * k + x) (N := 160) (by omega) (by decide)
    have ex : (nI x).toNatClampNeg = x := nI_clamp (by omega)
    -- the store at one handler
    have hHn : ∀ v, ((x < hn ∧ pp_cv fr tt x (pl k % 25) = true) → v = nI (ty_fi pl (kk_at (pl k) (tg x)) m)) → (¬ (x < hn ∧ pp_cv fr tt x (pl k % 25) = true) → v = -1) → xl_H hn fr tt tg pl m k (x + 1) (upd cau (4 * k + x) v) := by
      intro v h1 h0 k' y hy hky
      by_cases e : k' = k ∧ y = x
      · obtain ⟨rfl, rfl⟩ := e
        rw [pk_us]; exact ⟨h1, h0⟩
      · rw [pk_un (by omega)]; exact hH k' y hy (by omega)
    have no : ¬ (x < hn ∧ pp_cv fr tt x (pl k % 25) = true) → wX_link_251 post J25 (wX_link_197 post J25 (nI k) (nI (pl k)) (nI (pl k % 25)) (nI cn) (nI hn) f_met f_waiting f_tooMany (nI m) f_height f_why f_found f_objects f_high f_at f_here f_steps f_outcome f_last f_ran (d + 1)) (nI k) (nI (pl k)) (nI (pl k % 25)) (nI x) (-1) (4 * nI k + nI x) (nI cn) (nI hn) f_met f_waiting f_tooMany (nI m) f_height f_why f_found f_objects f_high f_at f_here f_steps f_outcome f_last f_ran (aa_N pa) an (aa_N be) (aa_N op) ar (aa_N fr) (aa_N tt) (aa_N tg) (aa_N ct) a_keys a_heights a_faults a_table a_todo a_said a_sorted a_instruction a_values a_jumps cau a_caller mpd a_known a_types a_maps a_now a_sort a_made a_number a_ready := by
      intro hno
      unfold wX_link_251
      rw [e4, ec]
      refine And.intro hin (nm_r (e' := upd cau (4 * k + x) (-1)) (by rw [aa_nbm']) (And.intro hin ?_))
      rw [pk_us]
      refine br_t (by decide) (nm_r (nI_1 x) (ih (x + 1) (by omega) _ mpd (hHn _ (fun z => absurd z hno) (fun _ => rfl)) (mp_iff hM (fun j hj => or_congr Iff.rfl ⟨fun ⟨y, y1, y2⟩ => ⟨y, by omega, y2⟩, fun ⟨y, y1, y2, y3⟩ => ⟨y, ?_, y2, y3⟩⟩))))
      have : y ≠ x := fun e => hno (e ▸ ⟨y2, y3.1⟩)
      omega
    refine br_f (nI_ge (b := 4) (by omega) (by decide)) (pk_le hn x (fun z => no (by omega)) (fun z => ?_))
    refine xx_covers (by omega) (by omega) (hx x).1 (hx x).2.1 ?_
    by_cases c : pp_cv fr tt x (pl k % 25) = true
    · rw [c]
      obtain ⟨j1, j2, j3⟩ := la_hand L hk z c
      refine br_f (by decide) (And.intro (vp_in_nI (by omega) (by decide)) ?_)
      rw [ex, show aa_N tg x = nI (tg x) from rfl, xv_jump hle]
      refine xl_numq (pl := pl) m40 hsv L.2.2.1 j1 ?_
      unfold wX_link_251
      rw [e4, ec]
      refine And.intro hin (nm_r (e' := upd cau (4 * k + x) (nI (ty_fi pl (kk_at (pl k) (tg x)) m))) (by rw [aa_nb (by omega)]) (And.intro hin ?_))
      rw [pk_us, nI_clamp (show ty_fi pl (kk_at (pl k) (tg x)) m < 2 ^ 31 by omega)]
      refine br_f (nI_pos (by omega)) (And.intro hin (And.intro (vp_in_nI (by omega) (by decide)) (nm_r (e' := upd mpd (ty_fi pl (kk_at (pl k) (tg x)) m) 1) (by rw [aa_nz1]) (nm_r (nI_1 x) (ih (x + 1) (by omega) _ _ (hHn _ (fun _ => rfl) (fun y => absurd ⟨z, c⟩ y)) (mp_iff (mp_set hM) (fun j hj => ⟨fun w => ?_, fun w => ?_⟩)))))))
      · rcases w with (w | ⟨y, y1, y2⟩) | w
        · exact Or.inl w
        · exact Or.inr ⟨y, by omega, y2⟩
        · exact Or.inr ⟨x, by omega, z, c, w⟩
      · rcases w with w | ⟨y, y1, y2, y3, y4⟩
        · exact Or.inl (Or.inl w)
        · rcases Nat.lt_or_ge y x with l | l
          · exact Or.inl (Or.inr ⟨y, l, y2, y3, y4⟩)
          · have : y = x := by omega
            subst this; exact Or.inr y4
    · rw [ts_nt c]
      exact br_t (by decide) (no (fun y => c y.2))
theorem xl_25 (P : pp_P cn hn op fr tt tg ct pa be ar) (M : pp_M cn hn op tg ar) (L : la_L cn hn op fr tt tg ar m pl va) (hs : ∀ k, k < m → a_sorted k = nI (pl k)) (hi : ∀ k, k < m → a_instruction k = nI (pl k % 25))
    (K : ∀ ju cau cal mpd, xl_J op pl ar m m ju → xl_C pl m m cal → xl_H hn fr tt tg pl m m 0 cau → mp_A m (la_mp hn op fr tt tg ar pl m m) mpd → post ((nI cn), (nI hn), f_met, f_waiting, f_tooMany, (nI m), f_height, f_why, f_found, f_objects, f_high, f_at, f_here, f_steps, f_outcome, f_last, f_ran, (aa_N pa), an, (aa_N be), (aa_N op), ar, (aa_N fr), (aa_N tt), (aa_N tg), (aa_N ct), a_keys, a_heights, a_faults, a_table, a_todo, a_said, a_sorted, a_instruction, a_values, ju, cau, cal, mpd, a_known, a_types, a_maps, a_now, a_sort, a_made, a_number, a_ready)) :
    ∀ d k, k + d = m → ∀ ju cau cal mpd, xl_J op pl ar m k ju → xl_C pl m k cal → xl_H hn fr tt tg pl m k 0 cau → mp_A m (la_mp hn op fr tt tg ar pl m k) mpd → wX_link_25 post (nI cn) (nI hn) f_met f_waiting f_tooMany (nI m) f_height f_why f_found f_objects f_high f_at f_here f_steps f_outcome f_last f_ran (d + 1) (nI k) (aa_N pa) an (aa_N be) (aa_N op) ar (aa_N fr) (aa_N tt) (aa_N tg) (aa_N ct) a_keys a_heights a_faults a_table a_todo a_said a_sorted a_instruction a_values ju cau cal mpd a_known a_types a_maps a_now a_sort a_made a_number a_ready := by
  obtain ⟨hc, hh4, hop, hx, hpa, hbe, hfit⟩ := id P
  have m40 := L.1
  have hsv : ∀ k, k < m → a_sorted k = nI (pl k) ∧ pl k < 2 ^ 31 := fun k hk => ⟨hs k hk, by have := kk_Vlt (la_V P M L hk).1; omega⟩
  intro d
  induction d with
  | zero =>
    intro k hkd ju cau cal mpd hJ hC hH hM
    have : k = m := by omega
    subst this
    exact br_t (nI_le (Nat.le_refl _) (by omega)) (K ju cau cal mpd hJ hC hH hM)
  | succ d ih =>
    intro k hkd ju cau cal mpd hJ hC hH hM
    have hk : k < m := by omega
    obtain ⟨v1, v2, v3⟩ := la_V P M L hk
    obtain ⟨h15, h16⟩ := la_16 L P M hk
    have hql := kk_Vlt v1
    have hqn := kk_Vn v1
    have ho := hop (pl k % 25)
    have ek : (nI k).toNatClampNeg = k := nI_clamp (by omega)
    have ei : (nI (pl k % 25)).toNatClampNeg = pl k % 25 := nI_clamp (by omega)
    have hle : pl k % 25 ≤ pl k := Nat.mod_le _ _
    have hink := vp_in_nI (n := k) (N := 40) (by omega) (by decide)
    have hini := vp_in_nI (n := pl k % 25) (N := 24) (by omega) (by decide)
    -- the callers and handlers, behind the jump
    have r161 : ∀ ju mpd, xl_J op pl ar m (k + 1) ju → mp_A m (fun j => la_mp hn op fr tt tg ar pl m k j ∨ la_mj op ar pl m k j) mpd → wX_link_161 post (wX_link_25 post (nI cn) (nI hn) f_met f_waiting f_tooMany (nI m) f_height f_why f_found f_objects f_high f_at f_here f_steps f_outcome f_last f_ran (d + 1)) (nI k) (nI (pl k)) (nI (pl k % 25)) (nI (pl k / 390625)) (nI cn) (nI hn) f_met f_waiting f_tooMany (nI m) f_height f_why f_found f_objects f_high f_at f_here f_steps f_outcome f_last f_ran (aa_N pa) an (aa_N be) (aa_N op) ar (aa_N fr) (aa_N tt) (aa_N tg) (aa_N ct) a_keys a_heights a_faults a_table a_todo a_said a_sorted a_instruction a_values ju cau cal mpd a_known a_types a_maps a_now a_sort a_made a_number a_ready := by
      intro ju mpd hJ' hM'
      have r197 : ∀ cal', xl_C pl m (k + 1) cal' → ∃ n197, wX_link_197 post (wX_link_25 post (nI cn) (nI hn) f_met f_waiting f_tooMany (nI m) f_height f_why f_found f_objects f_high f_at f_here f_steps f_outcome f_last f_ran (d + 1)) (nI k) (nI (pl k)) (nI (pl k % 25)) (nI cn) (nI hn) f_met f_waiting f_tooMany (nI m) f_height f_why f_found f_objects f_high f_at f_here f_steps f_outcome f_last f_ran n197 0 (aa_N pa) an (aa_N be) (aa_N op) ar (aa_N fr) (aa_N tt) (aa_N tg) (aa_N ct) a_keys a_heights a_faults a_table a_todo a_said a_sorted a_instruction a_values ju cau cal' mpd a_known a_types a_maps a_now a_sort a_made a_number a_ready := by
        intro cal' hC'
        refine ⟨5, xl_197 (Q0 := fun j => la_mp hn op fr tt tg ar pl m k j ∨ la_mj op ar pl m k j) P M L hs hk (fun cau' mpd' hH' hM'' => ih (k + 1) (by omega) ju cau' cal' mpd' hJ' hC' hH' (mp_iff hM'' (fun j hj => ⟨fun w => ?_, fun w => ?_⟩))) 4 0 (by omega) cau mpd hH (mp_iff hM' (fun j hj => ⟨fun w => Or.inl w, fun w => w.elim id (fun ⟨y, y1, _⟩ => by omega)⟩))⟩
        · rcases w with (⟨k', k1, k2⟩ | w) | w
          · exact ⟨k', by omega, k2⟩
          · exact ⟨k, by omega, Or.inl w⟩
          · exact ⟨k, by omega, Or.inr w⟩
        · obtain ⟨k', k1, k2⟩ := w
          rcases Nat.lt_or_ge k' k with l | l
          · exact Or.inl (Or.inl ⟨k', l, k2⟩)
          · have : k' = k := by omega
            subst this
            rcases k2 with k2 | k2
            · exact Or.inl (Or.inr k2)
            · exact Or.inr k2
      refine And.intro hink (nm_r (e' := upd cal k (-1)) (by rw [ek, aa_nbm]) (pk_le (pl k / 390625) 0 (fun z => r197 _ (fun k' hk' hn' => ?_)) (fun z => xx_behind v1 z (nm_r (e' := nI (kk_cal (pl k))) (nI_pred _) ?_))))
      · have : k' ≠ k := fun e => by subst e; omega
        rw [pk_un this]; exact hC k' (by omega) hn'
      · obtain ⟨c1, c2, c3⟩ := la_cal P M L hk z
        refine xl_numq (pl := pl) m40 hsv L.2.2.1 c1 (And.intro hink (nm_r (e' := upd (upd cal k (-1)) k (nI (ty_fi pl (kk_cal (pl k)) m))) (by rw [ek, aa_nb (by omega)]) (r197 _ (fun k' hk' hn' => ?_))))
        by_cases e : k' = k
        · rw [e, pk_us]
        · rw [pk_un e, pk_un e]; exact hC k' (by omega) hn'
    have hJn : ∀ v, ((aa_ld (op (pl k % 25)) = true ∨ op (pl k % 25) = 16) → v = nI (ty_fi pl (pp_to op ar (pl k)) m)) → (¬ (aa_ld (op (pl k % 25)) = true ∨ op (pl k % 25) = 16) → v = -1) → xl_J op pl ar m (k + 1) (upd ju k v) := by
      intro v h1 h0 k' hk'
      by_cases e : k' = k
      · rw [e, pk_us]; exact ⟨h1, h0⟩
      · rw [pk_un e]; exact hJ k' (by omega)
    have r122 : ∀ x6, (((aa_ld (op (pl k % 25)) = true ∨ op (pl k % 25) = 16) ∧ x6 = nI (pp_to op ar (pl k))) ∨ (¬ (aa_ld (op (pl k % 25)) = true ∨ op (pl k % 25) = 16) ∧ x6 = -1)) → wX_link_122 post (wX_link_25 post (nI cn) (nI hn) f_met f_waiting f_tooMany (nI m) f_height f_why f_found f_objects f_high f_at f_here f_steps f_outcome f_last f_ran (d + 1)) (nI k) (nI (pl k)) (nI (pl k % 25)) (nI (pl k / 390625)) x6 (nI cn) (nI hn) f_met f_waiting f_tooMany (nI m) f_height f_why f_found f_objects f_high f_at f_here f_steps f_outcome f_last f_ran (aa_N pa) an (aa_N be) (aa_N op) ar (aa_N fr) (aa_N tt) (aa_N tg) (aa_N ct) a_keys a_heights a_faults a_table a_todo a_said a_sorted a_instruction a_values ju cau cal mpd a_known a_types a_maps a_now a_sort a_made a_number a_ready := by
      intro x6 hx6
      rcases hx6 with ⟨h, rfl⟩ | ⟨h, rfl⟩
      · obtain ⟨b1, b2, b3⟩ := la_jump L hk h
        have hv' : kk_V (pp_to op ar (pl k)) := by rw [← b2]; exact (la_V P M L b1).1
        have := kk_Vlt hv'
        refine br_t (nI_pos' (by omega)) (xl_numq (pl := pl) m40 hsv L.2.2.1 b1 (And.intro hink (nm_r (e' := upd ju k (nI (ty_fi pl (pp_to op ar (pl k)) m))) (by rw [ek, aa_nb (by omega)]) (br_f (nI_pos (by omega)) (And.intro hink ?_)))))
        rw [ek, pk_us, nI_clamp (show ty_fi pl (pp_to op ar (pl k)) m < 2 ^ 31 by omega)]
        exact And.intro (vp_in_nI (by omega) (by decide)) (nm_r (e' := upd mpd (ty_fi pl (pp_to op ar (pl k)) m) 1) (by rw [aa_nz1]) (r161 _ _ (hJn _ (fun _ => rfl) (fun z => absurd h z)) (mp_iff (mp_set hM) (fun j hj => or_congr Iff.rfl ⟨fun w => ⟨h, w⟩, fun w => w.2⟩))))
      · exact br_f (by decide) (And.intro hink (nm_r (e' := upd ju k (-1)) (by rw [ek, aa_nbm']) (br_t (by decide) (r161 _ _ (hJn _ (fun z => absurd z h) (fun _ => rfl)) (mp_iff hM (fun j hj => ⟨fun w => Or.inl w, fun w => w.elim id (fun w => absurd w.1 h)⟩))))))
    refine br_f (nI_ge (by omega) (by omega)) (And.intro hink (nm_r (e' := nI (pl k)) (by rw [ek]; exact hs k hk) ?_))
    refine And.intro hink (nm_r (e' := nI (pl k % 25)) (by rw [ek]; exact hi k hk) (And.intro hini (nm_r (e' := nI (op (pl k % 25))) (by rw [ei]; rfl) ?_)))
    refine xx_calls (by omega) (And.intro hini (nm_e ?_))
    refine pk_eq (op (pl k % 25)) 16 (fun a => ?_) (fun a => pk_eq (op (pl k % 25)) 15 (fun b => And.intro hini ?_) (fun b => xx_leads ho ?_))
    · refine xx_behind v1 (h16 a).1 (r122 _ (Or.inl ⟨Or.inr a, ?_⟩))
      unfold pp_to; rw [if_neg (by omega), if_pos a]
    · obtain ⟨g1, g2⟩ := pp_g24 P (i := pl k % 25) (pp_ld15 b)
      rw [ei, g1]
      refine xx_inside v1 g2 (r122 _ (Or.inl ⟨Or.inl (pp_ld15 b), ?_⟩))
      unfold pp_to; rw [if_pos b]
    · by_cases l : aa_ld (op (pl k % 25)) = true
      · obtain ⟨g1, g2⟩ := pp_g24 P (i := pl k % 25) l
        rw [l]
        refine br_f (by decide) (r122 _ (Or.inl ⟨Or.inl l, ?_⟩))
        rw [ei, g1, xv_jump hle]
        unfold pp_to; rw [if_neg b, if_neg a]
      · rw [ts_nt l]
        exact br_t (by decide) (r122 _ (Or.inr ⟨fun z => z.elim l a, rfl⟩))
theorem xl_link (P : pp_P cn hn op fr tt tg ct pa be ar) (M : pp_M cn hn op tg ar) (L : la_L cn hn op fr tt tg ar m pl va) (hs : ∀ k, k < m → a_sorted k = nI (pl k) ∧ a_instruction k = nI (pl k % 25) ∧ a_values k = nI (va k))
    (K : ∀ ju cau cal mpd, xl_A hn op fr tt tg pl ar va m a_instruction a_values ju cau cal → mp_A m (la_mp hn op fr tt tg ar pl m m) mpd → post ((nI cn), (nI hn), f_met, f_waiting, f_tooMany, (nI m), f_height, f_why, f_found, f_objects, f_high, f_at, f_here, f_steps, f_outcome, f_last, f_ran, (aa_N pa), an, (aa_N be), (aa_N op), ar, (aa_N fr), (aa_N tt), (aa_N tg), (aa_N ct), a_keys, a_heights, a_faults, a_table, a_todo, a_said, a_sorted, a_instruction, a_values, ju, cau, cal, mpd, a_known, a_types, a_maps, a_now, a_sort, a_made, a_number, a_ready)) : wpX_link post ((nI cn), (nI hn), f_met, f_waiting, f_tooMany, (nI m), f_height, f_why, f_found, f_objects, f_high, f_at, f_here, f_steps, f_outcome, f_last, f_ran, (aa_N pa), an, (aa_N be), (aa_N op), ar, (aa_N fr), (aa_N tt), (aa_N tg), (aa_N ct), a_keys, a_heights, a_faults, a_table, a_todo, a_said, a_sorted, a_instruction, a_values, a_jumps, a_caught, a_caller, a_mapped, a_known, a_types, a_maps, a_now, a_sort, a_made, a_number, a_ready) := by
  have m40 := L.1
  have r2 : ∀ d k, k + d = m → ∀ mpd, (∀ x, x < k → mpd x = 0) → wX_link_2 post (nI cn) (nI hn) f_met f_waiting f_tooMany (nI m) f_height f_why f_found f_objects f_high f_at f_here f_steps f_outcome f_last f_ran (d + 1) (nI k) (aa_N pa) an (aa_N be) (aa_N op) ar (aa_N fr) (aa_N tt) (aa_N tg) (aa_N ct) a_keys a_heights a_faults a_table a_todo a_said a_sorted a_instruction a_values a_jumps a_caught a_caller mpd a_known a_types a_maps a_now a_sort a_made a_number a_ready := by
    intro d
    induction d with
    | zero =>
      intro k hk mpd hm
      refine br_t (nI_le (by omega) (by omega)) ⟨m + 1, xl_25 P M L (fun k hk => (hs k hk).1) (fun k hk => (hs k hk).2.1) (fun ju cau cal mpd hJ hC hH hM => K ju cau cal mpd ⟨fun k hk => ⟨(hs k hk).2.1, (hs k hk).2.2⟩, hC, hJ, fun k x hk hx => hH k x hx (Or.inl hk)⟩ hM) m 0 (by omega) a_jumps a_caught a_caller mpd (fun k hk => by omega) (fun k hk => by omega) (fun k y hy hk => by omega) (fun j hj => ⟨fun ⟨k, k1, _⟩ => by omega, fun _ => hm j (by omega)⟩)⟩
    | succ d ih =>
      intro k hk mpd hm
      have ek : (nI k).toNatClampNeg = k := nI_clamp (by omega)
      refine br_f (nI_ge (by omega) (by omega)) (And.intro (vp_in_nI (by omega) (by decide)) (nm_r (e' := upd mpd k 0) (by rw [ek, aa_nz0]) (nm_r (nI_1 k) (ih (k + 1) (by omega) _ (fun x hx => ?_)))))
      by_cases e : x = k
      · rw [e, pk_us]
      · rw [pk_un e]; exact hm x (by omega)
  exact ⟨m + 1, r2 m 0 (by omega) a_mapped (fun x hx => by omega)⟩
end
end
section
/-! isBad, isMethod; the reference's heights and findMaps -/
section
variable {cn hn : Nat} {op fr tt tg ct pa be : Nat → Nat} {ar an : Nat → Int32}
variable {f_count f_handlers f_met f_waiting f_tooMany f_size f_height f_why f_found f_objects f_high f_at f_here f_steps f_outcome f_last f_ran : Int32} {a_parents a_ancestors a_begins a_ops a_operands a_froms a_tos a_targets a_catches a_keys a_heights a_faults a_table a_todo a_said a_sorted a_instruction a_values a_jumps a_caught a_caller a_mapped a_known a_types a_maps a_now a_sort a_made a_number a_ready : Nat → Int32}
variable {g_length g_handlers g_many g_there g_typed g_wrongNumber g_wrongPlace g_size g_why g_height g_objects g_line g_begun g_last g_end : Int32} {b_parent b_begin b_op b_arg b_from b_to b_target b_caught b_places b_heights b_gone b_worst b_frames b_maps b_high b_known b_mapped b_now b_sorts b_ints b_classes b_ready : Nat → Int32}
variable {m : Nat} {pl va : Nat → Nat}
theorem xb_isBad {post : Int32 → Prop} (P : pp_P cn hn op fr tt tg ct pa be ar) (K0 : pp_M cn hn op tg ar → post 0) (K1 : ¬ pp_M cn hn op tg ar → post 1) : wpX_isBad post ((nI cn), (nI hn), f_met, f_waiting, f_tooMany, f_size, f_height, f_why, f_found, f_objects, f_high, f_at, f_here, f_steps, f_outcome, f_last, f_ran, (aa_N pa), an, (aa_N be), (aa_N op), ar, (aa_N fr), (aa_N tt), (aa_N tg), (aa_N ct), a_keys, a_heights, a_faults, a_table, a_todo, a_said, a_sorted, a_instruction, a_values, a_jumps, a_caught, a_caller, a_mapped, a_known, a_types, a_maps, a_now, a_sort, a_made, a_number, a_ready) := by
  obtain ⟨hc, hh4, hop, hx, hpa, hbe, hfit⟩ := id P
  have r58 : ∀ d x, x + d = hn → ∀ c : Int32, ((c = 0 ∧ 0 < cn ∧ (∀ i, i < cn → aa_ld (op i) = true → pp_g ar i < cn) ∧ ∀ y, y < x → tg y < cn) ∨ (c = 1 ∧ ¬ (0 < cn ∧ (∀ i, i < cn → aa_ld (op i) = true → pp_g ar i < cn) ∧ ∀ y, y < x → tg y < cn))) → wX_isBad_58 post (nI cn) (nI hn) f_met f_waiting f_tooMany f_size f_height f_why f_found f_objects f_high f_at f_here f_steps f_outcome f_last f_ran (aa_N pa) an (aa_N be) (aa_N op) ar (aa_N fr) (aa_N tt) (aa_N tg) (aa_N ct) a_keys a_heights a_faults a_table a_todo a_said a_sorted a_instruction a_values a_jumps a_caught a_caller a_mapped a_known a_types a_maps a_now a_sort a_made a_number a_ready (d + 1) c (nI x) := by
    intro d
    induction d with
    | zero =>
      intro x hxd c h
      have : x = hn := by omega
      subst this
      refine br_t (nI_le (Nat.le_refl _) (by omega)) ?_
      rcases h with ⟨rfl, h⟩ | ⟨rfl, h⟩
      · exact And.intro rfl (K0 h)
      · exact And.intro rfl (K1 h)
    | succ d ih =>
      intro x hxd c h
      have ex : (nI x).toNatClampNeg = x := nI_clamp (by omega)
      have h3 := (hx x).2.2.1
      refine br_f (nI_ge (by omega) (by omega)) (And.intro (vp_in_nI (by omega) (by decide)) ?_)
      rw [ex]
      refine pk_lt (tg x) cn (fun z => nm_r (nI_1 x) (ih (x + 1) (by omega) c ?_)) (fun z => nm_r (nI_1 x) (ih (x + 1) (by omega) 1 (Or.inr ⟨rfl, fun y => ?_⟩)))
      · rcases h with ⟨e, a, b, c'⟩ | ⟨e, h⟩
        · refine Or.inl ⟨e, a, b, fun y hy => ?_⟩
          by_cases ey : y = x
          · rw [ey]; exact z
          · exact c' y (by omega)
        · exact Or.inr ⟨e, fun ⟨a, b, c'⟩ => h ⟨a, b, fun y hy => c' y (by omega)⟩⟩
      · have := y.2.2 x (by omega); omega
  have r15 : ∀ d i, i + d = cn → ∀ c : Int32, ((c = 0 ∧ 0 < cn ∧ (∀ j, j < i → aa_ld (op j) = true → pp_g ar j < cn)) ∨ (c = 1 ∧ ¬ (0 < cn ∧ (∀ j, j < i → aa_ld (op j) = true → pp_g ar j < cn)))) → wX_isBad_15 post (nI cn) (nI hn) f_met f_waiting f_tooMany f_size f_height f_why f_found f_objects f_high f_at f_here f_steps f_outcome f_last f_ran (aa_N pa) an (aa_N be) (aa_N op) ar (aa_N fr) (aa_N tt) (aa_N tg) (aa_N ct) a_keys a_heights a_faults a_table a_todo a_said a_sorted a_instruction a_values a_jumps a_caught a_caller a_mapped a_known a_types a_maps a_now a_sort a_made a_number a_ready (d + 1) c (nI i) := by
    intro d
    induction d with
    | zero =>
      intro i hid c h
      have : i = cn := by omega
      subst this
      refine br_t (nI_le (Nat.le_refl _) (by omega)) ⟨hn + 1, r58 hn 0 (by omega) c (h.imp (fun ⟨e, a, b⟩ => ⟨e, a, b, fun y hy => by omega⟩) (fun ⟨e, a⟩ => ⟨e, fun z => a ⟨z.1, z.2.1⟩⟩))⟩
    | succ d ih =>
      intro i hid c h
      have ei : (nI i).toNatClampNeg = i := nI_clamp (by omega)
      have hin := vp_in_nI (n := i) (N := 24) (by omega) (by decide)
      refine br_f (nI_ge (by omega) (by omega)) (And.intro hin ?_)
      rw [ei]
      refine xx_leads (hop i) ?_
      by_cases l : aa_ld (op i) = true
      · obtain ⟨g1, g2⟩ := pp_g24 P l
        rw [l]
        refine br_f (by decide) (And.intro hin ?_)
        rw [g1]
        refine pk_lt (pp_g ar i) cn (fun z => nm_r (nI_1 i) (ih (i + 1) (by omega) c ?_)) (fun z => nm_r (nI_1 i) (ih (i + 1) (by omega) 1 (Or.inr ⟨rfl, fun y => ?_⟩)))
        · rcases h with ⟨e, a, b⟩ | ⟨e, h⟩
          · refine Or.inl ⟨e, a, fun j hj hl => ?_⟩
            by_cases ej : j = i
            · rw [ej]; exact z
            · exact b j (by omega) hl
          · exact Or.inr ⟨e, fun ⟨a, b⟩ => h ⟨a, fun j hj => b j (by omega)⟩⟩
        · have := y.2 i (by omega) l; omega
      · rw [ts_nt l]
        refine br_t (by decide) (nm_r (nI_1 i) (ih (i + 1) (by omega) c ?_))
        rcases h with ⟨e, a, b⟩ | ⟨e, h⟩
        · refine Or.inl ⟨e, a, fun j hj hl => ?_⟩
          by_cases ej : j = i
          · rw [ej] at hl; exact absurd hl l
          · exact b j (by omega) hl
        · exact Or.inr ⟨e, fun ⟨a, b⟩ => h ⟨a, fun j hj => b j (by omega)⟩⟩
  refine pk_eq cn 0 (fun z => ⟨cn + 1, r15 cn 0 (by omega) 1 (Or.inr ⟨rfl, fun y => by omega⟩)⟩) (fun z => ⟨cn + 1, r15 cn 0 (by omega) 0 (Or.inl ⟨rfl, by omega, fun j hj => by omega⟩)⟩)
theorem yb_isMethod {post : Int32 → Prop} (P : pp_P cn hn op fr tt tg ct pa be ar) (K1 : pp_M cn hn op tg ar → post 1) (K0 : ¬ pp_M cn hn op tg ar → post 0) : wpY_isMethod post ((nI cn), (nI hn), g_many, g_there, g_typed, g_wrongNumber, g_wrongPlace, g_size, g_why, g_height, g_objects, g_line, g_begun, g_last, g_end, (aa_N pa), (aa_N be), (aa_N op), ar, (aa_N fr), (aa_N tt), (aa_N tg), (aa_N ct), b_places, b_heights, b_gone, b_worst, b_frames, b_maps, b_high, b_known, b_mapped, b_now, b_sorts, b_ints, b_classes, b_ready) := by
  obtain ⟨hc, hh4, hop, hx, hpa, hbe, hfit⟩ := id P
  have r58 : ∀ d x, x + d = hn → ∀ c : Int32, ((c = 1 ∧ 0 < cn ∧ (∀ i, i < cn → aa_ld (op i) = true → pp_g ar i < cn) ∧ ∀ y, y < x → tg y < cn) ∨ (c = 0 ∧ ¬ (0 < cn ∧ (∀ i, i < cn → aa_ld (op i) = true → pp_g ar i < cn) ∧ ∀ y, y < x → tg y < cn))) → wY_isMethod_58 post (nI cn) (nI hn) g_many g_there g_typed g_wrongNumber g_wrongPlace g_size g_why g_height g_objects g_line g_begun g_last g_end (aa_N pa) (aa_N be) (aa_N op) ar (aa_N fr) (aa_N tt) (aa_N tg) (aa_N ct) b_places b_heights b_gone b_worst b_frames b_maps b_high b_known b_mapped b_now b_sorts b_ints b_classes b_ready (d + 1) c (nI x) := by
    intro d
    induction d with
    | zero =>
      intro x hxd c h
      have : x = hn := by omega
      subst this
      refine br_t (nI_le (Nat.le_refl _) (by omega)) ?_
      rcases h with ⟨rfl, h⟩ | ⟨rfl, h⟩
      · exact And.intro rfl (K1 h)
      · exact And.intro rfl (K0 h)
    | succ d ih =>
      intro x hxd c h
      have ex : (nI x).toNatClampNeg = x := nI_clamp (by omega)
      have h3 := (hx x).2.2.1
      refine br_f (nI_ge (by omega) (by omega)) (And.intro (vp_in_nI (by omega) (by decide)) ?_)
      rw [ex]
      refine pk_lt (tg x) cn (fun z => nm_r (nI_1 x) (ih (x + 1) (by omega) c ?_)) (fun z => nm_r (nI_1 x) (ih (x + 1) (by omega) 0 (Or.inr ⟨rfl, fun y => ?_⟩)))
      · rcases h with ⟨e, a, b, c'⟩ | ⟨e, h⟩
        · refine Or.inl ⟨e, a, b, fun y hy => ?_⟩
          by_cases ey : y = x
          · rw [ey]; exact z
          · exact c' y (by omega)
        · exact Or.inr ⟨e, fun ⟨a, b, c'⟩ => h ⟨a, b, fun y hy => c' y (by omega)⟩⟩
      · have := y.2.2 x (by omega); omega
  have r15 : ∀ d i, i + d = cn → ∀ c : Int32, ((c = 1 ∧ 0 < cn ∧ (∀ j, j < i → aa_ld (op j) = true → pp_g ar j < cn)) ∨ (c = 0 ∧ ¬ (0 < cn ∧ (∀ j, j < i → aa_ld (op j) = true → pp_g ar j < cn)))) → wY_isMethod_15 post (nI cn) (nI hn) g_many g_there g_typed g_wrongNumber g_wrongPlace g_size g_why g_height g_objects g_line g_begun g_last g_end (aa_N pa) (aa_N be) (aa_N op) ar (aa_N fr) (aa_N tt) (aa_N tg) (aa_N ct) b_places b_heights b_gone b_worst b_frames b_maps b_high b_known b_mapped b_now b_sorts b_ints b_classes b_ready (d + 1) c (nI i) := by
    intro d
    induction d with
    | zero =>
      intro i hid c h
      have : i = cn := by omega
      subst this
      refine br_t (nI_le (Nat.le_refl _) (by omega)) ⟨hn + 1, r58 hn 0 (by omega) c (h.imp (fun ⟨e, a, b⟩ => ⟨e, a, b, fun y hy => by omega⟩) (fun ⟨e, a⟩ => ⟨e, fun z => a ⟨z.1, z.2.1⟩⟩))⟩
    | succ d ih =>
      intro i hid c h
      have ei : (nI i).toNatClampNeg = i := nI_clamp (by omega)
      have hin := vp_in_nI (n := i) (N := 24) (by omega) (by decide)
      refine br_f (nI_ge (by omega) (by omega)) (And.intro hin ?_)
      rw [ei]
      refine yy_jumps (hop i) ?_
      by_cases l : aa_ld (op i) = true
      · obtain ⟨g1, g2⟩ := pp_g24 P l
        rw [l]
        refine br_f (by decide) (And.intro hin ?_)
        rw [g1]
        refine pk_lt (pp_g ar i) cn (fun z => nm_r (nI_1 i) (ih (i + 1) (by omega) c ?_)) (fun z => nm_r (nI_1 i) (ih (i + 1) (by omega) 0 (Or.inr ⟨rfl, fun y => ?_⟩)))
        · rcases h with ⟨e, a, b⟩ | ⟨e, h⟩
          · refine Or.inl ⟨e, a, fun j hj hl => ?_⟩
            by_cases ej : j = i
            · rw [ej]; exact z
            · exact b j (by omega) hl
          · exact Or.inr ⟨e, fun ⟨a, b⟩ => h ⟨a, fun j hj => b j (by omega)⟩⟩
        · have := y.2 i (by omega) l; omega
      · rw [ts_nt l]
        refine br_t (by decide) (nm_r (nI_1 i) (ih (i + 1) (by omega) c ?_))
        rcases h with ⟨e, a, b⟩ | ⟨e, h⟩
        · refine Or.inl ⟨e, a, fun j hj hl => ?_⟩
          by_cases ej : j = i
          · rw [ej] at hl; exact absurd hl l
          · exact b j (by omega) hl
        · exact Or.inr ⟨e, fun ⟨a, b⟩ => h ⟨a, fun j hj => b j (by omega)⟩⟩
  refine pk_le cn 0 (fun z => ⟨cn + 1, r15 cn 0 (by omega) 0 (Or.inr ⟨rfl, fun y => by omega⟩)⟩) (fun z => ⟨cn + 1, r15 cn 0 (by omega) 1 (Or.inl ⟨rfl, by omega, fun j hj => by omega⟩)⟩)
theorem ym_63 {post : Int32 → SY → Prop} {J48 : _} {k a : Nat} (hk : k < 41) (ha : a < 128) (h0 : a ≠ 0) (hh : b_heights k = nI a) (K : ∀ hg, (∀ x, x ≠ k → hg x = b_high x) → hg k = nI (bm_lw a) → J48 (nI (k + 1)) b_parent b_begin b_op b_arg b_from b_to b_target b_caught b_places b_heights b_gone b_worst b_frames b_maps hg b_known b_mapped b_now b_sorts b_ints b_classes b_ready) : ∀ e, e ≤ bm_lw a → ∀ hg, (∀ x, x ≠ k → hg x = b_high x) → hg k = nI (bm_lw a - e) → wY_lay_63 post J48 (nI k) g_length g_handlers g_many g_there g_typed g_wrongNumber g_wrongPlace g_size g_why g_height g_objects g_line g_begun g_last g_end (e + 1) b_parent b_begin b_op b_arg b_from b_to b_target b_caught b_places b_heights b_gone b_worst b_frames b_maps hg b_known b_mapped b_now b_sorts b_ints b_classes b_ready := by
  obtain ⟨l1, l2, l3⟩ := bm_lo a ha h0
  have ek : (nI k).toNatClampNeg = k := nI_clamp (by omega)
  have hin := vp_in_nI (n := k) (N := 41) hk (by decide)
  intro e
  induction e with
  | zero =>
    intro _ hg h1 h2
    refine And.intro hin (And.intro hin ?_)
    rw [ek, hh, h2, bm_t a ha _ (by omega), Nat.sub_zero, if_pos l2]
    exact br_f (by decide) (nm_r (nI_1 k) (K hg h1 (by rw [h2, Nat.sub_zero])))
  | succ e ih =>
    intro he hg h1 h2
    refine And.intro hin (And.intro hin ?_)
    rw [ek, hh, h2, bm_t a ha _ (by omega), l3 _ (by omega)]
    refine br_t rfl (And.intro hin (And.intro hin (nm_r (e' := upd hg k (nI (bm_lw a - e))) ?_ (ih (by omega) _ (fun x hx => ?_) pk_us))))
    · rw [nI_1]; exact congrArg (fun z => upd hg k (nI z)) (by omega)
    · rw [pk_un hx]; exact h1 x hx
theorem ym_61 {post : SY → Prop} {J25 : _} {k : Nat} {Q0 : Nat → Prop} (P : pp_P cn hn op fr tt tg ct pa be ar) (M : pp_M cn hn op tg ar) (L : la_L cn hn op fr tt tg ar m pl va) (yA : yl_A pl va m b_places b_high) (hk : k < m)
    (K : ∀ mpd, mp_A m (fun j => Q0 j ∨ la_mh fr tt tg pl m k hn j) mpd → J25 (nI (k + 1)) (aa_N pa) (aa_N be) (aa_N op) ar (aa_N fr) (aa_N tt) (aa_N tg) (aa_N ct) b_places b_heights b_gone b_worst b_frames b_maps b_high b_known mpd b_now b_sorts b_ints b_classes b_ready) :
    ∀ d x, x + d = hn → ∀ mpd, mp_A m (fun j => Q0 j ∨ la_mh fr tt tg pl m k x j) mpd → wY_findMaps_61 post J25 (nI k) (nI cn) (nI hn) (nI m) g_there g_typed g_wrongNumber g_wrongPlace g_size g_why g_height g_objects g_line g_begun g_last g_end (d + 1) (nI x) (aa_N pa) (aa_N be) (aa_N op) ar (aa_N fr) (aa_N tt) (aa_N tg) (aa_N ct) b_places b_heights b_gone b_worst b_frames b_maps b_high b_known mpd b_now b_sorts b_ints b_classes b_ready := by
  obtain ⟨hc, hh4, hop, hx, hpa, hbe, hfit⟩ := id P
  have m40 := L.1
  obtain ⟨v1, v2, v3⟩ := la_V P M L hk
  have ek : (nI k).toNatClampNeg = k := nI_clamp (by omega)
  have hink := vp_in_nI (n := k) (N := 41) (by omega) (by decide)
  intro d
  induction d with
  | zero =>
    intro x hxd mpd hM
    have : x = hn := by omega
    subst this
    exact br_t (nI_le (Nat.le_refl _) (by omega)) (nm_r (nI_1 k) (K mpd hM))
  | succ d ih =>
    intro x hxd mpd hM
    have ex : (nI x).toNatClampNeg = x := nI_clamp (by omega)
    refine br_f (nI_ge (by omega) (by omega)) (And.intro hink (And.intro (vp_in_nI (by omega) (by decide)) ?_))
    rw [ek, ex, (yA k hk).1]
    refine yy_at v1 (hx x).2.2.1 (And.intro hink (yy_covers (by omega) v1 (hx x).1 (hx x).2.1 ?_))
    by_cases c : pp_cv fr tt x (pl k % 25) = true
    · rw [c]
      obtain ⟨j1, j2, j3⟩ := la_hand L hk (by omega) c
      refine br_f (by decide) (yn_number (pl := pl) (by omega) (fun k hk => ⟨(yA k hk).1, (yA k hk).2.1⟩) (kk_Vat v1 (hx x).2.2.1) ⟨_, j1, j2⟩ L.2.2.1 (And.intro (vp_in_nI (by omega) (by decide)) (nm_r (e' := upd mpd (ty_fi pl (kk_at (pl k) (tg x)) m) 1) (by rw [nI_clamp (show ty_fi pl (kk_at (pl k) (tg x)) m < 2 ^ 31 by omega), aa_nz1]) (nm_r (nI_1 x) (ih (x + 1) (by omega) _ (mp_iff (mp_set hM) (fun j hj => ⟨fun w => ?_, fun w => ?_⟩)))))))
      · rcases w with (w | ⟨y, y1, y2⟩) | w
        · exact Or.inl w
        · exact Or.inr ⟨y, by omega, y2⟩
        · exact Or.inr ⟨x, by omega, c, w⟩
      · rcases w with w | ⟨y, y1, y2, y3⟩
        · exact Or.inl (Or.inl w)
        · rcases Nat.lt_or_ge y x with l | l
          · exact Or.inl (Or.inr ⟨y, l, y2, y3⟩)
          · have : y = x := by omega
            subst this; exact Or.inr y3
    · rw [ts_nt c]
      refine br_t (by decide) (nm_r (nI_1 x) (ih (x + 1) (by omega) mpd (mp_iff hM (fun j hj => or_congr Iff.rfl ⟨fun ⟨y, y1, y2⟩ => ⟨y, by omega, y2⟩, fun ⟨y, y1, y2, y3⟩ => ⟨y, ?_, y2, y3⟩⟩))))
      have : y ≠ x := fun e => c (e ▸ y2)
      omega
theorem ym_findMaps {post : SY → Prop} (P : pp_P cn hn op fr tt tg ct pa be ar) (M : pp_M cn hn op tg ar) (L : la_L cn hn op fr tt tg ar m pl va) (yA : yl_A pl va m b_places b_high)
    (K : ∀ mpd, mp_A m (la_mp hn op fr tt tg ar pl m m) mpd → post ((nI cn), (nI hn), (nI m), g_there, g_typed, g_wrongNumber, g_wrongPlace, g_size, g_why, g_height, g_objects, g_line, g_begun, g_last, g_end, (aa_N pa), (aa_N be), (aa_N op), ar, (aa_N fr), (aa_N tt), (aa_N tg), (aa_N ct), b_places, b_heights, b_gone, b_worst, b_frames, b_maps, b_high, b_known, mpd, b_now, b_sorts, b_ints, b_classes, b_ready)) : wpY_findMaps post ((nI cn), (nI hn), (nI m), g_there, g_typed, g_wrongNumber, g_wrongPlace, g_size, g_why, g_height, g_objects, g_line, g_begun, g_last, g_end, (aa_N pa), (aa_N be), (aa_N op), ar, (aa_N fr), (aa_N tt), (aa_N tg), (aa_N ct), b_places, b_heights, b_gone, b_worst, b_frames, b_maps, b_high, b_known, b_mapped, b_now, b_sorts, b_ints, b_classes, b_ready) := by
  have m40 := L.1
  have r25 : ∀ d k, k + d = m → ∀ mpd, mp_A m (la_mp hn op fr tt tg ar pl m k) mpd → wY_findMaps_25 post (nI cn) (nI hn) (nI m) g_there g_typed g_wrongNumber g_wrongPlace g_size g_why g_height g_objects g_line g_begun g_last g_end (d + 1) (nI k) (aa_N pa) (aa_N be) (aa_N op) ar (aa_N fr) (aa_N tt) (aa_N tg) (aa_N ct) b_places b_heights b_gone b_worst b_frames b_maps b_high b_known mpd b_now b_sorts b_ints b_classes b_ready := by
    intro d
    induction d with
    | zero =>
      intro k hkd mpd hM
      have : k = m := by omega
      subst this
      exact br_t (nI_le (Nat.le_refl _) (by omega)) (K mpd hM)
    | succ d ih =>
      intro k hkd mpd hM
      have hk : k < m := by omega
      obtain ⟨v1, v2, v3⟩ := la_V P M L hk
      obtain ⟨h15, h16⟩ := la_16 L P M hk
      have ek : (nI k).toNatClampNeg = k := nI_clamp (by omega)
      have r61 : ∀ mpd, mp_A m (fun j => la_mp hn op fr tt tg ar pl m k j ∨ la_mj op ar pl m k j) mpd → ∃ n61, wY_findMaps_61 post (wY_findMaps_25 post (nI cn) (nI hn) (nI m) g_there g_typed g_wrongNumber g_wrongPlace g_size g_why g_height g_objects g_line g_begun g_last g_end (d + 1)) (nI k) (nI cn) (nI hn) (nI m) g_there g_typed g_wrongNumber g_wrongPlace g_size g_why g_height g_objects g_line g_begun g_last g_end n61 0 (aa_N pa) (aa_N be) (aa_N op) ar (aa_N fr) (aa_N tt) (aa_N tg) (aa_N ct) b_places b_heights b_gone b_worst b_frames b_maps b_high b_known mpd b_now b_sorts b_ints b_classes b_ready := by
        intro mpd hM'
        refine ⟨hn + 1, ym_61 (Q0 := fun j => la_mp hn op fr tt tg ar pl m k j ∨ la_mj op ar pl m k j) P M L yA hk (fun mpd' hM'' => ih (k + 1) (by omega) mpd' (mp_iff hM'' (fun j hj => ⟨fun w => ?_, fun w => ?_⟩))) hn 0 (by omega) mpd (mp_iff hM' (fun j hj => ⟨fun w => Or.inl w, fun w => w.elim id (fun ⟨y, y1, _⟩ => by omega)⟩))⟩
        · rcases w with (⟨k', k1, k2⟩ | w) | w
          · exact ⟨k', by omega, k2⟩
          · exact ⟨k, by omega, Or.inl w⟩
          · exact ⟨k, by omega, Or.inr w⟩
        · obtain ⟨k', k1, k2⟩ := w
          rcases Nat.lt_or_ge k' k with l | l
          · exact Or.inl (Or.inl ⟨k', l, k2⟩)
          · have : k' = k := by omega
            subst this
            rcases k2 with k2 | k2
            · exact Or.inl (Or.inr k2)
            · exact Or.inr k2
      refine br_f (nI_ge (by omega) (by omega)) (And.intro (vp_in_nI (by omega) (by decide)) ?_)
      rw [ek, (yA k hk).1]
      refine yy_led P v1 h15 h16 (fun h => ?_) (fun h => br_t (by decide) (r61 mpd (mp_iff hM (fun j hj => ⟨fun w => Or.inl w, fun w => w.elim id (fun w => absurd w.1 h)⟩))))
      obtain ⟨b1, b2, b3⟩ := la_jump L hk h
      have hv' : kk_V (pp_to op ar (pl k)) := by rw [← b2]; exact (la_V P M L b1).1
      have := kk_ylt hv'
      exact br_f (nI_pos (by omega)) (yn_number (pl := pl) (by omega) (fun k hk => ⟨(yA k hk).1, (yA k hk).2.1⟩) hv' ⟨_, b1, b2⟩ L.2.2.1 (And.intro (vp_in_nI (by omega) (by decide)) (nm_r (e' := upd mpd (ty_fi pl (pp_to op ar (pl k)) m) 1) (by rw [nI_clamp (show ty_fi pl (pp_to op ar (pl k)) m < 2 ^ 31 by omega), aa_nz1]) (r61 _ (mp_iff (mp_set hM) (fun j hj => or_congr Iff.rfl ⟨fun w => ⟨h, w⟩, fun w => w.2⟩))))))
  have r2 : ∀ d k, k + d = m → ∀ mpd, (∀ x, x < k → mpd x = 0) → wY_findMaps_2 post (nI cn) (nI hn) (nI m) g_there g_typed g_wrongNumber g_wrongPlace g_size g_why g_height g_objects g_line g_begun g_last g_end (d + 1) (nI k) (aa_N pa) (aa_N be) (aa_N op) ar (aa_N fr) (aa_N tt) (aa_N tg) (aa_N ct) b_places b_heights b_gone b_worst b_frames b_maps b_high b_known mpd b_now b_sorts b_ints b_classes b_ready := by
    intro d
    induction d with
    | zero =>
      intro k hk mpd hm
      exact br_t (nI_le (by omega) (by omega)) ⟨m + 1, r25 m 0 (by omega) mpd (fun j hj => ⟨fun ⟨k, k1, _⟩ => by omega, fun _ => hm j (by omega)⟩)⟩
    | succ d ih =>
      intro k hk mpd hm
      have ek : (nI k).toNatClampNeg = k := nI_clamp (by omega)
      refine br_f (nI_ge (by omega) (by omega)) (And.intro (vp_in_nI (by omega) (by decide)) (nm_r (e' := upd mpd k 0) (by rw [ek, aa_nz0]) (nm_r (nI_1 k) (ih (k + 1) (by omega) _ (fun x hx => ?_)))))
      by_cases e : x = k
      · rw [e, pk_us]
      · rw [pk_un e]; exact hm x (by omega)
  exact ⟨m + 1, r2 m 0 (by omega) b_mapped (fun x hx => by omega)⟩
end
end
section
/-! the component's lay -/
section
variable {cn hn : Nat} {op fr tt tg : Nat → Nat} {ar : Nat → Int32}
theorem pp_W5 (q h : Nat) : pp_W cn op q h ≤ 5 := by unfold pp_W; (repeat' split) <;> omega
theorem pp_wz9 (q h : Nat) : ex_wz (pp_W cn op) q h ≤ 9 := by
  have := pp_W5 (cn := cn) (op := op) q h
  unfold ex_wz; split <;> omega
theorem pp_wzn (q h : Nat) : ex_wz (pp_W cn op) q h ≠ 6 ∧ ex_wz (pp_W cn op) q h ≠ 7 ∧ ex_wz (pp_W cn op) q h ≠ 8 := by
  have := pp_W5 (cn := cn) (op := op) q h
  unfold ex_wz; split <;> omega
/-- where nothing is wrong, each place has one height and goes on -/
theorem ex_right_at {W : Nat → Nat → Nat} {R : Nat → Nat → Prop} (hr : ex_right W R) (hW : ∀ q h, W q h ≤ 5) {q h : Nat} (h1 : R q h) : W q h = 0 ∧ ∀ h', R q h' → h' = h := by
  obtain ⟨w, m1, m2⟩ := hr q ⟨h, h1⟩
  rcases m2 with ⟨-, m2⟩ | ⟨ns, m2⟩
  · omega
  · refine ⟨?_, fun h' h2 => Classical.byContradiction fun ne => ns ⟨h', h, h2, h1, ne⟩⟩
    have a := m1.1 h h1
    rw [← m2] at a
    unfold ex_wz at a
    by_cases z : W q h = 0
    · exact z
    · rw [if_neg z] at a
      have := hW q h; omega
theorem la_of {m : Nat} {pl va : Nat → Nat} (hr : ex_right (pp_W cn op) (ex_R (pp_W cn op) (pp_S hn op fr tt tg ar))) (hm : m ≤ 40) (h1 : ∀ k, k < m → ex_R (pp_W cn op) (pp_S hn op fr tt tg ar) (pl k) (va k)) (hinc : ∀ i j, i < j → j < m → pl i < pl j) (hall : ∀ q h, ex_R (pp_W cn op) (pp_S hn op fr tt tg ar) q h → ∃ k, k < m ∧ pl k = q) : la_L cn hn op fr tt tg ar m pl va := by
  refine ⟨hm, fun k hk => ⟨h1 k hk, (ex_right_at hr pp_W5 (h1 k hk)).1⟩, hinc, fun q h hq => ?_⟩
  obtain ⟨k, k1, k2⟩ := hall q h hq
  refine ⟨k, k1, k2, ?_⟩
  have := h1 k k1
  rw [k2] at this
  exact (ex_right_at hr pp_W5 hq).2 _ this
end
/-- nought behind the last place -/
def la_nz (m : Nat) (f : Nat → Nat) : Nat → Nat := fun k => if k < m then f k else 0
theorem la_nz_lt {m k : Nat} {f : Nat → Nat} (h : k < m) : la_nz m f k = f k := if_pos h
theorem la_nz_ge {m k : Nat} {f : Nat → Nat} (h : m ≤ k) : la_nz m f k = 0 := if_neg (by omega)
section
variable {cn hn : Nat} {op fr tt tg ct pa be : Nat → Nat} {ar an : Nat → Int32}
variable {f_count f_handlers f_met f_waiting f_tooMany f_size f_height f_why f_found f_objects f_high f_at f_here f_steps f_outcome f_last f_ran : Int32} {a_parents a_ancestors a_begins a_ops a_operands a_froms a_tos a_targets a_catches a_keys a_heights a_faults a_table a_todo a_said a_sorted a_instruction a_values a_jumps a_caught a_caller a_mapped a_known a_types a_maps a_now a_sort a_made a_number a_ready : Nat → Int32}
theorem xz_70 {post : Int32 → SX → Prop} {m : Nat} {fd : Int32} (hm : m ≤ 40) (K0 : fd = 0 → ∀ mp, (∀ i, i < 10 * m → mp i = 0) → post 2 (f_count, f_handlers, f_met, f_waiting, f_tooMany, (nI m), f_height, f_why, fd, f_objects, f_high, f_at, f_here, f_steps, f_outcome, f_last, f_ran, a_parents, a_ancestors, a_begins, a_ops, a_operands, a_froms, a_tos, a_targets, a_catches, a_keys, a_heights, a_faults, a_table, a_todo, a_said, a_sorted, a_instruction, a_values, a_jumps, a_caught, a_caller, a_mapped, a_known, a_types, mp, a_now, a_sort, a_made, a_number, a_ready)) (K1 : ¬ fd = 0 → ∀ mp, (∀ i, i < 10 * m → mp i = vp_nar .byte (a_types i)) → post 0 (f_count, f_handlers, f_met, f_waiting, f_tooMany, (nI m), f_height, f_why, fd, f_objects, f_high, f_at, f_here, f_steps, f_outcome, f_last, f_ran, a_parents, a_ancestors, a_begins, a_ops, a_operands, a_froms, a_tos, a_targets, a_catches, a_keys, a_heights, a_faults, a_table, a_todo, a_said, a_sorted, a_instruction, a_values, a_jumps, a_caught, a_caller, a_mapped, a_known, a_types, mp, a_now, a_sort, a_made, a_number, a_ready)) : ∃ n70, wX_lay_70 post f_count f_handlers f_met f_waiting f_tooMany (nI m) f_height f_why fd f_objects f_high f_at f_here f_steps f_outcome f_last f_ran n70 0 a_parents a_ancestors a_begins a_ops a_operands a_froms a_tos a_targets a_catches a_keys a_heights a_faults a_table a_todo a_said a_sorted a_instruction a_values a_jumps a_caught a_caller a_mapped a_known a_types a_maps a_now a_sort a_made a_number a_ready := by
  have e10 : (10 : Int32) * nI m = nI (10 * m) := pk_mul 10 m
  have key : ∀ d i, i + d = 10 * m → ∀ mp, (∀ x, x < i → (fd = 0 → mp x = 0) ∧ (¬ fd = 0 → mp x = vp_nar .byte (a_types x))) → wX_lay_70 post f_count f_handlers f_met f_waiting f_tooMany (nI m) f_height f_why fd f_objects f_high f_at f_here f_steps f_outcome f_last f_ran (d + 1) (nI i) a_parents a_ancestors a_begins a_ops a_operands a_froms a_tos a_targets a_catches a_keys a_heights a_faults a_table a_todo a_said a_sorted a_instruction a_values a_jumps a_caught a_caller a_mapped a_known a_types mp a_now a_sort a_made a_number a_ready := by
    intro d
    induction d with
    | zero =>
      intro i hi mp hmp
      refine br_t ?_ (br_c (fun z => K0 z mp (fun x hx => (hmp x (by omega)).1 z)) (fun z => K1 z mp (fun x hx => (hmp x (by omega)).2 z)))
      rw [e10]; exact nI_le (by omega) (by omega)
    | succ d ih =>
      intro i hi mp hmp
      have ei : (nI i).toNatClampNeg = i := nI_clamp (by omega)
      have hin := vp_in_nI (n := i) (N := 400) (by omega) (by decide)
      refine br_f ?_ (br_c (fun z => And.intro hin (nm_r (e' := upd mp i 0) (by rw [ei, show vp_nar .byte 0 = 0 from aa_nb1 (n := 0) (by decide)]) (nm_r (nI_1 i) (ih (i + 1) (by omega) _ (fun x hx => ?_))))) (fun z => And.intro hin (And.intro hin (nm_r (e' := upd mp i (vp_nar .byte (a_types i))) (by rw [ei]) (nm_r (nI_1 i) (ih (i + 1) (by omega) _ (fun x hx => ?_)))))))
      · rw [e10]; exact nI_ge (by omega) (by omega)
      · by_cases e : x = i
        · rw [e, pk_us]; exact ⟨fun _ => rfl, fun y => absurd z y⟩
        · rw [pk_un e]; exact hmp x (by omega)
      · by_cases e : x = i
        · rw [e, pk_us]; exact ⟨fun y => absurd y z, fun _ => rfl⟩
        · rw [pk_un e]; exact hmp x (by omega)
  exact ⟨10 * m + 1, key (10 * m) 0 (by omega) a_maps (fun x hx => by omega)⟩
/-- the component is laid -/
def xl_F (cn hn : Nat) (op fr tt tg : Nat → Nat) (ar : Nat → Int32) (m : Nat) (pl va : Nat → Nat) (sorted instruction values jumps caught caller mapped : Nat → Int32) : Prop :=
  la_L cn hn op fr tt tg ar m pl va ∧ (∀ k, k < m → sorted k = nI (pl k)) ∧ xl_A hn op fr tt tg pl ar va m instruction values jumps caught caller ∧ mp_A m (la_mp hn op fr tt tg ar pl m m) mapped
theorem xz_lay {post : Int32 → SX → Prop} (P : pp_P cn hn op fr tt tg ct pa be ar) (A : xa_A pa an)
    (KB : ¬ pp_M cn hn op tg ar → ∀ sd, (∀ j, j < 6 → sd j = -1) → post (-1) ((nI cn), (nI hn), f_met, f_waiting, f_tooMany, 0, f_height, 0, 0, f_objects, f_high, f_at, f_here, f_steps, f_outcome, f_last, f_ran, (aa_N pa), an, (aa_N be), (aa_N op), ar, (aa_N fr), (aa_N tt), (aa_N tg), (aa_N ct), a_keys, a_heights, a_faults, a_table, a_todo, sd, a_sorted, a_instruction, a_values, a_jumps, a_caught, a_caller, a_mapped, a_known, a_types, a_maps, a_now, a_sort, a_made, a_number, a_ready))
    (K7 : pp_M cn hn op tg ar → xe_many (ex_R (pp_W cn op) (pp_S hn op fr tt tg ar)) → ∀ met wai ks hs fs ts tds sd, sd 0 = 7 → (∀ j, 0 < j → j < 6 → sd j = -1) → post 1 ((nI cn), (nI hn), met, wai, 1, 0, f_height, 0, 0, f_objects, f_high, f_at, f_here, f_steps, f_outcome, f_last, f_ran, (aa_N pa), an, (aa_N be), (aa_N op), ar, (aa_N fr), (aa_N tt), (aa_N tg), (aa_N ct), ks, hs, fs, ts, tds, sd, a_sorted, a_instruction, a_values, a_jumps, a_caught, a_caller, a_mapped, a_known, a_types, a_maps, a_now, a_sort, a_made, a_number, a_ready))
    (KS : pp_M cn hn op tg ar → ∀ mt (kq hb : Nat → Nat), mt ≤ 40 → (∀ i j, i < mt → j < mt → kq i = kq j → i = j) → (∀ p, p < mt → ∃ h, ex_R (pp_W cn op) (pp_S hn op fr tt tg ar) (kq p) h) → (∀ q h, ex_R (pp_W cn op) (pp_S hn op fr tt tg ar) q h → ∃ p, p < mt ∧ kq p = q) → ∀ q v, ex_wrong (pp_W cn op) (ex_R (pp_W cn op) (pp_S hn op fr tt tg ar)) q v → ∀ met wai ks hs fs ts tds sd, ex_said q v sd → post 1 ((nI cn), (nI hn), met, wai, 0, 0, f_height, 0, 0, f_objects, f_high, f_at, f_here, f_steps, f_outcome, f_last, f_ran, (aa_N pa), an, (aa_N be), (aa_N op), ar, (aa_N fr), (aa_N tt), (aa_N tg), (aa_N ct), ks, hs, fs, ts, tds, sd, a_sorted, a_instruction, a_values, a_jumps, a_caught, a_caller, a_mapped, a_known, a_types, a_maps, a_now, a_sort, a_made, a_number, a_ready))
    (KT : pp_M cn hn op tg ar → ∀ m pl va, (∀ k, m ≤ k → pl k = 0 ∧ va k = 0) → ex_right (pp_W cn op) (ex_R (pp_W cn op) (pp_S hn op fr tt tg ar)) → ∀ met wai ks hs fs ts tds sd ss ins vas ju cau cal mpd, (∀ j, j < 6 → sd j = -1) → xl_F cn hn op fr tt tg ar m pl va ss ins vas ju cau cal mpd → ∀ hg kno tys nw mps,
      ((∀ K F, ¬ it_sol pa va m (la_OK pa op ar pl va m) (la_EH hn fr tt tg ct pl m) (la_EN op ar pl va m) be K F) → (∀ i, i < 10 * m → mps i = 0) → post 2 ((nI cn), (nI hn), met, wai, 0, (nI m), hg, 0, 0, f_objects, f_high, f_at, f_here, f_steps, f_outcome, f_last, f_ran, (aa_N pa), an, (aa_N be), (aa_N op), ar, (aa_N fr), (aa_N tt), (aa_N tg), (aa_N ct), ks, hs, fs, ts, tds, sd, ss, ins, vas, ju, cau, cal, mpd, kno, tys, mps, nw, a_sort, a_made, a_number, a_ready)) ∧
      (∀ kn ty, it_L pa va m (la_OK pa op ar pl va m) (la_EH hn fr tt tg ct pl m) (la_EN op ar pl va m) be kn ty → (∀ k s, k < m → s < 4 + va k → tys (10 * k + s) = nI (ty k s) ∧ mps (10 * k + s) = nI (ty k s) ∧ ty k s < 91) → post 0 ((nI cn), (nI hn), met, wai, 0, (nI m), hg, 0, 1, f_objects, f_high, f_at, f_here, f_steps, f_outcome, f_last, f_ran, (aa_N pa), an, (aa_N be), (aa_N op), ar, (aa_N fr), (aa_N tt), (aa_N tg), (aa_N ct), ks, hs, fs, ts, tds, sd, ss, ins, vas, ju, cau, cal, mpd, kno, tys, mps, nw, a_sort, a_made, a_number, a_ready))) :
    wpX_lay post ((nI cn), (nI hn), f_met, f_waiting, f_tooMany, f_size, f_height, f_why, f_found, f_objects, f_high, f_at, f_here, f_steps, f_outcome, f_last, f_ran, (aa_N pa), an, (aa_N be), (aa_N op), ar, (aa_N fr), (aa_N tt), (aa_N tg), (aa_N ct), a_keys, a_heights, a_faults, a_table, a_todo, a_said, a_sorted, a_instruction, a_values, a_jumps, a_caught, a_caller, a_mapped, a_known, a_types, a_maps, a_now, a_sort, a_made, a_number, a_ready) := by
  refine xf_said (post := True) (W := fun n j sd => wX_lay_11 post (nI cn) (nI hn) f_met f_waiting f_tooMany 0 f_height 0 0 f_objects f_high f_at f_here f_steps f_outcome f_last f_ran n (nI j) (aa_N pa) an (aa_N be) (aa_N op) ar (aa_N fr) (aa_N tt) (aa_N tg) (aa_N ct) a_keys a_heights a_faults a_table a_todo sd a_sorted a_instruction a_values a_jumps a_caught a_caller a_mapped a_known a_types a_maps a_now a_sort a_made a_number a_ready) (fun n sd hsd => ?_) (fun n j sd hj h => ?_) a_said
  · refine br_t (nI_le (a := 6) (by omega) (by decide)) (xb_isBad P (fun M => br_t rfl ?_) (fun M => br_f (by decide) (KB M sd hsd)))
    refine xv_explore P M (fun met wai ks hs fs ts tds many => ?_) (fun met wai ks hs fs ts tds hF => ?_)
    · refine xw_isWrong (W := pp_W cn op) (R := ex_R (pp_W cn op) (pp_S hn op fr tt tg ar)) pp_wz9 pp_wzn (Or.inl rfl) (fun _ sd' s0 s1 => br_f (by decide) (K7 M many met wai ks hs fs ts tds sd' s0 s1)) (fun z => absurd z (by decide)) (fun z => absurd z (by decide))
    · refine xw_isWrong (W := pp_W cn op) (R := ex_R (pp_W cn op) (pp_S hn op fr tt tg ar)) pp_wz9 pp_wzn (Or.inr ⟨rfl, hF⟩) (fun z => absurd z (by decide)) (fun _ hr fs' sd' hs' => br_t rfl ?_) (fun _ q v hq fs' sd' hs' => br_f (by decide) ?_)
      · refine xs_sort (W := pp_W cn op) (R := ex_R (pp_W cn op) (pp_S hn op fr tt tg ar)) hF (fun m sq va ss ins vas hm hall hinc hcov => ?_)
        have e1 : ∀ k, k < m → la_nz m sq k = sq k := fun k hk => la_nz_lt hk
        have e2 : ∀ k, k < m → la_nz m va k = va k := fun k hk => la_nz_lt hk
        have L : la_L cn hn op fr tt tg ar m (la_nz m sq) (la_nz m va) := la_of hr hm (fun k hk => by rw [e1 k hk, e2 k hk]; exact (hall k hk).2.2.2.2.2) (fun i j hij hj => by rw [e1 i (by omega), e1 j hj]; exact hinc i j hij hj) (fun q h hq => by
          obtain ⟨k, k1, k2⟩ := hcov q h hq
          exact ⟨k, k1, by rw [e1 k k1]; exact k2⟩)
        refine xl_link P M L (fun k hk => by rw [e1 k hk, e2 k hk]; exact ⟨(hall k hk).1, (hall k hk).2.2.1, (hall k hk).2.2.2.1⟩) (fun ju cau cal mpd X hM => ?_)
        have F : xl_F cn hn op fr tt tg ar m (la_nz m sq) (la_nz m va) ss ins vas ju cau cal mpd := ⟨L, fun k hk => by rw [e1 k hk]; exact (hall k hk).1, X, hM⟩
        refine xi_infer P M L A X (fun kn ty hg kno tys nw hL hI T => And.intro rfl (And.intro rfl (xz_70 hm (fun z => absurd z (by decide)) (fun _ mps hmp => ?_)))) (fun hno hg kno tys nw => And.intro rfl (And.intro rfl (xz_70 hm (fun _ mps hmp => ?_) (fun z => absurd rfl z))))
        · refine (KT M m (la_nz m sq) (la_nz m va) (fun k hk => ⟨la_nz_ge hk, la_nz_ge hk⟩) hr met wai ks hs fs' ts tds sd' ss ins vas ju cau cal mpd hs' F hg kno tys nw mps).2 kn ty hL (fun k s hk hs => ?_)
          have hkn := la_all L hL.1 k hk
          have t1 := ((T k hk).1 hkn).2 s hs
          have t2 := ((hI k hkn).2 s hs).1
          have v6 := (la_V P M L hk).2.2
          exact ⟨t1, by rw [hmp _ (by omega), t1, aa_nb1 (by omega)], t2⟩
        · exact (KT M m (la_nz m sq) (la_nz m va) (fun k hk => ⟨la_nz_ge hk, la_nz_ge hk⟩) hr met wai ks hs fs' ts tds sd' ss ins vas ju cau cal mpd hs' F hg kno tys nw mps).1 hno hmp
      · obtain ⟨mt, kq, hb, fb, em, h1, h2, h3, h4, h5, h6, h7⟩ := hF
        exact KS M mt kq hb h1 h3 (fun p hp => (h2 p hp).2.2.2.2.2.2) h6 q v hq met wai ks hs fs' ts tds sd' hs'
  · have ej : (nI j).toNatClampNeg = j := nI_clamp (by omega)
    refine br_f (nI_ge (b := 6) (by omega) (by decide)) (And.intro (vp_in_nI (by omega) (by decide)) (nm_r (e' := upd sd j (-1)) (by rw [ej, aa_nbm]) (nm_r (nI_1 j) h)))
end
end
section
/-! the reference's lay -/
section
variable {cn hn : Nat} {op fr tt tg ct pa be : Nat → Nat} {ar an : Nat → Int32}
variable {g_length g_handlers g_many g_there g_typed g_wrongNumber g_wrongPlace g_size g_why g_height g_objects g_line g_begun g_last g_end : Int32} {b_parent b_begin b_op b_arg b_from b_to b_target b_caught b_places b_heights b_gone b_worst b_frames b_maps b_high b_known b_mapped b_now b_sorts b_ints b_classes b_ready : Nat → Int32}
theorem yz_114 {post : Int32 → SY → Prop} {m : Nat} {fd : Int32} (hm : m ≤ 40) (K0 : fd = 0 → ∀ mp, (∀ i, i < 10 * m → mp i = 0) → post 2 (g_length, g_handlers, (nI m), g_there, fd, g_wrongNumber, g_wrongPlace, g_size, g_why, g_height, g_objects, g_line, g_begun, g_last, g_end, b_parent, b_begin, b_op, b_arg, b_from, b_to, b_target, b_caught, b_places, b_heights, b_gone, b_worst, b_frames, mp, b_high, b_known, b_mapped, b_now, b_sorts, b_ints, b_classes, b_ready)) (K1 : ¬ fd = 0 → ∀ mp, (∀ i, i < 10 * m → mp i = b_frames i) → post 0 (g_length, g_handlers, (nI m), g_there, fd, g_wrongNumber, g_wrongPlace, g_size, g_why, g_height, g_objects, g_line, g_begun, g_last, g_end, b_parent, b_begin, b_op, b_arg, b_from, b_to, b_target, b_caught, b_places, b_heights, b_gone, b_worst, b_frames, mp, b_high, b_known, b_mapped, b_now, b_sorts, b_ints, b_classes, b_ready)) : ∃ n114, wY_lay_114 post g_length g_handlers (nI m) g_there fd g_wrongNumber g_wrongPlace g_size g_why g_height g_objects g_line g_begun g_last g_end n114 0 b_parent b_begin b_op b_arg b_from b_to b_target b_caught b_places b_heights b_gone b_worst b_frames b_maps b_high b_known b_mapped b_now b_sorts b_ints b_classes b_ready := by
  have e10 : (10 : Int32) * nI m = nI (10 * m) := pk_mul 10 m
  have key : ∀ d i, i + d = 10 * m → ∀ mp, (∀ x, x < i → (fd = 0 → mp x = 0) ∧ (¬ fd = 0 → mp x = b_frames x)) → wY_lay_114 post g_length g_handlers (nI m) g_there fd g_wrongNumber g_wrongPlace g_size g_why g_height g_objects g_line g_begun g_last g_end (d + 1) (nI i) b_parent b_begin b_op b_arg b_from b_to b_target b_caught b_places b_heights b_gone b_worst b_frames mp b_high b_known b_mapped b_now b_sorts b_ints b_classes b_ready := by
    intro d
    induction d with
    | zero =>
      intro i hi mp hmp
      refine br_t ?_ (br_c (fun z => K0 z mp (fun x hx => (hmp x (by omega)).1 z)) (fun z => K1 z mp (fun x hx => (hmp x (by omega)).2 z)))
      rw [e10]; exact nI_le (by omega) (by omega)
    | succ d ih =>
      intro i hi mp hmp
      have ei : (nI i).toNatClampNeg = i := nI_clamp (by omega)
      have hin := vp_in_nI (n := i) (N := 410) (by omega) (by decide)
      refine br_f ?_ (br_c (fun z => And.intro hin (nm_r (e' := upd mp i 0) (by rw [ei]) (nm_r (nI_1 i) (ih (i + 1) (by omega) _ (fun x hx => ?_))))) (fun z => And.intro hin (And.intro hin (nm_r (e' := upd mp i (b_frames i)) (by rw [ei]) (nm_r (nI_1 i) (ih (i + 1) (by omega) _ (fun x hx => ?_)))))))
      · rw [e10]; exact nI_ge (by omega) (by omega)
      · by_cases e : x = i
        · rw [e, pk_us]; exact ⟨fun _ => rfl, fun y => absurd z y⟩
        · rw [pk_un e]; exact hmp x (by omega)
      · by_cases e : x = i
        · rw [e, pk_us]; exact ⟨fun y => absurd y z, fun _ => rfl⟩
        · rw [pk_un e]; exact hmp x (by omega)
  exact ⟨10 * m + 1, key (10 * m) 0 (by omega) b_maps (fun x hx => by omega)⟩
/-- the reference is laid -/
def yl_F (cn hn : Nat) (op fr tt tg : Nat → Nat) (ar : Nat → Int32) (m : Nat) (pl va : Nat → Nat) (places high mapped : Nat → Int32) : Prop :=
  la_L cn hn op fr tt tg ar m pl va ∧ yl_A pl va m places high ∧ mp_A m (la_mp hn op fr tt tg ar pl m m) mapped
theorem yz_48 {post : Int32 → SY → Prop} {m : Nat} {pl va hb : Nat → Nat} (P : pp_P cn hn op fr tt tg ct pa be ar) (M : pp_M cn hn op tg ar) (L : la_L cn hn op fr tt tg ar m pl va) (hpl : ∀ k, k < m → b_places k = nI (kk_y (pl k)) ∧ b_heights k = nI (hb k) ∧ hb k < 128 ∧ hb k ≠ 0 ∧ va k = bm_lw (hb k))
    (KT : ∀ hg0 mpd, yl_F cn hn op fr tt tg ar m pl va b_places hg0 mpd → ∀ hg kno tys nw mps,
      ((∀ K F, ¬ it_sol pa va m (la_OK pa op ar pl va m) (la_EH hn fr tt tg ct pl m) (la_EN op ar pl va m) be K F) → (∀ i, i < 10 * m → mps i = 0) → post 2 ((nI cn), (nI hn), (nI m), g_there, 0, g_wrongNumber, g_wrongPlace, hg, g_why, g_height, g_objects, g_line, g_begun, g_last, g_end, (aa_N pa), (aa_N be), (aa_N op), ar, (aa_N fr), (aa_N tt), (aa_N tg), (aa_N ct), b_places, b_heights, b_gone, b_worst, tys, mps, hg0, kno, mpd, nw, b_sorts, b_ints, b_classes, b_ready)) ∧
      (∀ kn ty, it_L pa va m (la_OK pa op ar pl va m) (la_EH hn fr tt tg ct pl m) (la_EN op ar pl va m) be kn ty → (∀ k s, k < m → s < 4 + va k → tys (10 * k + s) = nI (ty k s) ∧ mps (10 * k + s) = nI (ty k s) ∧ ty k s < 91) → post 0 ((nI cn), (nI hn), (nI m), g_there, 1, g_wrongNumber, g_wrongPlace, hg, g_why, g_height, g_objects, g_line, g_begun, g_last, g_end, (aa_N pa), (aa_N be), (aa_N op), ar, (aa_N fr), (aa_N tt), (aa_N tg), (aa_N ct), b_places, b_heights, b_gone, b_worst, tys, mps, hg0, kno, mpd, nw, b_sorts, b_ints, b_classes, b_ready))) :
    ∃ n48, wY_lay_48 post (nI cn) (nI hn) (nI m) g_there g_typed g_wrongNumber g_wrongPlace g_size g_why g_height g_objects g_line g_begun g_last g_end n48 0 (aa_N pa) (aa_N be) (aa_N op) ar (aa_N fr) (aa_N tt) (aa_N tg) (aa_N ct) b_places b_heights b_gone b_worst b_frames b_maps b_high b_known b_mapped b_now b_sorts b_ints b_classes b_ready := by
  have m40 := L.1
  have key : ∀ d k, k + d = m → ∀ hg, (∀ x, x < k → hg x = nI (va x)) → wY_lay_48 post (nI cn) (nI hn) (nI m) g_there g_typed g_wrongNumber g_wrongPlace g_size g_why g_height g_objects g_line g_begun g_last g_end (d + 1) (nI k) (aa_N pa) (aa_N be) (aa_N op) ar (aa_N fr) (aa_N tt) (aa_N tg) (aa_N ct) b_places b_heights b_gone b_worst b_frames b_maps hg b_known b_mapped b_now b_sorts b_ints b_classes b_ready := by
    intro d
    induction d with
    | zero =>
      intro k hkd hg hhg
      have yA : yl_A pl va m b_places hg := fun x hx => ⟨(hpl x hx).1, (la_V P M L hx).1, hhg x (by omega)⟩
      refine br_t (nI_le (by omega) (by omega)) (ym_findMaps P M L yA (fun mpd hM => ?_))
      refine yf_findTypes P M L yA (fun hno sz kno tys nw => And.intro rfl (And.intro rfl (yz_114 m40 (fun _ mps hmp => ?_) (fun z => absurd rfl z)))) (fun kn ty sz kno tys nw hL hI T => And.intro rfl (And.intro rfl (yz_114 m40 (fun z => absurd z (by decide)) (fun _ mps hmp => ?_))))
      · exact (KT hg mpd ⟨L, yA, hM⟩ sz kno tys nw mps).1 hno hmp
      · refine (KT hg mpd ⟨L, yA, hM⟩ sz kno tys nw mps).2 kn ty hL (fun k s hk hs => ?_)
        have hkn := la_all L hL.1 k hk
        have t1 := ((T k hk).1 hkn).2 s hs
        have v6 := (la_V P M L hk).2.2
        exact ⟨t1, by rw [hmp _ (by omega), t1], ((hI k hkn).2 s hs).1⟩
    | succ d ih =>
      intro k hkd hg hhg
      have hk : k < m := by omega
      obtain ⟨p1, p2, p3, p4, p5⟩ := hpl k hk
      have ek : (nI k).toNatClampNeg = k := nI_clamp (by omega)
      refine br_f (nI_ge (by omega) (by omega)) (And.intro (vp_in_nI (by omega) (by decide)) (nm_r (e' := upd hg k (nI 0)) (by rw [ek]; rfl) ⟨bm_lw (hb k) + 1, ?_⟩))
      refine ym_63 (b_high := hg) (by omega) p3 p4 p2 (fun hg' h1 h2 => ih (k + 1) (by omega) hg' (fun x hx => ?_)) (bm_lw (hb k)) (Nat.le_refl _) _ (fun x hx => pk_un hx) (by rw [pk_us, Nat.sub_self])
      by_cases e : x = k
      · rw [e, h2, p5]
      · rw [h1 x e]; exact hhg x (by omega)
  exact ⟨m + 1, key m 0 (by omega) b_high (fun x hx => by omega)⟩
theorem yz_lay {post : Int32 → SY → Prop} (P : pp_P cn hn op fr tt tg ct pa be ar)
    (KB : ¬ pp_M cn hn op tg ar → post (-1) ((nI cn), (nI hn), g_many, 0, g_typed, (-1), g_wrongPlace, g_size, 0, g_height, g_objects, g_line, g_begun, g_last, g_end, (aa_N pa), (aa_N be), (aa_N op), ar, (aa_N fr), (aa_N tt), (aa_N tg), (aa_N ct), b_places, b_heights, b_gone, b_worst, b_frames, b_maps, b_high, b_known, b_mapped, b_now, b_sorts, b_ints, b_classes, b_ready))
    (K7 : pp_M cn hn op tg ar → xe_many (ex_R (pp_W cn op) (pp_S hn op fr tt tg ar)) → ∀ mn ps hs gs ws, post 1 ((nI cn), (nI hn), mn, 0, g_typed, 7, (-1), g_size, 0, g_height, g_objects, g_line, g_begun, g_last, g_end, (aa_N pa), (aa_N be), (aa_N op), ar, (aa_N fr), (aa_N tt), (aa_N tg), (aa_N ct), ps, hs, gs, ws, b_frames, b_maps, b_high, b_known, b_mapped, b_now, b_sorts, b_ints, b_classes, b_ready))
    (KS : pp_M cn hn op tg ar → ∀ mt (kq : Nat → Nat), mt ≤ 40 → (∀ q h, ex_R (pp_W cn op) (pp_S hn op fr tt tg ar) q h → ∃ p, p < mt ∧ kq p = q) → ∀ q v, ex_wrong (pp_W cn op) (ex_R (pp_W cn op) (pp_S hn op fr tt tg ar)) q v → ∀ mn ps hs gs ws, post 1 ((nI cn), (nI hn), mn, 0, g_typed, (nI v), (nI (kk_y q)), g_size, 0, g_height, g_objects, g_line, g_begun, g_last, g_end, (aa_N pa), (aa_N be), (aa_N op), ar, (aa_N fr), (aa_N tt), (aa_N tg), (aa_N ct), ps, hs, gs, ws, b_frames, b_maps, b_high, b_known, b_mapped, b_now, b_sorts, b_ints, b_classes, b_ready))
    (KT : pp_M cn hn op tg ar → ∀ m pl va, (∀ k, m ≤ k → pl k = 0 ∧ va k = 0) → ex_right (pp_W cn op) (ex_R (pp_W cn op) (pp_S hn op fr tt tg ar)) → ∀ ps hs gs ws hg0 mpd, yl_F cn hn op fr tt tg ar m pl va ps hg0 mpd → ∀ hg kno tys nw mps,
      ((∀ K F, ¬ it_sol pa va m (la_OK pa op ar pl va m) (la_EH hn fr tt tg ct pl m) (la_EN op ar pl va m) be K F) → (∀ i, i < 10 * m → mps i = 0) → post 2 ((nI cn), (nI hn), (nI m), 1, 0, (-1), (-1), hg, 0, g_height, g_objects, g_line, g_begun, g_last, g_end, (aa_N pa), (aa_N be), (aa_N op), ar, (aa_N fr), (aa_N tt), (aa_N tg), (aa_N ct), ps, hs, gs, ws, tys, mps, hg0, kno, mpd, nw, b_sorts, b_ints, b_classes, b_ready)) ∧
      (∀ kn ty, it_L pa va m (la_OK pa op ar pl va m) (la_EH hn fr tt tg ct pl m) (la_EN op ar pl va m) be kn ty → (∀ k s, k < m → s < 4 + va k → tys (10 * k + s) = nI (ty k s) ∧ mps (10 * k + s) = nI (ty k s) ∧ ty k s < 91) → post 0 ((nI cn), (nI hn), (nI m), 1, 1, (-1), (-1), hg, 0, g_height, g_objects, g_line, g_begun, g_last, g_end, (aa_N pa), (aa_N be), (aa_N op), ar, (aa_N fr), (aa_N tt), (aa_N tg), (aa_N ct), ps, hs, gs, ws, tys, mps, hg0, kno, mpd, nw, b_sorts, b_ints, b_classes, b_ready))) :
    wpY_lay post ((nI cn), (nI hn), g_many, g_there, g_typed, g_wrongNumber, g_wrongPlace, g_size, g_why, g_height, g_objects, g_line, g_begun, g_last, g_end, (aa_N pa), (aa_N be), (aa_N op), ar, (aa_N fr), (aa_N tt), (aa_N tg), (aa_N ct), b_places, b_heights, b_gone, b_worst, b_frames, b_maps, b_high, b_known, b_mapped, b_now, b_sorts, b_ints, b_classes, b_ready) := by
  unfold wpY_lay
  refine yb_isMethod P (fun M => br_f (by decide) ?_) (fun M => br_t rfl (KB M))
  refine yg_walk P M (fun mn ps hs gs ws hF => ?_)
  refine ys_sort hF (fun mn pq hb ws ps hs wss hS => ?_)
  refine yr_isRight pp_wz9 pp_wzn hS (fun e => br_t rfl ?_) (fun hm hr => br_f (by decide) ?_) (fun hm q v hq => br_t rfl ?_)
  · refine K7 M ⟨pq, fun i j hi hj eq => ?_, fun i hi => (hS.2.1 i (by omega)).2.2.2.2.2.2⟩ _ _ _ _ _
    rcases Nat.lt_trichotomy i j with z | z | z
    · have := hS.2.2.1 i j z (by omega); omega
    · exact z
    · have := hS.2.2.1 j i z (by omega); omega
  · obtain ⟨s1, s2, s3, s4⟩ := hS
    obtain ⟨h5, h6, h7⟩ := s4 hm
    have hb0 : ∀ k, k < mn → hb k ≠ 0 := fun k hk z => by
      obtain ⟨h, hr'⟩ := (s2 k hk).2.2.2.2.2.2
      have := (h5 k h hk).mpr hr'
      rw [z, Nat.zero_testBit] at this; exact absurd this (by decide)
    have e1 : ∀ k, k < mn → la_nz mn pq k = pq k := fun k hk => la_nz_lt hk
    have e2 : ∀ k, k < mn → la_nz mn (fun k => bm_lw (hb k)) k = bm_lw (hb k) := fun k hk => la_nz_lt hk
    have L : la_L cn hn op fr tt tg ar mn (la_nz mn pq) (la_nz mn (fun k => bm_lw (hb k))) := la_of hr hm (fun k hk => by rw [e1 k hk, e2 k hk]; exact (h5 k _ hk).mp (bm_lo _ (s2 k hk).2.2.2.1 (hb0 k hk)).2.1) (fun i j hij hj => by rw [e1 i (by omega), e1 j hj]; exact s3 i j hij hj) (fun q h hq => by
      obtain ⟨k, k1, k2⟩ := h6 q h hq
      exact ⟨k, k1, by rw [e1 k k1]; exact k2⟩)
    exact yz_48 P M L (fun k hk => ⟨by rw [e1 k hk]; exact (s2 k hk).1, (s2 k hk).2.2.1, (s2 k hk).2.2.2.1, hb0 k hk, e2 k hk⟩) (fun hg0 mpd F hg kno tys nw mps => KT M mn _ _ (fun k hk => ⟨la_nz_ge hk, la_nz_ge hk⟩) hr ps hs _ wss hg0 mpd F hg kno tys nw mps)
  · exact KS M mn pq hm (hS.2.2.2 hm).2.1 q v hq _ _ _ _ _
end
end
section
/-! the relation -/
/-- what was said of the last lay -/
def rl_S (said : Nat → Int32) (wn wp : Int32) : Prop :=
  (wn = -1 ∧ ∀ j, j < 6 → said j = -1) ∨ (wn = 7 ∧ said 0 = 7 ∧ ∀ j, 0 < j → j < 6 → said j = -1) ∨ (∃ q v, kk_V q ∧ v < 7 ∧ wn = nI v ∧ wp = nI (kk_y q) ∧ ex_said q v said)
/-- what is laid -/
def rl_L (cn hn : Nat) (op fr tt tg : Nat → Nat) (ar : Nat → Int32) (size found : Int32) (sorted instruction values jumps caught caller mapped types maps : Nat → Int32) (many there typed : Int32) (places high mapped' frames maps' : Nat → Int32) : Prop :=
  (there = 0 ∧ size = 0 ∧ found = 0) ∨ (there = 1 ∧ ∃ m pl va, pp_M cn hn op tg ar ∧ size = nI m ∧ many = nI m ∧ xl_F cn hn op fr tt tg ar m pl va sorted instruction values jumps caught caller mapped ∧ yl_F cn hn op fr tt tg ar m pl va places high mapped' ∧
    ((found = 0 ∧ typed = 0) ∨ (found = 1 ∧ typed = 1 ∧ ∀ k s, k < m → s < 4 + va k → types (10 * k + s) = frames (10 * k + s))) ∧ (∀ k s, k < m → s < 4 + va k → ∃ t, t < 91 ∧ maps (10 * k + s) = nI t ∧ maps' (10 * k + s) = nI t))
/-- a value of a run on both sides; no: how many objects -/
def rl_V (no : Nat) (s v s' v' : Int32) : Prop :=
  (s = 0 ∧ s' = 0) ∨ (s = 1 ∧ s' = 1 ∧ v = v') ∨ (s = 2 ∧ s' = 2) ∨ (∃ n, n < no ∧ s = 3 ∧ v = nI n ∧ s' = nI (4 + n)) ∨ (∃ i, i < 24 ∧ s = 4 ∧ s' = 3 ∧ v = nI i ∧ v' = nI i)
def rl_O (no : Nat) (made ready classes ready' : Nat → Int32) : Prop := ∀ n, n < no → (∃ c, c < 8 ∧ made n = nI c ∧ classes n = nI c) ∧ ((ready n = 0 ∧ ready' n = 0) ∨ (ready n = 1 ∧ ready' n = 1))
def rl_R (steps at' last ran : Int32) (sort made number ready : Nat → Int32) (line begun last' end' : Int32) (sorts ints classes ready' : Nat → Int32) : Prop :=
  (ran = 0 ∧ begun = 0 ∧ end' = -1) ∨ (ran = 1 ∧ 0 ≤ end' ∧ steps = begun ∧ at' = line ∧ last = last' ∧ ∃ no, no ≤ 204 ∧ rl_O no made ready classes ready' ∧ ∀ l, l < 4 → rl_V no (sort l) (number l) (sorts l) (ints l))
def i_Rel (_k : Nat) (u : SX) (v : SY) : Prop := match u with
  | (f_count, f_handlers, f_met, f_waiting, f_tooMany, f_size, f_height, f_why, f_found, f_objects, f_high, f_at, f_here, f_steps, f_outcome, f_last, f_ran, a_parents, a_ancestors, a_begins, a_ops, a_operands, a_froms, a_tos, a_targets, a_catches, a_keys, a_heights, a_faults, a_table, a_todo, a_said, a_sorted, a_instruction, a_values, a_jumps, a_caught, a_caller, a_mapped, a_known, a_types, a_maps, a_now, a_sort, a_made, a_number, a_ready) => match v with
    | (g_length, g_handlers, g_many, g_there, g_typed, g_wrongNumber, g_wrongPlace, g_size, g_why, g_height, g_objects, g_line, g_begun, g_last, g_end, b_parent, b_begin, b_op, b_arg, b_from, b_to, b_target, b_caught, b_places, b_heights, b_gone, b_worst, b_frames, b_maps, b_high, b_known, b_mapped, b_now, b_sorts, b_ints, b_classes, b_ready) => ∃ (cn hn : Nat) (op fr tt tg ct pa be : Nat → Nat), f_count = nI cn ∧ g_length = nI cn ∧ f_handlers = nI hn ∧ g_handlers = nI hn ∧ g_why = f_why ∧ a_parents = aa_N pa ∧ b_parent = aa_N pa ∧ a_begins = aa_N be ∧ b_begin = aa_N be ∧ a_ops = aa_N op ∧ b_op = aa_N op ∧ b_arg = a_operands ∧ a_froms = aa_N fr ∧ b_from = aa_N fr ∧ a_tos = aa_N tt ∧ b_to = aa_N tt ∧ a_targets = aa_N tg ∧ b_target = aa_N tg ∧ a_catches = aa_N ct ∧ b_caught = aa_N ct ∧
      pp_P cn hn op fr tt tg ct pa be a_operands ∧ xa_A pa a_ancestors ∧ rl_S a_said g_wrongNumber g_wrongPlace ∧ rl_L cn hn op fr tt tg a_operands f_size f_found a_sorted a_instruction a_values a_jumps a_caught a_caller a_mapped a_types a_maps g_many g_there g_typed b_places b_high b_mapped b_frames b_maps ∧
      rl_R f_steps f_at f_last f_ran a_sort a_made a_number a_ready g_line g_begun g_last g_end b_sorts b_ints b_classes b_ready
theorem i_in {k : Nat} {cn hn : Nat} {op fr tt tg ct pa be : Nat → Nat} {ar an : Nat → Int32} {f_met f_waiting f_tooMany f_size f_height f_why f_found f_objects f_high f_at f_here f_steps f_outcome f_last f_ran : Int32} {a_keys a_heights a_faults a_table a_todo a_said a_sorted a_instruction a_values a_jumps a_caught a_caller a_mapped a_known a_types a_maps a_now a_sort a_made a_number a_ready : Nat → Int32} {g_many g_there g_typed g_wrongNumber g_wrongPlace g_size g_height g_objects g_line g_begun g_last g_end : Int32} {b_places b_heights b_gone b_worst b_frames b_maps b_high b_known b_mapped b_now b_sorts b_ints b_classes b_ready : Nat → Int32}
    (hP : pp_P cn hn op fr tt tg ct pa be ar) (hA : xa_A pa an) (hS : rl_S a_said g_wrongNumber g_wrongPlace) (hL : rl_L cn hn op fr tt tg ar f_size f_found a_sorted a_instruction a_values a_jumps a_caught a_caller a_mapped a_types a_maps g_many g_there g_typed b_places b_high b_mapped b_frames b_maps) (hR : rl_R f_steps f_at f_last f_ran a_sort a_made a_number a_ready g_line g_begun g_last g_end b_sorts b_ints b_classes b_ready) : i_Rel k ((nI cn), (nI hn), f_met, f_waiting, f_tooMany, f_size, f_height, f_why, f_found, f_objects, f_high, f_at, f_here, f_steps, f_outcome, f_last, f_ran, (aa_N pa), an, (aa_N be), (aa_N op), ar, (aa_N fr), (aa_N tt), (aa_N tg), (aa_N ct), a_keys, a_heights, a_faults, a_table, a_todo, a_said, a_sorted, a_instruction, a_values, a_jumps, a_caught, a_caller, a_mapped, a_known, a_types, a_maps, a_now, a_sort, a_made, a_number, a_ready) ((nI cn), (nI hn), g_many, g_there, g_typed, g_wrongNumber, g_wrongPlace, g_size, f_why, g_height, g_objects, g_line, g_begun, g_last, g_end, (aa_N pa), (aa_N be), (aa_N op), ar, (aa_N fr), (aa_N tt), (aa_N tg), (aa_N ct), b_places, b_heights, b_gone, b_worst, b_frames, b_maps, b_high, b_known, b_mapped, b_now, b_sorts, b_ints, b_classes, b_ready) :=
  ⟨cn, hn, op, fr, tt, tg, ct, pa, be, rfl, rfl, rfl, rfl, rfl, rfl, rfl, rfl, rfl, rfl, rfl, rfl, rfl, rfl, rfl, rfl, rfl, rfl, rfl, rfl, hP, hA, hS, hL, hR⟩
theorem i_el {Z : SX → SY → Prop} {k : Nat} {u : SX} {v : SY} (I : i_Rel k u v) (h : ∀ (cn hn : Nat) (op fr tt tg ct pa be : Nat → Nat) (ar an : Nat → Int32) (f_met f_waiting f_tooMany f_size f_height f_why f_found f_objects f_high f_at f_here f_steps f_outcome f_last f_ran : Int32) (a_keys a_heights a_faults a_table a_todo a_said a_sorted a_instruction a_values a_jumps a_caught a_caller a_mapped a_known a_types a_maps a_now a_sort a_made a_number a_ready : Nat → Int32) (g_many g_there g_typed g_wrongNumber g_wrongPlace g_size g_height g_objects g_line g_begun g_last g_end : Int32) (b_places b_heights b_gone b_worst b_frames b_maps b_high b_known b_mapped b_now b_sorts b_ints b_classes b_ready : Nat → Int32), pp_P cn hn op fr tt tg ct pa be ar → xa_A pa an → rl_S a_said g_wrongNumber g_wrongPlace → rl_L cn hn op fr tt tg ar f_size f_found a_sorted a_instruction a_values a_jumps a_caught a_caller a_mapped a_types a_maps g_many g_there g_typed b_places b_high b_mapped b_frames b_maps → rl_R f_steps f_at f_last f_ran a_sort a_made a_number a_ready g_line g_begun g_last g_end b_sorts b_ints b_classes b_ready → Z ((nI cn), (nI hn), f_met, f_waiting, f_tooMany, f_size, f_height, f_why, f_found, f_objects, f_high, f_at, f_here, f_steps, f_outcome, f_last, f_ran, (aa_N pa), an, (aa_N be), (aa_N op), ar, (aa_N fr), (aa_N tt), (aa_N tg), (aa_N ct), a_keys, a_heights, a_faults, a_table, a_todo, a_said, a_sorted, a_instruction, a_values, a_jumps, a_caught, a_caller, a_mapped, a_known, a_types, a_maps, a_now, a_sort, a_made, a_number, a_ready) ((nI cn), (nI hn), g_many, g_there, g_typed, g_wrongNumber, g_wrongPlace, g_size, f_why, g_height, g_objects, g_line, g_begun, g_last, g_end, (aa_N pa), (aa_N be), (aa_N op), ar, (aa_N fr), (aa_N tt), (aa_N tg), (aa_N ct), b_places, b_heights, b_gone, b_worst, b_frames, b_maps, b_high, b_known, b_mapped, b_now, b_sorts, b_ints, b_classes, b_ready)) : Z u v := by
  obtain ⟨f_count, f_handlers, f_met, f_waiting, f_tooMany, f_size, f_height, f_why, f_found, f_objects, f_high, f_at, f_here, f_steps, f_outcome, f_last, f_ran, a_parents, a_ancestors, a_begins, a_ops, a_operands, a_froms, a_tos, a_targets, a_catches, a_keys, a_heights, a_faults, a_table, a_todo, a_said, a_sorted, a_instruction, a_values, a_jumps, a_caught, a_caller, a_mapped, a_known, a_types, a_maps, a_now, a_sort, a_made, a_number, a_ready⟩ := u
  obtain ⟨g_length, g_handlers, g_many, g_there, g_typed, g_wrongNumber, g_wrongPlace, g_size, g_why, g_height, g_objects, g_line, g_begun, g_last, g_end, b_parent, b_begin, b_op, b_arg, b_from, b_to, b_target, b_caught, b_places, b_heights, b_gone, b_worst, b_frames, b_maps, b_high, b_known, b_mapped, b_now, b_sorts, b_ints, b_classes, b_ready⟩ := v
  obtain ⟨cn, hn, op, fr, tt, tg, ct, pa, be, e1, e2, e3, e4, e5, e6, e7, e8, e9, e10, e11, e12, e13, e14, e15, e16, e17, e18, e19, e20, hP, hA, hS, hL, hR⟩ := I
  subst e1 e2 e3 e4 e5 e6 e7 e8 e9 e10 e11 e12 e13 e14 e15 e16 e17 e18 e19 e20
  exact h _ _ _ _ _ _ _ _ _ _ _ _ _ _ _ _ _ _ _ _ _ _ _ _ _ _ _ _ _ _ _ _ _ _ _ _ _ _ _ _ _ _ _ _ _ _ _ _ _ _ _ _ _ _ _ _ _ _ _ _ _ _ _ _ _ _ _ _ _ _ _ _ _ hP hA hS hL hR
theorem i_up {k : Nat} {u : SX} {v : SY} (h : i_Rel k u v) : i_Rel (k + 5) u v := h
end
section
/-! relate, and the methods that change the program -/
theorem xr_cast {x : Int32} {d : Nat} (hd : d < 8) : bt x.toInt8.toInt32 d = bt x d := by
  have h := bp_b x
  have h1 := b_and x.toInt8.toInt32 255 d
  have h2 := b_and x 255 d
  rw [h, h2, b_255, decide_eq_true hd, Bool.and_true, Bool.and_true] at h1
  exact h1.symm
section
variable {cn hn : Nat} {op fr tt tg ct pa be : Nat → Nat} {ar an : Nat → Int32}
variable {f_count f_handlers f_met f_waiting f_tooMany f_size f_height f_why f_found f_objects f_high f_at f_here f_steps f_outcome f_last f_ran : Int32} {a_parents a_ancestors a_begins a_ops a_operands a_froms a_tos a_targets a_catches a_keys a_heights a_faults a_table a_todo a_said a_sorted a_instruction a_values a_jumps a_caught a_caller a_mapped a_known a_types a_maps a_now a_sort a_made a_number a_ready : Nat → Int32}
variable {g_length g_handlers g_many g_there g_typed g_wrongNumber g_wrongPlace g_size g_why g_height g_objects g_line g_begun g_last g_end : Int32} {b_parent b_begin b_op b_arg b_from b_to b_target b_caught b_places b_heights b_gone b_worst b_frames b_maps b_high b_known b_mapped b_now b_sorts b_ints b_classes b_ready : Nat → Int32}
theorem xr_relate {post : SX → Prop} (hpa : ∀ c, pa c < 8 ∧ (0 < c → pa c < c)) (K : ∀ an', xa_A pa an' → post (f_count, f_handlers, f_met, f_waiting, f_tooMany, f_size, f_height, f_why, f_found, f_objects, f_high, f_at, f_here, f_steps, f_outcome, f_last, f_ran, (aa_N pa), an', a_begins, a_ops, a_operands, a_froms, a_tos, a_targets, a_catches, a_keys, a_heights, a_faults, a_table, a_todo, a_said, a_sorted, a_instruction, a_values, a_jumps, a_caught, a_caller, a_mapped, a_known, a_types, a_maps, a_now, a_sort, a_made, a_number, a_ready)) : wpX_relate post (f_count, f_handlers, f_met, f_waiting, f_tooMany, f_size, f_height, f_why, f_found, f_objects, f_high, f_at, f_here, f_steps, f_outcome, f_last, f_ran, (aa_N pa), a_ancestors, a_begins, a_ops, a_operands, a_froms, a_tos, a_targets, a_catches, a_keys, a_heights, a_faults, a_table, a_todo, a_said, a_sorted, a_instruction, a_values, a_jumps, a_caught, a_caller, a_mapped, a_known, a_types, a_maps, a_now, a_sort, a_made, a_number, a_ready) := by
  have key : ∀ d c, c + d = 8 → ∀ an', (∀ c', c' < c → ∀ d, d < 8 → bt (an' c') d = ty_ab pa d c') → wX_relate_2 post f_count f_handlers f_met f_waiting f_tooMany f_size f_height f_why f_found f_objects f_high f_at f_here f_steps f_outcome f_last f_ran (d + 1) (nI c) (aa_N pa) an' a_begins a_ops a_operands a_froms a_tos a_targets a_catches a_keys a_heights a_faults a_table a_todo a_said a_sorted a_instruction a_values a_jumps a_caught a_caller a_mapped a_known a_types a_maps a_now a_sort a_made a_number a_ready := by
    intro d
    induction d with
    | zero =>
      intro c hc an' h
      exact br_t (nI_le (a := 8) (by omega) (by omega)) (K an' (fun c' hc' => h c' (by omega)))
    | succ d ih =>
      intro c hc an' h
      have ec : (nI c).toNatClampNeg = c := nI_clamp (by omega)
      have hin := vp_in_nI (n := c) (N := 8) (by omega) (by decide)
      refine br_f (nI_ge (b := 8) (by omega) (by decide)) (pk_eq c 0 (fun z => And.intro hin (nm_e (nm_r (nI_1 c) (ih (c + 1) (by omega) _ (fun c' hc' d' hd' => ?_))))) (fun z => And.intro hin ?_))
      · have e0 : c' = 0 := by omega
        rw [ec, e0, z, pk_us, vp_nar_byte, xr_cast hd', xr_cast hd', xa_b1, ty_ab_le (by omega)]
        by_cases y : d' = 0
        · rw [y]
        · rw [decide_eq_false y, decide_eq_false (fun w => y w.symm)]
      · rw [ec]
        have hp := hpa c
        have ep : (aa_N pa c).toNatClampNeg = pa c := nI_clamp (show pa c < 2 ^ 31 by omega)
        refine And.intro (vp_in_nI (show pa c < 8 from hp.1) (by decide)) (And.intro hin (nm_e (nm_r (nI_1 c) (ih (c + 1) (by omega) _ (fun c' hc' d' hd' => ?_)))))
        by_cases e : c' = c
        · rw [e, pk_us, vp_nar_byte, xr_cast hd', xr_cast hd', b_or, ep, h (pa c) (by have := hp.2 (by omega); omega) d' hd', b_shl c (by omega) _ (by omega), xa_b1]
          rcases Nat.lt_trichotomy d' c with y | y | y
          · rw [decide_eq_false (show ¬ c ≤ d' by omega), Bool.false_and, Bool.or_false, ← ty_ab_gt hpa (by omega) y]
          · rw [y, decide_eq_true (Nat.le_refl c), Nat.sub_self, ty_ab_self]
            cases ty_ab pa c (pa c) <;> rfl
          · rw [decide_eq_false (show ¬ d' - c = 0 by omega), Bool.and_false, Bool.or_false, ty_ab_le (show pa c ≤ d' by have := hp.2 (by omega); omega), ty_ab_le (by omega), decide_eq_false (show ¬ pa c = d' by have := hp.2 (by omega); omega), decide_eq_false (show ¬ c = d' by omega)]
        · rw [pk_un e]; exact h c' (by omega) d' hd'
  exact ⟨9, key 8 0 (by omega) a_ancestors (fun c' hc' => by omega)⟩
end
theorem ip_0 : pp_P 0 0 (fun _ => 0) (fun _ => 0) (fun _ => 0) (fun _ => 0) (fun _ => 0) (fun _ => 0) (fun _ => 0) (fun _ => 0) := by
  refine ⟨by omega, by omega, fun _ => ?_, fun _ => ?_, fun c => ?_, fun _ => ?_, fun i => ?_⟩
  · show 0 < 20; omega
  · show 0 < 24 ∧ 0 ≤ 24 ∧ 0 < 24 ∧ 0 < 8; omega
  · show 0 < 8 ∧ (0 < c → 0 < c); exact ⟨by omega, id⟩
  · show 0 < 11; omega
  · show pp_fit 0 0
    exact ⟨fun h => by omega, fun h => by omega, fun h => absurd h (by decide)⟩
theorem i_vc0 : wpX_init (fun u => wpY_init (fun v => i_Rel 0 u v)) := by
  refine xf_said (post := True) (W := fun n j sd => wX_init_253 (fun u => wpY_init (fun v => i_Rel 0 u v)) 0 0 0 0 0 0 0 0 0 0 0 0 0 0 0 (-1) 0 n (nI j) (fun _ => 0) (fun _ => 0) (fun _ => 0) (fun _ => 0) (fun _ => 0) (fun _ => 0) (fun _ => 0) (fun _ => 0) (fun _ => 0) (fun _ => 0) (fun _ => 0) (fun _ => 0) (fun _ => 0) (fun _ => 0) sd (fun _ => 0) (fun _ => 0) (fun _ => 0) (fun _ => 0) (fun _ => 0) (fun _ => 0) (fun _ => 0) (fun _ => 0) (fun _ => 0) (fun _ => 0) (fun _ => 0) (fun _ => 0) (fun _ => 0) (fun _ => 0) (fun _ => 0)) (fun n sd hsd => ?_) (fun n j sd hj h => ?_) (fun _ => 0)
  · refine br_t (nI_le (a := 6) (by omega) (by decide)) (xr_relate (pa := fun _ => 0) (fun c => ⟨by decide, fun h => h⟩) (fun an' hA => ?_))
    show i_Rel 0 (0, 0, 0, 0, 0, 0, 0, 0, 0, 0, 0, 0, 0, 0, 0, (-1), 0, (fun _ => 0), an', (fun _ => 0), (fun _ => 0), (fun _ => 0), (fun _ => 0), (fun _ => 0), (fun _ => 0), (fun _ => 0), (fun _ => 0), (fun _ => 0), (fun _ => 0), (fun _ => 0), (fun _ => 0), sd, (fun _ => 0), (fun _ => 0), (fun _ => 0), (fun _ => 0), (fun _ => 0), (fun _ => 0), (fun _ => 0), (fun _ => 0), (fun _ => 0), (fun _ => 0), (fun _ => 0), (fun _ => 0), (fun _ => 0), (fun _ => 0), (fun _ => 0)) (0, 0, 0, 0, 0, (-1), 0, 0, 0, 0, 0, 0, 0, (-1), (-1), (fun _ => 0), (fun _ => 0), (fun _ => 0), (fun _ => 0), (fun _ => 0), (fun _ => 0), (fun _ => 0), (fun _ => 0), (fun _ => 0), (fun _ => 0), (fun _ => 0), (fun _ => 0), (fun _ => 0), (fun _ => 0), (fun _ => 0), (fun _ => 0), (fun _ => 0), (fun _ => 0), (fun _ => 0), (fun _ => 0), (fun _ => 0), (fun _ => 0))
    exact i_in (cn := 0) (hn := 0) (op := fun _ => 0) (fr := fun _ => 0) (tt := fun _ => 0) (tg := fun _ => 0) (ct := fun _ => 0) (pa := fun _ => 0) (be := fun _ => 0) ip_0 hA (Or.inl ⟨rfl, hsd⟩) (Or.inl ⟨rfl, rfl, rfl⟩) (Or.inl ⟨rfl, rfl, rfl⟩)
  · have ej : (nI j).toNatClampNeg = j := nI_clamp (by omega)
    exact br_f (nI_ge (b := 6) (by omega) (by decide)) (And.intro (vp_in_nI (by omega) (by decide)) (nm_r (e' := upd sd j (-1)) (by rw [ej, aa_nbm]) (nm_r (nI_1 j) h)))
theorem i_vc_kin {k : Nat} {u : SX} {v : SY} (I : i_Rel k u v) (hk : k + 5 ≤ 2560) (v1 : Int32) (v2 : Int32) : wpX_kin (fun r u' => wpY_kin (fun r' v' => r' = r ∧ i_Rel (k + 5) u' v') v v1 v2) u v1 v2 := by
  refine i_el (Z := fun u v => wpX_kin (fun r u' => wpY_kin (fun r' v' => r' = r ∧ i_Rel (k + 5) u' v') v v1 v2) u v1 v2) I (fun cn hn op fr tt tg ct pa be ar an f_met f_waiting f_tooMany f_size f_height f_why f_found f_objects f_high f_at f_here f_steps f_outcome f_last f_ran a_keys a_heights a_faults a_table a_todo a_said a_sorted a_instruction a_values a_jumps a_caught a_caller a_mapped a_known a_types a_maps a_now a_sort a_made a_number a_ready g_many g_there g_typed g_wrongNumber g_wrongPlace g_size g_height g_objects g_line g_begun g_last g_end b_places b_heights b_gone b_worst b_frames b_maps b_high b_known b_mapped b_now b_sorts b_ints b_classes b_ready hP hA hS hL hR => ?_)
  have same := i_in (k := k + 5) (f_met := f_met) (f_waiting := f_waiting) (f_tooMany := f_tooMany) (f_height := f_height) (f_why := f_why) (f_objects := f_objects) (f_high := f_high) (f_here := f_here) (f_outcome := f_outcome) (a_keys := a_keys) (a_heights := a_heights) (a_faults := a_faults) (a_table := a_table) (a_todo := a_todo) (a_known := a_known) (a_now := a_now) (g_size := g_size) (g_height := g_height) (g_objects := g_objects) (b_heights := b_heights) (b_gone := b_gone) (b_worst := b_worst) (b_known := b_known) (b_now := b_now) hP hA hS hL hR
  by_cases c1 : v1 < 1
  · exact br_t c1 (br_t c1 ⟨rfl, same⟩)
  · by_cases c2 : 7 < v1
    · exact br_f c1 (br_t c2 (br_f c1 (br_t c2 ⟨rfl, same⟩)))
    · obtain ⟨c, c8, rfl⟩ := nI_of2 (x := v1) (M := 7) (n := 7) (by decide) (fun z => c1 (Int32.lt_trans z (by decide))) (Int32.not_lt.mp c2)
      have c0 : 0 < c := by
        rcases Nat.eq_zero_or_pos c with z | z
        · subst z; exact absurd (by decide) c1
        · exact z
      rcases pk_ix v2 (n := c) (by omega) with z | z | ⟨p, hp, rfl⟩
      · exact br_f c1 (br_f c2 (xx_outn z (br_f (by decide) (br_f c1 (br_f c2 (yy_inn z (br_t rfl ⟨rfl, same⟩)))))))
      · exact br_f c1 (br_f c2 (xx_outg z (br_f (by decide) (br_f c1 (br_f c2 (yy_ing z (br_t rfl ⟨rfl, same⟩)))))))
      · have ec : (nI c).toNatClampNeg = c := nI_clamp (by omega)
        obtain ⟨p1, p2, p3, p4, p5, p6, p7⟩ := hP
        have hpa : ∀ x, aa_up pa c p x < 8 ∧ (0 < x → aa_up pa c p x < x) := by
          intro x
          by_cases e : x = c
          · rw [e, aa_us]; exact ⟨by omega, fun _ => hp⟩
          · rw [aa_un e]; exact p5 x
        refine br_f c1 (br_f c2 (xx_out0 hp (by omega) (br_t rfl (And.intro (vp_in_nI (by omega) (by decide)) (nm_r (e' := aa_N (aa_up pa c p)) (by rw [ec, aa_nb (by omega), aa_upN]) (xr_relate hpa (fun an' hA' => ?_)))))))
        refine br_f c1 (br_f c2 (yy_in1 hp (by omega) (br_f (by decide) (And.intro (vp_in_nI (by omega) (by decide)) (nm_r (e' := aa_N (aa_up pa c p)) (by rw [ec, aa_upN]) ⟨rfl, ?_⟩)))))
        exact i_in ⟨p1, p2, p3, p4, hpa, p6, p7⟩ hA' hS (Or.inl ⟨rfl, rfl, rfl⟩) hR
theorem i_vc_enter {k : Nat} {u : SX} {v : SY} (I : i_Rel k u v) (hk : k + 5 ≤ 2560) (v1 : Int32) (v2 : Int32) : wpX_enter (fun r u' => wpY_enter (fun r' v' => r' = r ∧ i_Rel (k + 5) u' v') v v1 v2) u v1 v2 := by
  refine i_el (Z := fun u v => wpX_enter (fun r u' => wpY_enter (fun r' v' => r' = r ∧ i_Rel (k + 5) u' v') v v1 v2) u v1 v2) I (fun cn hn op fr tt tg ct pa be ar an f_met f_waiting f_tooMany f_size f_height f_why f_found f_objects f_high f_at f_here f_steps f_outcome f_last f_ran a_keys a_heights a_faults a_table a_todo a_said a_sorted a_instruction a_values a_jumps a_caught a_caller a_mapped a_known a_types a_maps a_now a_sort a_made a_number a_ready g_many g_there g_typed g_wrongNumber g_wrongPlace g_size g_height g_objects g_line g_begun g_last g_end b_places b_heights b_gone b_worst b_frames b_maps b_high b_known b_mapped b_now b_sorts b_ints b_classes b_ready hP hA hS hL hR => ?_)
  have same := i_in (k := k + 5) (f_met := f_met) (f_waiting := f_waiting) (f_tooMany := f_tooMany) (f_height := f_height) (f_why := f_why) (f_objects := f_objects) (f_high := f_high) (f_here := f_here) (f_outcome := f_outcome) (a_keys := a_keys) (a_heights := a_heights) (a_faults := a_faults) (a_table := a_table) (a_todo := a_todo) (a_known := a_known) (a_now := a_now) (g_size := g_size) (g_height := g_height) (g_objects := g_objects) (b_heights := b_heights) (b_gone := b_gone) (b_worst := b_worst) (b_known := b_known) (b_now := b_now) hP hA hS hL hR
  unfold wpX_enter wpY_enter
  rcases pk_ix v1 (n := 4) (by decide) with z | z | ⟨l, hl, rfl⟩
  · exact xx_outn z (br_f (by decide) (yy_inn z (br_t rfl ⟨rfl, same⟩)))
  · exact xx_outg z (br_f (by decide) (yy_ing z (br_t rfl ⟨rfl, same⟩)))
  · rcases pk_ix v2 (n := 11) (by decide) with z | z | ⟨t, ht, rfl⟩
    · exact xx_out0 (n := 4) hl (by decide) (br_t rfl (xx_outn z (br_f (by decide) (yy_in1 (n := 4) hl (by decide) (br_f (by decide) (yy_inn z (br_t rfl ⟨rfl, same⟩)))))))
    · exact xx_out0 (n := 4) hl (by decide) (br_t rfl (xx_outg z (br_f (by decide) (yy_in1 (n := 4) hl (by decide) (br_f (by decide) (yy_ing z (br_t rfl ⟨rfl, same⟩)))))))
    · have el : (nI l).toNatClampNeg = l := nI_clamp (by omega)
      obtain ⟨p1, p2, p3, p4, p5, p6, p7⟩ := hP
      have hbe : ∀ x, aa_up be l t x < 11 := by
        intro x
        by_cases e : x = l
        · rw [e, aa_us]; exact ht
        · rw [aa_un e]; exact p6 x
      refine xx_out0 (n := 4) hl (by decide) (br_t rfl (xx_out0 (n := 11) ht (by decide) (br_t rfl (And.intro (vp_in_nI hl (by decide)) (nm_r (e' := aa_N (aa_up be l t)) (by rw [el, aa_nb (by omega), aa_upN]) ?_)))))
      unfold wpX_end
      dsimp only
      refine yy_in1 (n := 4) hl (by decide) (br_f (by decide) (yy_in1 (n := 11) ht (by decide) (br_f (by decide) (And.intro (vp_in_nI hl (by decide)) (nm_r (e' := aa_N (aa_up be l t)) (by rw [el, aa_upN]) ?_)))))
      exact ⟨rfl, i_in ⟨p1, p2, p3, p4, p5, hbe, p7⟩ hA hS (Or.inl ⟨rfl, rfl, rfl⟩) hR⟩
theorem i_vc_handler {k : Nat} {u : SX} {v : SY} (I : i_Rel k u v) (hk : k + 5 ≤ 2560) (v1 : Int32) (v2 : Int32) (v3 : Int32) (v4 : Int32) : wpX_handler (fun r u' => wpY_handler (fun r' v' => r' = r ∧ i_Rel (k + 5) u' v') v v1 v2 v3 v4) u v1 v2 v3 v4 := by
  refine i_el (Z := fun u v => wpX_handler (fun r u' => wpY_handler (fun r' v' => r' = r ∧ i_Rel (k + 5) u' v') v v1 v2 v3 v4) u v1 v2 v3 v4) I (fun cn hn op fr tt tg ct pa be ar an f_met f_waiting f_tooMany f_size f_height f_why f_found f_objects f_high f_at f_here f_steps f_outcome f_last f_ran a_keys a_heights a_faults a_table a_todo a_said a_sorted a_instruction a_values a_jumps a_caught a_caller a_mapped a_known a_types a_maps a_now a_sort a_made a_number a_ready g_many g_there g_typed g_wrongNumber g_wrongPlace g_size g_height g_objects g_line g_begun g_last g_end b_places b_heights b_gone b_worst b_frames b_maps b_high b_known b_mapped b_now b_sorts b_ints b_classes b_ready hP hA hS hL hR => ?_)
  have same := i_in (k := k + 5) (f_met := f_met) (f_waiting := f_waiting) (f_tooMany := f_tooMany) (f_height := f_height) (f_why := f_why) (f_objects := f_objects) (f_high := f_high) (f_here := f_here) (f_outcome := f_outcome) (a_keys := a_keys) (a_heights := a_heights) (a_faults := a_faults) (a_table := a_table) (a_todo := a_todo) (a_known := a_known) (a_now := a_now) (g_size := g_size) (g_height := g_height) (g_objects := g_objects) (b_heights := b_heights) (b_gone := b_gone) (b_worst := b_worst) (b_known := b_known) (b_now := b_now) hP hA hS hL hR
  by_cases c1 : v1 < 0
  · exact br_t c1 (br_t c1 ⟨rfl, same⟩)
  · by_cases c2 : v2 ≤ v1
    · exact br_f c1 (br_t c2 (br_f c1 (br_t c2 ⟨rfl, same⟩)))
    · by_cases c3 : 24 < v2
      · exact br_f c1 (br_f c2 (br_t c3 (br_f c1 (br_f c2 (br_t c3 ⟨rfl, same⟩)))))
      · rcases pk_ix v3 (n := 24) (by decide) with z | z | ⟨g, hg, rfl⟩
        · exact br_f c1 (br_f c2 (br_f c3 (xx_outn z (br_f (by decide) (br_f c1 (br_f c2 (br_f c3 (yy_inn z (br_t rfl ⟨rfl, same⟩)))))))))
        · exact br_f c1 (br_f c2 (br_f c3 (xx_outg z (br_f (by decide) (br_f c1 (br_f c2 (br_f c3 (yy_ing z (br_t rfl ⟨rfl, same⟩)))))))))
        · rcases pk_ix v4 (n := 8) (by decide) with z | z | ⟨c, hc, rfl⟩
          · exact br_f c1 (br_f c2 (br_f c3 (xx_out0 (n := 24) hg (by decide) (br_t rfl (xx_outn z (br_f (by decide) (br_f c1 (br_f c2 (br_f c3 (yy_in1 (n := 24) hg (by decide) (br_f (by decide) (yy_inn z (br_t rfl ⟨rfl, same⟩)))))))))))))
          · exact br_f c1 (br_f c2 (br_f c3 (xx_out0 (n := 24) hg (by decide) (br_t rfl (xx_outg z (br_f (by decide) (br_f c1 (br_f c2 (br_f c3 (yy_in1 (n := 24) hg (by decide) (br_f (by decide) (yy_ing z (br_t rfl ⟨rfl, same⟩)))))))))))))
          · obtain ⟨p1, p2, p3, p4, p5, p6, p7⟩ := hP
            obtain ⟨a, ha, rfl⟩ := nI_of c1
            obtain ⟨b, hb, rfl⟩ := nI_of2 (x := v2) (M := 24) (n := 24) (by decide) (fun z => c2 (Int32.le_of_lt (Int32.lt_of_lt_of_le z (nI_pos' ha)))) (Int32.not_lt.mp c3)
            have hab : a < b := by
              rcases Nat.lt_or_ge a b with y | y
              · exact y
              · exact absurd (nI_le y ha) c2
            refine br_f c1 (br_f c2 (br_f c3 (xx_out0 (n := 24) hg (by decide) (br_t rfl (xx_out0 (n := 8) hc (by decide) (br_t rfl (pk_eq hn 4 (fun y => ?_) (fun y => ?_))))))))
            · exact br_f c1 (br_f c2 (br_f c3 (yy_in1 (n := 24) hg (by decide) (br_f (by decide) (yy_in1 (n := 8) hc (by decide) (br_f (by decide) (br_t (by rw [y]; rfl) ⟨rfl, same⟩)))))))
            · have eh : (nI hn).toNatClampNeg = hn := nI_clamp (by omega)
              have hin := vp_in_nI (n := hn) (N := 4) (by omega) (by decide)
              have y' : ¬ nI hn = 4 := fun w => y ((nI_eq (b := 4) (by omega) (by decide)).mp w)
              refine And.intro hin (nm_r (e' := aa_N (aa_up fr hn a)) (by rw [eh, aa_nb (by omega), aa_upN]) (And.intro hin (nm_r (e' := aa_N (aa_up tt hn b)) (by rw [eh, aa_nb (by omega), aa_upN]) (And.intro hin (nm_r (e' := aa_N (aa_up tg hn g)) (by rw [eh, aa_nb (by omega), aa_upN]) (And.intro hin (nm_r (e' := aa_N (aa_up ct hn c)) (by rw [eh, aa_nb (by omega), aa_upN]) ?_)))))))
              refine nm_r (nI_1 hn) ?_
              rw [nI_1]
              refine br_f c1 (br_f c2 (br_f c3 (yy_in1 (n := 24) hg (by decide) (br_f (by decide) (yy_in1 (n := 8) hc (by decide) (br_f (by decide) (br_f y' ?_)))))))
              refine And.intro hin (nm_r (e' := aa_N (aa_up fr hn a)) (by rw [eh, aa_upN]) (And.intro hin (nm_r (e' := aa_N (aa_up tt hn b)) (by rw [eh, aa_upN]) (And.intro hin (nm_r (e' := aa_N (aa_up tg hn g)) (by rw [eh, aa_upN]) (And.intro hin (nm_r (e' := aa_N (aa_up ct hn c)) (by rw [eh, aa_upN]) (nm_r (nI_1 hn) ⟨rfl, ?_⟩))))))))
              refine i_in ⟨p1, by omega, p3, fun x => ?_, p5, p6, p7⟩ hA hS (Or.inl ⟨rfl, rfl, rfl⟩) hR
              obtain ⟨q1, q2, q3, q4⟩ := p4 x
              by_cases e : x = hn
              · rw [e, aa_us, aa_us, aa_us, aa_us]; exact ⟨by omega, hb, hg, hc⟩
              · rw [aa_un e, aa_un e, aa_un e, aa_un e]; exact ⟨q1, q2, q3, q4⟩
theorem i_vc_clear {k : Nat} {u : SX} {v : SY} (I : i_Rel k u v) (hk : k + 5 ≤ 2560) : wpX_clear (fun r u' => wpY_clear (fun r' v' => r' = r ∧ i_Rel (k + 5) u' v') v) u := by
  refine i_el (Z := fun u v => wpX_clear (fun r u' => wpY_clear (fun r' v' => r' = r ∧ i_Rel (k + 5) u' v') v) u) I (fun cn hn op fr tt tg ct pa be ar an f_met f_waiting f_tooMany f_size f_height f_why f_found f_objects f_high f_at f_here f_steps f_outcome f_last f_ran a_keys a_heights a_faults a_table a_todo a_said a_sorted a_instruction a_values a_jumps a_caught a_caller a_mapped a_known a_types a_maps a_now a_sort a_made a_number a_ready g_many g_there g_typed g_wrongNumber g_wrongPlace g_size g_height g_objects g_line g_begun g_last g_end b_places b_heights b_gone b_worst b_frames b_maps b_high b_known b_mapped b_now b_sorts b_ints b_classes b_ready hP hA hS hL hR => ?_)
  obtain ⟨p1, p2, p3, p4, p5, p6, p7⟩ := hP
  exact ⟨rfl, i_in (cn := 0) (hn := 0) ⟨by omega, by omega, p3, p4, p5, p6, p7⟩ hA hS (Or.inl ⟨rfl, rfl, rfl⟩) hR⟩
end
section
/-! add, and the methods that only look -/
section
variable {cn hn : Nat} {op fr tt tg ct pa be : Nat → Nat} {ar an : Nat → Int32}
variable {f_count f_handlers f_met f_waiting f_tooMany f_size f_height f_why f_found f_objects f_high f_at f_here f_steps f_outcome f_last f_ran : Int32} {a_parents a_ancestors a_begins a_ops a_operands a_froms a_tos a_targets a_catches a_keys a_heights a_faults a_table a_todo a_said a_sorted a_instruction a_values a_jumps a_caught a_caller a_mapped a_known a_types a_maps a_now a_sort a_made a_number a_ready : Nat → Int32}
variable {g_length g_handlers g_many g_there g_typed g_wrongNumber g_wrongPlace g_size g_why g_height g_objects g_line g_begun g_last g_end : Int32} {b_parent b_begin b_op b_arg b_from b_to b_target b_caught b_places b_heights b_gone b_worst b_frames b_maps b_high b_known b_mapped b_now b_sorts b_ints b_classes b_ready : Nat → Int32}
theorem xf_fits {post : Int32 → Prop} {o : Nat} {a : Int32} (ho : o < 20) (K1 : pp_fit o a → post 1) (K0 : ¬ pp_fit o a → post 0) : wpX_fits post (nI o) a := by
  have l4 : (o = 2 ∨ o = 3 ∨ o = 16) → wX_fits_16 post a := by
    intro h
    have nl : aa_ld o = false := by rcases h with rfl | rfl | rfl <;> decide
    unfold wX_fits_16
    rcases pk_ix a (n := 4) (by decide) with z | z | ⟨j, hj, rfl⟩
    · refine xx_outn z (br_f (by decide) (K0 (fun w => ?_)))
      obtain ⟨n, n4, rfl⟩ := w.1 h
      exact nI_pos (by omega) z
    · refine xx_outg z (br_f (by decide) (K0 (fun w => ?_)))
      obtain ⟨n, n4, rfl⟩ := w.1 h
      exact nI_ge (b := 4) n4 (by decide) z
    · exact xx_out0 (n := 4) hj (by decide) (br_t rfl (K1 ⟨fun _ => ⟨j, hj, rfl⟩, fun w => by omega, fun w => by rw [nl] at w; exact absurd w (by decide)⟩))
  have l8 : (o = 8 ∨ o = 10 ∨ o = 11 ∨ o = 18) → wX_fits_54 post a := by
    intro h
    have nl : aa_ld o = false := by rcases h with rfl | rfl | rfl | rfl <;> decide
    unfold wX_fits_54
    rcases pk_ix a (n := 8) (by decide) with z | z | ⟨j, hj, rfl⟩
    · refine xx_outn z (br_f (by decide) (K0 (fun w => ?_)))
      obtain ⟨n, n4, rfl⟩ := w.2.1 h
      exact nI_pos (by omega) z
    · refine xx_outg z (br_f (by decide) (K0 (fun w => ?_)))
      obtain ⟨n, n4, rfl⟩ := w.2.1 h
      exact nI_ge (b := 8) n4 (by decide) z
    · exact xx_out0 (n := 8) hj (by decide) (br_t rfl (K1 ⟨fun w => by omega, fun _ => ⟨j, hj, rfl⟩, fun w => by rw [nl] at w; exact absurd w (by decide)⟩))
  refine pk_eq o 2 (fun h => l4 (by omega)) (fun h2 => pk_eq o 3 (fun h => l4 (by omega)) (fun h3 => pk_eq o 16 (fun h => l4 (by omega)) (fun h16 => pk_eq o 8 (fun h => l8 (by omega)) (fun h8 => pk_eq o 10 (fun h => l8 (by omega)) (fun h10 => pk_eq o 11 (fun h => l8 (by omega)) (fun h11 => pk_eq o 18 (fun h => l8 (by omega)) (fun h18 => xx_leads ho ?_)))))))
  by_cases l : aa_ld o = true
  · rw [l]
    refine br_f (by decide) ?_
    rcases pk_ix a (n := 24) (by decide) with z | z | ⟨j, hj, rfl⟩
    · refine xx_outn z (br_f (by decide) (K0 (fun w => ?_)))
      obtain ⟨n, n4, rfl⟩ := w.2.2 l
      exact nI_pos (by omega) z
    · refine xx_outg z (br_f (by decide) (K0 (fun w => ?_)))
      obtain ⟨n, n4, rfl⟩ := w.2.2 l
      exact nI_ge (b := 24) n4 (by decide) z
    · exact xx_out0 (n := 24) hj (by decide) (br_t rfl (K1 ⟨fun w => by omega, fun w => by omega, fun _ => ⟨j, hj, rfl⟩⟩))
  · rw [ts_nt l]
    exact br_t (by decide) (K1 ⟨fun w => by omega, fun w => by omega, fun w => absurd w l⟩)
theorem yf_add {post : Int32 → SY → Prop} {o : Nat} {a : Int32} (ho : o < 20) (K1 : pp_fit o a → wY_add_108 post (nI o) a g_length g_handlers g_many g_there g_typed g_wrongNumber g_wrongPlace g_size g_why g_height g_objects g_line g_begun g_last g_end b_parent b_begin b_op b_arg b_from b_to b_target b_caught b_places b_heights b_gone b_worst b_frames b_maps b_high b_known b_mapped b_now b_sorts b_ints b_classes b_ready) (K0 : ¬ pp_fit o a → post (-1) (g_length, g_handlers, g_many, g_there, g_typed, g_wrongNumber, g_wrongPlace, g_size, g_why, g_height, g_objects, g_line, g_begun, g_last, g_end, b_parent, b_begin, b_op, b_arg, b_from, b_to, b_target, b_caught, b_places, b_heights, b_gone, b_worst, b_frames, b_maps, b_high, b_known, b_mapped, b_now, b_sorts, b_ints, b_classes, b_ready)) : wpY_add post (g_length, g_handlers, g_many, g_there, g_typed, g_wrongNumber, g_wrongPlace, g_size, g_why, g_height, g_objects, g_line, g_begun, g_last, g_end, b_parent, b_begin, b_op, b_arg, b_from, b_to, b_target, b_caught, b_places, b_heights, b_gone, b_worst, b_frames, b_maps, b_high, b_known, b_mapped, b_now, b_sorts, b_ints, b_classes, b_ready) (nI o) a := by
  -- in ranges
  have r90 : (o = 2 ∨ o = 3 ∨ o = 16 → ∃ n, n < 4 ∧ a = nI n) → (o = 8 ∨ o = 10 ∨ o = 11 ∨ o = 18 → ∃ n, n < 8 ∧ a = nI n) → wY_add_90 post (nI o) a g_length g_handlers g_many g_there g_typed g_wrongNumber g_wrongPlace g_size g_why g_height g_objects g_line g_begun g_last g_end b_parent b_begin b_op b_arg b_from b_to b_target b_caught b_places b_heights b_gone b_worst b_frames b_maps b_high b_known b_mapped b_now b_sorts b_ints b_classes b_ready := by
    intro f1 f2
    unfold wY_add_90
    refine yy_jumps ho ?_
    by_cases l : aa_ld o = true
    · rw [l]
      refine br_f (by decide) ?_
      rcases pk_ix a (n := 24) (by decide) with z | z | ⟨j, hj, rfl⟩
      · refine yy_inn z (br_t rfl (K0 (fun w => ?_)))
        obtain ⟨n, n4, rfl⟩ := w.2.2 l
        exact nI_pos (by omega) z
      · refine yy_ing z (br_t rfl (K0 (fun w => ?_)))
        obtain ⟨n, n4, rfl⟩ := w.2.2 l
        exact nI_ge (b := 24) n4 (by decide) z
      · exact yy_in1 (n := 24) hj (by decide) (br_f (by decide) (K1 ⟨f1, f2, fun _ => ⟨j, hj, rfl⟩⟩))
    · rw [ts_nt l]
      exact br_t (by decide) (K1 ⟨f1, f2, fun w => absurd w l⟩)
  have r76 : ∀ z : Int32, (o = 2 ∨ o = 3 ∨ o = 16 → ∃ n, n < 4 ∧ a = nI n) → ((z = 1 ∧ (o = 8 ∨ o = 10 ∨ o = 11 ∨ o = 18)) ∨ (z = 0 ∧ ¬ (o = 8 ∨ o = 10 ∨ o = 11 ∨ o = 18))) → wY_add_76 post (nI o) a z g_length g_handlers g_many g_there g_typed g_wrongNumber g_wrongPlace g_size g_why g_height g_objects g_line g_begun g_last g_end b_parent b_begin b_op b_arg b_from b_to b_target b_caught b_places b_heights b_gone b_worst b_frames b_maps b_high b_known b_mapped b_now b_sorts b_ints b_classes b_ready := by
    intro z f1 hz
    rcases hz with ⟨rfl, h⟩ | ⟨rfl, h⟩
    · refine br_f (by decide) ?_
      rcases pk_ix a (n := 8) (by decide) with y | y | ⟨j, hj, rfl⟩
      · refine yy_inn y (br_t rfl (K0 (fun w => ?_)))
        obtain ⟨n, n4, rfl⟩ := w.2.1 h
        exact nI_pos (by omega) y
      · refine yy_ing y (br_t rfl (K0 (fun w => ?_)))
        obtain ⟨n, n4, rfl⟩ := w.2.1 h
        exact nI_ge (b := 8) n4 (by decide) y
      · exact yy_in1 (n := 8) hj (by decide) (br_f (by decide) (r90 f1 (fun _ => ⟨j, hj, rfl⟩)))
    · exact br_t rfl (r90 f1 (fun w => absurd w h))
  have r62 : ∀ x z : Int32, ((x = 1 ∧ (o = 2 ∨ o = 3 ∨ o = 16)) ∨ (x = 0 ∧ ¬ (o = 2 ∨ o = 3 ∨ o = 16))) → ((z = 1 ∧ (o = 8 ∨ o = 10 ∨ o = 11 ∨ o = 18)) ∨ (z = 0 ∧ ¬ (o = 8 ∨ o = 10 ∨ o = 11 ∨ o = 18))) → wY_add_62 post (nI o) a x z g_length g_handlers g_many g_there g_typed g_wrongNumber g_wrongPlace g_size g_why g_height g_objects g_line g_begun g_last g_end b_parent b_begin b_op b_arg b_from b_to b_target b_caught b_places b_heights b_gone b_worst b_frames b_maps b_high b_known b_mapped b_now b_sorts b_ints b_classes b_ready := by
    intro x z hx hz
    rcases hx with ⟨rfl, h⟩ | ⟨rfl, h⟩
    · refine br_f (by decide) ?_
      rcases pk_ix a (n := 4) (by decide) with y | y | ⟨j, hj, rfl⟩
      · refine yy_inn y (br_t rfl (K0 (fun w => ?_)))
        obtain ⟨n, n4, rfl⟩ := w.1 h
        exact nI_pos (by omega) y
      · refine yy_ing y (br_t rfl (K0 (fun w => ?_)))
        obtain ⟨n, n4, rfl⟩ := w.1 h
        exact nI_ge (b := 4) n4 (by decide) y
      · exact yy_in1 (n := 4) hj (by decide) (br_f (by decide) (r76 z (fun _ => ⟨j, hj, rfl⟩) hz))
    · exact br_t rfl (r76 z (fun w => absurd w h) hz)
  have r32 : ∀ x : Int32, ((x = 1 ∧ (o = 2 ∨ o = 3 ∨ o = 16)) ∨ (x = 0 ∧ ¬ (o = 2 ∨ o = 3 ∨ o = 16))) → wY_add_32 post (nI o) a x g_length g_handlers g_many g_there g_typed g_wrongNumber g_wrongPlace g_size g_why g_height g_objects g_line g_begun g_last g_end b_parent b_begin b_op b_arg b_from b_to b_target b_caught b_places b_heights b_gone b_worst b_frames b_maps b_high b_known b_mapped b_now b_sorts b_ints b_classes b_ready := by
    intro x hx
    exact pk_eq o 8 (fun h => r62 x 1 hx (Or.inl ⟨rfl, by omega⟩)) (fun h8 => pk_eq o 10 (fun h => r62 x 1 hx (Or.inl ⟨rfl, by omega⟩)) (fun h10 => pk_eq o 11 (fun h => r62 x 1 hx (Or.inl ⟨rfl, by omega⟩)) (fun h11 => pk_eq o 18 (fun h => r62 x 1 hx (Or.inl ⟨rfl, by omega⟩)) (fun h18 => r62 x 0 hx (Or.inr ⟨rfl, by omega⟩)))))
  unfold wpY_add
  dsimp only
  exact yy_in1 (n := 20) ho (by decide) (br_f (by decide) (pk_eq o 2 (fun h => r32 1 (Or.inl ⟨rfl, by omega⟩)) (fun h2 => pk_eq o 3 (fun h => r32 1 (Or.inl ⟨rfl, by omega⟩)) (fun h3 => pk_eq o 16 (fun h => r32 1 (Or.inl ⟨rfl, by omega⟩)) (fun h16 => r32 0 (Or.inr ⟨rfl, by omega⟩))))))
theorem yf_add0 {post : Int32 → SY → Prop} {x a : Int32} (hx : x < 0 ∨ nI 20 ≤ x) (K : post (-1) (g_length, g_handlers, g_many, g_there, g_typed, g_wrongNumber, g_wrongPlace, g_size, g_why, g_height, g_objects, g_line, g_begun, g_last, g_end, b_parent, b_begin, b_op, b_arg, b_from, b_to, b_target, b_caught, b_places, b_heights, b_gone, b_worst, b_frames, b_maps, b_high, b_known, b_mapped, b_now, b_sorts, b_ints, b_classes, b_ready)) : wpY_add post (g_length, g_handlers, g_many, g_there, g_typed, g_wrongNumber, g_wrongPlace, g_size, g_why, g_height, g_objects, g_line, g_begun, g_last, g_end, b_parent, b_begin, b_op, b_arg, b_from, b_to, b_target, b_caught, b_places, b_heights, b_gone, b_worst, b_frames, b_maps, b_high, b_known, b_mapped, b_now, b_sorts, b_ints, b_classes, b_ready) x a := by
  unfold wpY_add
  dsimp only
  rcases hx with z | z
  · exact yy_inn z (br_t rfl K)
  · exact yy_ing z (br_t rfl K)
/-- told of a place -/
theorem yt_told {post : Int32 → Prop} {q w : Nat} (hv : kk_V q) (hw : 0 < w) (hw5 : w ≤ 5) (K1 : w = 1 → post (nI (q % 25))) (K2 : w = 2 → post (nI (q / 390625))) (K3 : ∀ j, j < 3 → w = 3 + j → j < q / 390625 → post (nI (kk_c q j))) (K4 : ∀ j, j < 3 → w = 3 + j → ¬ j < q / 390625 → post (-1)) : wpY_told post (nI (kk_y q)) (nI w) := by
  have hn3 := kk_Vn hv
  refine yy_calls hv (pk_eq w 1 (fun h => yy_instruction hv (K1 h)) (fun h1 => pk_eq w 2 (fun h => K2 h) (fun h2 => ?_)))
  rw [show nI w - 3 = nI (w - 3) from pk_sub (b := 3) (by omega)]
  exact pk_le (q / 390625) (w - 3) (fun z => K4 (w - 3) (by omega) (by omega) (by omega)) (fun z => yy_callOf hv (by omega) (K3 (w - 3) (by omega) (by omega) z))
end
theorem i_vc_add {k : Nat} {u : SX} {v : SY} (I : i_Rel k u v) (hk : k + 5 ≤ 2560) (v1 : Int32) (v2 : Int32) : wpX_add (fun r u' => wpY_add (fun r' v' => r' = r ∧ i_Rel (k + 5) u' v') v v1 v2) u v1 v2 := by
  refine i_el (Z := fun u v => wpX_add (fun r u' => wpY_add (fun r' v' => r' = r ∧ i_Rel (k + 5) u' v') v v1 v2) u v1 v2) I (fun cn hn op fr tt tg ct pa be ar an f_met f_waiting f_tooMany f_size f_height f_why f_found f_objects f_high f_at f_here f_steps f_outcome f_last f_ran a_keys a_heights a_faults a_table a_todo a_said a_sorted a_instruction a_values a_jumps a_caught a_caller a_mapped a_known a_types a_maps a_now a_sort a_made a_number a_ready g_many g_there g_typed g_wrongNumber g_wrongPlace g_size g_height g_objects g_line g_begun g_last g_end b_places b_heights b_gone b_worst b_frames b_maps b_high b_known b_mapped b_now b_sorts b_ints b_classes b_ready hP hA hS hL hR => ?_)
  have same := i_in (k := k + 5) (f_met := f_met) (f_waiting := f_waiting) (f_tooMany := f_tooMany) (f_height := f_height) (f_why := f_why) (f_objects := f_objects) (f_high := f_high) (f_here := f_here) (f_outcome := f_outcome) (a_keys := a_keys) (a_heights := a_heights) (a_faults := a_faults) (a_table := a_table) (a_todo := a_todo) (a_known := a_known) (a_now := a_now) (g_size := g_size) (g_height := g_height) (g_objects := g_objects) (b_heights := b_heights) (b_gone := b_gone) (b_worst := b_worst) (b_known := b_known) (b_now := b_now) hP hA hS hL hR
  unfold wpX_add
  rcases pk_ix v1 (n := 20) (by decide) with z | z | ⟨o, ho, rfl⟩
  · exact xx_outn z (br_f (by decide) (yf_add0 (Or.inl z) ⟨rfl, same⟩))
  · exact xx_outg z (br_f (by decide) (yf_add0 (Or.inr z) ⟨rfl, same⟩))
  · refine xx_out0 (n := 20) ho (by decide) (br_t rfl (xf_fits ho (fun fit => br_f (by decide) ?_) (fun nfit => br_t rfl (yf_add ho (fun w => absurd w nfit) (fun _ => ⟨rfl, same⟩)))))
    obtain ⟨p1, p2, p3, p4, p5, p6, p7⟩ := id hP
    have ec : (nI cn).toNatClampNeg = cn := nI_clamp (by omega)
    refine pk_eq cn 24 (fun z => yf_add ho (fun _ => br_t (by rw [z]; rfl) ⟨rfl, same⟩) (fun w => absurd fit w)) (fun z => ?_)
    have z' : ¬ nI cn = 24 := fun w => z ((nI_eq (b := 24) (by omega) (by decide)).mp w)
    have hin := vp_in_nI (n := cn) (N := 24) (by omega) (by decide)
    refine And.intro hin (nm_r (e' := aa_N (aa_up op cn o)) (by rw [ec, aa_nb (by omega), aa_upN]) (And.intro hin (nm_r (e' := upd ar cn v2) (by rw [ec]) (nm_r (nI_1 cn) ?_))))
    rw [nI_1]
    refine yf_add ho (fun _ => br_f z' (And.intro hin (nm_r (e' := aa_N (aa_up op cn o)) (by rw [ec, aa_upN]) (And.intro hin (nm_r (e' := upd ar cn v2) (by rw [ec]) (nm_r (nI_1 cn) ⟨rfl, ?_⟩)))))) (fun w => absurd fit w)
    refine i_in ⟨by omega, p2, fun i => ?_, p4, p5, p6, fun i => ?_⟩ hA hS (Or.inl ⟨rfl, rfl, rfl⟩) hR
    · by_cases e : i = cn
      · rw [e, aa_us]; exact ho
      · rw [aa_un e]; exact p3 i
    · by_cases e : i = cn
      · rw [e, aa_us, pk_us]; exact fit
      · rw [aa_un e, pk_un e]; exact p7 i
theorem i_vc_wrong {k : Nat} {u : SX} {v : SY} (I : i_Rel k u v) (hk : k + 5 ≤ 2560) (v1 : Int32) : wpX_wrong (fun r => wpY_wrong (fun r' => r' = r ∧ i_Rel (k + 5) u v) v v1) u v1 := by
  refine i_el (Z := fun u v => wpX_wrong (fun r => wpY_wrong (fun r' => r' = r ∧ i_Rel (k + 5) u v) v v1) u v1) I (fun cn hn op fr tt tg ct pa be ar an f_met f_waiting f_tooMany f_size f_height f_why f_found f_objects f_high f_at f_here f_steps f_outcome f_last f_ran a_keys a_heights a_faults a_table a_todo a_said a_sorted a_instruction a_values a_jumps a_caught a_caller a_mapped a_known a_types a_maps a_now a_sort a_made a_number a_ready g_many g_there g_typed g_wrongNumber g_wrongPlace g_size g_height g_objects g_line g_begun g_last g_end b_places b_heights b_gone b_worst b_frames b_maps b_high b_known b_mapped b_now b_sorts b_ints b_classes b_ready hP hA hS hL hR => ?_)
  have same := i_in (k := k + 5) (f_met := f_met) (f_waiting := f_waiting) (f_tooMany := f_tooMany) (f_height := f_height) (f_why := f_why) (f_objects := f_objects) (f_high := f_high) (f_here := f_here) (f_outcome := f_outcome) (a_keys := a_keys) (a_heights := a_heights) (a_faults := a_faults) (a_table := a_table) (a_todo := a_todo) (a_known := a_known) (a_now := a_now) (g_size := g_size) (g_height := g_height) (g_objects := g_objects) (b_heights := b_heights) (b_gone := b_gone) (b_worst := b_worst) (b_known := b_known) (b_now := b_now) hP hA hS hL hR
  unfold wpX_wrong
  rcases pk_ix v1 (n := 6) (by decide) with z | z | ⟨w, hw, rfl⟩
  · refine xx_outn z (br_f (by decide) (br_c (fun _ => ⟨rfl, same⟩) (fun _ => br_t z ⟨rfl, same⟩)))
  · have z5 : ¬ v1 ≤ 5 := fun y => absurd (Int32.le_trans z y) (by decide)
    have z0 : ¬ v1 < 0 := fun y => absurd (Int32.lt_of_le_of_lt z y) (by decide)
    exact xx_outg z (br_f (by decide) (br_c (fun _ => ⟨rfl, same⟩) (fun _ => br_f z0 (br_f z5 ⟨rfl, same⟩))))
  · have ew : (nI w).toNatClampNeg = w := nI_clamp (by omega)
    refine xx_out0 (n := 6) hw (by decide) (br_t rfl (And.intro (vp_in_nI hw (by decide)) ?_))
    rw [ew]
    rcases hS with ⟨rfl, s1⟩ | ⟨rfl, s1, s2⟩ | ⟨q, v', hv, hv7, rfl, rfl, s1, s2, s3, s4⟩
    · rw [s1 w hw]; exact br_t (by decide) ⟨rfl, same⟩
    · refine br_f (by decide) (br_f (nI_pos (by omega)) (br_t (nI_le (b := 5) (by omega) (by decide)) (pk_eq w 0 (fun y => ?_) (fun y => br_t rfl ?_))))
      · rw [y, s1]; exact ⟨rfl, same⟩
      · rw [s2 w (by omega) hw]; exact ⟨rfl, same⟩
    · refine br_f (nI_pos (by omega)) (br_f (nI_pos (by omega)) (br_t (nI_le (b := 5) (by omega) (by decide)) (pk_eq w 0 (fun y => ?_) (fun y => br_f (fun x => ?_) (yt_told hv (by omega) (by omega) (fun e => ?_) (fun e => ?_) (fun j j3 e l => ?_) (fun j j3 e l => ?_))))))
      · rw [y, s1]; exact ⟨rfl, same⟩
      · have := (nI_eq (b := 7) (by omega) (by decide)).mp x; omega
      · rw [e, s2]; exact ⟨rfl, same⟩
      · rw [e, s3]; exact ⟨rfl, same⟩
      · rw [e, s4 j j3, if_pos l]; exact ⟨rfl, same⟩
      · rw [e, s4 j j3, if_neg l]; exact ⟨rfl, same⟩
theorem i_vc_places {k : Nat} {u : SX} {v : SY} (I : i_Rel k u v) (hk : k + 5 ≤ 2560) : wpX_places (fun r => wpY_places (fun r' => r' = r ∧ i_Rel (k + 5) u v) v) u := by
  refine i_el (Z := fun u v => wpX_places (fun r => wpY_places (fun r' => r' = r ∧ i_Rel (k + 5) u v) v) u) I (fun cn hn op fr tt tg ct pa be ar an f_met f_waiting f_tooMany f_size f_height f_why f_found f_objects f_high f_at f_here f_steps f_outcome f_last f_ran a_keys a_heights a_faults a_table a_todo a_said a_sorted a_instruction a_values a_jumps a_caught a_caller a_mapped a_known a_types a_maps a_now a_sort a_made a_number a_ready g_many g_there g_typed g_wrongNumber g_wrongPlace g_size g_height g_objects g_line g_begun g_last g_end b_places b_heights b_gone b_worst b_frames b_maps b_high b_known b_mapped b_now b_sorts b_ints b_classes b_ready hP hA hS hL hR => ?_)
  have same := i_in (k := k + 5) (f_met := f_met) (f_waiting := f_waiting) (f_tooMany := f_tooMany) (f_height := f_height) (f_why := f_why) (f_objects := f_objects) (f_high := f_high) (f_here := f_here) (f_outcome := f_outcome) (a_keys := a_keys) (a_heights := a_heights) (a_faults := a_faults) (a_table := a_table) (a_todo := a_todo) (a_known := a_known) (a_now := a_now) (g_size := g_size) (g_height := g_height) (g_objects := g_objects) (b_heights := b_heights) (b_gone := b_gone) (b_worst := b_worst) (b_known := b_known) (b_now := b_now) hP hA hS hL hR
  rcases hL with ⟨rfl, rfl, rfl⟩ | ⟨rfl, m, pl, va, M, rfl, rfl, F, G, hf, hm⟩
  · exact br_t rfl ⟨rfl, same⟩
  · exact br_f (by decide) ⟨rfl, same⟩
theorem i_vc_place {k : Nat} {u : SX} {v : SY} (I : i_Rel k u v) (hk : k + 5 ≤ 2560) (v1 : Int32) (v2 : Int32) : wpX_place (fun r => wpY_place (fun r' => r' = r ∧ i_Rel (k + 5) u v) v v1 v2) u v1 v2 := by
  refine i_el (Z := fun u v => wpX_place (fun r => wpY_place (fun r' => r' = r ∧ i_Rel (k + 5) u v) v v1 v2) u v1 v2) I (fun cn hn op fr tt tg ct pa be ar an f_met f_waiting f_tooMany f_size f_height f_why f_found f_objects f_high f_at f_here f_steps f_outcome f_last f_ran a_keys a_heights a_faults a_table a_todo a_said a_sorted a_instruction a_values a_jumps a_caught a_caller a_mapped a_known a_types a_maps a_now a_sort a_made a_number a_ready g_many g_there g_typed g_wrongNumber g_wrongPlace g_size g_height g_objects g_line g_begun g_last g_end b_places b_heights b_gone b_worst b_frames b_maps b_high b_known b_mapped b_now b_sorts b_ints b_classes b_ready hP hA hS hL hR => ?_)
  have same := i_in (k := k + 5) (f_met := f_met) (f_waiting := f_waiting) (f_tooMany := f_tooMany) (f_height := f_height) (f_why := f_why) (f_objects := f_objects) (f_high := f_high) (f_here := f_here) (f_outcome := f_outcome) (a_keys := a_keys) (a_heights := a_heights) (a_faults := a_faults) (a_table := a_table) (a_todo := a_todo) (a_known := a_known) (a_now := a_now) (g_size := g_size) (g_height := g_height) (g_objects := g_objects) (b_heights := b_heights) (b_gone := b_gone) (b_worst := b_worst) (b_known := b_known) (b_now := b_now) hP hA hS hL hR
  unfold wpX_place
  rcases hL with ⟨rfl, rfl, rfl⟩ | ⟨rfl, m, pl, va, M, rfl, rfl, F, G, hf, hm⟩
  · have nop : ∀ post : Int32 → Prop, post 1 → wpX_out post v1 0 := fun post hp => by
      by_cases y : v1 < 0
      · exact xx_outn y hp
      · exact xx_outg (Int32.not_lt.mp y) hp
    exact nop _ (br_f (by decide) (br_t rfl ⟨rfl, same⟩))
  · obtain ⟨L, f1, f2, f3⟩ := F
    obtain ⟨-, g1, g2⟩ := G
    have m40 := L.1
    rcases pk_ix v1 (n := m) (by omega) with z | z | ⟨i, hi, rfl⟩
    · exact xx_outn z (br_f (by decide) (br_f (by decide) (yy_inn z (br_t rfl ⟨rfl, same⟩))))
    · exact xx_outg z (br_f (by decide) (br_f (by decide) (yy_ing z (br_t rfl ⟨rfl, same⟩))))
    · refine xx_out0 hi (by omega) (br_t rfl ?_)
      rcases pk_ix v2 (n := 7) (by decide) with z | z | ⟨w, hw, rfl⟩
      · exact xx_outn z (br_f (by decide) (br_f (by decide) (yy_in1 hi (by omega) (br_f (by decide) (yy_inn z (br_t rfl ⟨rfl, same⟩))))))
      · exact xx_outg z (br_f (by decide) (br_f (by decide) (yy_in1 hi (by omega) (br_f (by decide) (yy_ing z (br_t rfl ⟨rfl, same⟩))))))
      · have ei : (nI i).toNatClampNeg = i := nI_clamp (by omega)
        have hv := (g1 i hi).2.1
        have hq := kk_Vlt hv
        have hn3 := kk_Vn hv
        have hin := vp_in_nI (n := i) (N := 40) (by omega) (by decide)
        have hin' := vp_in_nI (n := i) (N := 41) (by omega) (by decide)
        obtain ⟨x1, x2⟩ := f2.1 i hi
        refine xx_out0 (n := 7) hw (by decide) (br_t rfl (And.intro hin (nm_r (e' := nI (pl i)) (by rw [ei]; exact f1 i hi) (xx_calls (by omega) ?_))))
        rw [ei, x1, x2]
        have ycall : ∀ post : Int32 → Prop, ((nI w = 6 → vp_in (nI i) 41 ∧ ((b_mapped (nI i).toNatClampNeg = 0 → post 0) ∧ (¬ b_mapped (nI i).toNatClampNeg = 0 → post 1))) ∧ (¬ nI w = 6 → (nI w = 0 → vp_in (nI i) 41 ∧ wpY_told (fun r_13 => post r_13) (b_places (nI i).toNatClampNeg) 1) ∧ (¬ nI w = 0 → (nI w = 1 → vp_in (nI i) 41 ∧ post (b_high (nI i).toNatClampNeg)) ∧ (¬ nI w = 1 → vp_in (nI i) 41 ∧ wpY_told (fun r_10 => post r_10) (b_places (nI i).toNatClampNeg) (nI w))))) → wpY_place post ((nI cn), (nI hn), (nI m), 1, g_typed, g_wrongNumber, g_wrongPlace, g_size, f_why, g_height, g_objects, g_line, g_begun, g_last, g_end, (aa_N pa), (aa_N be), (aa_N op), ar, (aa_N fr), (aa_N tt), (aa_N tg), (aa_N ct), b_places, b_heights, b_gone, b_worst, b_frames, b_maps, b_high, b_known, b_mapped, b_now, b_sorts, b_ints, b_classes, b_ready) (nI i) (nI w) := fun post h =>
          br_f (by decide) (yy_in1 hi (by omega) (br_f (by decide) (yy_in1 (n := 7) hw (by decide) (br_f (by decide) h))))
        -- both sides by the number
        have y6 : w = 6 → ∀ post : Int32 → Prop, ((b_mapped i = 0 → post 0) ∧ (¬ b_mapped i = 0 → post 1)) → wpY_place post ((nI cn), (nI hn), (nI m), 1, g_typed, g_wrongNumber, g_wrongPlace, g_size, f_why, g_height, g_objects, g_line, g_begun, g_last, g_end, (aa_N pa), (aa_N be), (aa_N op), ar, (aa_N fr), (aa_N tt), (aa_N tg), (aa_N ct), b_places, b_heights, b_gone, b_worst, b_frames, b_maps, b_high, b_known, b_mapped, b_now, b_sorts, b_ints, b_classes, b_ready) (nI i) (nI w) := fun e post h => ycall post (by rw [ei, e]; exact br_t rfl (And.intro hin' h))
        have yt : ∀ post : Int32 → Prop, w ≠ 6 → w ≠ 0 → w ≠ 1 → wpY_told post (nI (kk_y (pl i))) (nI w) → wpY_place post ((nI cn), (nI hn), (nI m), 1, g_typed, g_wrongNumber, g_wrongPlace, g_size, f_why, g_height, g_objects, g_line, g_begun, g_last, g_end, (aa_N pa), (aa_N be), (aa_N op), ar, (aa_N fr), (aa_N tt), (aa_N tg), (aa_N ct), b_places, b_heights, b_gone, b_worst, b_frames, b_maps, b_high, b_known, b_mapped, b_now, b_sorts, b_ints, b_classes, b_ready) (nI i) (nI w) := fun post n6 n0 n1 h => ycall post (by
          rw [ei, (g1 i hi).1]
          exact br_f (fun x => n6 ((nI_eq (b := 6) (by omega) (by decide)).mp x)) (br_f (fun x => n0 ((nI_eq (b := 0) (by omega) (by decide)).mp x)) (br_f (fun x => n1 ((nI_eq (b := 1) (by omega) (by decide)).mp x)) (And.intro hin' h))))
        have r112 : ∀ j, j < 3 → w = 3 + j → wX_place_112 (fun r => wpY_place (fun r' => r' = r ∧ i_Rel (k + 5) ((nI cn), (nI hn), f_met, f_waiting, f_tooMany, (nI m), f_height, f_why, f_found, f_objects, f_high, f_at, f_here, f_steps, f_outcome, f_last, f_ran, (aa_N pa), an, (aa_N be), (aa_N op), ar, (aa_N fr), (aa_N tt), (aa_N tg), (aa_N ct), a_keys, a_heights, a_faults, a_table, a_todo, a_said, a_sorted, a_instruction, a_values, a_jumps, a_caught, a_caller, a_mapped, a_known, a_types, a_maps, a_now, a_sort, a_made, a_number, a_ready) ((nI cn), (nI hn), (nI m), 1, g_typed, g_wrongNumber, g_wrongPlace, g_size, f_why, g_height, g_objects, g_line, g_begun, g_last, g_end, (aa_N pa), (aa_N be), (aa_N op), ar, (aa_N fr), (aa_N tt), (aa_N tg), (aa_N ct), b_places, b_heights, b_gone, b_worst, b_frames, b_maps, b_high, b_known, b_mapped, b_now, b_sorts, b_ints, b_classes, b_ready)) ((nI cn), (nI hn), (nI m), 1, g_typed, g_wrongNumber, g_wrongPlace, g_size, f_why, g_height, g_objects, g_line, g_begun, g_last, g_end, (aa_N pa), (aa_N be), (aa_N op), ar, (aa_N fr), (aa_N tt), (aa_N tg), (aa_N ct), b_places, b_heights, b_gone, b_worst, b_frames, b_maps, b_high, b_known, b_mapped, b_now, b_sorts, b_ints, b_classes, b_ready) (nI i) (nI w)) (nI w) (nI (pl i)) (nI (pl i / 390625)) (nI cn) (nI hn) f_met f_waiting f_tooMany (nI m) f_height f_why f_found f_objects f_high f_at f_here f_steps f_outcome f_last f_ran (aa_N pa) an (aa_N be) (aa_N op) ar (aa_N fr) (aa_N tt) (aa_N tg) (aa_N ct) a_keys a_heights a_faults a_table a_todo a_said a_sorted a_instruction a_values a_jumps a_caught a_caller a_mapped a_known a_types a_maps a_now a_sort a_made a_number a_ready := by
          intro j j3 e
          unfold wX_place_112
          rw [show nI w - 3 = nI j from by rw [e]; exact (pk_sub (b := 3) (by omega)).trans (congrArg nI (by omega))]
          refine pk_le (pl i / 390625) j (fun y => yt _ (by omega) (by omega) (by omega) (yt_told hv (by omega) (by omega) (fun e' => by omega) (fun e' => by omega) (fun j' _ e' l => by omega) (fun j' _ e' l => ⟨rfl, same⟩))) (fun y => xx_call (by omega) j3 (yt _ (by omega) (by omega) (by omega) (yt_told hv (by omega) (by omega) (fun e' => by omega) (fun e' => by omega) (fun j' _ e' l => ?_) (fun j' _ e' l => by omega))))
          have : j' = j := by omega
          rw [this]; exact ⟨rfl, same⟩
        have hc : w = 0 ∨ w = 1 ∨ w = 2 ∨ w = 3 ∨ w = 4 ∨ w = 5 ∨ w = 6 := by omega
        rcases hc with rfl | rfl | rfl | rfl | rfl | rfl | rfl
        · refine br_f (by decide) (br_f (by decide) (br_t (by decide) (And.intro hin ?_)))
          refine ycall _ ?_
          rw [ei, (g1 i hi).1]
          exact br_f (by decide) (br_t (by decide) (And.intro hin' (yt_told (w := 1) hv (by omega) (by omega) (fun _ => ⟨rfl, same⟩) (fun e' => by omega) (fun j' _ e' l => by omega) (fun j' _ e' l => by omega))))
        · refine br_f (by decide) (br_f (by decide) (br_f (by decide) (br_t (by decide) (And.intro hin ?_))))
          refine ycall _ ?_
          rw [ei, (g1 i hi).2.2]
          exact br_f (by decide) (br_f (by decide) (br_t (by decide) (And.intro hin' ⟨rfl, same⟩)))
        · refine br_f (by decide) (br_f (by decide) (br_f (by decide) (br_f (by decide) (br_t (by decide) (?_)))))
          exact yt _ (by omega) (by omega) (by omega) (yt_told (w := 2) hv (by omega) (by omega) (fun e' => by omega) (fun _ => ⟨rfl, same⟩) (fun j' _ e' l => by omega) (fun j' _ e' l => by omega))
        · exact br_f (by decide) (br_f (by decide) (br_f (by decide) (br_f (by decide) (br_f (by decide) (br_t (by decide) (r112 0 (by omega) rfl))))))
        · exact br_f (by decide) (br_f (by decide) (br_f (by decide) (br_f (by decide) (br_f (by decide) (br_f (by decide) (br_t (by decide) (r112 1 (by omega) rfl)))))))
        · exact br_f (by decide) (br_f (by decide) (br_f (by decide) (br_f (by decide) (br_f (by decide) (br_f (by decide) (br_f (by decide) (br_t (by decide) (r112 2 (by omega) rfl))))))))
        · refine br_f (by decide) (br_f (by decide) (br_f (by decide) (br_f (by decide) (br_f (by decide) (br_f (by decide) (br_f (by decide) (br_f (by decide) (br_t (by decide) (And.intro hin ?_)))))))))
          obtain ⟨a1, a2⟩ := f3 i hi
          obtain ⟨c1, c2⟩ := g2 i hi
          by_cases h : la_mp hn op fr tt tg ar pl m m i
          · rw [a1 h]
            refine br_f (by decide) (y6 rfl _ ?_)
            rw [c1 h]; exact br_f (by decide) ⟨rfl, same⟩
          · rw [a2 h]
            refine br_t rfl (y6 rfl _ ?_)
            rw [c2 h]; exact br_t rfl ⟨rfl, same⟩
end
section
/-! type, map, alter, reason, ended, held, lay -/
section
variable {cn hn : Nat} {op fr tt tg ct pa be : Nat → Nat} {ar an : Nat → Int32}
variable {f_count f_handlers f_met f_waiting f_tooMany f_size f_height f_why f_found f_objects f_high f_at f_here f_steps f_outcome f_last f_ran : Int32} {a_parents a_ancestors a_begins a_ops a_operands a_froms a_tos a_targets a_catches a_keys a_heights a_faults a_table a_todo a_said a_sorted a_instruction a_values a_jumps a_caught a_caller a_mapped a_known a_types a_maps a_now a_sort a_made a_number a_ready : Nat → Int32}
variable {g_length g_handlers g_many g_there g_typed g_wrongNumber g_wrongPlace g_size g_why g_height g_objects g_line g_begun g_last g_end : Int32} {b_parent b_begin b_op b_arg b_from b_to b_target b_caught b_places b_heights b_gone b_worst b_frames b_maps b_high b_known b_mapped b_now b_sorts b_ints b_classes b_ready : Nat → Int32}
variable {m : Nat} {va : Nat → Nat}
theorem xs_slot {post : Int32 → Prop} {x y : Int32} (hm : m ≤ 40) (hv : ∀ k, k < m → a_values k = nI (va k) ∧ va k ≤ 6) (K1 : ∀ i s, i < m → s < 4 + va i → x = nI i → y = nI s → post 1) (K0 : (∀ i s, i < m → s < 4 + va i → ¬ (x = nI i ∧ y = nI s)) → post 0) : wpX_isSlot post (f_count, f_handlers, f_met, f_waiting, f_tooMany, (nI m), f_height, f_why, f_found, f_objects, f_high, f_at, f_here, f_steps, f_outcome, f_last, f_ran, a_parents, a_ancestors, a_begins, a_ops, a_operands, a_froms, a_tos, a_targets, a_catches, a_keys, a_heights, a_faults, a_table, a_todo, a_said, a_sorted, a_instruction, a_values, a_jumps, a_caught, a_caller, a_mapped, a_known, a_types, a_maps, a_now, a_sort, a_made, a_number, a_ready) x y := by
  unfold wpX_isSlot
  dsimp only
  rcases pk_ix x (n := m) (by omega) with z | z | ⟨i, hi, rfl⟩
  · refine xx_outn z (br_f (by decide) (K0 (fun i s h1 h2 h => ?_)))
    rw [h.1] at z; exact nI_pos (by omega) z
  · refine xx_outg z (br_f (by decide) (K0 (fun i s h1 h2 h => ?_)))
    rw [h.1] at z; exact nI_ge h1 (by omega) z
  · have ei : (nI i).toNatClampNeg = i := nI_clamp (by omega)
    obtain ⟨h1, h2⟩ := hv i hi
    refine xx_out0 hi (by omega) (br_t rfl (And.intro (vp_in_nI (by omega) (by decide)) ?_))
    rw [ei, h1, show (4 : Int32) + nI (va i) = nI (4 + va i) from nI_add 4 (va i)]
    have no : (∀ s, s < 4 + va i → y ≠ nI s) → ∀ i' s, i' < m → s < 4 + va i' → ¬ (nI i = nI i' ∧ y = nI s) := fun h i' s q1 q2 ⟨q3, q4⟩ => by
      have := (nI_eq (by omega) (by omega)).mp q3
      subst this; exact h s q2 q4
    rcases pk_ix y (n := 4 + va i) (by omega) with z | z | ⟨s, hs, rfl⟩
    · refine xx_outn z (br_f (by decide) (K0 (no (fun s hs e => ?_))))
      rw [e] at z; exact nI_pos (by omega) z
    · refine xx_outg z (br_f (by decide) (K0 (no (fun s hs e => ?_))))
      rw [e] at z; exact nI_ge hs (by omega) z
    · exact xx_out0 hs (by omega) (br_t rfl (K1 i s hi hs rfl rfl))
theorem ys_isIn {post : Int32 → Prop} {x y : Int32} {Q : Nat → Prop} (hm : m ≤ 40) (hv : ∀ k, k < m → b_high k = nI (va k) ∧ va k ≤ 6) (hM : mp_A m Q b_mapped) (K1 : ∀ i s, i < m → s < 4 + va i → Q i → x = nI i → y = nI s → post 1) (K0 : (∀ i s, i < m → s < 4 + va i → Q i → ¬ (x = nI i ∧ y = nI s)) → post 0) : wpY_isIn post (g_length, g_handlers, (nI m), 1, g_typed, g_wrongNumber, g_wrongPlace, g_size, g_why, g_height, g_objects, g_line, g_begun, g_last, g_end, b_parent, b_begin, b_op, b_arg, b_from, b_to, b_target, b_caught, b_places, b_heights, b_gone, b_worst, b_frames, b_maps, b_high, b_known, b_mapped, b_now, b_sorts, b_ints, b_classes, b_ready) x y := by
  refine br_f (by decide) ?_
  rcases pk_ix x (n := m) (by omega) with z | z | ⟨i, hi, rfl⟩
  · refine yy_inn z (br_t rfl (K0 (fun i s h1 h2 _ h => ?_)))
    rw [h.1] at z; exact nI_pos (by omega) z
  · refine yy_ing z (br_t rfl (K0 (fun i s h1 h2 _ h => ?_)))
    rw [h.1] at z; exact nI_ge h1 (by omega) z
  · have ei : (nI i).toNatClampNeg = i := nI_clamp (by omega)
    obtain ⟨h1, h2⟩ := hv i hi
    have hin := vp_in_nI (n := i) (N := 41) (by omega) (by decide)
    obtain ⟨q1, q0⟩ := hM i hi
    refine yy_in1 hi (by omega) (br_f (by decide) (And.intro hin ?_))
    rw [ei]
    by_cases hQ : Q i
    · rw [q1 hQ]
      refine br_f (by decide) (And.intro hin ?_)
      rw [h1, show (4 : Int32) + nI (va i) = nI (4 + va i) from nI_add 4 (va i)]
      have no : (∀ s, s < 4 + va i → y ≠ nI s) → ∀ i' s, i' < m → s < 4 + va i' → Q i' → ¬ (nI i = nI i' ∧ y = nI s) := fun h i' s q1 q2 _ ⟨q3, q4⟩ => by
        have := (nI_eq (by omega) (by omega)).mp q3
        subst this; exact h s q2 q4
      rcases pk_ix y (n := 4 + va i) (by omega) with z | z | ⟨s, hs, rfl⟩
      · refine yy_inn z (br_t rfl (K0 (no (fun s hs e => ?_))))
        rw [e] at z; exact nI_pos (by omega) z
      · refine yy_ing z (br_t rfl (K0 (no (fun s hs e => ?_))))
        rw [e] at z; exact nI_ge hs (by omega) z
      · exact yy_in1 hs (by omega) (br_f (by decide) (K1 i s hi hs hQ rfl rfl))
    · rw [q0 hQ]
      refine br_t rfl (K0 (fun i' s q1 q2 q5 ⟨q3, q4⟩ => ?_))
      have := (nI_eq (by omega) (by omega)).mp q3
      subst this; exact hQ q5
theorem i_e10 {i s : Nat} : (10 : Int32) * nI i + nI s = nI (10 * i + s) := by rw [show (10 : Int32) * nI i = nI (10 * i) from pk_mul 10 i, nI_add]
end
theorem i_vc_type {k : Nat} {u : SX} {v : SY} (I : i_Rel k u v) (hk : k + 5 ≤ 2560) (v1 : Int32) (v2 : Int32) : wpX_type (fun r => wpY_type (fun r' => r' = r ∧ i_Rel (k + 5) u v) v v1 v2) u v1 v2 := by
  refine i_el (Z := fun u v => wpX_type (fun r => wpY_type (fun r' => r' = r ∧ i_Rel (k + 5) u v) v v1 v2) u v1 v2) I (fun cn hn op fr tt tg ct pa be ar an f_met f_waiting f_tooMany f_size f_height f_why f_found f_objects f_high f_at f_here f_steps f_outcome f_last f_ran a_keys a_heights a_faults a_table a_todo a_said a_sorted a_instruction a_values a_jumps a_caught a_caller a_mapped a_known a_types a_maps a_now a_sort a_made a_number a_ready g_many g_there g_typed g_wrongNumber g_wrongPlace g_size g_height g_objects g_line g_begun g_last g_end b_places b_heights b_gone b_worst b_frames b_maps b_high b_known b_mapped b_now b_sorts b_ints b_classes b_ready hP hA hS hL hR => ?_)
  have same := i_in (k := k + 5) (f_met := f_met) (f_waiting := f_waiting) (f_tooMany := f_tooMany) (f_height := f_height) (f_why := f_why) (f_objects := f_objects) (f_high := f_high) (f_here := f_here) (f_outcome := f_outcome) (a_keys := a_keys) (a_heights := a_heights) (a_faults := a_faults) (a_table := a_table) (a_todo := a_todo) (a_known := a_known) (a_now := a_now) (g_size := g_size) (g_height := g_height) (g_objects := g_objects) (b_heights := b_heights) (b_gone := b_gone) (b_worst := b_worst) (b_known := b_known) (b_now := b_now) hP hA hS hL hR
  rcases hL with ⟨rfl, rfl, rfl⟩ | ⟨rfl, m, pl, va, M, rfl, rfl, F, G, hf, hm⟩
  · exact br_t rfl (br_t rfl ⟨rfl, same⟩)
  · obtain ⟨L, f1, f2, f3⟩ := F
    obtain ⟨-, g1, g2⟩ := G
    have m40 := L.1
    rcases hf with ⟨rfl, rfl⟩ | ⟨rfl, rfl, ht⟩
    · exact br_t rfl (br_f (by decide) (br_t rfl ⟨rfl, same⟩))
    · refine br_f (by decide) (xs_slot (va := va) m40 (fun k hk => ⟨(f2.1 k hk).2, (la_V hP M L hk).2.2⟩) (fun i s hi hs e1 e2 => br_f (by decide) ?_) (fun no => br_t rfl ?_))
      · subst e1 e2
        have v6 := (la_V hP M L hi).2.2
        have ei : (nI i).toNatClampNeg = i := nI_clamp (by omega)
        have ec : (nI (10 * i + s)).toNatClampNeg = 10 * i + s := nI_clamp (by omega)
        rw [i_e10, ec]
        refine And.intro (vp_in_nI (by omega) (by decide)) (br_f (by decide) (br_f (by decide) (yy_in1 hi (by omega) (br_f (by decide) (And.intro (vp_in_nI (by omega) (by decide)) ?_)))))
        rw [ei, (g1 i hi).2.2, show (4 : Int32) + nI (va i) = nI (4 + va i) from nI_add 4 (va i)]
        refine yy_in1 hs (by omega) (br_f (by decide) ?_)
        rw [i_e10, ec]
        exact And.intro (vp_in_nI (by omega) (by decide)) ⟨(ht i s hi hs).symm, same⟩
      · refine br_f (by decide) (br_f (by decide) ?_)
        rcases pk_ix v1 (n := m) (by omega) with z | z | ⟨i, hi, rfl⟩
        · exact yy_inn z (br_t rfl ⟨rfl, same⟩)
        · exact yy_ing z (br_t rfl ⟨rfl, same⟩)
        · have v6 := (la_V hP M L hi).2.2
          have ei : (nI i).toNatClampNeg = i := nI_clamp (by omega)
          refine yy_in1 hi (by omega) (br_f (by decide) (And.intro (vp_in_nI (by omega) (by decide)) ?_))
          rw [ei, (g1 i hi).2.2, show (4 : Int32) + nI (va i) = nI (4 + va i) from nI_add 4 (va i)]
          rcases pk_ix v2 (n := 4 + va i) (by omega) with z | z | ⟨s, hs, rfl⟩
          · exact yy_inn z (br_t rfl ⟨rfl, same⟩)
          · exact yy_ing z (br_t rfl ⟨rfl, same⟩)
          · exact absurd ⟨rfl, rfl⟩ (no i s hi hs)
theorem i_vc_map {k : Nat} {u : SX} {v : SY} (I : i_Rel k u v) (hk : k + 5 ≤ 2560) (v1 : Int32) (v2 : Int32) : wpX_map (fun r => wpY_map (fun r' => r' = r ∧ i_Rel (k + 5) u v) v v1 v2) u v1 v2 := by
  refine i_el (Z := fun u v => wpX_map (fun r => wpY_map (fun r' => r' = r ∧ i_Rel (k + 5) u v) v v1 v2) u v1 v2) I (fun cn hn op fr tt tg ct pa be ar an f_met f_waiting f_tooMany f_size f_height f_why f_found f_objects f_high f_at f_here f_steps f_outcome f_last f_ran a_keys a_heights a_faults a_table a_todo a_said a_sorted a_instruction a_values a_jumps a_caught a_caller a_mapped a_known a_types a_maps a_now a_sort a_made a_number a_ready g_many g_there g_typed g_wrongNumber g_wrongPlace g_size g_height g_objects g_line g_begun g_last g_end b_places b_heights b_gone b_worst b_frames b_maps b_high b_known b_mapped b_now b_sorts b_ints b_classes b_ready hP hA hS hL hR => ?_)
  have same := i_in (k := k + 5) (f_met := f_met) (f_waiting := f_waiting) (f_tooMany := f_tooMany) (f_height := f_height) (f_why := f_why) (f_objects := f_objects) (f_high := f_high) (f_here := f_here) (f_outcome := f_outcome) (a_keys := a_keys) (a_heights := a_heights) (a_faults := a_faults) (a_table := a_table) (a_todo := a_todo) (a_known := a_known) (a_now := a_now) (g_size := g_size) (g_height := g_height) (g_objects := g_objects) (b_heights := b_heights) (b_gone := b_gone) (b_worst := b_worst) (b_known := b_known) (b_now := b_now) hP hA hS hL hR
  unfold wpX_map
  dsimp only
  rcases hL with ⟨rfl, rfl, rfl⟩ | ⟨rfl, m, pl, va, M, rfl, rfl, F, G, hf, hm⟩
  · refine xs_slot (m := 0) (va := fun _ => 0) (by omega) (fun k hk => by omega) (fun i s hi => by omega) (fun _ => br_t rfl ?_)
    unfold wpY_map
    exact br_t rfl (br_t rfl ⟨rfl, same⟩)
  · obtain ⟨L, f1, f2, f3⟩ := F
    obtain ⟨-, g1, g2⟩ := G
    have m40 := L.1
    have v6 : ∀ k, k < m → va k ≤ 6 := fun k hk => (la_V hP M L hk).2.2
    refine xs_slot (va := va) m40 (fun k hk => ⟨(f2.1 k hk).2, v6 k hk⟩) (fun i s hi hs e1 e2 => br_f (by decide) ?_) (fun no => br_t rfl ?_)
    · subst e1 e2
      have := v6 i hi
      have ei : (nI i).toNatClampNeg = i := nI_clamp (by omega)
      have ec : (nI (10 * i + s)).toNatClampNeg = 10 * i + s := nI_clamp (by omega)
      obtain ⟨a1, a0⟩ := f3 i hi
      refine And.intro (vp_in_nI (by omega) (by decide)) ?_
      rw [ei]
      by_cases h : la_mp hn op fr tt tg ar pl m m i
      · rw [a1 h, i_e10, ec]
        refine br_f (by decide) (And.intro (vp_in_nI (by omega) (by decide)) ?_)
        unfold wpY_map
        dsimp only
        refine ys_isIn (va := va) m40 (fun k hk => ⟨(g1 k hk).2.2, v6 k hk⟩) g2 (fun i' s' hi' hs' _ e1 e2 => br_f (by decide) ?_) (fun no => absurd ⟨rfl, rfl⟩ (no i s hi hs h))
        rw [i_e10, ec]
        obtain ⟨t, -, t1, t2⟩ := hm i s hi hs
        exact And.intro (vp_in_nI (by omega) (by decide)) ⟨by rw [t1, t2], same⟩
      · rw [a0 h]
        refine br_t rfl ?_
        unfold wpY_map
        dsimp only
        refine ys_isIn (va := va) m40 (fun k hk => ⟨(g1 k hk).2.2, v6 k hk⟩) g2 (fun i' s' hi' hs' hq e1 e2 => ?_) (fun no => br_t rfl ⟨rfl, same⟩)
        have v6' := v6 i' hi'
        have := (nI_eq (by omega) (by omega)).mp e1
        subst this; exact absurd hq h
    · unfold wpY_map
      dsimp only
      exact ys_isIn (va := va) m40 (fun k hk => ⟨(g1 k hk).2.2, v6 k hk⟩) g2 (fun i' s' hi' hs' hq e1 e2 => absurd ⟨e1, e2⟩ (no i' s' hi' hs')) (fun no => br_t rfl ⟨rfl, same⟩)
theorem i_vc_alter {k : Nat} {u : SX} {v : SY} (I : i_Rel k u v) (hk : k + 5 ≤ 2560) (v1 : Int32) (v2 : Int32) (v3 : Int32) : wpX_alter (fun r u' => wpY_alter (fun r' v' => r' = r ∧ i_Rel (k + 5) u' v') v v1 v2 v3) u v1 v2 v3 := by
  refine i_el (Z := fun u v => wpX_alter (fun r u' => wpY_alter (fun r' v' => r' = r ∧ i_Rel (k + 5) u' v') v v1 v2 v3) u v1 v2 v3) I (fun cn hn op fr tt tg ct pa be ar an f_met f_waiting f_tooMany f_size f_height f_why f_found f_objects f_high f_at f_here f_steps f_outcome f_last f_ran a_keys a_heights a_faults a_table a_todo a_said a_sorted a_instruction a_values a_jumps a_caught a_caller a_mapped a_known a_types a_maps a_now a_sort a_made a_number a_ready g_many g_there g_typed g_wrongNumber g_wrongPlace g_size g_height g_objects g_line g_begun g_last g_end b_places b_heights b_gone b_worst b_frames b_maps b_high b_known b_mapped b_now b_sorts b_ints b_classes b_ready hP hA hS hL hR => ?_)
  have same := i_in (k := k + 5) (f_met := f_met) (f_waiting := f_waiting) (f_tooMany := f_tooMany) (f_height := f_height) (f_why := f_why) (f_objects := f_objects) (f_high := f_high) (f_here := f_here) (f_outcome := f_outcome) (a_keys := a_keys) (a_heights := a_heights) (a_faults := a_faults) (a_table := a_table) (a_todo := a_todo) (a_known := a_known) (a_now := a_now) (g_size := g_size) (g_height := g_height) (g_objects := g_objects) (b_heights := b_heights) (b_gone := b_gone) (b_worst := b_worst) (b_known := b_known) (b_now := b_now) hP hA hS hL hR
  unfold wpX_alter
  dsimp only
  rcases hL with ⟨rfl, rfl, rfl⟩ | ⟨rfl, m, pl, va, M, rfl, rfl, F, G, hf, hm⟩
  · refine xs_slot (m := 0) (va := fun _ => 0) (by omega) (fun k hk => by omega) (fun i s hi => by omega) (fun _ => br_t rfl ?_)
    unfold wpY_alter
    exact br_t rfl (br_t rfl ⟨rfl, same⟩)
  · obtain ⟨L, f1, f2, f3⟩ := id F
    obtain ⟨-, g1, g2⟩ := id G
    have m40 := L.1
    have v6 : ∀ k, k < m → va k ≤ 6 := fun k hk => (la_V hP M L hk).2.2
    refine xs_slot (va := va) m40 (fun k hk => ⟨(f2.1 k hk).2, v6 k hk⟩) (fun i s hi hs e1 e2 => br_f (by decide) ?_) (fun no => br_t rfl ?_)
    · subst e1 e2
      have := v6 i hi
      have ei : (nI i).toNatClampNeg = i := nI_clamp (by omega)
      have ec : (nI (10 * i + s)).toNatClampNeg = 10 * i + s := nI_clamp (by omega)
      obtain ⟨a1, a0⟩ := f3 i hi
      refine And.intro (vp_in_nI (by omega) (by decide)) ?_
      rw [ei]
      by_cases h : la_mp hn op fr tt tg ar pl m m i
      · rw [a1 h]
        refine br_f (by decide) ?_
        rcases pk_ix v3 (n := 91) (by decide) with z | z | ⟨t, ht, rfl⟩
        · refine xx_outn z (br_f (by decide) ?_)
          unfold wpY_alter
          dsimp only
          exact ys_isIn (va := va) m40 (fun k hk => ⟨(g1 k hk).2.2, v6 k hk⟩) g2 (fun i' s' hi' hs' _ e1 e2 => br_f (by decide) (yy_inn z (br_t rfl ⟨rfl, same⟩))) (fun no => absurd ⟨rfl, rfl⟩ (no i s hi hs h))
        · refine xx_outg z (br_f (by decide) ?_)
          unfold wpY_alter
          dsimp only
          exact ys_isIn (va := va) m40 (fun k hk => ⟨(g1 k hk).2.2, v6 k hk⟩) g2 (fun i' s' hi' hs' _ e1 e2 => br_f (by decide) (yy_ing z (br_t rfl ⟨rfl, same⟩))) (fun no => absurd ⟨rfl, rfl⟩ (no i s hi hs h))
        · refine xx_out0 (n := 91) ht (by decide) (br_t rfl ?_)
          rw [i_e10, ec]
          refine And.intro (vp_in_nI (by omega) (by decide)) (nm_r (e' := upd a_maps (10 * i + s) (nI t)) (by rw [aa_nb (by omega)]) ?_)
          unfold wpY_alter
          dsimp only
          refine ys_isIn (va := va) m40 (fun k hk => ⟨(g1 k hk).2.2, v6 k hk⟩) g2 (fun i' s' hi' hs' _ e1 e2 => br_f (by decide) (yy_in1 (n := 91) ht (by decide) (br_f (by decide) ?_))) (fun no => absurd ⟨rfl, rfl⟩ (no i s hi hs h))
          rw [i_e10, ec]
          refine And.intro (vp_in_nI (by omega) (by decide)) (nm_r (e' := upd b_maps (10 * i + s) (nI t)) rfl ⟨rfl, i_in hP hA hS (Or.inr ⟨rfl, m, pl, va, M, rfl, rfl, F, G, hf, fun k' s'' q1 q2 => ?_⟩) hR⟩)
          have := v6 k' q1
          by_cases e : 10 * k' + s'' = 10 * i + s
          · rw [e, pk_us, pk_us]; exact ⟨t, ht, rfl, rfl⟩
          · rw [pk_un e, pk_un e]; exact hm k' s'' q1 q2
      · rw [a0 h]
        refine br_t rfl ?_
        unfold wpY_alter
        dsimp only
        refine ys_isIn (va := va) m40 (fun k hk => ⟨(g1 k hk).2.2, v6 k hk⟩) g2 (fun i' s' hi' hs' hq e1 e2 => ?_) (fun no => br_t rfl ⟨rfl, same⟩)
        have v6' := v6 i' hi'
        have := (nI_eq (by omega) (by omega)).mp e1
        subst this; exact absurd hq h
    · unfold wpY_alter
      dsimp only
      exact ys_isIn (va := va) m40 (fun k hk => ⟨(g1 k hk).2.2, v6 k hk⟩) g2 (fun i' s' hi' hs' hq e1 e2 => absurd ⟨e1, e2⟩ (no i' s' hi' hs')) (fun no => br_t rfl ⟨rfl, same⟩)
theorem i_vc_reason {k : Nat} {u : SX} {v : SY} (I : i_Rel k u v) (hk : k + 5 ≤ 2560) : wpX_reason (fun r => wpY_reason (fun r' => r' = r ∧ i_Rel (k + 5) u v) v) u := by
  refine i_el (Z := fun u v => wpX_reason (fun r => wpY_reason (fun r' => r' = r ∧ i_Rel (k + 5) u v) v) u) I (fun cn hn op fr tt tg ct pa be ar an f_met f_waiting f_tooMany f_size f_height f_why f_found f_objects f_high f_at f_here f_steps f_outcome f_last f_ran a_keys a_heights a_faults a_table a_todo a_said a_sorted a_instruction a_values a_jumps a_caught a_caller a_mapped a_known a_types a_maps a_now a_sort a_made a_number a_ready g_many g_there g_typed g_wrongNumber g_wrongPlace g_size g_height g_objects g_line g_begun g_last g_end b_places b_heights b_gone b_worst b_frames b_maps b_high b_known b_mapped b_now b_sorts b_ints b_classes b_ready hP hA hS hL hR => ?_)
  have same := i_in (k := k + 5) (f_met := f_met) (f_waiting := f_waiting) (f_tooMany := f_tooMany) (f_height := f_height) (f_why := f_why) (f_objects := f_objects) (f_high := f_high) (f_here := f_here) (f_outcome := f_outcome) (a_keys := a_keys) (a_heights := a_heights) (a_faults := a_faults) (a_table := a_table) (a_todo := a_todo) (a_known := a_known) (a_now := a_now) (g_size := g_size) (g_height := g_height) (g_objects := g_objects) (b_heights := b_heights) (b_gone := b_gone) (b_worst := b_worst) (b_known := b_known) (b_now := b_now) hP hA hS hL hR
  exact ⟨rfl, same⟩
theorem i_vc_ended {k : Nat} {u : SX} {v : SY} (I : i_Rel k u v) (hk : k + 5 ≤ 2560) (v1 : Int32) : wpX_ended (fun r => wpY_ended (fun r' => r' = r ∧ i_Rel (k + 5) u v) v v1) u v1 := by
  refine i_el (Z := fun u v => wpX_ended (fun r => wpY_ended (fun r' => r' = r ∧ i_Rel (k + 5) u v) v v1) u v1) I (fun cn hn op fr tt tg ct pa be ar an f_met f_waiting f_tooMany f_size f_height f_why f_found f_objects f_high f_at f_here f_steps f_outcome f_last f_ran a_keys a_heights a_faults a_table a_todo a_said a_sorted a_instruction a_values a_jumps a_caught a_caller a_mapped a_known a_types a_maps a_now a_sort a_made a_number a_ready g_many g_there g_typed g_wrongNumber g_wrongPlace g_size g_height g_objects g_line g_begun g_last g_end b_places b_heights b_gone b_worst b_frames b_maps b_high b_known b_mapped b_now b_sorts b_ints b_classes b_ready hP hA hS hL hR => ?_)
  have same := i_in (k := k + 5) (f_met := f_met) (f_waiting := f_waiting) (f_tooMany := f_tooMany) (f_height := f_height) (f_why := f_why) (f_objects := f_objects) (f_high := f_high) (f_here := f_here) (f_outcome := f_outcome) (a_keys := a_keys) (a_heights := a_heights) (a_faults := a_faults) (a_table := a_table) (a_todo := a_todo) (a_known := a_known) (a_now := a_now) (g_size := g_size) (g_height := g_height) (g_objects := g_objects) (b_heights := b_heights) (b_gone := b_gone) (b_worst := b_worst) (b_known := b_known) (b_now := b_now) hP hA hS hL hR
  rcases hR with ⟨rfl, rfl, rfl⟩ | ⟨rfl, he, rfl, rfl, rfl, hO⟩
  · exact br_t rfl (br_t rfl (br_f (by decide) ⟨rfl, same⟩))
  · have y16 : ∀ post : Int32 → Prop, wY_ended_16 post v1 (nI cn) (nI hn) g_many g_there g_typed g_wrongNumber g_wrongPlace g_size f_why g_height g_objects f_at f_steps f_last g_end (aa_N pa) (aa_N be) (aa_N op) ar (aa_N fr) (aa_N tt) (aa_N tg) (aa_N ct) b_places b_heights b_gone b_worst b_frames b_maps b_high b_known b_mapped b_now b_sorts b_ints b_classes b_ready → wpY_ended post ((nI cn), (nI hn), g_many, g_there, g_typed, g_wrongNumber, g_wrongPlace, g_size, f_why, g_height, g_objects, f_at, f_steps, f_last, g_end, (aa_N pa), (aa_N be), (aa_N op), ar, (aa_N fr), (aa_N tt), (aa_N tg), (aa_N ct), b_places, b_heights, b_gone, b_worst, b_frames, b_maps, b_high, b_known, b_mapped, b_now, b_sorts, b_ints, b_classes, b_ready) v1 := fun post h => br_c (fun _ => br_t he h) (fun _ => h)
    refine br_f (by decide) ?_
    rcases pk_ix v1 (n := 3) (by decide) with z | z | ⟨w, hw, rfl⟩
    · have n0 : ¬ v1 = 0 := fun e => by rw [e] at z; exact absurd z (by decide)
      have n1 : ¬ v1 = 1 := fun e => by rw [e] at z; exact absurd z (by decide)
      have n2 : ¬ v1 = 2 := fun e => by rw [e] at z; exact absurd z (by decide)
      exact xx_outn z (br_f (by decide) (y16 _ (br_f n0 (br_f n1 (br_f n2 ⟨rfl, same⟩)))))
    · have n0 : ¬ v1 = 0 := fun e => by rw [e] at z; exact absurd z (by decide)
      have n1 : ¬ v1 = 1 := fun e => by rw [e] at z; exact absurd z (by decide)
      have n2 : ¬ v1 = 2 := fun e => by rw [e] at z; exact absurd z (by decide)
      exact xx_outg z (br_f (by decide) (y16 _ (br_f n0 (br_f n1 (br_f n2 ⟨rfl, same⟩)))))
    · refine xx_out0 (n := 3) hw (by decide) (br_t rfl ?_)
      have hc : w = 0 ∨ w = 1 ∨ w = 2 := by omega
      rcases hc with rfl | rfl | rfl
      · exact br_t rfl (y16 _ (br_t rfl ⟨rfl, same⟩))
      · exact br_f (by decide) (br_t rfl (y16 _ (br_f (by decide) (br_t rfl ⟨rfl, same⟩))))
      · exact br_f (by decide) (br_f (by decide) (y16 _ (br_f (by decide) (br_f (by decide) (br_t rfl ⟨rfl, same⟩)))))
theorem i_vc_held {k : Nat} {u : SX} {v : SY} (I : i_Rel k u v) (hk : k + 5 ≤ 2560) (v1 : Int32) (v2 : Int32) : wpX_held (fun r => wpY_held (fun r' => r' = r ∧ i_Rel (k + 5) u v) v v1 (lw_bz v2)) u v1 (lw_bz v2) := by
  refine i_el (Z := fun u v => wpX_held (fun r => wpY_held (fun r' => r' = r ∧ i_Rel (k + 5) u v) v v1 (lw_bz v2)) u v1 (lw_bz v2)) I (fun cn hn op fr tt tg ct pa be ar an f_met f_waiting f_tooMany f_size f_height f_why f_found f_objects f_high f_at f_here f_steps f_outcome f_last f_ran a_keys a_heights a_faults a_table a_todo a_said a_sorted a_instruction a_values a_jumps a_caught a_caller a_mapped a_known a_types a_maps a_now a_sort a_made a_number a_ready g_many g_there g_typed g_wrongNumber g_wrongPlace g_size g_height g_objects g_line g_begun g_last g_end b_places b_heights b_gone b_worst b_frames b_maps b_high b_known b_mapped b_now b_sorts b_ints b_classes b_ready hP hA hS hL hR => ?_)
  have same := i_in (k := k + 5) (f_met := f_met) (f_waiting := f_waiting) (f_tooMany := f_tooMany) (f_height := f_height) (f_why := f_why) (f_objects := f_objects) (f_high := f_high) (f_here := f_here) (f_outcome := f_outcome) (a_keys := a_keys) (a_heights := a_heights) (a_faults := a_faults) (a_table := a_table) (a_todo := a_todo) (a_known := a_known) (a_now := a_now) (g_size := g_size) (g_height := g_height) (g_objects := g_objects) (b_heights := b_heights) (b_gone := b_gone) (b_worst := b_worst) (b_known := b_known) (b_now := b_now) hP hA hS hL hR
  have x15 : ∀ (post : Int32 → Prop), (lw_bz v2 = 0 → post (-1)) → (¬ lw_bz v2 = 0 → post 0) → wX_held_15 post (lw_bz v2) (nI cn) (nI hn) f_met f_waiting f_tooMany f_size f_height f_why f_found f_objects f_high f_at f_here f_steps f_outcome f_last f_ran (aa_N pa) an (aa_N be) (aa_N op) ar (aa_N fr) (aa_N tt) (aa_N tg) (aa_N ct) a_keys a_heights a_faults a_table a_todo a_said a_sorted a_instruction a_values a_jumps a_caught a_caller a_mapped a_known a_types a_maps a_now a_sort a_made a_number a_ready := fun post h1 h2 => br_c h1 h2
  have y15 : ∀ (post : Int32 → Prop), (lw_bz v2 = 0 → post (-1)) → (¬ lw_bz v2 = 0 → post 0) → wY_held_15 post (lw_bz v2) (nI cn) (nI hn) g_many g_there g_typed g_wrongNumber g_wrongPlace g_size f_why g_height g_objects g_line g_begun g_last g_end (aa_N pa) (aa_N be) (aa_N op) ar (aa_N fr) (aa_N tt) (aa_N tg) (aa_N ct) b_places b_heights b_gone b_worst b_frames b_maps b_high b_known b_mapped b_now b_sorts b_ints b_classes b_ready := fun post h1 h2 => br_c h1 h2
  have no : (∀ post : Int32 → Prop, wX_held_15 post (lw_bz v2) (nI cn) (nI hn) f_met f_waiting f_tooMany f_size f_height f_why f_found f_objects f_high f_at f_here f_steps f_outcome f_last f_ran (aa_N pa) an (aa_N be) (aa_N op) ar (aa_N fr) (aa_N tt) (aa_N tg) (aa_N ct) a_keys a_heights a_faults a_table a_todo a_said a_sorted a_instruction a_values a_jumps a_caught a_caller a_mapped a_known a_types a_maps a_now a_sort a_made a_number a_ready → wpX_held post ((nI cn), (nI hn), f_met, f_waiting, f_tooMany, f_size, f_height, f_why, f_found, f_objects, f_high, f_at, f_here, f_steps, f_outcome, f_last, f_ran, (aa_N pa), an, (aa_N be), (aa_N op), ar, (aa_N fr), (aa_N tt), (aa_N tg), (aa_N ct), a_keys, a_heights, a_faults, a_table, a_todo, a_said, a_sorted, a_instruction, a_values, a_jumps, a_caught, a_caller, a_mapped, a_known, a_types, a_maps, a_now, a_sort, a_made, a_number, a_ready) v1 (lw_bz v2)) → (∀ post : Int32 → Prop, wY_held_15 post (lw_bz v2) (nI cn) (nI hn) g_many g_there g_typed g_wrongNumber g_wrongPlace g_size f_why g_height g_objects g_line g_begun g_last g_end (aa_N pa) (aa_N be) (aa_N op) ar (aa_N fr) (aa_N tt) (aa_N tg) (aa_N ct) b_places b_heights b_gone b_worst b_frames b_maps b_high b_known b_mapped b_now b_sorts b_ints b_classes b_ready → wpY_held post ((nI cn), (nI hn), g_many, g_there, g_typed, g_wrongNumber, g_wrongPlace, g_size, f_why, g_height, g_objects, g_line, g_begun, g_last, g_end, (aa_N pa), (aa_N be), (aa_N op), ar, (aa_N fr), (aa_N tt), (aa_N tg), (aa_N ct), b_places, b_heights, b_gone, b_worst, b_frames, b_maps, b_high, b_known, b_mapped, b_now, b_sorts, b_ints, b_classes, b_ready) v1 (lw_bz v2)) → wpX_held (fun r => wpY_held (fun r' => r' = r ∧ i_Rel (k + 5) ((nI cn), (nI hn), f_met, f_waiting, f_tooMany, f_size, f_height, f_why, f_found, f_objects, f_high, f_at, f_here, f_steps, f_outcome, f_last, f_ran, (aa_N pa), an, (aa_N be), (aa_N op), ar, (aa_N fr), (aa_N tt), (aa_N tg), (aa_N ct), a_keys, a_heights, a_faults, a_table, a_todo, a_said, a_sorted, a_instruction, a_values, a_jumps, a_caught, a_caller, a_mapped, a_known, a_types, a_maps, a_now, a_sort, a_made, a_number, a_ready) ((nI cn), (nI hn), g_many, g_there, g_typed, g_wrongNumber, g_wrongPlace, g_size, f_why, g_height, g_objects, g_line, g_begun, g_last, g_end, (aa_N pa), (aa_N be), (aa_N op), ar, (aa_N fr), (aa_N tt), (aa_N tg), (aa_N ct), b_places, b_heights, b_gone, b_worst, b_frames, b_maps, b_high, b_known, b_mapped, b_now, b_sorts, b_ints, b_classes, b_ready)) ((nI cn), (nI hn), g_many, g_there, g_typed, g_wrongNumber, g_wrongPlace, g_size, f_why, g_height, g_objects, g_line, g_begun, g_last, g_end, (aa_N pa), (aa_N be), (aa_N op), ar, (aa_N fr), (aa_N tt), (aa_N tg), (aa_N ct), b_places, b_heights, b_gone, b_worst, b_frames, b_maps, b_high, b_known, b_mapped, b_now, b_sorts, b_ints, b_classes, b_ready) v1 (lw_bz v2)) ((nI cn), (nI hn), f_met, f_waiting, f_tooMany, f_size, f_height, f_why, f_found, f_objects, f_high, f_at, f_here, f_steps, f_outcome, f_last, f_ran, (aa_N pa), an, (aa_N be), (aa_N op), ar, (aa_N fr), (aa_N tt), (aa_N tg), (aa_N ct), a_keys, a_heights, a_faults, a_table, a_todo, a_said, a_sorted, a_instruction, a_values, a_jumps, a_caught, a_caller, a_mapped, a_known, a_types, a_maps, a_now, a_sort, a_made, a_number, a_ready) v1 (lw_bz v2) := by
    intro hx hy
    refine hx _ (x15 _ (fun z => hy _ (y15 _ (fun _ => ⟨rfl, same⟩) (fun y => absurd z y))) (fun z => hy _ (y15 _ (fun y => absurd y z) (fun _ => ⟨rfl, same⟩))))
  rcases id hR with ⟨r0, rfl, rfl⟩ | ⟨r1, he, rfl, rfl, rfl, no', hno, hO, hV⟩
  · refine no (fun post h => br_t r0 h) (fun post h => ?_)
    unfold wpY_held
    dsimp only
    rcases pk_ix v1 (n := 4) (by decide) with z | z | ⟨l, hl, rfl⟩
    · exact yy_inn z (br_t rfl h)
    · exact yy_ing z (br_t rfl h)
    · exact yy_in1 (n := 4) hl (by decide) (br_f (by decide) (br_f (by decide) h))
  · have rn : ¬ f_ran = 0 := by rw [r1]; decide
    rcases pk_ix v1 (n := 4) (by decide) with z | z | ⟨l, hl, rfl⟩
    · refine no (fun post h => br_f rn (xx_outn z (br_f (by decide) h))) (fun post h => ?_)
      unfold wpY_held
      dsimp only
      exact yy_inn z (br_t rfl h)
    · refine no (fun post h => br_f rn (xx_outg z (br_f (by decide) h))) (fun post h => ?_)
      unfold wpY_held
      dsimp only
      exact yy_ing z (br_t rfl h)
    · have el : (nI l).toNatClampNeg = l := nI_clamp (by omega)
      have hin := vp_in_nI (n := l) (N := 10) (by omega) (by decide)
      have bz : ∀ x : Int32, (x = 0 ∨ x = 1) → x = 0 ∨ ¬ x = 0 := fun x h => h.imp id (fun e => by rw [e]; decide)
      -- the answer of the reference
      have yv : ∀ (post : Int32 → Prop), ((lw_bz v2 = 0 → ((3 ≤ b_sorts l → ((b_sorts l = 3 → vp_in (nI l) 10 ∧ post (51 + b_ints l)) ∧ (¬ b_sorts l = 3 → wpY_isReady (fun r_10 => ((r_10 = 0 → wY_held_92 post (b_sorts l) 11 (nI cn) (nI hn) g_many g_there g_typed g_wrongNumber g_wrongPlace g_size f_why g_height g_objects f_at f_steps f_last g_end (aa_N pa) (aa_N be) (aa_N op) ar (aa_N fr) (aa_N tt) (aa_N tg) (aa_N ct) b_places b_heights b_gone b_worst b_frames b_maps b_high b_known b_mapped b_now b_sorts b_ints b_classes b_ready) ∧ (¬ r_10 = 0 → wY_held_92 post (b_sorts l) 3 (nI cn) (nI hn) g_many g_there g_typed g_wrongNumber g_wrongPlace g_size f_why g_height g_objects f_at f_steps f_last g_end (aa_N pa) (aa_N be) (aa_N op) ar (aa_N fr) (aa_N tt) (aa_N tg) (aa_N ct) b_places b_heights b_gone b_worst b_frames b_maps b_high b_known b_mapped b_now b_sorts b_ints b_classes b_ready))) ((nI cn), (nI hn), g_many, g_there, g_typed, g_wrongNumber, g_wrongPlace, g_size, f_why, g_height, g_objects, f_at, f_steps, f_last, g_end, (aa_N pa), (aa_N be), (aa_N op), ar, (aa_N fr), (aa_N tt), (aa_N tg), (aa_N ct), b_places, b_heights, b_gone, b_worst, b_frames, b_maps, b_high, b_known, b_mapped, b_now, b_sorts, b_ints, b_classes, b_ready) (b_sorts l)))) ∧ (¬ 3 ≤ b_sorts l → post (b_sorts l)))) ∧ (¬ lw_bz v2 = 0 → ((b_sorts l = 1 → vp_in (nI l) 10 ∧ post (b_ints l)) ∧ (¬ b_sorts l = 1 → post 0)))) → wpY_held post ((nI cn), (nI hn), g_many, g_there, g_typed, g_wrongNumber, g_wrongPlace, g_size, f_why, g_height, g_objects, f_at, f_steps, f_last, g_end, (aa_N pa), (aa_N be), (aa_N op), ar, (aa_N fr), (aa_N tt), (aa_N tg), (aa_N ct), b_places, b_heights, b_gone, b_worst, b_frames, b_maps, b_high, b_known, b_mapped, b_now, b_sorts, b_ints, b_classes, b_ready) (nI l) (lw_bz v2) := by
        intro post h
        unfold wpY_held
        dsimp only
        refine yy_in1 (n := 4) hl (by decide) (br_f (by decide) (br_t he (And.intro hin (nm_r (e' := b_sorts l) (by rw [el]) ?_))))
        rw [el]; exact h
      refine br_f rn (xx_out0 (n := 4) hl (by decide) (br_t rfl (And.intro hin (nm_r (e' := a_sort l) (by rw [el]) (And.intro hin (nm_r (e' := a_number l) (by rw [el]) ?_))))))
      refine br_c (fun zn => ?_) (fun zn => ?_)
      · rcases hV l hl with ⟨s1, s2⟩ | ⟨s1, s2, s3⟩ | ⟨s1, s2⟩ | ⟨n, n1, s1, s2, s3⟩ | ⟨i, i1, s1, s2, s3, s4⟩
        · rw [s1]; exact br_f (by decide) (yv _ (br_t zn (by rw [s2]; exact br_f (by decide) ⟨rfl, same⟩)))
        · rw [s1]; exact br_f (by decide) (yv _ (br_t zn (by rw [s2]; exact br_f (by decide) ⟨rfl, same⟩)))
        · rw [s1]; exact br_f (by decide) (yv _ (br_t zn (by rw [s2]; exact br_f (by decide) ⟨rfl, same⟩)))
        · have en : (nI n).toNatClampNeg = n := nI_clamp (by omega)
          have e4 : nI (4 + n) - 4 = nI n := (pk_sub (b := 4) (by omega)).trans (congrArg nI (by omega))
          have n3 : ¬ nI (4 + n) = 3 := fun x => by have := (nI_eq (b := 3) (by omega) (by decide)).mp x; omega
          have ge3 : (3 : Int32) ≤ nI (4 + n) := nI_le (a := 3) (by omega) (by omega)
          have nle : ¬ nI (4 + n) ≤ 3 := nI_ge (a := 3) (by omega) (by omega)
          obtain ⟨⟨c, c8, c1, c2⟩, hrd⟩ := hO n n1
          have hin2 := vp_in_nI (n := n) (N := 210) (by omega) (by decide)
          have hin3 := vp_in_nI (n := n) (N := 240) (by omega) (by decide)
          rw [s1, s2]
          refine br_t (by decide) (br_f (by decide) (And.intro hin2 ?_))
          rw [en]
          rcases hrd with ⟨q1, q2⟩ | ⟨q1, q2⟩
          · rw [q1, c1]
            refine br_t rfl (And.intro hin2 (yv _ (br_t zn ?_)))
            rw [s3]
            refine br_t ge3 (br_f n3 (br_f nle ?_))
            rw [e4, en, q2]
            refine And.intro hin3 (br_t rfl (br_t rfl ?_))
            unfold wY_held_92
            rw [e4, en, c2]
            exact And.intro hin3 ⟨rfl, same⟩
          · rw [q1, c1]
            refine br_f (by decide) (And.intro hin2 (yv _ (br_t zn ?_)))
            rw [s3]
            refine br_t ge3 (br_f n3 (br_f nle ?_))
            rw [e4, en, q2]
            refine And.intro hin3 (br_f (by decide) (br_f (by decide) ?_))
            unfold wY_held_92
            rw [e4, en, c2]
            exact And.intro hin3 ⟨rfl, same⟩
        · rw [s1, s3]
          refine br_t (by decide) (br_t rfl (yv _ (br_t zn ?_)))
          rw [s2, s4]
          exact br_t (by decide) (br_t rfl (And.intro hin ⟨rfl, same⟩))
      · rcases hV l hl with ⟨s1, s2⟩ | ⟨s1, s2, s3⟩ | ⟨s1, s2⟩ | ⟨n, n1, s1, s2, s3⟩ | ⟨i, i1, s1, s2, s3, s4⟩
        · rw [s1]; exact br_f (by decide) (yv _ (br_f zn (by rw [s2]; exact br_f (by decide) ⟨rfl, same⟩)))
        · rw [s1]; exact br_t rfl (yv _ (br_f zn (by rw [s2]; exact br_t rfl (And.intro hin ⟨s3.symm, same⟩))))
        · rw [s1]; exact br_f (by decide) (yv _ (br_f zn (by rw [s2]; exact br_f (by decide) ⟨rfl, same⟩)))
        · rw [s1]; exact br_f (by decide) (yv _ (br_f zn (by rw [s3]; exact br_f (fun x => by have := (nI_eq (b := 1) (by omega) (by decide)).mp x; omega) ⟨rfl, same⟩)))
        · rw [s1]; exact br_f (by decide) (yv _ (br_f zn (by rw [s2]; exact br_f (by decide) ⟨rfl, same⟩)))
end
section
/-! lay -/
/-- what is wrong first, is so once -/
theorem ex_wrong_u {W : Nat → Nat → Nat} {R : Nat → Nat → Prop} (hW : ∀ q h, ex_wz W q h ≤ 9) {q v q' v' : Nat} (h1 : ex_wrong W R q v) (h2 : ex_wrong W R q' v') : q = q' ∧ v = v' := by
  obtain ⟨a1, a2, a3, a4, a5⟩ := h1
  obtain ⟨b1, b2, b3, b4, b5⟩ := h2
  have e : q = q' := Nat.le_antisymm (a5 q' v' b2 b3 (by omega)) (b5 q v a2 a3 (by omega))
  subst e
  exact ⟨rfl, ex_fn_u (fun h _ => hW q h) a3 b3⟩
theorem ex_wrong_r {W : Nat → Nat → Nat} {R : Nat → Nat → Prop} (hW : ∀ q h, ex_wz W q h ≤ 9) {q v : Nat} (h1 : ex_wrong W R q v) (h2 : ex_right W R) : False := by
  obtain ⟨a1, a2, a3, a4, a5⟩ := h1
  have := ex_fn_u (fun h _ => hW q h) a3 (h2 q a2)
  omega
theorem xe_many_no {R : Nat → Nat → Prop} (h : xe_many R) {m : Nat} {kq : Nat → Nat} (hm : m ≤ 40) (hc : ∀ q h, R q h → ∃ p, p < m ∧ kq p = q) : False := by
  obtain ⟨f, f1, f2⟩ := h
  have := ex_pig m 41 f kq f1 (fun i hi => by
    obtain ⟨h, hr⟩ := f2 i hi
    exact hc _ h hr)
  omega
theorem la_u {cn hn : Nat} {op fr tt tg : Nat → Nat} {ar : Nat → Int32} {m m' : Nat} {pl va pl' va' : Nat → Nat} (L : la_L cn hn op fr tt tg ar m pl va) (L' : la_L cn hn op fr tt tg ar m' pl' va') (h : ∀ k, m ≤ k → pl k = 0 ∧ va k = 0) (h' : ∀ k, m' ≤ k → pl' k = 0 ∧ va' k = 0) : m' = m ∧ pl' = pl ∧ va' = va := by
  have inj : ∀ {m : Nat} {pl va : Nat → Nat}, la_L cn hn op fr tt tg ar m pl va → ∀ i j, i < m → j < m → pl i = pl j → i = j := fun L i j hi hj e => by
    rcases Nat.lt_trichotomy i j with z | z | z
    · have := L.2.2.1 i j z hj; omega
    · exact z
    · have := L.2.2.1 j i z hi; omega
  have c1 : ∀ i, i < m → ∃ j, j < m' ∧ pl' j = pl i ∧ va' j = va i := fun i hi => by
    obtain ⟨j, j1, j2, j3⟩ := L'.2.2.2 _ _ (L.2.1 i hi).1
    exact ⟨j, j1, j2, j3⟩
  have c2 : ∀ i, i < m' → ∃ j, j < m ∧ pl j = pl' i ∧ va j = va' i := fun i hi => by
    obtain ⟨j, j1, j2, j3⟩ := L.2.2.2 _ _ (L'.2.1 i hi).1
    exact ⟨j, j1, j2, j3⟩
  have e1 := ex_pig m' m pl pl' (inj L) (fun i hi => by obtain ⟨j, j1, j2, _⟩ := c1 i hi; exact ⟨j, j1, j2⟩)
  have e2 := ex_pig m m' pl' pl (inj L') (fun i hi => by obtain ⟨j, j1, j2, _⟩ := c2 i hi; exact ⟨j, j1, j2⟩)
  have e : m' = m := by omega
  subst e
  have ep := ex_inc L'.2.2.1 L.2.2.1 (fun i hi => by obtain ⟨j, j1, j2, _⟩ := c2 i hi; exact ⟨j, j1, j2⟩) (fun i hi => by obtain ⟨j, j1, j2, _⟩ := c1 i hi; exact ⟨j, j1, j2⟩)
  have epl : pl' = pl := funext fun k => by
    rcases Nat.lt_or_ge k m' with z | z
    · exact ep k z
    · rw [(h k z).1, (h' k z).1]
  refine ⟨rfl, epl, funext fun k => ?_⟩
  rcases Nat.lt_or_ge k m' with z | z
  · obtain ⟨j, j1, j2, j3⟩ := c1 k z
    rw [epl] at j2
    have := inj L j k j1 z j2
    rw [← this]; rw [this] at j3 ⊢; exact j3
  · rw [(h k z).2, (h' k z).2]
theorem i_vc_lay {k : Nat} {u : SX} {v : SY} (I : i_Rel k u v) (hk : k + 5 ≤ 2560) : wpX_lay (fun r u' => wpY_lay (fun r' v' => r' = r ∧ i_Rel (k + 5) u' v') v) u := by
  refine i_el (Z := fun u v => wpX_lay (fun r u' => wpY_lay (fun r' v' => r' = r ∧ i_Rel (k + 5) u' v') v) u) I (fun cn hn op fr tt tg ct pa be ar an f_met f_waiting f_tooMany f_size f_height f_why f_found f_objects f_high f_at f_here f_steps f_outcome f_last f_ran a_keys a_heights a_faults a_table a_todo a_said a_sorted a_instruction a_values a_jumps a_caught a_caller a_mapped a_known a_types a_maps a_now a_sort a_made a_number a_ready g_many g_there g_typed g_wrongNumber g_wrongPlace g_size g_height g_objects g_line g_begun g_last g_end b_places b_heights b_gone b_worst b_frames b_maps b_high b_known b_mapped b_now b_sorts b_ints b_classes b_ready hP hA hS hL hR => ?_)
  have same := i_in (k := k + 5) (f_met := f_met) (f_waiting := f_waiting) (f_tooMany := f_tooMany) (f_height := f_height) (f_why := f_why) (f_objects := f_objects) (f_high := f_high) (f_here := f_here) (f_outcome := f_outcome) (a_keys := a_keys) (a_heights := a_heights) (a_faults := a_faults) (a_table := a_table) (a_todo := a_todo) (a_known := a_known) (a_now := a_now) (g_size := g_size) (g_height := g_height) (g_objects := g_objects) (b_heights := b_heights) (b_gone := b_gone) (b_worst := b_worst) (b_known := b_known) (b_now := b_now) hP hA hS hL hR
  refine xz_lay hP hA (fun nM sd hsd => ?_) (fun M many met wai ks hs fs ts tds sd s0 s1 => ?_) (fun M mt kq hb mt40 _ _ hcov q v' hq met wai ks hs fs ts tds sd hsd => ?_) (fun M m pl va hz hr met wai ks hs fs ts tds sd ss ins vas ju cau cal mpd hsd F hg kno tys nw mps => ?_)
  · refine yz_lay hP (fun _ => ⟨rfl, i_in hP hA (Or.inl ⟨rfl, hsd⟩) (Or.inl ⟨rfl, rfl, rfl⟩) hR⟩) (fun M => absurd M nM) (fun M => absurd M nM) (fun M => absurd M nM)
  · refine yz_lay hP (fun nM => absurd M nM) (fun _ _ mn ps hs' gs ws => ⟨rfl, i_in hP hA (Or.inr (Or.inl ⟨rfl, s0, s1⟩)) (Or.inl ⟨rfl, rfl, rfl⟩) hR⟩) (fun _ mt kq h40 hcov => (xe_many_no many h40 hcov).elim) (fun _ m pl va _ _ ps hs' gs ws hg0 mpd F => (xe_many_no (kq := pl) many F.1.1 (fun q h hr => ?_)).elim)
    obtain ⟨j, j1, j2, _⟩ := F.1.2.2.2 q h hr
    exact ⟨j, j1, j2⟩
  · refine yz_lay hP (fun nM => absurd M nM) (fun _ many => (xe_many_no many mt40 hcov).elim) (fun _ mt' kq' _ _ q' v'' hq' mn ps hs' gs ws => ?_) (fun _ m pl va _ hr => (ex_wrong_r pp_wz9 hq hr).elim)
    obtain ⟨e1, e2⟩ := ex_wrong_u pp_wz9 hq hq'
    subst e1 e2
    exact ⟨rfl, i_in hP hA (Or.inr (Or.inr ⟨q, v', hq.1, hq.2.2.2.1, rfl, rfl, hsd⟩)) (Or.inl ⟨rfl, rfl, rfl⟩) hR⟩
  · have noM : ∀ {P : Prop}, xe_many (ex_R (pp_W cn op) (pp_S hn op fr tt tg ar)) → P := fun many => (xe_many_no (kq := pl) many F.1.1 (fun q h hr => by
      obtain ⟨j, j1, j2, _⟩ := F.1.2.2.2 q h hr
      exact ⟨j, j1, j2⟩)).elim
    constructor
    · intro hno hmp
      refine yz_lay hP (fun nM => absurd M nM) (fun _ many => noM many) (fun _ mt' kq' _ _ q' v'' hq' => (ex_wrong_r pp_wz9 hq' hr).elim) (fun _ m' pl' va' hz' _ ps hs' gs ws hg0 mpd' G hg' kno' tys' nw' mps' => ?_)
      obtain ⟨e1, e2, e3⟩ := la_u F.1 G.1 hz hz'
      subst e1 e2 e3
      refine ⟨fun _ hmp' => ⟨rfl, i_in hP hA (Or.inl ⟨rfl, hsd⟩) (Or.inr ⟨rfl, m', pl', va', M, rfl, rfl, F, G, Or.inl ⟨rfl, rfl⟩, fun k s hk hs => ⟨0, by omega, ?_, ?_⟩⟩) hR⟩, fun kn ty hL' _ => absurd hL'.1 (hno kn ty)⟩
      · have v6 := (la_V hP M F.1 hk).2.2
        exact hmp _ (by omega)
      · have v6 := (la_V hP M F.1 hk).2.2
        exact hmp' _ (by omega)
    · intro kn ty hLL hty
      refine yz_lay hP (fun nM => absurd M nM) (fun _ many => noM many) (fun _ mt' kq' _ _ q' v'' hq' => (ex_wrong_r pp_wz9 hq' hr).elim) (fun _ m' pl' va' hz' _ ps hs' gs ws hg0 mpd' G hg' kno' tys' nw' mps' => ?_)
      obtain ⟨e1, e2, e3⟩ := la_u F.1 G.1 hz hz'
      subst e1 e2 e3
      refine ⟨fun hno _ => absurd hLL.1 (hno kn ty), fun kn' ty' hL' hty' => ⟨rfl, i_in hP hA (Or.inl ⟨rfl, hsd⟩) (Or.inr ⟨rfl, m', pl', va', M, rfl, rfl, F, G, Or.inr ⟨rfl, rfl, fun k s hk hs => ?_⟩, fun k s hk hs => ?_⟩) hR⟩⟩
      · obtain ⟨a1, a2, a3⟩ := hty k s hk hs
        obtain ⟨b1, b2, b3⟩ := hty' k s hk hs
        rw [a1, b1, (it_L_u hLL hL' k (la_all F.1 hLL.1 k hk)).2 s hs]
      · obtain ⟨a1, a2, a3⟩ := hty k s hk hs
        obtain ⟨b1, b2, b3⟩ := hty' k s hk hs
        exact ⟨ty k s, a3, a2, by rw [b2, (it_L_u hLL hL' k (la_all F.1 hLL.1 k hk)).2 s hs]⟩
end
section
/-! one pass: the frame against a map, a place's verdict, on both sides -/
section
variable {cn hn : Nat} {op fr tt tg : Nat → Nat} {ar : Nat → Int32} {m : Nat} {pl va : Nat → Nat}
/-- a place is the first, or one falls to it, or it has a map -/
theorem la_from (L : la_L cn hn op fr tt tg ar m pl va) {k : Nat} (hk : k < m) : k = 0 ∨ la_mp hn op fr tt tg ar pl m m k ∨ (∃ j, k = j + 1 ∧ aa_fl (op (pl j % 25)) = true) := by
  have key : ∀ q h, ex_R (pp_W cn op) (pp_S hn op fr tt tg ar) q h → (q = 0) ∨ ∃ q0 h0, ex_R (pp_W cn op) (pp_S hn op fr tt tg ar) q0 h0 ∧ pp_S hn op fr tt tg ar q0 h0 q h := by
    intro q h hr
    refine (hr (fun q h => ex_R (pp_W cn op) (pp_S hn op fr tt tg ar) q h ∧ (q = 0 ∨ ∃ q0 h0, ex_R (pp_W cn op) (pp_S hn op fr tt tg ar) q0 h0 ∧ pp_S hn op fr tt tg ar q0 h0 q h)) ⟨⟨ex_R0, Or.inl rfl⟩, fun q h hI hw q' h' hs => ⟨ex_Rs hI.1 hw hs, Or.inr ⟨q, h, hI.1, hs⟩⟩⟩).2
  rcases key _ _ (L.2.1 k hk).1 with z | ⟨q0, h0, r0, s0⟩
  · left
    obtain ⟨a, b, c⟩ := la_0 L
    rcases Nat.eq_zero_or_pos k with y | y
    · exact y
    · have := L.2.2.1 0 k y hk; omega
  · right
    obtain ⟨k0, k1, rfl, rfl⟩ := L.2.2.2 q0 h0 r0
    rcases s0 with ⟨x, x1, x2, x3, x4⟩ | ⟨f, x3, x4⟩ | ⟨h, x3, x4⟩
    · left
      exact ⟨k0, k1, Or.inr ⟨x, x1, x2, (la_fi L hk x3).symm⟩⟩
    · right
      obtain ⟨a, b, c⟩ := la_fall L k1 f
      refine ⟨k0, ?_, f⟩
      have h1 := la_fi L hk x3
      have h2 := la_fi L a b
      omega
    · left
      exact ⟨k0, k1, Or.inl ⟨h, (la_fi L hk x3).symm⟩⟩
end
/-- a frame is under the map of place j -/
def ck_U (pa va : Nat → Nat) (mt : Nat → Nat → Nat) (j : Nat) (f : Nat → Nat) : Prop := ∀ s, s < 4 + va j → ty_le pa (f s) (mt j s)
def ck_M (m : Nat) (va : Nat → Nat) (mt : Nat → Nat → Nat) (maps : Nat → Int32) : Prop := ∀ k s, k < m → s < 4 + va k → maps (10 * k + s) = nI (mt k s) ∧ mt k s < 91
def ck_H (hn : Nat) (fr tt tg ct pa va pl : Nat → Nat) (m : Nat) (mt : Nat → Nat → Nat) (k x : Nat) (f : Nat → Nat) : Prop := ∀ y, y < x → y < hn → pp_cv fr tt y (pl k % 25) = true → ck_U pa va mt (ty_fi pl (kk_at (pl k) (tg y)) m) (aa_up f 4 (3 + ct y))
def ck_A (pa op : Nat → Nat) (ar : Nat → Int32) (pl va : Nat → Nat) (m k : Nat) (f : Nat → Nat) : Prop := fr_ok pa (op (pl k % 25)) (pp_g ar (pl k % 25)) k (va k) m (ty_fi pl (kk_cal (pl k)) m) (fun p => op (pl p % 25) = 8) f
def ck_F (op : Nat → Nat) (ar : Nat → Int32) (pl va : Nat → Nat) (k : Nat) (f : Nat → Nat) : Nat → Nat := fr_f (op (pl k % 25)) (pp_g ar (pl k % 25)) k (va k) (fun p => pp_g ar (pl p % 25)) f
def ck_J (pa op : Nat → Nat) (ar : Nat → Int32) (pl va : Nat → Nat) (m : Nat) (mt : Nat → Nat → Nat) (k : Nat) (f : Nat → Nat) : Prop := (aa_ld (op (pl k % 25)) = true ∨ op (pl k % 25) = 16) → ck_U pa va mt (ty_fi pl (pp_to op ar (pl k)) m) (ck_F op ar pl va k f)
section
variable {cn hn : Nat} {op fr tt tg ct pa be : Nat → Nat} {ar an : Nat → Int32}
variable {f_count f_handlers f_met f_waiting f_tooMany f_size f_height f_why f_found f_objects f_high f_at f_here f_steps f_outcome f_last f_ran : Int32} {a_parents a_ancestors a_begins a_ops a_operands a_froms a_tos a_targets a_catches a_keys a_heights a_faults a_table a_todo a_said a_sorted a_instruction a_values a_jumps a_caught a_caller a_mapped a_known a_types a_maps a_now a_sort a_made a_number a_ready : Nat → Int32}
variable {g_length g_handlers g_many g_there g_typed g_wrongNumber g_wrongPlace g_size g_why g_height g_objects g_line g_begun g_last g_end : Int32} {b_parent b_begin b_op b_arg b_from b_to b_target b_caught b_places b_heights b_gone b_worst b_frames b_maps b_high b_known b_mapped b_now b_sorts b_ints b_classes b_ready : Nat → Int32}
variable {m : Nat} {pl va : Nat → Nat} {mt : Nat → Nat → Nat}
theorem xk_suits {post : Int32 → Prop} {j : Nat} {f : Nat → Nat} {hg : Int32} (eh : hg = nI (va j)) (A : xa_A pa an) (hm : m ≤ 40) (hv : va j ≤ 6) (hj : j < m) (hM : ck_M m va mt a_maps) (hf : ∀ s, s < 4 + va j → a_now s = nI (f s) ∧ f s < 91) (K1 : ck_U pa va mt j f → post 1) (K0 : ¬ ck_U pa va mt j f → post 0) : wpX_suits post ((nI cn), (nI hn), f_met, f_waiting, f_tooMany, f_size, hg, f_why, f_found, f_objects, f_high, f_at, f_here, f_steps, f_outcome, f_last, f_ran, (aa_N pa), an, (aa_N be), (aa_N op), ar, (aa_N fr), (aa_N tt), (aa_N tg), (aa_N ct), a_keys, a_heights, a_faults, a_table, a_todo, a_said, a_sorted, a_instruction, a_values, a_jumps, a_caught, a_caller, a_mapped, a_known, a_types, a_maps, a_now, a_sort, a_made, a_number, a_ready) (nI j) := by
  subst eh
  have e4 : (4 : Int32) + nI (va j) = nI (4 + va j) := nI_add 4 (va j)
  have key : ∀ d s, s + d = 4 + va j → (∀ x, x < s → ty_le pa (f x) (mt j x)) → wX_suits_2 post (nI j) (nI cn) (nI hn) f_met f_waiting f_tooMany f_size (nI (va j)) f_why f_found f_objects f_high f_at f_here f_steps f_outcome f_last f_ran (aa_N pa) an (aa_N be) (aa_N op) ar (aa_N fr) (aa_N tt) (aa_N tg) (aa_N ct) a_keys a_heights a_faults a_table a_todo a_said a_sorted a_instruction a_values a_jumps a_caught a_caller a_mapped a_known a_types a_maps a_now a_sort a_made a_number a_ready (d + 1) (nI s) := by
    intro d
    induction d with
    | zero =>
      intro s hs h
      refine br_t ?_ (K1 (fun x hx => h x (by omega)))
      rw [e4]; exact nI_le (by omega) (by omega)
    | succ d ih =>
      intro s hs h
      have es : (nI s).toNatClampNeg = s := nI_clamp (by omega)
      have ec : (nI (10 * j + s)).toNatClampNeg = 10 * j + s := nI_clamp (by omega)
      obtain ⟨f1, f2⟩ := hf s (by omega)
      obtain ⟨m1, m2⟩ := hM j s hj (by omega)
      refine br_f ?_ ?_
      · rw [e4]; exact nI_ge (by omega) (by omega)
      · rw [i_e10, ec, es, f1, m1]
        refine And.intro (vp_in_nI (by omega) (by decide)) (And.intro (vp_in_nI (by omega) (by decide)) (xx_agrees A f2 m2 (fun z => br_f (by decide) (nm_r (nI_1 s) (ih (s + 1) (by omega) (fun x hx => ?_)))) (fun z => br_t rfl (K0 (fun y => z (y s (by omega)))))))
        by_cases e : x = s
        · rw [e]; exact z
        · exact h x (by omega)
  exact ⟨4 + va j + 1, key (4 + va j) 0 (by omega) (fun x hx => by omega)⟩
theorem yk_isUnder {post : Int32 → Prop} {j q : Nat} {f : Nat → Nat} {hg : Int32} (eh : hg = nI (va j)) (hpa : ∀ c, pa c < 8 ∧ (0 < c → pa c < c)) (hm : m ≤ 40) (hinc : ∀ i j, i < j → j < m → pl i < pl j) (yA : yl_A pl va m b_places b_high) (hv : va j ≤ 6) (hj : j < m) (hq : pl j = q) (hM : ck_M m va mt b_maps) (hf : ∀ s, s < 4 + va j → b_now s = nI (f s) ∧ f s < 91) (K1 : ck_U pa va mt j f → post 1) (K0 : ¬ ck_U pa va mt j f → post 0) : wpY_isUnder post ((nI cn), (nI hn), (nI m), g_there, g_typed, g_wrongNumber, g_wrongPlace, hg, g_why, g_height, g_objects, g_line, g_begun, g_last, g_end, (aa_N pa), (aa_N be), (aa_N op), ar, (aa_N fr), (aa_N tt), (aa_N tg), (aa_N ct), b_places, b_heights, b_gone, b_worst, b_frames, b_maps, b_high, b_known, b_mapped, b_now, b_sorts, b_ints, b_classes, b_ready) (nI (kk_y q)) := by
  subst eh hq
  have e4 : (4 : Int32) + nI (va j) = nI (4 + va j) := nI_add 4 (va j)
  have key : ∀ d s, s + d = 4 + va j → (∀ x, x < s → ty_le pa (f x) (mt j x)) → wY_isUnder_8 post (nI j) (nI cn) (nI hn) (nI m) g_there g_typed g_wrongNumber g_wrongPlace (nI (va j)) g_why g_height g_objects g_line g_begun g_last g_end (aa_N pa) (aa_N be) (aa_N op) ar (aa_N fr) (aa_N tt) (aa_N tg) (aa_N ct) b_places b_heights b_gone b_worst b_frames b_maps b_high b_known b_mapped b_now b_sorts b_ints b_classes b_ready (d + 1) (nI s) := by
    intro d
    induction d with
    | zero =>
      intro s hs h
      refine br_t ?_ (K1 (fun x hx => h x (by omega)))
      rw [e4]; exact nI_le (by omega) (by omega)
    | succ d ih =>
      intro s hs h
      have es : (nI s).toNatClampNeg = s := nI_clamp (by omega)
      have ec : (nI (10 * j + s)).toNatClampNeg = 10 * j + s := nI_clamp (by omega)
      obtain ⟨f1, f2⟩ := hf s (by omega)
      obtain ⟨m1, m2⟩ := hM j s hj (by omega)
      refine br_f ?_ ?_
      · rw [e4]; exact nI_ge (by omega) (by omega)
      · rw [i_e10, ec, es, f1, m1]
        refine And.intro (vp_in_nI (by omega) (by decide)) (And.intro (vp_in_nI (by omega) (by decide)) (yy_fits hpa f2 m2 (fun z => br_f (by decide) (nm_r (nI_1 s) (ih (s + 1) (by omega) (fun x hx => ?_)))) (fun z => br_t rfl (K0 (fun y => z (y s (by omega)))))))
        by_cases e : x = s
        · rw [e]; exact z
        · exact h x (by omega)
  unfold wpY_isUnder
  dsimp only
  refine yn_number (pl := pl) (by omega) (fun k hk => ⟨(yA k hk).1, (yA k hk).2.1⟩) (yA j hj).2.1 ⟨j, hj, rfl⟩ hinc ?_
  rw [ty_fi_eq hinc hj rfl]
  exact ⟨4 + va j + 1, key (4 + va j) 0 (by omega) (fun x hx => by omega)⟩
/-- the verdict behind the entry -/
theorem xk_32 {post : Int32 → SX → Prop} {k : Nat} {f : Nat → Nat} (P : pp_P cn hn op fr tt tg ct pa be ar) (M : pp_M cn hn op tg ar) (L : la_L cn hn op fr tt tg ar m pl va) (A : xa_A pa an) (X : xl_A hn op fr tt tg pl ar va m a_instruction a_values a_jumps a_caught a_caller) (hM : ck_M m va mt a_maps) (hk : k < m) (hf : ∀ s, s < 4 + va k → a_now s = nI (f s) ∧ f s < 91)
    (K2 : ¬ ck_H hn fr tt tg ct pa va pl m mt k 4 f → ∀ hg nw, post 2 ((nI cn), (nI hn), f_met, f_waiting, f_tooMany, (nI m), hg, f_why, f_found, f_objects, f_high, f_at, f_here, f_steps, f_outcome, f_last, f_ran, (aa_N pa), an, (aa_N be), (aa_N op), ar, (aa_N fr), (aa_N tt), (aa_N tg), (aa_N ct), a_keys, a_heights, a_faults, a_table, a_todo, a_said, a_sorted, a_instruction, a_values, a_jumps, a_caught, a_caller, a_mapped, a_known, a_types, a_maps, nw, a_sort, a_made, a_number, a_ready)) (K3 : ck_H hn fr tt tg ct pa va pl m mt k 4 f → ¬ ck_A pa op ar pl va m k f → ∀ hg nw, post 3 ((nI cn), (nI hn), f_met, f_waiting, f_tooMany, (nI m), hg, f_why, f_found, f_objects, f_high, f_at, f_here, f_steps, f_outcome, f_last, f_ran, (aa_N pa), an, (aa_N be), (aa_N op), ar, (aa_N fr), (aa_N tt), (aa_N tg), (aa_N ct), a_keys, a_heights, a_faults, a_table, a_todo, a_said, a_sorted, a_instruction, a_values, a_jumps, a_caught, a_caller, a_mapped, a_known, a_types, a_maps, nw, a_sort, a_made, a_number, a_ready))
    (K4 : ck_H hn fr tt tg ct pa va pl m mt k 4 f → ck_A pa op ar pl va m k f → ¬ ck_J pa op ar pl va m mt k f → ∀ hg nw, post 4 ((nI cn), (nI hn), f_met, f_waiting, f_tooMany, (nI m), hg, f_why, f_found, f_objects, f_high, f_at, f_here, f_steps, f_outcome, f_last, f_ran, (aa_N pa), an, (aa_N be), (aa_N op), ar, (aa_N fr), (aa_N tt), (aa_N tg), (aa_N ct), a_keys, a_heights, a_faults, a_table, a_todo, a_said, a_sorted, a_instruction, a_values, a_jumps, a_caught, a_caller, a_mapped, a_known, a_types, a_maps, nw, a_sort, a_made, a_number, a_ready))
    (K0 : ck_H hn fr tt tg ct pa va pl m mt k 4 f → ck_A pa op ar pl va m k f → ck_J pa op ar pl va m mt k f → ∀ nw, (∀ s, s < 4 + pp_lf op (pl k) (va k) → nw s = nI (ck_F op ar pl va k f s)) → post 0 ((nI cn), (nI hn), f_met, f_waiting, f_tooMany, (nI m), (nI (pp_lf op (pl k) (va k))), f_why, f_found, f_objects, f_high, f_at, f_here, f_steps, f_outcome, f_last, f_ran, (aa_N pa), an, (aa_N be), (aa_N op), ar, (aa_N fr), (aa_N tt), (aa_N tg), (aa_N ct), a_keys, a_heights, a_faults, a_table, a_todo, a_said, a_sorted, a_instruction, a_values, a_jumps, a_caught, a_caller, a_mapped, a_known, a_types, a_maps, nw, a_sort, a_made, a_number, a_ready))
    (hF91 : ck_A pa op ar pl va m k f → ∀ s, s < 4 + pp_lf op (pl k) (va k) → ck_F op ar pl va k f s < 91) : wX_verdict_32 post (nI k) (nI cn) (nI hn) f_met f_waiting f_tooMany (nI m) (nI (va k)) f_why f_found f_objects f_high f_at f_here f_steps f_outcome f_last f_ran (aa_N pa) an (aa_N be) (aa_N op) ar (aa_N fr) (aa_N tt) (aa_N tg) (aa_N ct) a_keys a_heights a_faults a_table a_todo a_said a_sorted a_instruction a_values a_jumps a_caught a_caller a_mapped a_known a_types a_maps a_now a_sort a_made a_number a_ready := by
  obtain ⟨hc, hh4, hop, hx, hpa, hbe, hfit⟩ := id P
  have m40 := L.1
  obtain ⟨v1, v2, v3⟩ := la_V P M L hk
  have ek : (nI k).toNatClampNeg = k := nI_clamp (by omega)
  have hin := vp_in_nI (n := k) (N := 40) (by omega) (by decide)
  obtain ⟨j1, j0⟩ := X.2.2.1 k hk
  have r123 : ∀ x5 nw, ((x5 = 1 ∧ ck_H hn fr tt tg ct pa va pl m mt k 4 f) ∨ (x5 = 0 ∧ ¬ ck_H hn fr tt tg ct pa va pl m mt k 4 f)) → (∀ s, s < 4 + va k → s ≠ 4 → nw s = nI (f s)) → wX_verdict_123 post (nI k) (nI (va k)) (a_now 4) x5 (nI cn) (nI hn) f_met f_waiting f_tooMany (nI m) 1 f_why f_found f_objects f_high f_at f_here f_steps f_outcome f_last f_ran (aa_N pa) an (aa_N be) (aa_N op) ar (aa_N fr) (aa_N tt) (aa_N tg) (aa_N ct) a_keys a_heights a_faults a_table a_todo a_said a_sorted a_instruction a_values a_jumps a_caught a_caller a_mapped a_known a_types a_maps nw a_sort a_made a_number a_ready := by
    intro x5 nw h5 hnw
    unfold wX_verdict_123
    refine nm_e ?_
    have hnw' : ∀ s, s < 4 + va k → upd nw 4 (vp_nar .byte (a_now 4).toInt8.toInt32) s = nI (f s) ∧ f s < 91 := by
      intro s hs
      refine ⟨?_, (hf s hs).2⟩
      by_cases e : s = 4
      · subst e
        obtain ⟨q1, q2⟩ := hf 4 hs
        rw [pk_us, q1, aa_nb (by omega)]
      · rw [pk_un e]; exact hnw s hs e
    rcases h5 with ⟨rfl, hH⟩ | ⟨rfl, hH⟩
    · refine br_f (by decide) (xa_apply P M L A hk (fun p hp => (X.1 p hp).1) X.2.1 hnw' (fun okk nw3 hnw3 => br_f (by decide) (And.intro hin ?_)) (fun nok hh nw3 => br_t rfl (K3 hH nok _ _)))
      rw [ek]
      by_cases h : aa_ld (op (pl k % 25)) = true ∨ op (pl k % 25) = 16
      · obtain ⟨b1, b2, b3⟩ := la_jump L hk h
        rw [j1 h]
        refine br_f (nI_pos (by omega)) (And.intro hin (xk_suits (mt := mt) (by rw [b3]) A m40 (la_V P M L b1).2.2 b1 hM (f := ck_F op ar pl va k f) (fun s hs => ⟨hnw3 s (by rw [b3] at hs; exact hs), hF91 okk s (by rw [b3] at hs; exact hs)⟩) (fun z => br_f (by decide) (K0 hH okk (fun _ => z) nw3 hnw3)) (fun z => br_t rfl (K4 hH okk (fun w => z (w h)) _ _))))
      · rw [j0 h]
        exact br_t (by decide) (K0 hH okk (fun z => absurd z h) nw3 hnw3)
    · exact br_t rfl (K2 hH _ _)
  have key : ∀ d x, x + d = 4 → ∀ x5 nw, ((x5 = 1 ∧ ck_H hn fr tt tg ct pa va pl m mt k x f) ∨ (x5 = 0 ∧ ¬ ck_H hn fr tt tg ct pa va pl m mt k x f)) → (∀ s, s < 4 + va k → s ≠ 4 → nw s = nI (f s)) → wX_verdict_56 post (nI k) (nI (va k)) (a_now 4) (nI cn) (nI hn) f_met f_waiting f_tooMany (nI m) 1 f_why f_found f_objects f_high f_at f_here f_steps f_outcome f_last f_ran (d + 1) x5 (nI x) (aa_N pa) an (aa_N be) (aa_N op) ar (aa_N fr) (aa_N tt) (aa_N tg) (aa_N ct) a_keys a_heights a_faults a_table a_todo a_said a_sorted a_instruction a_values a_jumps a_caught a_caller a_mapped a_known a_types a_maps nw a_sort a_made a_number a_ready := by
    intro d
    induction d with
    | zero =>
      intro x hxd x5 nw h5 hnw
      have : x = 4 := by omega
      subst this
      exact br_t (by decide) (r123 x5 nw h5 hnw)
    | succ d ih =>
      intro x hxd x5 nw h5 hnw
      refine br_f (nI_ge (b := 4) (by omega) (by decide)) ?_
      rcases h5 with ⟨rfl, hH⟩ | ⟨rfl, hH⟩
      · have ex : (nI x).toNatClampNeg = x := nI_clamp (by omega)
        have e4 : (4 : Int32) * nI k + nI x = nI (4 * k + x) := by rw [show (4 : Int32) * nI k = nI (4 * k) from pk_mul 4 k, nI_add]
        have ec : (nI (4 * k + x)).toNatClampNeg = 4 * k + x := nI_clamp (by omega)
        have hin4 := vp_in_nI (n := 4 * k + x) (N := 160) (by omega) (by decide)
        obtain ⟨c1, c0⟩ := X.2.2.2 k x hk (by omega)
        have hct := (hx x).2.2.2
        refine br_f (by decide) ?_
        rw [e4, ec]
        refine And.intro hin4 ?_
        by_cases cv : x < hn ∧ pp_cv fr tt x (pl k % 25) = true
        · obtain ⟨b1, b2, b3⟩ := la_hand L hk cv.1 cv.2
          rw [c1 cv, ex]
          refine br_t (nI_pos' (by omega)) (And.intro (vp_in_nI (by omega) (by decide)) (nm_r (e' := upd nw 4 (nI (3 + ct x))) (by rw [show (3 : Int32) + aa_N ct x = nI (3 + ct x) from nI_add 3 (ct x), aa_nb (by omega)]) (And.intro hin4 ?_)))
          have hfr : ∀ s, s < 4 + va (ty_fi pl (kk_at (pl k) (tg x)) m) → upd nw 4 (nI (3 + ct x)) s = nI (aa_up f 4 (3 + ct x) s) ∧ aa_up f 4 (3 + ct x) s < 91 := by
            intro s hs
            rw [b3] at hs
            by_cases e : s = 4
            · rw [e, pk_us, aa_us]; exact ⟨rfl, by omega⟩
            · rw [pk_un e, aa_un e]; exact ⟨hnw s (by omega) e, (hf s (by omega)).2⟩
          have hnw2 : ∀ s, s < 4 + va k → s ≠ 4 → upd nw 4 (nI (3 + ct x)) s = nI (f s) := fun s hs e => by rw [pk_un e]; exact hnw s hs e
          refine xk_suits (mt := mt) (by rw [b3]; rfl) A m40 (la_V P M L b1).2.2 b1 hM hfr (fun z => nm_r (nI_1 x) (ih (x + 1) (by omega) 1 _ (Or.inl ⟨rfl, fun y hy hyn hyc => ?_⟩) hnw2)) (fun z => nm_r (nI_1 x) (ih (x + 1) (by omega) 0 _ (Or.inr ⟨rfl, fun w => z (w x (by omega) cv.1 cv.2)⟩) hnw2))
          rcases Nat.lt_or_ge y x with l | l
          · exact hH y l hyn hyc
          · have : y = x := by omega
            subst this; exact z
        · rw [c0 cv]
          refine br_f (by decide) (nm_r (nI_1 x) (ih (x + 1) (by omega) 1 nw (Or.inl ⟨rfl, fun y hy hyn hyc => hH y ?_ hyn hyc⟩) hnw))
          have : y ≠ x := fun e => cv (e ▸ ⟨hyn, hyc⟩)
          omega
      · refine br_t rfl (r123 0 nw (Or.inr ⟨rfl, fun w => hH (fun y hy => w y (by omega))⟩) hnw)
  exact nm_e ⟨5, key 4 0 (by omega) 1 a_now (Or.inl ⟨rfl, fun y hy => by omega⟩) (fun s hs _ => (hf s hs).1)⟩
end
end
section
/-! one pass: the reference's look; both sides in step; check -/
section
variable {pa : Nat → Nat} {o a k h m cr : Nat} {mk : Nat → Prop} {mc : Nat → Nat} {f : Nat → Nat}
theorem fr_f91 (ho : o < 20) (ht : aa_tk o ≤ h) (hk : k < 40) (ha : o = 2 ∨ o = 3 ∨ o = 16 → a < 4) (ha8 : o = 10 → a < 8) (hmc : ∀ p, o = 9 → p < m → mk p → mc p < 8) (ok : fr_ok pa o a k h m cr mk f) (hf : ∀ s, s < 4 + h → f s < 91) :
    ∀ s, s < 4 + (h - aa_tk o + aa_pt o) → fr_f o a k h mc f s < 91 := by
  intro s hs
  by_cases e : o = 8
  · subst e
    have t1 : aa_tk 8 = 0 := rfl
    have t2 : aa_pt 8 = 1 := rfl
    show aa_up (fun s => if s < 4 ∧ f s = 11 + k then 0 else f s) (4 + h) (11 + k) s < 91
    by_cases e : s = 4 + h
    · rw [e, aa_us]; omega
    · rw [aa_un e]
      have := hf s (by omega)
      split <;> omega
  · obtain ⟨a1, a2, a3, a4, a5, a6, a7, a8⟩ := ok
    have := (fr_src (mc := mc) ho ht hk ha ha8 hmc ⟨a1, a2, a4, a5, a6, a7, a8⟩ hf s hs).1
    have e' : fr_f o a k h mc f s = fr_fm o a k h mc f s := by unfold fr_f fr_fm; rw [if_neg e, if_neg e]
    rw [e']; exact this
end
section
variable {cn hn : Nat} {op fr tt tg ct pa be : Nat → Nat} {ar an : Nat → Int32}
variable {f_count f_handlers f_met f_waiting f_tooMany f_size f_height f_why f_found f_objects f_high f_at f_here f_steps f_outcome f_last f_ran : Int32} {a_parents a_ancestors a_begins a_ops a_operands a_froms a_tos a_targets a_catches a_keys a_heights a_faults a_table a_todo a_said a_sorted a_instruction a_values a_jumps a_caught a_caller a_mapped a_known a_types a_maps a_now a_sort a_made a_number a_ready : Nat → Int32}
variable {g_length g_handlers g_many g_there g_typed g_wrongNumber g_wrongPlace g_size g_why g_height g_objects g_line g_begun g_last g_end : Int32} {b_parent b_begin b_op b_arg b_from b_to b_target b_caught b_places b_heights b_gone b_worst b_frames b_maps b_high b_known b_mapped b_now b_sorts b_ints b_classes b_ready : Nat → Int32}
variable {m : Nat} {pl va : Nat → Nat} {mt : Nat → Nat → Nat}
theorem ck_F91 {k : Nat} {f : Nat → Nat} (P : pp_P cn hn op fr tt tg ct pa be ar) (L : la_L cn hn op fr tt tg ar m pl va) (hk : k < m) (hf : ∀ s, s < 4 + va k → f s < 91) (ok : ck_A pa op ar pl va m k f) : ∀ s, s < 4 + pp_lf op (pl k) (va k) → ck_F op ar pl va k f s < 91 := by
  have m40 := L.1
  exact fr_f91 (m := m) (mk := fun p => op (pl p % 25) = 8) (P.2.2.1 _) (la_tk L hk).1 (by omega) (fun z => (pp_g4 P z).2) (fun z => (pp_g8 P (Or.inr (Or.inl z))).2) (fun p _ hp hm => (pp_g8 P (Or.inl hm)).2) ok hf
theorem yk_look {post : Int32 → SY → Prop} {k : Nat} {f : Nat → Nat} (P : pp_P cn hn op fr tt tg ct pa be ar) (M : pp_M cn hn op tg ar) (L : la_L cn hn op fr tt tg ar m pl va) (yA : yl_A pl va m b_places b_high) (hM : ck_M m va mt b_maps) (hk : k < m) (hf : ∀ s, s < 4 + va k → b_now s = nI (f s) ∧ f s < 91)
    (K2 : ¬ ck_H hn fr tt tg ct pa va pl m mt k 4 f → ∀ hg nw, post 2 ((nI cn), (nI hn), (nI m), g_there, g_typed, g_wrongNumber, g_wrongPlace, hg, g_why, g_height, g_objects, g_line, g_begun, g_last, g_end, (aa_N pa), (aa_N be), (aa_N op), ar, (aa_N fr), (aa_N tt), (aa_N tg), (aa_N ct), b_places, b_heights, b_gone, b_worst, b_frames, b_maps, b_high, b_known, b_mapped, nw, b_sorts, b_ints, b_classes, b_ready)) (K3 : ck_H hn fr tt tg ct pa va pl m mt k 4 f → ¬ ck_A pa op ar pl va m k f → ∀ hg nw, post 3 ((nI cn), (nI hn), (nI m), g_there, g_typed, g_wrongNumber, g_wrongPlace, hg, g_why, g_height, g_objects, g_line, g_begun, g_last, g_end, (aa_N pa), (aa_N be), (aa_N op), ar, (aa_N fr), (aa_N tt), (aa_N tg), (aa_N ct), b_places, b_heights, b_gone, b_worst, b_frames, b_maps, b_high, b_known, b_mapped, nw, b_sorts, b_ints, b_classes, b_ready))
    (K4 : ck_H hn fr tt tg ct pa va pl m mt k 4 f → ck_A pa op ar pl va m k f → ¬ ck_J pa op ar pl va m mt k f → ∀ hg nw, post 4 ((nI cn), (nI hn), (nI m), g_there, g_typed, g_wrongNumber, g_wrongPlace, hg, g_why, g_height, g_objects, g_line, g_begun, g_last, g_end, (aa_N pa), (aa_N be), (aa_N op), ar, (aa_N fr), (aa_N tt), (aa_N tg), (aa_N ct), b_places, b_heights, b_gone, b_worst, b_frames, b_maps, b_high, b_known, b_mapped, nw, b_sorts, b_ints, b_classes, b_ready))
    (K0 : ck_H hn fr tt tg ct pa va pl m mt k 4 f → ck_A pa op ar pl va m k f → ck_J pa op ar pl va m mt k f → ∀ nw, (∀ s, s < 4 + pp_lf op (pl k) (va k) → nw s = nI (ck_F op ar pl va k f s)) → post 0 ((nI cn), (nI hn), (nI m), g_there, g_typed, g_wrongNumber, g_wrongPlace, (nI (pp_lf op (pl k) (va k))), g_why, g_height, g_objects, g_line, g_begun, g_last, g_end, (aa_N pa), (aa_N be), (aa_N op), ar, (aa_N fr), (aa_N tt), (aa_N tg), (aa_N ct), b_places, b_heights, b_gone, b_worst, b_frames, b_maps, b_high, b_known, b_mapped, nw, b_sorts, b_ints, b_classes, b_ready)) : wpY_look post ((nI cn), (nI hn), (nI m), g_there, g_typed, g_wrongNumber, g_wrongPlace, (nI (va k)), g_why, g_height, g_objects, g_line, g_begun, g_last, g_end, (aa_N pa), (aa_N be), (aa_N op), ar, (aa_N fr), (aa_N tt), (aa_N tg), (aa_N ct), b_places, b_heights, b_gone, b_worst, b_frames, b_maps, b_high, b_known, b_mapped, b_now, b_sorts, b_ints, b_classes, b_ready) (nI k) := by
  obtain ⟨hc, hh4, hop, hx, hpa, hbe, hfit⟩ := id P
  have m40 := L.1
  obtain ⟨v1, v2, v3⟩ := la_V P M L hk
  obtain ⟨h15, h16⟩ := la_16 L P M hk
  have ek : (nI k).toNatClampNeg = k := nI_clamp (by omega)
  have hin := vp_in_nI (n := k) (N := 41) (by omega) (by decide)
  have key : ∀ x4, (((aa_ld (op (pl k % 25)) = true ∨ op (pl k % 25) = 16) ∧ x4 = nI (kk_y (pp_to op ar (pl k)))) ∨ (¬ (aa_ld (op (pl k % 25)) = true ∨ op (pl k % 25) = 16) ∧ x4 = -1)) → ∀ d x, x + d = hn → ∀ nw, ck_H hn fr tt tg ct pa va pl m mt k x f → (∀ s, s < 4 + va k → nw s = nI (f s)) → wY_look_27 post (nI k) (nI (va k)) (b_now 4) x4 (nI cn) (nI hn) (nI m) g_there g_typed g_wrongNumber g_wrongPlace g_why g_height g_objects g_line g_begun g_last g_end (d + 1) (nI x) (nI (va k)) (aa_N pa) (aa_N be) (aa_N op) ar (aa_N fr) (aa_N tt) (aa_N tg) (aa_N ct) b_places b_heights b_gone b_worst b_frames b_maps b_high b_known b_mapped nw b_sorts b_ints b_classes b_ready := by
    intro x4 hx4 d
    induction d with
    | zero =>
      intro x hxd nw hH hnw
      have hH4 : ck_H hn fr tt tg ct pa va pl m mt k 4 f := fun y _ hy hc => hH y (by omega) hy hc
      refine br_t (nI_le (by omega) (by omega)) (ya_does P M L hk (fun p hp => (yA p hp).1) (fun s hs => ⟨hnw s hs, (hf s hs).2⟩) (fun okk nw3 hnw3 => br_f (by decide) ?_) (fun nok hh nw3 => br_t rfl (K3 hH4 nok _ _)))
      have F91 := ck_F91 P L hk (fun s hs => (hf s hs).2) okk
      rcases hx4 with ⟨h, rfl⟩ | ⟨h, rfl⟩
      · obtain ⟨b1, b2, b3⟩ := la_jump L hk h
        have hv' : kk_V (pp_to op ar (pl k)) := by rw [← b2]; exact (la_V P M L b1).1
        have := kk_ylt hv'
        exact br_f (nI_pos (by omega)) (yk_isUnder (mt := mt) (by rw [b3]) hpa m40 L.2.2.1 yA (la_V P M L b1).2.2 b1 b2 hM (f := ck_F op ar pl va k f) (fun s hs => ⟨hnw3 s (by rw [b3] at hs; exact hs), F91 s (by rw [b3] at hs; exact hs)⟩) (fun z => br_f (by decide) (K0 hH4 okk (fun _ => z) nw3 hnw3)) (fun z => br_t rfl (K4 hH4 okk (fun w => z (w h)) _ _)))
      · exact br_t (by decide) (K0 hH4 okk (fun z => absurd z h) nw3 hnw3)
    | succ d ih =>
      intro x hxd nw hH hnw
      have ex : (nI x).toNatClampNeg = x := nI_clamp (by omega)
      have hinx := vp_in_nI (n := x) (N := 4) (by omega) (by decide)
      have hct := (hx x).2.2.2
      have hback : ∀ s, s < 4 + va k → upd (upd nw 4 (nI (3 + ct x))) 4 (b_now 4) s = nI (f s) := by
        intro s hs
        by_cases e : s = 4
        · rw [e, pk_us]; rw [e] at hs; exact (hf 4 hs).1
        · rw [pk_un e, pk_un e]; exact hnw s hs
      refine br_f (nI_ge (by omega) (by omega)) (And.intro hinx (nm_r (e' := upd nw 4 (nI (3 + ct x))) (by rw [ex]; exact congrArg (upd nw 4) (nI_add 3 (ct x))) (And.intro hin (And.intro hinx ?_))))
      rw [ek, ex, (yA k hk).1]
      refine yy_at v1 (hx x).2.2.1 (And.intro hin (yy_covers (by omega) v1 (hx x).1 (hx x).2.1 ?_))
      have next : (pp_cv fr tt x (pl k % 25) = true → ck_U pa va mt (ty_fi pl (kk_at (pl k) (tg x)) m) (aa_up f 4 (3 + ct x))) → ck_H hn fr tt tg ct pa va pl m mt k (x + 1) f := fun h y hy hyn hyc => by
        rcases Nat.lt_or_ge y x with l | l
        · exact hH y l hyn hyc
        · have : y = x := by omega
          subst this; exact h hyc
      by_cases c : pp_cv fr tt x (pl k % 25) = true
      · rw [c]
        obtain ⟨b1, b2, b3⟩ := la_hand L hk (by omega) c
        refine br_f (by decide) (yk_isUnder (mt := mt) (by rw [b3]; rfl) hpa m40 L.2.2.1 yA (la_V P M L b1).2.2 b1 b2 hM (f := aa_up f 4 (3 + ct x)) (fun s hs => ?_) (fun z => br_f (by decide) ?_) (fun z => br_t rfl ?_))
        · rw [b3] at hs
          by_cases e : s = 4
          · rw [e, pk_us, aa_us]; exact ⟨rfl, by omega⟩
          · rw [pk_un e, aa_un e]; exact ⟨hnw s (by omega), (hf s (by omega)).2⟩
        · exact nm_e (br_f (by decide) (nm_r (nI_1 x) (ih (x + 1) (by omega) _ (next (fun _ => z)) hback)))
        · exact nm_e (br_t rfl (K2 (fun w => z (w x (by omega) (by omega) c)) _ _))
      · rw [ts_nt c]
        exact br_t (by decide) (nm_e (br_f (by decide) (nm_r (nI_1 x) (ih (x + 1) (by omega) _ (next (fun w => absurd w c)) hback))))
  refine nm_e (And.intro hin ?_)
  rw [ek, (yA k hk).1]
  exact yy_led P v1 h15 h16 (fun h => ⟨hn + 1, key _ (Or.inl ⟨h, rfl⟩) hn 0 (by omega) b_now (fun y hy => by omega) (fun s hs => (hf s hs).1)⟩) (fun h => ⟨hn + 1, key _ (Or.inr ⟨h, rfl⟩) hn 0 (by omega) b_now (fun y hy => by omega) (fun s hs => (hf s hs).1)⟩)
/-- the component at one place -/
theorem xk_verdict {post : Int32 → SX → Prop} {k : Nat} {b : Bool} {f : Nat → Nat} {hg : Int32} (P : pp_P cn hn op fr tt tg ct pa be ar) (M : pp_M cn hn op tg ar) (L : la_L cn hn op fr tt tg ar m pl va) (A : xa_A pa an) (X : xl_A hn op fr tt tg pl ar va m a_instruction a_values a_jumps a_caught a_caller) (hM : ck_M m va mt a_maps) (hmp : mp_A m (la_mp hn op fr tt tg ar pl m m) a_mapped) (hk : k < m)
    (hb : b = true → hg = nI (va k) ∧ ∀ s, s < 4 + va k → a_now s = nI (f s) ∧ f s < 91) (hnb : b = false → la_mp hn op fr tt tg ar pl m m k)
    (K1 : la_mp hn op fr tt tg ar pl m m k → b = true → ¬ ck_U pa va mt k f → ∀ hg nw, post 1 ((nI cn), (nI hn), f_met, f_waiting, f_tooMany, (nI m), hg, f_why, f_found, f_objects, f_high, f_at, f_here, f_steps, f_outcome, f_last, f_ran, (aa_N pa), an, (aa_N be), (aa_N op), ar, (aa_N fr), (aa_N tt), (aa_N tg), (aa_N ct), a_keys, a_heights, a_faults, a_table, a_todo, a_said, a_sorted, a_instruction, a_values, a_jumps, a_caught, a_caller, a_mapped, a_known, a_types, a_maps, nw, a_sort, a_made, a_number, a_ready))
    (K : ∀ hg nw ff, (la_mp hn op fr tt tg ar pl m m k → ff = mt k ∧ (b = true → ck_U pa va mt k f)) → (¬ la_mp hn op fr tt tg ar pl m m k → b = true ∧ ff = f) → (∀ s, s < 4 + va k → nw s = nI (ff s) ∧ ff s < 91) → hg = nI (va k) → wX_verdict_32 post (nI k) (nI cn) (nI hn) f_met f_waiting f_tooMany (nI m) hg f_why f_found f_objects f_high f_at f_here f_steps f_outcome f_last f_ran (aa_N pa) an (aa_N be) (aa_N op) ar (aa_N fr) (aa_N tt) (aa_N tg) (aa_N ct) a_keys a_heights a_faults a_table a_todo a_said a_sorted a_instruction a_values a_jumps a_caught a_caller a_mapped a_known a_types a_maps nw a_sort a_made a_number a_ready) : wpX_verdict post ((nI cn), (nI hn), f_met, f_waiting, f_tooMany, (nI m), hg, f_why, f_found, f_objects, f_high, f_at, f_here, f_steps, f_outcome, f_last, f_ran, (aa_N pa), an, (aa_N be), (aa_N op), ar, (aa_N fr), (aa_N tt), (aa_N tg), (aa_N ct), a_keys, a_heights, a_faults, a_table, a_todo, a_said, a_sorted, a_instruction, a_values, a_jumps, a_caught, a_caller, a_mapped, a_known, a_types, a_maps, a_now, a_sort, a_made, a_number, a_ready) (nI k) (nI (aa_b2 b)) := by
  have m40 := L.1
  obtain ⟨v1, v2, v3⟩ := la_V P M L hk
  have ek : (nI k).toNatClampNeg = k := nI_clamp (by omega)
  obtain ⟨q1, q0⟩ := hmp k hk
  refine And.intro (vp_in_nI (by omega) (by decide)) ?_
  rw [ek]
  by_cases h : la_mp hn op fr tt tg ar pl m m k
  · rw [q1 h]
    refine br_f (by decide) ?_
    have r23 : (b = true → ck_U pa va mt k f) → wX_verdict_23 post (nI k) (nI cn) (nI hn) f_met f_waiting f_tooMany (nI m) hg f_why f_found f_objects f_high f_at f_here f_steps f_outcome f_last f_ran (aa_N pa) an (aa_N be) (aa_N op) ar (aa_N fr) (aa_N tt) (aa_N tg) (aa_N ct) a_keys a_heights a_faults a_table a_todo a_said a_sorted a_instruction a_values a_jumps a_caught a_caller a_mapped a_known a_types a_maps a_now a_sort a_made a_number a_ready := by
      intro hU
      unfold wX_verdict_23
      exact xg_take_maps (h := va k) (f := mt k) (by omega) v3 (X.1 k hk).2 (fun s hs => hM k s hk hs) (fun nw hnw => K _ nw (mt k) (fun _ => ⟨rfl, hU⟩) (fun z => absurd h z) (fun s hs => ⟨hnw s hs, (hM k s hk hs).2⟩) rfl)
    cases b with
    | false => exact br_t rfl (r23 (fun z => absurd z (by decide)))
    | true =>
      obtain ⟨e1, e2⟩ := hb rfl
      exact br_f (by decide) (xk_suits (mt := mt) e1 A m40 v3 hk hM e2 (fun z => br_f (by decide) (r23 (fun _ => z))) (fun z => br_t rfl (K1 h rfl z _ _)))
  · rw [q0 h]
    have hbt : b = true := by
      cases b with
      | false => exact absurd (hnb rfl) h
      | true => rfl
    obtain ⟨e1, e2⟩ := hb hbt
    exact br_t rfl (K hg a_now f (fun z => absurd z h) (fun _ => ⟨hbt, rfl⟩) e2 e1)
/-- the reference at one place -/
theorem yk_place {post : Int32 → SY → Prop} {k n : Nat} {b : Bool} {f : Nat → Nat} {hg : Int32} (P : pp_P cn hn op fr tt tg ct pa be ar) (M : pp_M cn hn op tg ar) (L : la_L cn hn op fr tt tg ar m pl va) (yA : yl_A pl va m b_places b_high) (hM : ck_M m va mt b_maps) (hmp : mp_A m (la_mp hn op fr tt tg ar pl m m) b_mapped) (hk : k < m)
    (hb : b = true → hg = nI (va k) ∧ ∀ s, s < 4 + va k → b_now s = nI (f s) ∧ f s < 91) (hnb : b = false → la_mp hn op fr tt tg ar pl m m k)
    (K1 : la_mp hn op fr tt tg ar pl m m k → b = true → ¬ ck_U pa va mt k f → ∀ hg nw, post (nI k) ((nI cn), (nI hn), (nI m), g_there, g_typed, g_wrongNumber, g_wrongPlace, hg, 1, g_height, g_objects, g_line, g_begun, g_last, g_end, (aa_N pa), (aa_N be), (aa_N op), ar, (aa_N fr), (aa_N tt), (aa_N tg), (aa_N ct), b_places, b_heights, b_gone, b_worst, b_frames, b_maps, b_high, b_known, b_mapped, nw, b_sorts, b_ints, b_classes, b_ready))
    (K : ∀ hg nw ff, (la_mp hn op fr tt tg ar pl m m k → ff = mt k ∧ (b = true → ck_U pa va mt k f)) → (¬ la_mp hn op fr tt tg ar pl m m k → b = true ∧ ff = f) → (∀ s, s < 4 + va k → nw s = nI (ff s) ∧ ff s < 91) → hg = nI (va k) → wY_check_71 post (wY_check_23 post n) (nI k) (nI cn) (nI hn) (nI m) g_there g_typed g_wrongNumber g_wrongPlace hg 0 g_height g_objects g_line g_begun g_last g_end (aa_N pa) (aa_N be) (aa_N op) ar (aa_N fr) (aa_N tt) (aa_N tg) (aa_N ct) b_places b_heights b_gone b_worst b_frames b_maps b_high b_known b_mapped nw b_sorts b_ints b_classes b_ready) : wY_check_23 post (n + 1) (nI (aa_b2 b)) (nI k) (nI cn) (nI hn) (nI m) g_there g_typed g_wrongNumber g_wrongPlace hg 0 g_height g_objects g_line g_begun g_last g_end (aa_N pa) (aa_N be) (aa_N op) ar (aa_N fr) (aa_N tt) (aa_N tg) (aa_N ct) b_places b_heights b_gone b_worst b_frames b_maps b_high b_known b_mapped b_now b_sorts b_ints b_classes b_ready := by
  have m40 := L.1
  obtain ⟨v1, v2, v3⟩ := la_V P M L hk
  have ek : (nI k).toNatClampNeg = k := nI_clamp (by omega)
  have hin := vp_in_nI (n := k) (N := 41) (by omega) (by decide)
  obtain ⟨q1, q0⟩ := hmp k hk
  refine br_f (nI_ge hk (by omega)) (And.intro hin ?_)
  rw [ek]
  by_cases h : la_mp hn op fr tt tg ar pl m m k
  · rw [q1 h]
    refine br_f (by decide) ?_
    have r62 : (b = true → ck_U pa va mt k f) → wY_check_62 post (wY_check_23 post n) (nI k) (nI cn) (nI hn) (nI m) g_there g_typed g_wrongNumber g_wrongPlace hg 0 g_height g_objects g_line g_begun g_last g_end (aa_N pa) (aa_N be) (aa_N op) ar (aa_N fr) (aa_N tt) (aa_N tg) (aa_N ct) b_places b_heights b_gone b_worst b_frames b_maps b_high b_known b_mapped b_now b_sorts b_ints b_classes b_ready := by
      intro hU
      unfold wY_check_62
      exact yt_take_maps (h := va k) (f := mt k) (by omega) v3 (yA k hk).2.2 (fun s hs => hM k s hk hs) (fun nw hnw => K _ nw (mt k) (fun _ => ⟨rfl, hU⟩) (fun z => absurd h z) (fun s hs => ⟨hnw s hs, (hM k s hk hs).2⟩) rfl)
    cases b with
    | false => exact br_t rfl (r62 (fun z => absurd z (by decide)))
    | true =>
      obtain ⟨e1, e2⟩ := hb rfl
      refine br_f (by decide) (And.intro hin ?_)
      rw [(yA k hk).1]
      refine yk_isUnder (mt := mt) e1 P.2.2.2.2.1 m40 L.2.2.1 yA v3 hk rfl hM e2 (fun z => br_f (by decide) (r62 (fun _ => z))) (fun z => br_t rfl ?_)
      unfold wY_check_62
      exact yt_take_maps (h := va k) (f := mt k) (by omega) v3 (yA k hk).2.2 (fun s hs => hM k s hk hs) (fun nw hnw => br_f (by decide) (br_f (by decide) (K1 h rfl z _ nw)))
  · rw [q0 h]
    have hbt : b = true := by
      cases b with
      | false => exact absurd (hnb rfl) h
      | true => rfl
    obtain ⟨e1, e2⟩ := hb hbt
    exact br_t rfl (K hg b_now f (fun z => absurd z h) (fun _ => ⟨hbt, rfl⟩) e2 e1)
/-- the two passes in step: one outcome -/
theorem ck_both (P : pp_P cn hn op fr tt tg ct pa be ar) (M : pp_M cn hn op tg ar) (L : la_L cn hn op fr tt tg ar m pl va) (A : xa_A pa an) (X : xl_A hn op fr tt tg pl ar va m a_instruction a_values a_jumps a_caught a_caller) (yA : yl_A pl va m b_places b_high) (hM : ck_M m va mt a_maps) (hM' : ck_M m va mt b_maps) (hmp : mp_A m (la_mp hn op fr tt tg ar pl m m) a_mapped) (hmp' : mp_A m (la_mp hn op fr tt tg ar pl m m) b_mapped) :
    ∀ d k, k + d = m → ∀ (b : Bool) (f : Nat → Nat), (b = true → k < m → ∀ s, s < 4 + va k → f s < 91) → (b = false → k < m → la_mp hn op fr tt tg ar pl m m k) → ∃ r w : Int32,
      (∀ (post : Int32 → SX → Prop) hg nw, (b = true → k < m → hg = nI (va k) ∧ ∀ s, s < 4 + va k → nw s = nI (f s)) → (∀ hg' nw', post r ((nI cn), (nI hn), f_met, f_waiting, f_tooMany, (nI m), hg', w, f_found, f_objects, f_high, f_at, f_here, f_steps, f_outcome, f_last, f_ran, (aa_N pa), an, (aa_N be), (aa_N op), ar, (aa_N fr), (aa_N tt), (aa_N tg), (aa_N ct), a_keys, a_heights, a_faults, a_table, a_todo, a_said, a_sorted, a_instruction, a_values, a_jumps, a_caught, a_caller, a_mapped, a_known, a_types, a_maps, nw', a_sort, a_made, a_number, a_ready)) → wX_check_49 post (d + 1) (nI (aa_b2 b)) (nI k) (nI cn) (nI hn) f_met f_waiting f_tooMany (nI m) hg 0 f_found f_objects f_high f_at f_here f_steps f_outcome f_last f_ran (aa_N pa) an (aa_N be) (aa_N op) ar (aa_N fr) (aa_N tt) (aa_N tg) (aa_N ct) a_keys a_heights a_faults a_table a_todo a_said a_sorted a_instruction a_values a_jumps a_caught a_caller a_mapped a_known a_types a_maps nw a_sort a_made a_number a_ready) ∧
      (∀ (post : Int32 → SY → Prop) hg nw, (b = true → k < m → hg = nI (va k) ∧ ∀ s, s < 4 + va k → nw s = nI (f s)) → (∀ hg' nw', post r ((nI cn), (nI hn), (nI m), g_there, g_typed, g_wrongNumber, g_wrongPlace, hg', w, g_height, g_objects, g_line, g_begun, g_last, g_end, (aa_N pa), (aa_N be), (aa_N op), ar, (aa_N fr), (aa_N tt), (aa_N tg), (aa_N ct), b_places, b_heights, b_gone, b_worst, b_frames, b_maps, b_high, b_known, b_mapped, nw', b_sorts, b_ints, b_classes, b_ready)) → wY_check_23 post (d + 1) (nI (aa_b2 b)) (nI k) (nI cn) (nI hn) (nI m) g_there g_typed g_wrongNumber g_wrongPlace hg 0 g_height g_objects g_line g_begun g_last g_end (aa_N pa) (aa_N be) (aa_N op) ar (aa_N fr) (aa_N tt) (aa_N tg) (aa_N ct) b_places b_heights b_gone b_worst b_frames b_maps b_high b_known b_mapped nw b_sorts b_ints b_classes b_ready) := by
  have m40 := L.1
  intro d
  induction d with
  | zero =>
    intro k hkd b f _ _
    have : k = m := by omega
    subst this
    refine ⟨-1, 0, fun post hg nw _ hp => br_t (nI_le (Nat.le_refl _) (by omega)) (hp _ _), fun post hg nw _ hp => br_t (nI_le (Nat.le_refl _) (by omega)) (hp _ _)⟩
  | succ d ih =>
    intro k hkd b f hb91 hnb
    have hk : k < m := by omega
    obtain ⟨v1, v2, v3⟩ := la_V P M L hk
    have ek : (nI k).toNatClampNeg = k := nI_clamp (by omega)
    have ei : (nI (pl k % 25)).toNatClampNeg = pl k % 25 := nI_clamp (by omega)
    have hc24 := P.1
    have hnb' : b = false → la_mp hn op fr tt tg ar pl m m k := fun z => hnb z hk
    -- the frame behind the entry
    have frame : ∃ ff : Nat → Nat, (la_mp hn op fr tt tg ar pl m m k → ff = mt k) ∧ (¬ la_mp hn op fr tt tg ar pl m m k → ff = f) := by
      by_cases h : la_mp hn op fr tt tg ar pl m m k
      · exact ⟨mt k, fun _ => rfl, fun z => absurd h z⟩
      · exact ⟨f, fun z => absurd z h, fun _ => rfl⟩
    obtain ⟨ff, ff1, ff0⟩ := frame
    have uniq : ∀ g, (la_mp hn op fr tt tg ar pl m m k → g = mt k ∧ (b = true → ck_U pa va mt k f)) → (¬ la_mp hn op fr tt tg ar pl m m k → b = true ∧ g = f) → g = ff := fun g h1 h0 => by
      by_cases h : la_mp hn op fr tt tg ar pl m m k
      · rw [ff1 h]; exact (h1 h).1
      · rw [ff0 h]; exact (h0 h).2
    have ff91 : ∀ s, s < 4 + va k → ff s < 91 := fun s hs => by
      by_cases h : la_mp hn op fr tt tg ar pl m m k
      · rw [ff1 h]; exact (hM k s hk hs).2
      · rw [ff0 h]
        cases b with
        | false => exact absurd (hnb' rfl) h
        | true => exact hb91 rfl hk s hs
    -- how a place that fails, or that doesn't, ends
    have xend : ∀ (w : Int32), ¬ w ≤ 0 → ∀ (post : Int32 → SX → Prop) hg nw, (∀ hg' nw', post (nI k) ((nI cn), (nI hn), f_met, f_waiting, f_tooMany, (nI m), hg', w, f_found, f_objects, f_high, f_at, f_here, f_steps, f_outcome, f_last, f_ran, (aa_N pa), an, (aa_N be), (aa_N op), ar, (aa_N fr), (aa_N tt), (aa_N tg), (aa_N ct), a_keys, a_heights, a_faults, a_table, a_todo, a_said, a_sorted, a_instruction, a_values, a_jumps, a_caught, a_caller, a_mapped, a_known, a_types, a_maps, nw', a_sort, a_made, a_number, a_ready)) → ((w ≤ 0 → vp_in (nI k) 40 ∧ (vp_in (a_instruction (nI k).toNatClampNeg) 24 ∧ wpX_falls (fun r_55 => ∀ x2_56 : Int32, x2_56 = nI k + 1 → wX_check_49 post (d + 1) r_55 x2_56 (nI cn) (nI hn) f_met f_waiting f_tooMany (nI m) hg w f_found f_objects f_high f_at f_here f_steps f_outcome f_last f_ran (aa_N pa) an (aa_N be) (aa_N op) ar (aa_N fr) (aa_N tt) (aa_N tg) (aa_N ct) a_keys a_heights a_faults a_table a_todo a_said a_sorted a_instruction a_values a_jumps a_caught a_caller a_mapped a_known a_types a_maps nw a_sort a_made a_number a_ready) (aa_N op (a_instruction (nI k).toNatClampNeg).toNatClampNeg))) ∧ (¬ w ≤ 0 → post (nI k) ((nI cn), (nI hn), f_met, f_waiting, f_tooMany, (nI m), hg, w, f_found, f_objects, f_high, f_at, f_here, f_steps, f_outcome, f_last, f_ran, (aa_N pa), an, (aa_N be), (aa_N op), ar, (aa_N fr), (aa_N tt), (aa_N tg), (aa_N ct), a_keys, a_heights, a_faults, a_table, a_todo, a_said, a_sorted, a_instruction, a_values, a_jumps, a_caught, a_caller, a_mapped, a_known, a_types, a_maps, nw, a_sort, a_made, a_number, a_ready))) := fun w hw post hg nw hp => br_f hw (hp _ _)
    by_cases E : la_mp hn op fr tt tg ar pl m m k ∧ b = true ∧ ¬ ck_U pa va mt k f
    · refine ⟨nI k, 1, fun post hg nw hfr hp => ?_, fun post hg nw hfr hp => ?_⟩
      · refine br_f (nI_ge hk (by omega)) (xk_verdict (mt := mt) (f := f) P M L A X hM hmp hk (fun z => ⟨(hfr z hk).1, fun s hs => ⟨(hfr z hk).2 s hs, hb91 z hk s hs⟩⟩) hnb' (fun _ _ _ hg' nw' => xend 1 (by decide) post hg' nw' hp) (fun hg' nw' g g1 g0 _ _ => absurd ((g1 E.1).2 E.2.1) E.2.2))
      · exact yk_place (mt := mt) (f := f) P M L yA hM' hmp' hk (fun z => ⟨(hfr z hk).1, fun s hs => ⟨(hfr z hk).2 s hs, hb91 z hk s hs⟩⟩) hnb' (fun _ _ _ hg' nw' => hp hg' nw') (fun hg' nw' g g1 g0 _ _ => absurd ((g1 E.1).2 E.2.1) E.2.2)
    · have F91 := ck_F91 P L hk ff91
      -- one place that is wrong behind the entry, with its number
      have bad : ∀ w : Int32, ¬ w ≤ 0 → ¬ w = 0 → (∀ (post : Int32 → SX → Prop) nw, (∀ s, s < 4 + va k → nw s = nI (ff s) ∧ ff s < 91) → (∀ hg' nw', post w ((nI cn), (nI hn), f_met, f_waiting, f_tooMany, (nI m), hg', 0, f_found, f_objects, f_high, f_at, f_here, f_steps, f_outcome, f_last, f_ran, (aa_N pa), an, (aa_N be), (aa_N op), ar, (aa_N fr), (aa_N tt), (aa_N tg), (aa_N ct), a_keys, a_heights, a_faults, a_table, a_todo, a_said, a_sorted, a_instruction, a_values, a_jumps, a_caught, a_caller, a_mapped, a_known, a_types, a_maps, nw', a_sort, a_made, a_number, a_ready)) → wX_verdict_32 post (nI k) (nI cn) (nI hn) f_met f_waiting f_tooMany (nI m) (nI (va k)) 0 f_found f_objects f_high f_at f_here f_steps f_outcome f_last f_ran (aa_N pa) an (aa_N be) (aa_N op) ar (aa_N fr) (aa_N tt) (aa_N tg) (aa_N ct) a_keys a_heights a_faults a_table a_todo a_said a_sorted a_instruction a_values a_jumps a_caught a_caller a_mapped a_known a_types a_maps nw a_sort a_made a_number a_ready) → (∀ (post : Int32 → SY → Prop) nw, (∀ s, s < 4 + va k → nw s = nI (ff s) ∧ ff s < 91) → (∀ hg' nw', post w ((nI cn), (nI hn), (nI m), g_there, g_typed, g_wrongNumber, g_wrongPlace, hg', 0, g_height, g_objects, g_line, g_begun, g_last, g_end, (aa_N pa), (aa_N be), (aa_N op), ar, (aa_N fr), (aa_N tt), (aa_N tg), (aa_N ct), b_places, b_heights, b_gone, b_worst, b_frames, b_maps, b_high, b_known, b_mapped, nw', b_sorts, b_ints, b_classes, b_ready)) → wpY_look post ((nI cn), (nI hn), (nI m), g_there, g_typed, g_wrongNumber, g_wrongPlace, (nI (va k)), 0, g_height, g_objects, g_line, g_begun, g_last, g_end, (aa_N pa), (aa_N be), (aa_N op), ar, (aa_N fr), (aa_N tt), (aa_N tg), (aa_N ct), b_places, b_heights, b_gone, b_worst, b_frames, b_maps, b_high, b_known, b_mapped, nw, b_sorts, b_ints, b_classes, b_ready) (nI k)) → ∃ r w : Int32,
          (∀ (post : Int32 → SX → Prop) hg nw, (b = true → k < m → hg = nI (va k) ∧ ∀ s, s < 4 + va k → nw s = nI (f s)) → (∀ hg' nw', post r ((nI cn), (nI hn), f_met, f_waiting, f_tooMany, (nI m), hg', w, f_found, f_objects, f_high, f_at, f_here, f_steps, f_outcome, f_last, f_ran, (aa_N pa), an, (aa_N be), (aa_N op), ar, (aa_N fr), (aa_N tt), (aa_N tg), (aa_N ct), a_keys, a_heights, a_faults, a_table, a_todo, a_said, a_sorted, a_instruction, a_values, a_jumps, a_caught, a_caller, a_mapped, a_known, a_types, a_maps, nw', a_sort, a_made, a_number, a_ready)) → wX_check_49 post (d + 1 + 1) (nI (aa_b2 b)) (nI k) (nI cn) (nI hn) f_met f_waiting f_tooMany (nI m) hg 0 f_found f_objects f_high f_at f_here f_steps f_outcome f_last f_ran (aa_N pa) an (aa_N be) (aa_N op) ar (aa_N fr) (aa_N tt) (aa_N tg) (aa_N ct) a_keys a_heights a_faults a_table a_todo a_said a_sorted a_instruction a_values a_jumps a_caught a_caller a_mapped a_known a_types a_maps nw a_sort a_made a_number a_ready) ∧
          (∀ (post : Int32 → SY → Prop) hg nw, (b = true → k < m → hg = nI (va k) ∧ ∀ s, s < 4 + va k → nw s = nI (f s)) → (∀ hg' nw', post r ((nI cn), (nI hn), (nI m), g_there, g_typed, g_wrongNumber, g_wrongPlace, hg', w, g_height, g_objects, g_line, g_begun, g_last, g_end, (aa_N pa), (aa_N be), (aa_N op), ar, (aa_N fr), (aa_N tt), (aa_N tg), (aa_N ct), b_places, b_heights, b_gone, b_worst, b_frames, b_maps, b_high, b_known, b_mapped, nw', b_sorts, b_ints, b_classes, b_ready)) → wY_check_23 post (d + 1 + 1) (nI (aa_b2 b)) (nI k) (nI cn) (nI hn) (nI m) g_there g_typed g_wrongNumber g_wrongPlace hg 0 g_height g_objects g_line g_begun g_last g_end (aa_N pa) (aa_N be) (aa_N op) ar (aa_N fr) (aa_N tt) (aa_N tg) (aa_N ct) b_places b_heights b_gone b_worst b_frames b_maps b_high b_known b_mapped nw b_sorts b_ints b_classes b_ready) := by
        intro w hw hw0 hx hy
        refine ⟨nI k, w, fun post hg nw hfr hp => ?_, fun post hg nw hfr hp => ?_⟩
        · refine br_f (nI_ge hk (by omega)) (xk_verdict (mt := mt) (f := f) P M L A X hM hmp hk (fun z => ⟨(hfr z hk).1, fun s hs => ⟨(hfr z hk).2 s hs, hb91 z hk s hs⟩⟩) hnb' (fun h1 h2 h3 => absurd ⟨h1, h2, h3⟩ E) (fun hg' nw' g g1 g0 hnw' e => ?_))
          subst e
          have := uniq g g1 g0
          subst this
          exact hx _ nw' hnw' (fun hg'' nw'' => xend w hw post hg'' nw'' hp)
        · refine yk_place (mt := mt) (f := f) P M L yA hM' hmp' hk (fun z => ⟨(hfr z hk).1, fun s hs => ⟨(hfr z hk).2 s hs, hb91 z hk s hs⟩⟩) hnb' (fun h1 h2 h3 => absurd ⟨h1, h2, h3⟩ E) (fun hg' nw' g g1 g0 hnw' e => ?_)
          subst e
          have := uniq g g1 g0
          subst this
          exact br_t rfl (hy _ nw' hnw' (fun hg'' nw'' => br_f hw (hp _ _)))
      by_cases H : ck_H hn fr tt tg ct pa va pl m mt k 4 ff
      · by_cases Aok : ck_A pa op ar pl va m k ff
        · by_cases J : ck_J pa op ar pl va m mt k ff
          · -- the next place
            obtain ⟨r, w, hx, hy⟩ := ih (k + 1) (by omega) (aa_fl (op (pl k % 25))) (ck_F op ar pl va k ff) (fun z hk' s hs => by
              obtain ⟨b1, b2, b3⟩ := la_fall L hk z
              rw [b3] at hs; exact F91 Aok s hs) (fun z hk' => by
              rcases la_from L hk' with y | y | ⟨j, y1, y2⟩
              · omega
              · exact y
              · have : j = k := by omega
                rw [this, z] at y2; exact absurd y2 (by decide))
            refine ⟨r, w, fun post hg nw hfr hp => ?_, fun post hg nw hfr hp => ?_⟩
            · refine br_f (nI_ge hk (by omega)) (xk_verdict (mt := mt) (f := f) P M L A X hM hmp hk (fun z => ⟨(hfr z hk).1, fun s hs => ⟨(hfr z hk).2 s hs, hb91 z hk s hs⟩⟩) hnb' (fun h1 h2 h3 => absurd ⟨h1, h2, h3⟩ E) (fun hg' nw' g g1 g0 hnw' e => ?_))
              subst e
              have := uniq g g1 g0
              subst this
              refine xk_32 (mt := mt) P M L A X hM hk hnw' (fun z => absurd H z) (fun _ z => absurd Aok z) (fun _ _ z => absurd J z) (fun _ _ _ nw'' hnw'' => br_t (by decide) (And.intro (vp_in_nI (by omega) (by decide)) ?_)) F91
              rw [ek, (X.1 k hk).1, ei]
              refine And.intro (vp_in_nI (by omega) (by decide)) (xx_falls (P.2.2.1 _) (nm_r (nI_1 k) (hx post _ nw'' (fun z hk' => ?_) hp)))
              obtain ⟨b1, b2, b3⟩ := la_fall L hk z
              exact ⟨by rw [b3], fun s hs => hnw'' s (by rw [b3] at hs; exact hs)⟩
            · refine yk_place (mt := mt) (f := f) P M L yA hM' hmp' hk (fun z => ⟨(hfr z hk).1, fun s hs => ⟨(hfr z hk).2 s hs, hb91 z hk s hs⟩⟩) hnb' (fun h1 h2 h3 => absurd ⟨h1, h2, h3⟩ E) (fun hg' nw' g g1 g0 hnw' e => ?_)
              subst e
              have := uniq g g1 g0
              subst this
              refine br_t rfl (yk_look (mt := mt) P M L yA hM' hk hnw' (fun z => absurd H z) (fun _ z => absurd Aok z) (fun _ _ z => absurd J z) (fun _ _ _ nw'' hnw'' => br_t (by decide) (And.intro (vp_in_nI (by omega) (by decide)) ?_)))
              rw [ek, (yA k hk).1]
              have yl := kk_ylt v1
              have fin := hy post _ nw'' (fun z hk' => by
                obtain ⟨b1, b2, b3⟩ := la_fall L hk z
                exact ⟨by rw [b3], fun s hs => hnw'' s (by rw [b3] at hs; exact hs)⟩) hp
              refine yy_behind v1 (P.2.2.1 _) (fun fl => br_f (nI_pos (by omega)) (nm_r (nI_1 k) ?_)) (fun fl => br_t (by decide) (nm_r (nI_1 k) ?_))
              · rw [fl] at fin; exact fin
              · rw [fl] at fin; exact fin
          · refine bad 4 (by decide) (by decide) (fun post nw hnw hp => xk_32 (mt := mt) P M L A X hM hk hnw (fun z => absurd H z) (fun _ z => absurd Aok z) (fun _ _ _ hg' nw' => hp hg' nw') (fun _ _ z => absurd z J) F91) (fun post nw hnw hp => yk_look (mt := mt) P M L yA hM' hk hnw (fun z => absurd H z) (fun _ z => absurd Aok z) (fun _ _ _ hg' nw' => hp hg' nw') (fun _ _ z => absurd z J))
        · refine bad 3 (by decide) (by decide) (fun post nw hnw hp => xk_32 (mt := mt) P M L A X hM hk hnw (fun z => absurd H z) (fun _ _ hg' nw' => hp hg' nw') (fun _ z => absurd z Aok) (fun _ z => absurd z Aok) F91) (fun post nw hnw hp => yk_look (mt := mt) P M L yA hM' hk hnw (fun z => absurd H z) (fun _ _ hg' nw' => hp hg' nw') (fun _ z => absurd z Aok) (fun _ z => absurd z Aok))
      · refine bad 2 (by decide) (by decide) (fun post nw hnw hp => xk_32 (mt := mt) P M L A X hM hk hnw (fun _ hg' nw' => hp hg' nw') (fun z => absurd z H) (fun z => absurd z H) (fun z => absurd z H) F91) (fun post nw hnw hp => yk_look (mt := mt) P M L yA hM' hk hnw (fun _ hg' nw' => hp hg' nw') (fun z => absurd z H) (fun z => absurd z H) (fun z => absurd z H))
theorem xk_24 {post : Int32 → SX → Prop} (hbe : ∀ l, be l < 11) (K : ∀ nw, (∀ s, s < 4 → nw s = nI (be s)) → ∃ n49, wX_check_49 post n49 1 0 (nI cn) (nI hn) f_met f_waiting f_tooMany f_size f_height f_why f_found f_objects f_high f_at f_here f_steps f_outcome f_last f_ran (aa_N pa) an (aa_N be) (aa_N op) ar (aa_N fr) (aa_N tt) (aa_N tg) (aa_N ct) a_keys a_heights a_faults a_table a_todo a_said a_sorted a_instruction a_values a_jumps a_caught a_caller a_mapped a_known a_types a_maps nw a_sort a_made a_number a_ready) : ∃ n24, wX_check_24 post 1 (nI cn) (nI hn) f_met f_waiting f_tooMany f_size f_height f_why f_found f_objects f_high f_at f_here f_steps f_outcome f_last f_ran n24 0 (aa_N pa) an (aa_N be) (aa_N op) ar (aa_N fr) (aa_N tt) (aa_N tg) (aa_N ct) a_keys a_heights a_faults a_table a_todo a_said a_sorted a_instruction a_values a_jumps a_caught a_caller a_mapped a_known a_types a_maps a_now a_sort a_made a_number a_ready := by
  have key : ∀ d s, s + d = 4 → ∀ nw, (∀ x, x < s → nw x = nI (be x)) → wX_check_24 post 1 (nI cn) (nI hn) f_met f_waiting f_tooMany f_size f_height f_why f_found f_objects f_high f_at f_here f_steps f_outcome f_last f_ran (d + 1) (nI s) (aa_N pa) an (aa_N be) (aa_N op) ar (aa_N fr) (aa_N tt) (aa_N tg) (aa_N ct) a_keys a_heights a_faults a_table a_todo a_said a_sorted a_instruction a_values a_jumps a_caught a_caller a_mapped a_known a_types a_maps nw a_sort a_made a_number a_ready := by
    intro d
    induction d with
    | zero =>
      intro s hs nw hnw
      exact br_t (nI_le (a := 4) (by omega) (by omega)) (K nw (fun x hx => hnw x (by omega)))
    | succ d ih =>
      intro s hs nw hnw
      have es : (nI s).toNatClampNeg = s := nI_clamp (by omega)
      refine br_f (nI_ge (b := 4) (by omega) (by decide)) (And.intro (vp_in_nI (by omega) (by decide)) (And.intro (vp_in_nI (by omega) (by decide)) (nm_r (e' := upd nw s (nI (be s))) (by rw [es, show aa_N be s = nI (be s) from rfl, aa_nb1 (by have := hbe s; omega)]) (nm_r (nI_1 s) (ih (s + 1) (by omega) _ (fun x hx => ?_))))))
      by_cases e : x = s
      · rw [e, pk_us]
      · rw [pk_un e]; exact hnw x (by omega)
  exact ⟨5, key 4 0 (by omega) a_now (fun x hx => by omega)⟩
end
theorem i_vc_check {k : Nat} {u : SX} {v : SY} (I : i_Rel k u v) (hk : k + 5 ≤ 2560) : wpX_check (fun r u' => wpY_check (fun r' v' => r' = r ∧ i_Rel (k + 5) u' v') v) u := by
  refine i_el (Z := fun u v => wpX_check (fun r u' => wpY_check (fun r' v' => r' = r ∧ i_Rel (k + 5) u' v') v) u) I (fun cn hn op fr tt tg ct pa be ar an f_met f_waiting f_tooMany f_size f_height f_why f_found f_objects f_high f_at f_here f_steps f_outcome f_last f_ran a_keys a_heights a_faults a_table a_todo a_said a_sorted a_instruction a_values a_jumps a_caught a_caller a_mapped a_known a_types a_maps a_now a_sort a_made a_number a_ready g_many g_there g_typed g_wrongNumber g_wrongPlace g_size g_height g_objects g_line g_begun g_last g_end b_places b_heights b_gone b_worst b_frames b_maps b_high b_known b_mapped b_now b_sorts b_ints b_classes b_ready hP hA hS hL hR => ?_)
  have same := i_in (k := k + 5) (f_met := f_met) (f_waiting := f_waiting) (f_tooMany := f_tooMany) (f_height := f_height) (f_why := f_why) (f_objects := f_objects) (f_high := f_high) (f_here := f_here) (f_outcome := f_outcome) (a_keys := a_keys) (a_heights := a_heights) (a_faults := a_faults) (a_table := a_table) (a_todo := a_todo) (a_known := a_known) (a_now := a_now) (g_size := g_size) (g_height := g_height) (g_objects := g_objects) (b_heights := b_heights) (b_gone := b_gone) (b_worst := b_worst) (b_known := b_known) (b_now := b_now) hP hA hS hL hR
  rcases hL with ⟨rfl, rfl, rfl⟩ | ⟨rfl, m, pl, va, M, rfl, rfl, F, G, hf, hm⟩
  · exact br_t rfl (br_t rfl ⟨rfl, i_in hP hA hS (Or.inl ⟨rfl, rfl, rfl⟩) hR⟩)
  · obtain ⟨L, f1, f2, f3⟩ := id F
    obtain ⟨-, g1, g2⟩ := id G
    have m40 := L.1
    have hbe := hP.2.2.2.2.2.1
    obtain ⟨m0, p0, v0⟩ := la_0 L
    have hMX : ck_M m va (fun k s => (a_maps (10 * k + s)).toNatClampNeg) a_maps := fun k s hk hs => by
      obtain ⟨t, t1, t2, t3⟩ := hm k s hk hs
      show a_maps (10 * k + s) = nI (a_maps (10 * k + s)).toNatClampNeg ∧ (a_maps (10 * k + s)).toNatClampNeg < 91
      rw [t2, nI_clamp (show t < 2 ^ 31 by omega)]; exact ⟨rfl, t1⟩
    have hMY : ck_M m va (fun k s => (a_maps (10 * k + s)).toNatClampNeg) b_maps := fun k s hk hs => by
      obtain ⟨t, t1, t2, t3⟩ := hm k s hk hs
      show b_maps (10 * k + s) = nI (a_maps (10 * k + s)).toNatClampNeg ∧ (a_maps (10 * k + s)).toNatClampNeg < 91
      rw [t2, t3, nI_clamp (show t < 2 ^ 31 by omega)]; exact ⟨rfl, t1⟩
    obtain ⟨r, w, hx, hy⟩ := ck_both (f_met := f_met) (f_waiting := f_waiting) (f_tooMany := f_tooMany) (f_found := f_found) (f_objects := f_objects) (f_high := f_high) (f_at := f_at) (f_here := f_here) (f_steps := f_steps) (f_outcome := f_outcome) (f_last := f_last) (f_ran := f_ran) (a_keys := a_keys) (a_heights := a_heights) (a_faults := a_faults) (a_table := a_table) (a_todo := a_todo) (a_said := a_said) (a_sorted := a_sorted) (a_known := a_known) (a_types := a_types) (a_sort := a_sort) (a_made := a_made) (a_number := a_number) (a_ready := a_ready) (g_typed := g_typed) (g_wrongNumber := g_wrongNumber) (g_wrongPlace := g_wrongPlace) (g_height := g_height) (g_objects := g_objects) (g_line := g_line) (g_begun := g_begun) (g_last := g_last) (g_end := g_end) (b_heights := b_heights) (b_gone := b_gone) (b_worst := b_worst) (b_frames := b_frames) (b_known := b_known) (b_sorts := b_sorts) (b_ints := b_ints) (b_classes := b_classes) (b_ready := b_ready) (g_there := 1) hP M L hA f2 g1 hMX hMY f3 g2 m 0 (by omega) true be (fun _ _ s _ => by have := hbe s; omega) (fun z => absurd z (by decide))
    refine br_f (nI_ne0 m0 (by omega)) (xk_24 hbe (fun nw hnw => ⟨m + 1, hx _ 0 nw (fun _ _ => ⟨by rw [v0]; rfl, fun s hs => hnw s (by rw [v0] at hs; omega)⟩) (fun hg' nw' => ?_)⟩))
    refine br_f (by decide) (yt_start hbe (fun nw2 hnw2 => ⟨m + 1, hy _ 0 nw2 (fun _ _ => ⟨by rw [v0]; rfl, fun s hs => hnw2 s (by rw [v0] at hs; omega)⟩) (fun hg'' nw'' => ⟨rfl, ?_⟩)⟩))
    exact i_in hP hA hS (Or.inr ⟨rfl, m, pl, va, M, rfl, rfl, F, G, hf, hm⟩) hR
end
section
/-! runs: the small methods of both sides -/
theorem rl_V_mono {no no' : Nat} {s v s' v' : Int32} (h : no ≤ no') (hv : rl_V no s v s' v') : rl_V no' s v s' v' := by
  rcases hv with z | z | z | ⟨n, n1, z⟩ | z
  · exact Or.inl z
  · exact Or.inr (Or.inl z)
  · exact Or.inr (Or.inr (Or.inl z))
  · exact Or.inr (Or.inr (Or.inr (Or.inl ⟨n, by omega, z⟩)))
  · exact Or.inr (Or.inr (Or.inr (Or.inr z)))
theorem rl_V_n {no : Nat} {s v s' v' : Int32} (hv : rl_V no s v s' v') : vp_nar .byte s.toInt8.toInt32 = s := by
  rcases hv with ⟨z, -⟩ | ⟨z, -⟩ | ⟨z, -⟩ | ⟨n, -, z, -⟩ | ⟨i, -, z, -⟩ <;> rw [z]
  · exact aa_nb (n := 0) (by decide)
  · exact aa_nb (n := 1) (by decide)
  · exact aa_nb (n := 2) (by decide)
  · exact aa_nb (n := 3) (by decide)
  · exact aa_nb (n := 4) (by decide)
theorem rl_V_up {n no p : Nat} {so nu so' it : Nat → Int32} {s v s' v' : Int32} (h : ∀ i, i < n → i ≠ p → rl_V no (so i) (nu i) (so' i) (it i)) (hv : rl_V no s v s' v') : ∀ i, i < n → rl_V no (upd so p s i) (upd nu p v i) (upd so' p s' i) (upd it p v' i) := by
  intro i hi
  by_cases e : i = p
  · rw [e, pk_us, pk_us, pk_us, pk_us]; exact hv
  · rw [pk_un e, pk_un e, pk_un e, pk_un e]; exact h i hi e
theorem rl_O_new {no c : Nat} {ma re cl re' : Nat → Int32} {r : Int32} (h : rl_O no ma re cl re') (hc : c < 8) (hr : r = 0 ∨ r = 1) : rl_O (no + 1) (upd ma no (nI c)) (upd re no r) (upd cl no (nI c)) (upd re' no r) := by
  intro n hn
  by_cases e : n = no
  · rw [e, pk_us, pk_us, pk_us, pk_us]; exact ⟨⟨c, hc, rfl, rfl⟩, hr.imp (fun z => ⟨z, z⟩) (fun z => ⟨z, z⟩)⟩
  · rw [pk_un e, pk_un e, pk_un e, pk_un e]; exact h n (by omega)
theorem rl_O_ready {no k : Nat} {ma re cl re' : Nat → Int32} (h : rl_O no ma re cl re') : rl_O no ma (upd re k 1) cl (upd re' k 1) := by
  intro n hn
  obtain ⟨h1, h2⟩ := h n hn
  by_cases e : n = k
  · rw [e, pk_us, pk_us]; rw [e] at h1; exact ⟨h1, Or.inr ⟨rfl, rfl⟩⟩
  · rw [pk_un e, pk_un e]; exact ⟨h1, h2⟩
section
variable {cn hn : Nat} {op fr tt tg ct pa be : Nat → Nat} {ar an : Nat → Int32}
variable {f_count f_handlers f_met f_waiting f_tooMany f_size f_height f_why f_found f_objects f_high f_at f_here f_steps f_outcome f_last f_ran : Int32} {a_parents a_ancestors a_begins a_ops a_operands a_froms a_tos a_targets a_catches a_keys a_heights a_faults a_table a_todo a_said a_sorted a_instruction a_values a_jumps a_caught a_caller a_mapped a_known a_types a_maps a_now a_sort a_made a_number a_ready : Nat → Int32}
variable {g_length g_handlers g_many g_there g_typed g_wrongNumber g_wrongPlace g_size g_why g_height g_objects g_line g_begun g_last g_end : Int32} {b_parent b_begin b_op b_arg b_from b_to b_target b_caught b_places b_heights b_gone b_worst b_frames b_maps b_high b_known b_mapped b_now b_sorts b_ints b_classes b_ready : Nat → Int32}
theorem xr_set {post : SX → Prop} {p : Nat} {s v : Int32} (hp : p < 10) (hs : vp_nar .byte s.toInt8.toInt32 = s) (K : post (f_count, f_handlers, f_met, f_waiting, f_tooMany, f_size, f_height, f_why, f_found, f_objects, f_high, f_at, f_here, f_steps, f_outcome, f_last, f_ran, a_parents, a_ancestors, a_begins, a_ops, a_operands, a_froms, a_tos, a_targets, a_catches, a_keys, a_heights, a_faults, a_table, a_todo, a_said, a_sorted, a_instruction, a_values, a_jumps, a_caught, a_caller, a_mapped, a_known, a_types, a_maps, a_now, (upd a_sort p s), a_made, (upd a_number p v), a_ready)) : wpX_set post (f_count, f_handlers, f_met, f_waiting, f_tooMany, f_size, f_height, f_why, f_found, f_objects, f_high, f_at, f_here, f_steps, f_outcome, f_last, f_ran, a_parents, a_ancestors, a_begins, a_ops, a_operands, a_froms, a_tos, a_targets, a_catches, a_keys, a_heights, a_faults, a_table, a_todo, a_said, a_sorted, a_instruction, a_values, a_jumps, a_caught, a_caller, a_mapped, a_known, a_types, a_maps, a_now, a_sort, a_made, a_number, a_ready) (nI p) s v := by
  have ep : (nI p).toNatClampNeg = p := nI_clamp (by omega)
  have hin := vp_in_nI (n := p) (N := 10) hp (by decide)
  exact And.intro hin (nm_r (e' := upd a_sort p s) (by rw [ep, hs]) (And.intro hin (nm_r (e' := upd a_number p v) (by rw [ep]) K)))
theorem xr_pile {post : SX → Prop} {p : Nat} {s v : Int32} (hp : p < 10) (hs : vp_nar .byte s.toInt8.toInt32 = s) (K : post (f_count, f_handlers, f_met, f_waiting, f_tooMany, f_size, f_height, f_why, f_found, f_objects, (nI (p + 1)), f_at, f_here, f_steps, f_outcome, f_last, f_ran, a_parents, a_ancestors, a_begins, a_ops, a_operands, a_froms, a_tos, a_targets, a_catches, a_keys, a_heights, a_faults, a_table, a_todo, a_said, a_sorted, a_instruction, a_values, a_jumps, a_caught, a_caller, a_mapped, a_known, a_types, a_maps, a_now, (upd a_sort p s), a_made, (upd a_number p v), a_ready)) : wpX_pile post (f_count, f_handlers, f_met, f_waiting, f_tooMany, f_size, f_height, f_why, f_found, f_objects, (nI p), f_at, f_here, f_steps, f_outcome, f_last, f_ran, a_parents, a_ancestors, a_begins, a_ops, a_operands, a_froms, a_tos, a_targets, a_catches, a_keys, a_heights, a_faults, a_table, a_todo, a_said, a_sorted, a_instruction, a_values, a_jumps, a_caught, a_caller, a_mapped, a_known, a_types, a_maps, a_now, a_sort, a_made, a_number, a_ready) s v := nm_r (nI_1 p) (xr_set hp hs K)
theorem xr_object {post : Int32 → SX → Prop} {no c : Nat} {r : Int32} (hn : no < 210) (hc : c < 128) (hr : r = 0 ∨ r = 1) (K : post (nI no) (f_count, f_handlers, f_met, f_waiting, f_tooMany, f_size, f_height, f_why, f_found, (nI (no + 1)), f_high, f_at, f_here, f_steps, f_outcome, f_last, f_ran, a_parents, a_ancestors, a_begins, a_ops, a_operands, a_froms, a_tos, a_targets, a_catches, a_keys, a_heights, a_faults, a_table, a_todo, a_said, a_sorted, a_instruction, a_values, a_jumps, a_caught, a_caller, a_mapped, a_known, a_types, a_maps, a_now, a_sort, (upd a_made no (nI c)), a_number, (upd a_ready no r))) : wpX_object post (f_count, f_handlers, f_met, f_waiting, f_tooMany, f_size, f_height, f_why, f_found, (nI no), f_high, f_at, f_here, f_steps, f_outcome, f_last, f_ran, a_parents, a_ancestors, a_begins, a_ops, a_operands, a_froms, a_tos, a_targets, a_catches, a_keys, a_heights, a_faults, a_table, a_todo, a_said, a_sorted, a_instruction, a_values, a_jumps, a_caught, a_caller, a_mapped, a_known, a_types, a_maps, a_now, a_sort, a_made, a_number, a_ready) (nI c) r := by
  have ep : (nI no).toNatClampNeg = no := nI_clamp (by omega)
  have hin := vp_in_nI (n := no) (N := 210) hn (by decide)
  exact And.intro hin (nm_r (e' := upd a_made no (nI c)) (by rw [ep, aa_nb hc]) (And.intro hin (nm_r (e' := upd a_ready no r) (by rw [ep]; rcases hr with rfl | rfl <;> rfl) (nm_r (nI_1 no) K))))
theorem xo_no {post : Int32 → Prop} {p : Nat} {c : Int32} (hp : p < 10) (h : ¬ a_sort p = 3) (K : post 0) : wpX_isObject post (f_count, f_handlers, f_met, f_waiting, f_tooMany, f_size, f_height, f_why, f_found, f_objects, f_high, f_at, f_here, f_steps, f_outcome, f_last, f_ran, a_parents, a_ancestors, a_begins, a_ops, a_operands, a_froms, a_tos, a_targets, a_catches, a_keys, a_heights, a_faults, a_table, a_todo, a_said, a_sorted, a_instruction, a_values, a_jumps, a_caught, a_caller, a_mapped, a_known, a_types, a_maps, a_now, a_sort, a_made, a_number, a_ready) (nI p) c := by
  have ep : (nI p).toNatClampNeg = p := nI_clamp (by omega)
  refine And.intro (vp_in_nI hp (by decide)) ?_
  rw [ep]; exact br_f h K
theorem xo_un {post : Int32 → Prop} {p n : Nat} {c : Int32} (hp : p < 10) (hn : n < 210) (h3 : a_sort p = 3) (h4 : a_number p = nI n) (h5 : a_ready n = 0) (K : post 0) : wpX_isObject post (f_count, f_handlers, f_met, f_waiting, f_tooMany, f_size, f_height, f_why, f_found, f_objects, f_high, f_at, f_here, f_steps, f_outcome, f_last, f_ran, a_parents, a_ancestors, a_begins, a_ops, a_operands, a_froms, a_tos, a_targets, a_catches, a_keys, a_heights, a_faults, a_table, a_todo, a_said, a_sorted, a_instruction, a_values, a_jumps, a_caught, a_caller, a_mapped, a_known, a_types, a_maps, a_now, a_sort, a_made, a_number, a_ready) (nI p) c := by
  have ep : (nI p).toNatClampNeg = p := nI_clamp (by omega)
  have en : (nI n).toNatClampNeg = n := nI_clamp (by omega)
  have hin := vp_in_nI (n := p) (N := 10) hp (by decide)
  refine And.intro hin ?_
  rw [ep]
  refine br_t h3 (And.intro hin ?_)
  rw [h4, en, h5]
  exact And.intro (vp_in_nI hn (by decide)) (br_t rfl K)
theorem xo_rd {post : Int32 → Prop} {p n c d : Nat} (A : xa_A pa an) (hp : p < 10) (hnn : n < 210) (hc : c < 8) (hd : d < 8) (h3 : a_sort p = 3) (h4 : a_number p = nI n) (h5 : a_ready n = 1) (h6 : a_made n = nI d) (K : post (nI (aa_b2 (ty_ab pa c d)))) : wpX_isObject post ((nI cn), (nI hn), f_met, f_waiting, f_tooMany, f_size, f_height, f_why, f_found, f_objects, f_high, f_at, f_here, f_steps, f_outcome, f_last, f_ran, (aa_N pa), an, (aa_N be), (aa_N op), ar, (aa_N fr), (aa_N tt), (aa_N tg), (aa_N ct), a_keys, a_heights, a_faults, a_table, a_todo, a_said, a_sorted, a_instruction, a_values, a_jumps, a_caught, a_caller, a_mapped, a_known, a_types, a_maps, a_now, a_sort, a_made, a_number, a_ready) (nI p) (nI c) := by
  have ep : (nI p).toNatClampNeg = p := nI_clamp (by omega)
  have en : (nI n).toNatClampNeg = n := nI_clamp (by omega)
  have ed : (nI d).toNatClampNeg = d := nI_clamp (by omega)
  have hin := vp_in_nI (n := p) (N := 10) hp (by decide)
  have hin2 := vp_in_nI (n := n) (N := 210) hnn (by decide)
  refine And.intro hin ?_
  rw [ep]
  refine br_t h3 (And.intro hin ?_)
  rw [h4, en, h5, h6, ed]
  refine And.intro hin2 (br_f (by decide) (And.intro hin (And.intro hin2 (And.intro (vp_in_nI hd (by decide)) (br_c (fun z => ?_) (fun z => ?_))))))
  · rw [xa_bit (by omega), A d hd c hc] at z
    rw [z] at K; exact K
  · rw [xa_bit (by omega), A d hd c hc] at z
    rw [ts_nf z] at K; exact K
theorem yr_put {post : SY → Prop} {h : Nat} {s v : Int32} (hh : h < 6) (K : post (g_length, g_handlers, g_many, g_there, g_typed, g_wrongNumber, g_wrongPlace, g_size, g_why, (nI (h + 1)), g_objects, g_line, g_begun, g_last, g_end, b_parent, b_begin, b_op, b_arg, b_from, b_to, b_target, b_caught, b_places, b_heights, b_gone, b_worst, b_frames, b_maps, b_high, b_known, b_mapped, b_now, (upd b_sorts (4 + h) s), (upd b_ints (4 + h) v), b_classes, b_ready)) : wpY_put post (g_length, g_handlers, g_many, g_there, g_typed, g_wrongNumber, g_wrongPlace, g_size, g_why, (nI h), g_objects, g_line, g_begun, g_last, g_end, b_parent, b_begin, b_op, b_arg, b_from, b_to, b_target, b_caught, b_places, b_heights, b_gone, b_worst, b_frames, b_maps, b_high, b_known, b_mapped, b_now, b_sorts, b_ints, b_classes, b_ready) s v := by
  have e4 : (4 : Int32) + nI h = nI (4 + h) := nI_add 4 h
  have ec : (nI (4 + h)).toNatClampNeg = 4 + h := nI_clamp (by omega)
  have hin := vp_in_nI (n := 4 + h) (N := 10) (by omega) (by decide)
  unfold wpY_put
  dsimp only
  rw [e4]
  exact And.intro hin (nm_r (e' := upd b_sorts (4 + h) s) (by rw [ec]) (And.intro hin (nm_r (e' := upd b_ints (4 + h) v) (by rw [ec]) (nm_r (nI_1 h) K))))
theorem yr_object {post : Int32 → SY → Prop} {no : Nat} {c r : Int32} (hn : no < 240) (hr : r = 0 ∨ r = 1) (K : post (nI (4 + no)) (g_length, g_handlers, g_many, g_there, g_typed, g_wrongNumber, g_wrongPlace, g_size, g_why, g_height, (nI (no + 1)), g_line, g_begun, g_last, g_end, b_parent, b_begin, b_op, b_arg, b_from, b_to, b_target, b_caught, b_places, b_heights, b_gone, b_worst, b_frames, b_maps, b_high, b_known, b_mapped, b_now, b_sorts, b_ints, (upd b_classes no c), (upd b_ready no r))) : wpY_object post (g_length, g_handlers, g_many, g_there, g_typed, g_wrongNumber, g_wrongPlace, g_size, g_why, g_height, (nI no), g_line, g_begun, g_last, g_end, b_parent, b_begin, b_op, b_arg, b_from, b_to, b_target, b_caught, b_places, b_heights, b_gone, b_worst, b_frames, b_maps, b_high, b_known, b_mapped, b_now, b_sorts, b_ints, b_classes, b_ready) c r := by
  have ep : (nI no).toNatClampNeg = no := nI_clamp (by omega)
  have hin := vp_in_nI (n := no) (N := 240) hn (by decide)
  have e3 : (3 : Int32) + nI (no + 1) = nI (4 + no) := (nI_add 3 (no + 1)).trans (congrArg nI (by omega))
  refine And.intro hin (nm_r (e' := upd b_classes no c) (by rw [ep]) (And.intro hin (nm_r (e' := upd b_ready no r) (by rw [ep]; rcases hr with rfl | rfl <;> rfl) (nm_r (nI_1 no) ?_))))
  rw [e3]; exact K
theorem yo_le {post : Int32 → Prop} {s : Int32} (h : s ≤ 3) (K : post 0) : wpY_isReady post (g_length, g_handlers, g_many, g_there, g_typed, g_wrongNumber, g_wrongPlace, g_size, g_why, g_height, g_objects, g_line, g_begun, g_last, g_end, b_parent, b_begin, b_op, b_arg, b_from, b_to, b_target, b_caught, b_places, b_heights, b_gone, b_worst, b_frames, b_maps, b_high, b_known, b_mapped, b_now, b_sorts, b_ints, b_classes, b_ready) s := br_t h K
theorem yo_m4 {n : Nat} : nI (4 + n) - 4 = nI n := (pk_sub (b := 4) (by omega)).trans (congrArg nI (by omega))
theorem yo_rd {post : Int32 → Prop} {n : Nat} {r : Int32} (hn : n < 240) (h : b_ready n = r) (hr : r = 0 ∨ r = 1) (K : post r) : wpY_isReady post (g_length, g_handlers, g_many, g_there, g_typed, g_wrongNumber, g_wrongPlace, g_size, g_why, g_height, g_objects, g_line, g_begun, g_last, g_end, b_parent, b_begin, b_op, b_arg, b_from, b_to, b_target, b_caught, b_places, b_heights, b_gone, b_worst, b_frames, b_maps, b_high, b_known, b_mapped, b_now, b_sorts, b_ints, b_classes, b_ready) (nI (4 + n)) := by
  have en : (nI n).toNatClampNeg = n := nI_clamp (by omega)
  refine br_f (nI_ge (a := 3) (by omega) (by omega)) ?_
  rw [yo_m4, en, h]
  refine And.intro (vp_in_nI hn (by decide)) ?_
  rcases hr with rfl | rfl
  · exact br_t rfl K
  · exact br_f (by decide) K
/-- whether a handler takes an object of class d at instruction i -/
def rn_G (fr tt ct pa : Nat → Nat) (i d x : Nat) : Prop := pp_cv fr tt x i = true ∧ ty_ab pa (ct x) d = true
theorem xr_raise {post : SX → Prop} {i n d : Nat} (P : pp_P cn hn op fr tt tg ct pa be ar) (A : xa_A pa an) (hn' : n < 210) (hi : i < 24) (hd : d < 8) (hm : a_made n = nI d)
    (K0 : (∀ x, x < hn → ¬ rn_G fr tt ct pa i d x) → post ((nI cn), (nI hn), f_met, f_waiting, f_tooMany, f_size, f_height, f_why, f_found, f_objects, f_high, f_at, (nI i), f_steps, 2, (nI d), f_ran, (aa_N pa), an, (aa_N be), (aa_N op), ar, (aa_N fr), (aa_N tt), (aa_N tg), (aa_N ct), a_keys, a_heights, a_faults, a_table, a_todo, a_said, a_sorted, a_instruction, a_values, a_jumps, a_caught, a_caller, a_mapped, a_known, a_types, a_maps, a_now, a_sort, a_made, a_number, a_ready))
    (K1 : ∀ x, x < hn → rn_G fr tt ct pa i d x → (∀ y, y < x → ¬ rn_G fr tt ct pa i d y) → post ((nI cn), (nI hn), f_met, f_waiting, f_tooMany, f_size, f_height, f_why, f_found, f_objects, (nI 5), (nI (tg x)), (nI i), f_steps, f_outcome, f_last, f_ran, (aa_N pa), an, (aa_N be), (aa_N op), ar, (aa_N fr), (aa_N tt), (aa_N tg), (aa_N ct), a_keys, a_heights, a_faults, a_table, a_todo, a_said, a_sorted, a_instruction, a_values, a_jumps, a_caught, a_caller, a_mapped, a_known, a_types, a_maps, a_now, (upd a_sort 4 3), a_made, (upd a_number 4 (nI n)), a_ready)) : wpX_raise post ((nI cn), (nI hn), f_met, f_waiting, f_tooMany, f_size, f_height, f_why, f_found, f_objects, f_high, f_at, (nI i), f_steps, f_outcome, f_last, f_ran, (aa_N pa), an, (aa_N be), (aa_N op), ar, (aa_N fr), (aa_N tt), (aa_N tg), (aa_N ct), a_keys, a_heights, a_faults, a_table, a_todo, a_said, a_sorted, a_instruction, a_values, a_jumps, a_caught, a_caller, a_mapped, a_known, a_types, a_maps, a_now, a_sort, a_made, a_number, a_ready) (nI n) := by
  obtain ⟨hc, hh4, hop, hx, hpa, hbe, hfit⟩ := id P
  have en : (nI n).toNatClampNeg = n := nI_clamp (by omega)
  have ed : (nI d).toNatClampNeg = d := nI_clamp (by omega)
  have key : ∀ e x, x + e = hn → (∀ y, y < x → ¬ rn_G fr tt ct pa i d y) → wX_raise_9 post (nI n) (nI d) (nI cn) (nI hn) f_met f_waiting f_tooMany f_size f_height f_why f_found f_objects f_high f_at (nI i) f_steps f_outcome f_last f_ran (aa_N pa) an (aa_N be) (aa_N op) ar (aa_N fr) (aa_N tt) (aa_N tg) (aa_N ct) a_keys a_heights a_faults a_table a_todo a_said a_sorted a_instruction a_values a_jumps a_caught a_caller a_mapped a_known a_types a_maps a_now a_sort a_made a_number a_ready (e + 1) (nI x) := by
    intro e
    induction e with
    | zero =>
      intro x hxe hno
      have : x = hn := by omega
      subst this
      exact br_t (nI_le (Nat.le_refl _) (by omega)) (br_t rfl (K0 hno))
    | succ e ih =>
      intro x hxe hno
      obtain ⟨x1, x2, x3, x4⟩ := hx x
      have ex : (nI x).toNatClampNeg = x := nI_clamp (by omega)
      have ec : (aa_N ct x) = nI (ct x) := rfl
      have nxt : ¬ rn_G fr tt ct pa i d x → wX_raise_9 post (nI n) (nI d) (nI cn) (nI hn) f_met f_waiting f_tooMany f_size f_height f_why f_found f_objects f_high f_at (nI i) f_steps f_outcome f_last f_ran (aa_N pa) an (aa_N be) (aa_N op) ar (aa_N fr) (aa_N tt) (aa_N tg) (aa_N ct) a_keys a_heights a_faults a_table a_todo a_said a_sorted a_instruction a_values a_jumps a_caught a_caller a_mapped a_known a_types a_maps a_now a_sort a_made a_number a_ready (e + 1) (nI (x + 1)) := fun hg => ih (x + 1) (by omega) (fun y hy => by
        rcases Nat.lt_or_ge y x with l | l
        · exact hno y l
        · have : y = x := by omega
          subst this; exact hg)
      refine br_f (nI_ge (by omega) (by omega)) (xx_covers (by omega) hi x1 x2 ?_)
      by_cases c : pp_cv fr tt x i = true
      · rw [c]
        refine br_f (by decide) (And.intro (vp_in_nI hd (by decide)) (And.intro (vp_in_nI (by omega) (by decide)) ?_))
        rw [ed, ex, ec]
        refine br_c (fun z => nm_r (nI_1 x) (nxt (fun g => ?_))) (fun z => ?_)
        · rw [xa_bit (by omega), A d hd _ x4] at z
          rw [g.2] at z; exact absurd z (by decide)
        · rw [xa_bit (by omega), A d hd _ x4] at z
          refine br_f (fun w => ?_) (xr_pile (p := 4) (s := 3) (by decide) (aa_nb (n := 3) (by decide)) (And.intro (vp_in_nI (by omega) (by decide)) (nm_r (e' := nI (tg x)) (by rw [ex]; rfl) (K1 x (by omega) ⟨c, ts_nf z⟩ hno))))
          have := (nI_eq (by omega) (by omega)).mp w; omega
      · rw [ts_nt c]
        exact br_t (by decide) (nm_r (nI_1 x) (nxt (fun g => c g.1)))
  exact And.intro (vp_in_nI hn' (by decide)) (nm_r (e' := nI d) (by rw [en]; exact hm) ⟨hn + 1, key hn 0 (by omega) (fun y hy => by omega)⟩)
theorem yr_raise {post : SY → Prop} {i n d : Nat} (P : pp_P cn hn op fr tt tg ct pa be ar) (hn' : n < 240) (hi : i < 24) (hd : d < 8) (hm : b_classes n = nI d)
    (K0 : (∀ x, x < hn → ¬ rn_G fr tt ct pa i d x) → post ((nI cn), (nI hn), g_many, g_there, g_typed, g_wrongNumber, g_wrongPlace, g_size, g_why, g_height, g_objects, (nI i), g_begun, (nI d), 2, (aa_N pa), (aa_N be), (aa_N op), ar, (aa_N fr), (aa_N tt), (aa_N tg), (aa_N ct), b_places, b_heights, b_gone, b_worst, b_frames, b_maps, b_high, b_known, b_mapped, b_now, b_sorts, b_ints, b_classes, b_ready))
    (K1 : ∀ x, x < hn → rn_G fr tt ct pa i d x → (∀ y, y < x → ¬ rn_G fr tt ct pa i d y) → post ((nI cn), (nI hn), g_many, g_there, g_typed, g_wrongNumber, g_wrongPlace, g_size, g_why, (nI 1), g_objects, (nI (tg x)), g_begun, g_last, g_end, (aa_N pa), (aa_N be), (aa_N op), ar, (aa_N fr), (aa_N tt), (aa_N tg), (aa_N ct), b_places, b_heights, b_gone, b_worst, b_frames, b_maps, b_high, b_known, b_mapped, b_now, (upd b_sorts 4 (nI (4 + n))), (upd b_ints 4 0), b_classes, b_ready)) : ∃ n24, wY_raise_24 post (nI i) (nI (4 + n)) (nI cn) (nI hn) g_many g_there g_typed g_wrongNumber g_wrongPlace g_size g_why g_height g_objects (nI i) g_begun g_last g_end (aa_N pa) (aa_N be) (aa_N op) ar (aa_N fr) (aa_N tt) (aa_N tg) (aa_N ct) b_places b_heights b_gone b_worst b_frames b_maps b_high b_known b_mapped b_now b_sorts b_ints b_classes b_ready n24 0 := by
  obtain ⟨hc, hh4, hop, hx, hpa, hbe, hfit⟩ := id P
  have en : (nI n).toNatClampNeg = n := nI_clamp (by omega)
  have hinn := vp_in_nI (n := n) (N := 240) hn' (by decide)
  have key : ∀ e x, x + e = hn → (∀ y, y < x → ¬ rn_G fr tt ct pa i d y) → wY_raise_24 post (nI i) (nI (4 + n)) (nI cn) (nI hn) g_many g_there g_typed g_wrongNumber g_wrongPlace g_size g_why g_height g_objects (nI i) g_begun g_last g_end (aa_N pa) (aa_N be) (aa_N op) ar (aa_N fr) (aa_N tt) (aa_N tg) (aa_N ct) b_places b_heights b_gone b_worst b_frames b_maps b_high b_known b_mapped b_now b_sorts b_ints b_classes b_ready (e + 1) (nI x) := by
    intro e
    induction e with
    | zero =>
      intro x hxe hno
      have : x = hn := by omega
      subst this
      refine br_t (nI_le (Nat.le_refl _) (by omega)) ?_
      rw [yo_m4, en]
      exact And.intro hinn (nm_r (e' := nI d) hm (K0 hno))
    | succ e ih =>
      intro x hxe hno
      obtain ⟨x1, x2, x3, x4⟩ := hx x
      have ex : (nI x).toNatClampNeg = x := nI_clamp (by omega)
      have hinx := vp_in_nI (n := x) (N := 4) (by omega) (by decide)
      have nxt : ¬ rn_G fr tt ct pa i d x → wY_raise_24 post (nI i) (nI (4 + n)) (nI cn) (nI hn) g_many g_there g_typed g_wrongNumber g_wrongPlace g_size g_why g_height g_objects (nI i) g_begun g_last g_end (aa_N pa) (aa_N be) (aa_N op) ar (aa_N fr) (aa_N tt) (aa_N tg) (aa_N ct) b_places b_heights b_gone b_worst b_frames b_maps b_high b_known b_mapped b_now b_sorts b_ints b_classes b_ready (e + 1) (nI (x + 1)) := fun hg => ih (x + 1) (by omega) (fun y hy => by
        rcases Nat.lt_or_ge y x with l | l
        · exact hno y l
        · have : y = x := by omega
          subst this; exact hg)
      have ncv : ¬ (fr x ≤ i ∧ i < tt x) → ¬ rn_G fr tt ct pa i d x := fun h g => h (of_decide_eq_true g.1)
      refine br_f (nI_ge (by omega) (by omega)) (And.intro hinx ?_)
      rw [ex]
      refine pk_lt i (fr x) (fun z => nm_r (nI_1 x) (nxt (ncv (by omega)))) (fun z => And.intro hinx (pk_le (tt x) i (fun y => nm_r (nI_1 x) (nxt (ncv (by omega)))) (fun y => And.intro hinx ?_)))
      rw [yo_m4, en, hm]
      refine And.intro hinn (yy_isAbove hpa x4 hd ?_)
      by_cases c : ty_ab pa (ct x) d = true
      · rw [c]
        exact br_f (by decide) (yr_put (h := 0) (by decide) (And.intro hinx (nm_r (e' := nI (tg x)) rfl (K1 x (by omega) ⟨decide_eq_true ⟨z, y⟩, c⟩ hno))))
      · rw [ts_nt c]
        exact br_t (by decide) (nm_r (nI_1 x) (nxt (fun g => c g.2)))
  exact ⟨hn + 1, key hn 0 (by omega) (fun y hy => by omega)⟩
end
end
section
/-! one step of a run, on both sides -/
abbrev rn_T : Type := Int32 × Int32 × Int32 × Int32 × Int32 × (Nat → Int32) × (Nat → Int32) × (Nat → Int32) × (Nat → Int32)
/-- a value in a run: a link leads to an instruction -/
def rn_V (cn no : Nat) (s v s' v' : Int32) : Prop := rl_V no s v s' v' ∧ (s = 4 → ∃ l, l < cn ∧ v = nI l)
theorem rn_V_up {cn n no p : Nat} {so nu so' it : Nat → Int32} {s v s' v' : Int32} (h : ∀ i, i < n → i ≠ p → rn_V cn no (so i) (nu i) (so' i) (it i)) (hv : rn_V cn no s v s' v') : ∀ i, i < n → rn_V cn no (upd so p s i) (upd nu p v i) (upd so' p s' i) (upd it p v' i) := by
  intro i hi
  by_cases e : i = p
  · rw [e, pk_us, pk_us, pk_us, pk_us]; exact hv
  · rw [pk_un e, pk_un e, pk_un e, pk_un e]; exact h i hi e
theorem rn_V_mono {cn no no' : Nat} {s v s' v' : Int32} (h : no ≤ no') (hv : rn_V cn no s v s' v') : rn_V cn no' s v s' v' := ⟨rl_V_mono h hv.1, hv.2⟩
theorem rl_cs {no : Nat} {s v s' v' : Int32} (hno : no ≤ 204) (hv : rl_V no s v s' v') : (s = 0 ↔ s' = 0) ∧ (s = 1 ↔ s' = 1) ∧ (s = 2 ↔ s' = 2) ∧ (s = 4 ↔ s' = 3) ∧ (s = 1 → v = v') ∧ (s = 4 → ∃ l, l < 24 ∧ v = nI l ∧ v' = nI l) ∧ (s = 3 → ∃ n, n < no ∧ v = nI n ∧ s' = nI (4 + n)) ∧ (¬ s = 3 → s' ≤ 3) := by
  rcases hv with ⟨rfl, rfl⟩ | ⟨rfl, rfl, rfl⟩ | ⟨rfl, rfl⟩ | ⟨n, n1, rfl, rfl, rfl⟩ | ⟨l, l1, rfl, rfl, rfl, rfl⟩
  · exact ⟨by decide, by decide, by decide, by decide, fun h => absurd h (by decide), fun h => absurd h (by decide), fun h => absurd h (by decide), fun _ => by decide⟩
  · exact ⟨by decide, by decide, by decide, by decide, fun _ => rfl, fun h => absurd h (by decide), fun h => absurd h (by decide), fun _ => by decide⟩
  · exact ⟨by decide, by decide, by decide, by decide, fun h => absurd h (by decide), fun h => absurd h (by decide), fun h => absurd h (by decide), fun _ => by decide⟩
  · have ne : ∀ c, c < 4 → ¬ nI (4 + n) = nI c := fun c hc e => by have := (nI_eq (by omega) (by omega)).mp e; omega
    exact ⟨⟨fun h => absurd h (by decide), fun h => absurd h (ne 0 (by omega))⟩, ⟨fun h => absurd h (by decide), fun h => absurd h (ne 1 (by omega))⟩, ⟨fun h => absurd h (by decide), fun h => absurd h (ne 2 (by omega))⟩, ⟨fun h => absurd h (by decide), fun h => absurd h (ne 3 (by omega))⟩, fun h => absurd h (by decide), fun h => absurd h (by decide), fun _ => ⟨n, n1, rfl, rfl⟩, fun h => absurd rfl h⟩
  · exact ⟨by decide, by decide, by decide, by decide, fun h => absurd h (by decide), fun _ => ⟨l, l1, rfl, rfl⟩, fun h => absurd h (by decide), fun _ => by decide⟩
/-- how a step ends: the next states, or the end; (objects, high or height, at, outcome, last, sorts, classes, numbers, ready) -/
def rn_E (cn no i : Nat) (x y : rn_T) : Prop :=
  (x.2.2.2.1 = -1 ∧ y.2.2.2.1 = -1 ∧ x.2.2.2.2.1 = -1 ∧ y.2.2.2.2.1 = -1 ∧ ∃ no' h' i', x.1 = nI no' ∧ y.1 = nI no' ∧ no' ≤ no + 1 ∧ x.2.1 = nI (4 + h') ∧ y.2.1 = nI h' ∧ x.2.2.1 = nI i' ∧ y.2.2.1 = nI i' ∧ h' ≤ 6 ∧ i' ≤ cn ∧ rl_O no' x.2.2.2.2.2.2.1 x.2.2.2.2.2.2.2.2 y.2.2.2.2.2.2.1 y.2.2.2.2.2.2.2.2 ∧ ∀ j, j < 4 + h' → rn_V cn no' (x.2.2.2.2.2.1 j) (x.2.2.2.2.2.2.2.1 j) (y.2.2.2.2.2.1 j) (y.2.2.2.2.2.2.2.1 j)) ∨
  (0 ≤ x.2.2.2.1 ∧ y.2.2.2.1 = x.2.2.2.1 ∧ x.2.2.2.2.1 = y.2.2.2.2.1 ∧ y.2.2.1 = nI i ∧ ∃ no', no' ≤ no + 1 ∧ rl_O no' x.2.2.2.2.2.2.1 x.2.2.2.2.2.2.2.2 y.2.2.2.2.2.2.1 y.2.2.2.2.2.2.2.2 ∧ ∀ j, j < 4 → rl_V no' (x.2.2.2.2.2.1 j) (x.2.2.2.2.2.2.2.1 j) (y.2.2.2.2.2.1 j) (y.2.2.2.2.2.2.2.1 j))
/-- a ready object on top -/
def rn_RO (h : Nat) (so nu re : Nat → Int32) : Prop := 1 ≤ h ∧ so (3 + h) = 3 ∧ re (nu (3 + h)).toNatClampNeg = 1
section
variable {cn hn : Nat} {op fr tt tg ct pa be : Nat → Nat} {ar an : Nat → Int32}
variable {f_count f_handlers f_met f_waiting f_tooMany f_size f_height f_why f_found f_objects f_high f_at f_here f_steps f_outcome f_last f_ran : Int32} {a_parents a_ancestors a_begins a_ops a_operands a_froms a_tos a_targets a_catches a_keys a_heights a_faults a_table a_todo a_said a_sorted a_instruction a_values a_jumps a_caught a_caller a_mapped a_known a_types a_maps a_now a_sort a_made a_number a_ready : Nat → Int32}
variable {g_length g_handlers g_many g_there g_typed g_wrongNumber g_wrongPlace g_size g_why g_height g_objects g_line g_begun g_last g_end : Int32} {b_parent b_begin b_op b_arg b_from b_to b_target b_caught b_places b_heights b_gone b_worst b_frames b_maps b_high b_known b_mapped b_now b_sorts b_ints b_classes b_ready : Nat → Int32}
theorem xr_further {post : SX → Prop} {o no h : Nat} {a : Int32} {cl re' : Nat → Int32} (hpa : ∀ c, pa c < 8 ∧ (0 < c → pa c < c)) (A : xa_A pa an) (hno : no ≤ 204) (hh : h ≤ 6) (hO : rl_O no a_made a_ready cl re') (hV : 1 ≤ h → ∃ s' v', rl_V no (a_sort (3 + h)) (a_number (3 + h)) s' v') (K : ∀ z0 : Int32, ((z0 = 1 ∧ rn_RO h a_sort a_number a_ready) ∨ (z0 = 0 ∧ ¬ rn_RO h a_sort a_number a_ready)) → wX_further_31 post (nI o) a (nI (3 + h)) z0 (nI cn) (nI hn) f_met f_waiting f_tooMany f_size f_height f_why f_found f_objects f_high f_at f_here f_steps f_outcome f_last f_ran (aa_N pa) an (aa_N be) (aa_N op) ar (aa_N fr) (aa_N tt) (aa_N tg) (aa_N ct) a_keys a_heights a_faults a_table a_todo a_said a_sorted a_instruction a_values a_jumps a_caught a_caller a_mapped a_known a_types a_maps a_now a_sort a_made a_number a_ready) : wpX_further post ((nI cn), (nI hn), f_met, f_waiting, f_tooMany, f_size, f_height, f_why, f_found, f_objects, f_high, f_at, f_here, f_steps, f_outcome, f_last, f_ran, (aa_N pa), an, (aa_N be), (aa_N op), ar, (aa_N fr), (aa_N tt), (aa_N tg), (aa_N ct), a_keys, a_heights, a_faults, a_table, a_todo, a_said, a_sorted, a_instruction, a_values, a_jumps, a_caught, a_caller, a_mapped, a_known, a_types, a_maps, a_now, a_sort, a_made, a_number, a_ready) (nI o) a (nI (3 + h)) := by
  refine pk_le (3 + h) 3 (fun z => ?_) (fun z => ?_)
  · exact br_t rfl (K 0 (Or.inr ⟨rfl, fun w => by have := w.1; omega⟩))
  · refine br_f (by decide) ?_
    obtain ⟨s', v', hv⟩ := hV (by omega)
    have no3 : ¬ a_sort (3 + h) = 3 → wpX_isObject (fun r_231 => (((r_231 = 0 → (wX_further_30 post (nI o) a (nI (3 + h)) (nI cn) (nI hn) f_met f_waiting f_tooMany f_size f_height f_why f_found f_objects f_high f_at f_here f_steps f_outcome f_last f_ran (aa_N pa) an (aa_N be) (aa_N op) ar (aa_N fr) (aa_N tt) (aa_N tg) (aa_N ct) a_keys a_heights a_faults a_table a_todo a_said a_sorted a_instruction a_values a_jumps a_caught a_caller a_mapped a_known a_types a_maps a_now a_sort a_made a_number a_ready)) ∧ (¬ r_231 = 0 → (wX_further_31 post (nI o) a (nI (3 + h)) 1 (nI cn) (nI hn) f_met f_waiting f_tooMany f_size f_height f_why f_found f_objects f_high f_at f_here f_steps f_outcome f_last f_ran (aa_N pa) an (aa_N be) (aa_N op) ar (aa_N fr) (aa_N tt) (aa_N tg) (aa_N ct) a_keys a_heights a_faults a_table a_todo a_said a_sorted a_instruction a_values a_jumps a_caught a_caller a_mapped a_known a_types a_maps a_now a_sort a_made a_number a_ready))))) ((nI cn), (nI hn), f_met, f_waiting, f_tooMany, f_size, f_height, f_why, f_found, f_objects, f_high, f_at, f_here, f_steps, f_outcome, f_last, f_ran, (aa_N pa), an, (aa_N be), (aa_N op), ar, (aa_N fr), (aa_N tt), (aa_N tg), (aa_N ct), a_keys, a_heights, a_faults, a_table, a_todo, a_said, a_sorted, a_instruction, a_values, a_jumps, a_caught, a_caller, a_mapped, a_known, a_types, a_maps, a_now, a_sort, a_made, a_number, a_ready) (nI (3 + h)) 0 := fun n3 => xo_no (by omega) n3 (br_t rfl (K 0 (Or.inr ⟨rfl, fun w => n3 w.2.1⟩)))
    by_cases s3 : a_sort (3 + h) = 3
    · rcases hv with ⟨q, -⟩ | ⟨q, -⟩ | ⟨q, -⟩ | ⟨n, n1, q1, q2, q3⟩ | ⟨j, -, q, -⟩
      · rw [q] at s3; exact absurd s3 (by decide)
      · rw [q] at s3; exact absurd s3 (by decide)
      · rw [q] at s3; exact absurd s3 (by decide)
      · obtain ⟨⟨d, d8, d1, d2⟩, hr⟩ := hO n n1
        have en : (a_number (3 + h)).toNatClampNeg = n := by rw [q2]; exact nI_clamp (by omega)
        rcases hr with ⟨r0, -⟩ | ⟨r1, -⟩
        · exact xo_un (by omega) (by omega) s3 q2 r0 (br_t rfl (K 0 (Or.inr ⟨rfl, fun w => by have := w.2.2; rw [en, r0] at this; exact absurd this (by decide)⟩)))
        · refine xo_rd (c := 0) A (by omega) (by omega) (by decide) d8 s3 q2 r1 d1 ?_
          have h0 : ty_ab pa 0 d = true := ty_ab_0 hpa d d8
          rw [h0]
          exact br_f (by decide) (K 1 (Or.inl ⟨rfl, by omega, s3, by rw [en]; exact r1⟩))
      · rw [q] at s3; exact absurd s3 (by decide)
    · exact no3 s3
theorem yr_pre {post : SY → Prop} {o h : Nat} {a : Int32} (ho : o < 20) (hh : h ≤ 6) (ht : aa_tk o ≤ h) (hl : h - aa_tk o + aa_pt o ≤ 6) (K : ∀ t v u w : Int32, (1 ≤ aa_tk o → t = b_sorts (3 + h) ∧ v = b_ints (3 + h)) → (aa_tk o = 0 → t = 0) → (2 ≤ aa_tk o → u = b_sorts (2 + h) ∧ w = b_ints (2 + h)) → wY_step_120 post (nI o) a (nI (h - aa_tk o)) t v u w (nI cn) (nI hn) g_many g_there g_typed g_wrongNumber g_wrongPlace g_size g_why (nI h) g_objects g_line g_begun g_last g_end (aa_N pa) (aa_N be) (aa_N op) ar (aa_N fr) (aa_N tt) (aa_N tg) (aa_N ct) b_places b_heights b_gone b_worst b_frames b_maps b_high b_known b_mapped b_now b_sorts b_ints b_classes b_ready) : wpY_step post ((nI cn), (nI hn), g_many, g_there, g_typed, g_wrongNumber, g_wrongPlace, g_size, g_why, (nI h), g_objects, g_line, g_begun, g_last, g_end, (aa_N pa), (aa_N be), (aa_N op), ar, (aa_N fr), (aa_N tt), (aa_N tg), (aa_N ct), b_places, b_heights, b_gone, b_worst, b_frames, b_maps, b_high, b_known, b_mapped, b_now, b_sorts, b_ints, b_classes, b_ready) (nI o) a := by
  have tk2 := aa_tk2 o
  have pt2 := aa_pt2 o
  have e3 : (3 : Int32) + nI h = nI (3 + h) := nI_add 3 h
  have e2 : (2 : Int32) + nI h = nI (2 + h) := nI_add 2 h
  have c3 : (nI (3 + h)).toNatClampNeg = 3 + h := nI_clamp (by omega)
  have c2 : (nI (2 + h)).toNatClampNeg = 2 + h := nI_clamp (by omega)
  have i3 := vp_in_nI (n := 3 + h) (N := 10) (by omega) (by decide)
  have i2 := vp_in_nI (n := 2 + h) (N := 10) (by omega) (by decide)
  unfold wpY_step
  dsimp only
  refine yy_takes ho (nm_r (pk_sub ht) (br_f (nI_pos (by omega)) (yy_puts ho ?_)))
  rw [nI_add]
  refine br_t (nI_le (b := 6) hl (by decide)) ?_
  rw [e3, c3]
  refine pk_le (aa_tk o) 0 (fun z => ?_) (fun z => And.intro i3 ?_)
  · refine pk_le (aa_tk o) 0 (fun _ => pk_le (aa_tk o) 1 (fun _ => pk_le (aa_tk o) 1 (fun _ => K 0 0 0 0 (fun w => by omega) (fun _ => rfl) (fun w => by omega)) (fun w => by omega)) (fun w => by omega)) (fun w => by omega)
  · unfold wY_step_55
    rw [e3, c3]
    refine pk_le (aa_tk o) 0 (fun w => by omega) (fun _ => And.intro i3 (pk_le (aa_tk o) 1 (fun y => pk_le (aa_tk o) 1 (fun _ => K _ _ 0 0 (fun _ => ⟨rfl, rfl⟩) (fun w => by omega) (fun w => by omega)) (fun w => by omega)) (fun y => ?_)))
    rw [e2, c2]
    refine And.intro i2 (pk_le (aa_tk o) 1 (fun w => by omega) (fun _ => ?_))
    rw [e2, c2]
    exact And.intro i2 (K _ _ _ _ (fun _ => ⟨rfl, rfl⟩) (fun w => by omega) (fun _ => ⟨rfl, rfl⟩))
/-- an object is thrown, on both sides -/
theorem rn_raise {no0 no n d i : Nat} (P : pp_P cn hn op fr tt tg ct pa be ar) (M : pp_M cn hn op tg ar) (A : xa_A pa an) (hno : no ≤ no0 + 1) (h204 : no ≤ 204) (hn' : n < no) (hi : i < 24) (hd : d < 8) (hm : a_made n = nI d) (hm' : b_classes n = nI d) (hO : rl_O no a_made a_ready b_classes b_ready) (hV : ∀ j, j < 4 → rn_V cn no (a_sort j) (a_number j) (b_sorts j) (b_ints j)) :
    ∃ x y : rn_T, (∀ post : SX → Prop, post ((nI cn), (nI hn), f_met, f_waiting, f_tooMany, f_size, f_height, f_why, f_found, x.1, x.2.1, x.2.2.1, (nI i), f_steps, x.2.2.2.1, x.2.2.2.2.1, f_ran, (aa_N pa), an, (aa_N be), (aa_N op), ar, (aa_N fr), (aa_N tt), (aa_N tg), (aa_N ct), a_keys, a_heights, a_faults, a_table, a_todo, a_said, a_sorted, a_instruction, a_values, a_jumps, a_caught, a_caller, a_mapped, a_known, a_types, a_maps, a_now, x.2.2.2.2.2.1, x.2.2.2.2.2.2.1, x.2.2.2.2.2.2.2.1, x.2.2.2.2.2.2.2.2) → wpX_raise post ((nI cn), (nI hn), f_met, f_waiting, f_tooMany, f_size, f_height, f_why, f_found, (nI no), f_high, f_at, (nI i), f_steps, (-1), (-1), f_ran, (aa_N pa), an, (aa_N be), (aa_N op), ar, (aa_N fr), (aa_N tt), (aa_N tg), (aa_N ct), a_keys, a_heights, a_faults, a_table, a_todo, a_said, a_sorted, a_instruction, a_values, a_jumps, a_caught, a_caller, a_mapped, a_known, a_types, a_maps, a_now, a_sort, a_made, a_number, a_ready) (nI n)) ∧ (∀ post : SY → Prop, post ((nI cn), (nI hn), g_many, g_there, g_typed, g_wrongNumber, g_wrongPlace, g_size, g_why, y.2.1, y.1, y.2.2.1, g_begun, y.2.2.2.2.1, y.2.2.2.1, (aa_N pa), (aa_N be), (aa_N op), ar, (aa_N fr), (aa_N tt), (aa_N tg), (aa_N ct), b_places, b_heights, b_gone, b_worst, b_frames, b_maps, b_high, b_known, b_mapped, b_now, y.2.2.2.2.2.1, y.2.2.2.2.2.2.2.1, y.2.2.2.2.2.2.1, y.2.2.2.2.2.2.2.2) → ∃ n24, wY_raise_24 post (nI i) (nI (4 + n)) (nI cn) (nI hn) g_many g_there g_typed g_wrongNumber g_wrongPlace g_size g_why g_height (nI no) (nI i) g_begun (-1) (-1) (aa_N pa) (aa_N be) (aa_N op) ar (aa_N fr) (aa_N tt) (aa_N tg) (aa_N ct) b_places b_heights b_gone b_worst b_frames b_maps b_high b_known b_mapped b_now b_sorts b_ints b_classes b_ready n24 0) ∧ rn_E cn no0 i x y := by
  by_cases g : ∃ x, x < hn ∧ rn_G fr tt ct pa i d x
  · obtain ⟨x, ⟨x1, x2⟩, x3⟩ := pk_least _ g
    have uq : ∀ x', x' < hn → rn_G fr tt ct pa i d x' → (∀ y, y < x' → ¬ rn_G fr tt ct pa i d y) → x' = x := fun x' q1 q2 q3 => by
      rcases Nat.lt_trichotomy x' x with z | z | z
      · exact absurd ⟨q1, q2⟩ (x3 x' z)
      · exact z
      · exact absurd x2 (q3 x z)
    refine ⟨(nI no, nI 5, nI (tg x), -1, -1, upd a_sort 4 3, a_made, upd a_number 4 (nI n), a_ready), (nI no, nI 1, nI (tg x), -1, -1, upd b_sorts 4 (nI (4 + n)), b_classes, upd b_ints 4 0, b_ready), fun post hp => ?_, fun post hp => ?_, Or.inl ⟨rfl, rfl, rfl, rfl, no, 1, tg x, rfl, rfl, hno, rfl, rfl, rfl, rfl, by omega, ?_, hO, ?_⟩⟩
    · refine xr_raise P A (by omega) hi hd hm (fun z => absurd x2 (z x x1)) (fun x' q1 q2 q3 => ?_)
      rw [uq x' q1 q2 q3]; exact hp
    · refine yr_raise P (by omega) hi hd hm' (fun z => absurd x2 (z x x1)) (fun x' q1 q2 q3 => ?_)
      rw [uq x' q1 q2 q3]; exact hp
    · have := M.2.2 x x1; omega
    · exact rn_V_up (n := 5) (fun j hj ne => hV j (by omega)) ⟨Or.inr (Or.inr (Or.inr (Or.inl ⟨n, hn', rfl, rfl, rfl⟩))), fun h => absurd h (by decide)⟩
  · have hno' : ∀ x, x < hn → ¬ rn_G fr tt ct pa i d x := fun x q w => g ⟨x, q, w⟩
    refine ⟨(nI no, f_high, f_at, 2, nI d, a_sort, a_made, a_number, a_ready), (nI no, g_height, nI i, 2, nI d, b_sorts, b_classes, b_ints, b_ready), fun post hp => ?_, fun post hp => ?_, Or.inr ⟨by show (0 : Int32) ≤ 2; decide, rfl, rfl, rfl, no, hno, hO, fun j hj => (hV j hj).1⟩⟩
    · exact xr_raise P A (by omega) hi hd hm (fun _ => hp) (fun x' q1 q2 q3 => absurd q2 (hno' x' q1))
    · exact yr_raise P (by omega) hi hd hm' (fun _ => hp) (fun x' q1 q2 q3 => absurd q2 (hno' x' q1))
end
end
section
/-! the steps, one an instruction -/
section
variable {cn hn : Nat} {op fr tt tg ct pa be : Nat → Nat} {ar an : Nat → Int32}
variable {f_count f_handlers f_met f_waiting f_tooMany f_size f_height f_why f_found f_objects f_high f_at f_here f_steps f_outcome f_last f_ran : Int32} {a_parents a_ancestors a_begins a_ops a_operands a_froms a_tos a_targets a_catches a_keys a_heights a_faults a_table a_todo a_said a_sorted a_instruction a_values a_jumps a_caught a_caller a_mapped a_known a_types a_maps a_now a_sort a_made a_number a_ready : Nat → Int32}
variable {g_length g_handlers g_many g_there g_typed g_wrongNumber g_wrongPlace g_size g_why g_height g_objects g_line g_begun g_last g_end : Int32} {b_parent b_begin b_op b_arg b_from b_to b_target b_caught b_places b_heights b_gone b_worst b_frames b_maps b_high b_known b_mapped b_now b_sorts b_ints b_classes b_ready : Nat → Int32}
theorem rn_s0 {no h i : Nat} (P : pp_P cn hn op fr tt tg ct pa be ar) (M : pp_M cn hn op tg ar) (A : xa_A pa an) (hi : i < cn) (hop : op i = 0) (hno : no ≤ 203) (hh : h ≤ 6) (ht : aa_tk 0 ≤ h) (hl : h - aa_tk 0 + aa_pt 0 ≤ 6) (hO : rl_O no a_made a_ready b_classes b_ready) (hV : ∀ j, j < 4 + h → rn_V cn no (a_sort j) (a_number j) (b_sorts j) (b_ints j)) :
    ∃ x y : rn_T, (∀ post : SX → Prop, post ((nI cn), (nI hn), f_met, f_waiting, f_tooMany, f_size, f_height, f_why, f_found, x.1, x.2.1, x.2.2.1, (nI i), f_steps, x.2.2.2.1, x.2.2.2.2.1, f_ran, (aa_N pa), an, (aa_N be), (aa_N op), ar, (aa_N fr), (aa_N tt), (aa_N tg), (aa_N ct), a_keys, a_heights, a_faults, a_table, a_todo, a_said, a_sorted, a_instruction, a_values, a_jumps, a_caught, a_caller, a_mapped, a_known, a_types, a_maps, a_now, x.2.2.2.2.2.1, x.2.2.2.2.2.2.1, x.2.2.2.2.2.2.2.1, x.2.2.2.2.2.2.2.2) → wpX_step post ((nI cn), (nI hn), f_met, f_waiting, f_tooMany, f_size, f_height, f_why, f_found, (nI no), (nI (4 + h)), (nI (i + 1)), (nI i), f_steps, (-1), (-1), f_ran, (aa_N pa), an, (aa_N be), (aa_N op), ar, (aa_N fr), (aa_N tt), (aa_N tg), (aa_N ct), a_keys, a_heights, a_faults, a_table, a_todo, a_said, a_sorted, a_instruction, a_values, a_jumps, a_caught, a_caller, a_mapped, a_known, a_types, a_maps, a_now, a_sort, a_made, a_number, a_ready) (nI 0) (ar i) (nI (3 + h))) ∧ (∀ post : SY → Prop, post ((nI cn), (nI hn), g_many, g_there, g_typed, g_wrongNumber, g_wrongPlace, g_size, g_why, y.2.1, y.1, y.2.2.1, g_begun, y.2.2.2.2.1, y.2.2.2.1, (aa_N pa), (aa_N be), (aa_N op), ar, (aa_N fr), (aa_N tt), (aa_N tg), (aa_N ct), b_places, b_heights, b_gone, b_worst, b_frames, b_maps, b_high, b_known, b_mapped, b_now, y.2.2.2.2.2.1, y.2.2.2.2.2.2.2.1, y.2.2.2.2.2.2.1, y.2.2.2.2.2.2.2.2) → wpY_step post ((nI cn), (nI hn), g_many, g_there, g_typed, g_wrongNumber, g_wrongPlace, g_size, g_why, (nI h), (nI no), (nI i), g_begun, (-1), (-1), (aa_N pa), (aa_N be), (aa_N op), ar, (aa_N fr), (aa_N tt), (aa_N tg), (aa_N ct), b_places, b_heights, b_gone, b_worst, b_frames, b_maps, b_high, b_known, b_mapped, b_now, b_sorts, b_ints, b_classes, b_ready) (nI 0) (ar i)) ∧ rn_E cn no i x y := by
  have t1 : aa_tk 0 = 0 := rfl
  have t2 : aa_pt 0 = 1 := rfl
  have hc24 := P.1
  have hpa := P.2.2.2.2.1
  refine ⟨(nI no, nI (4 + h + 1), nI (i + 1), -1, -1, upd a_sort (4 + h) 1, a_made, upd a_number (4 + h) (ar i), a_ready), (nI no, nI (h + 1), nI (i + 1), -1, -1, upd b_sorts (4 + h) 1, b_classes, upd b_ints (4 + h) (ar i), b_ready), fun post hp => ?_, fun post hp => ?_, Or.inl ⟨rfl, rfl, rfl, rfl, no, h + 1, i + 1, rfl, rfl, by omega, rfl, rfl, rfl, rfl, by omega, by omega, hO, rn_V_up (n := 4 + (h + 1)) (fun j hj ne => hV j (by omega)) ⟨Or.inr (Or.inl ⟨rfl, rfl, rfl⟩), fun z => absurd z (by decide)⟩⟩⟩
  · exact br_f (by decide) (br_f (by decide) (br_t (by decide) (xr_pile (by omega) (aa_nb (n := 1) (by decide)) hp)))
  · refine yr_pre (by decide) hh ht hl (fun t v u w h1 h0 h2 => ?_)
    unfold wY_step_120
    exact br_t (by decide) (br_f (by decide) (nm_r (nI_1 i) (br_f (by decide) (br_f (by decide) (br_t (by decide) (yr_put (by omega) hp))))))
theorem rn_s1 {no h i : Nat} (P : pp_P cn hn op fr tt tg ct pa be ar) (M : pp_M cn hn op tg ar) (A : xa_A pa an) (hi : i < cn) (hop : op i = 1) (hno : no ≤ 203) (hh : h ≤ 6) (ht : aa_tk 1 ≤ h) (hl : h - aa_tk 1 + aa_pt 1 ≤ 6) (hO : rl_O no a_made a_ready b_classes b_ready) (hV : ∀ j, j < 4 + h → rn_V cn no (a_sort j) (a_number j) (b_sorts j) (b_ints j)) :
    ∃ x y : rn_T, (∀ post : SX → Prop, post ((nI cn), (nI hn), f_met, f_waiting, f_tooMany, f_size, f_height, f_why, f_found, x.1, x.2.1, x.2.2.1, (nI i), f_steps, x.2.2.2.1, x.2.2.2.2.1, f_ran, (aa_N pa), an, (aa_N be), (aa_N op), ar, (aa_N fr), (aa_N tt), (aa_N tg), (aa_N ct), a_keys, a_heights, a_faults, a_table, a_todo, a_said, a_sorted, a_instruction, a_values, a_jumps, a_caught, a_caller, a_mapped, a_known, a_types, a_maps, a_now, x.2.2.2.2.2.1, x.2.2.2.2.2.2.1, x.2.2.2.2.2.2.2.1, x.2.2.2.2.2.2.2.2) → wpX_step post ((nI cn), (nI hn), f_met, f_waiting, f_tooMany, f_size, f_height, f_why, f_found, (nI no), (nI (4 + h)), (nI (i + 1)), (nI i), f_steps, (-1), (-1), f_ran, (aa_N pa), an, (aa_N be), (aa_N op), ar, (aa_N fr), (aa_N tt), (aa_N tg), (aa_N ct), a_keys, a_heights, a_faults, a_table, a_todo, a_said, a_sorted, a_instruction, a_values, a_jumps, a_caught, a_caller, a_mapped, a_known, a_types, a_maps, a_now, a_sort, a_made, a_number, a_ready) (nI 1) (ar i) (nI (3 + h))) ∧ (∀ post : SY → Prop, post ((nI cn), (nI hn), g_many, g_there, g_typed, g_wrongNumber, g_wrongPlace, g_size, g_why, y.2.1, y.1, y.2.2.1, g_begun, y.2.2.2.2.1, y.2.2.2.1, (aa_N pa), (aa_N be), (aa_N op), ar, (aa_N fr), (aa_N tt), (aa_N tg), (aa_N ct), b_places, b_heights, b_gone, b_worst, b_frames, b_maps, b_high, b_known, b_mapped, b_now, y.2.2.2.2.2.1, y.2.2.2.2.2.2.2.1, y.2.2.2.2.2.2.1, y.2.2.2.2.2.2.2.2) → wpY_step post ((nI cn), (nI hn), g_many, g_there, g_typed, g_wrongNumber, g_wrongPlace, g_size, g_why, (nI h), (nI no), (nI i), g_begun, (-1), (-1), (aa_N pa), (aa_N be), (aa_N op), ar, (aa_N fr), (aa_N tt), (aa_N tg), (aa_N ct), b_places, b_heights, b_gone, b_worst, b_frames, b_maps, b_high, b_known, b_mapped, b_now, b_sorts, b_ints, b_classes, b_ready) (nI 1) (ar i)) ∧ rn_E cn no i x y := by
  have t1 : aa_tk 1 = 0 := rfl
  have t2 : aa_pt 1 = 1 := rfl
  have hc24 := P.1
  have hpa := P.2.2.2.2.1
  refine ⟨(nI no, nI (4 + h + 1), nI (i + 1), -1, -1, upd a_sort (4 + h) 2, a_made, upd a_number (4 + h) 0, a_ready), (nI no, nI (h + 1), nI (i + 1), -1, -1, upd b_sorts (4 + h) 2, b_classes, upd b_ints (4 + h) 0, b_ready), fun post hp => ?_, fun post hp => ?_, Or.inl ⟨rfl, rfl, rfl, rfl, no, h + 1, i + 1, rfl, rfl, by omega, rfl, rfl, rfl, rfl, by omega, by omega, hO, rn_V_up (n := 4 + (h + 1)) (fun j hj ne => hV j (by omega)) ⟨Or.inr (Or.inr (Or.inl ⟨rfl, rfl⟩)), fun z => absurd z (by decide)⟩⟩⟩
  · exact br_f (by decide) (br_f (by decide) (br_f (by decide) (br_t (by decide) (xr_pile (by omega) (aa_nb (n := 2) (by decide)) hp))))
  · refine yr_pre (by decide) hh ht hl (fun t v u w h1 h0 h2 => ?_)
    unfold wY_step_120
    exact br_t (by decide) (br_f (by decide) (nm_r (nI_1 i) (br_f (by decide) (br_f (by decide) (br_f (by decide) (br_t (by decide) (yr_put (by omega) hp)))))))
theorem rn_s2 {no h i : Nat} (P : pp_P cn hn op fr tt tg ct pa be ar) (M : pp_M cn hn op tg ar) (A : xa_A pa an) (hi : i < cn) (hop : op i = 2) (hno : no ≤ 203) (hh : h ≤ 6) (ht : aa_tk 2 ≤ h) (hl : h - aa_tk 2 + aa_pt 2 ≤ 6) (hO : rl_O no a_made a_ready b_classes b_ready) (hV : ∀ j, j < 4 + h → rn_V cn no (a_sort j) (a_number j) (b_sorts j) (b_ints j)) :
    ∃ x y : rn_T, (∀ post : SX → Prop, post ((nI cn), (nI hn), f_met, f_waiting, f_tooMany, f_size, f_height, f_why, f_found, x.1, x.2.1, x.2.2.1, (nI i), f_steps, x.2.2.2.1, x.2.2.2.2.1, f_ran, (aa_N pa), an, (aa_N be), (aa_N op), ar, (aa_N fr), (aa_N tt), (aa_N tg), (aa_N ct), a_keys, a_heights, a_faults, a_table, a_todo, a_said, a_sorted, a_instruction, a_values, a_jumps, a_caught, a_caller, a_mapped, a_known, a_types, a_maps, a_now, x.2.2.2.2.2.1, x.2.2.2.2.2.2.1, x.2.2.2.2.2.2.2.1, x.2.2.2.2.2.2.2.2) → wpX_step post ((nI cn), (nI hn), f_met, f_waiting, f_tooMany, f_size, f_height, f_why, f_found, (nI no), (nI (4 + h)), (nI (i + 1)), (nI i), f_steps, (-1), (-1), f_ran, (aa_N pa), an, (aa_N be), (aa_N op), ar, (aa_N fr), (aa_N tt), (aa_N tg), (aa_N ct), a_keys, a_heights, a_faults, a_table, a_todo, a_said, a_sorted, a_instruction, a_values, a_jumps, a_caught, a_caller, a_mapped, a_known, a_types, a_maps, a_now, a_sort, a_made, a_number, a_ready) (nI 2) (ar i) (nI (3 + h))) ∧ (∀ post : SY → Prop, post ((nI cn), (nI hn), g_many, g_there, g_typed, g_wrongNumber, g_wrongPlace, g_size, g_why, y.2.1, y.1, y.2.2.1, g_begun, y.2.2.2.2.1, y.2.2.2.1, (aa_N pa), (aa_N be), (aa_N op), ar, (aa_N fr), (aa_N tt), (aa_N tg), (aa_N ct), b_places, b_heights, b_gone, b_worst, b_frames, b_maps, b_high, b_known, b_mapped, b_now, y.2.2.2.2.2.1, y.2.2.2.2.2.2.2.1, y.2.2.2.2.2.2.1, y.2.2.2.2.2.2.2.2) → wpY_step post ((nI cn), (nI hn), g_many, g_there, g_typed, g_wrongNumber, g_wrongPlace, g_size, g_why, (nI h), (nI no), (nI i), g_begun, (-1), (-1), (aa_N pa), (aa_N be), (aa_N op), ar, (aa_N fr), (aa_N tt), (aa_N tg), (aa_N ct), b_places, b_heights, b_gone, b_worst, b_frames, b_maps, b_high, b_known, b_mapped, b_now, b_sorts, b_ints, b_classes, b_ready) (nI 2) (ar i)) ∧ rn_E cn no i x y := by
  have t1 : aa_tk 2 = 0 := rfl
  have t2 : aa_pt 2 = 1 := rfl
  have hc24 := P.1
  have hpa := P.2.2.2.2.1
  obtain ⟨g1, g2⟩ := pp_g4 P (i := i) (by omega)
  have ea : (nI (pp_g ar i)).toNatClampNeg = pp_g ar i := nI_clamp (by omega)
  have hina := vp_in_nI (n := pp_g ar i) (N := 10) (by omega) (by decide)
  have hv := hV (pp_g ar i) (by omega)
  obtain ⟨c0, c1, c2, c4, -, -, -, -⟩ := rl_cs (by omega) hv.1
  rw [g1]
  by_cases s0 : a_sort (pp_g ar i) = 0
  · refine ⟨(nI no, nI (4 + h), nI (i + 1), 4, -1, a_sort, a_made, a_number, a_ready), (nI no, nI h, nI i, 4, -1, b_sorts, b_classes, b_ints, b_ready), fun post hp => ?_, fun post hp => ?_, Or.inr ⟨by show (0 : Int32) ≤ 4; decide, rfl, rfl, rfl, no, by omega, hO, fun j hj => (hV j (by omega)).1⟩⟩
    · refine br_f (by decide) (br_f (by decide) (br_f (by decide) (br_f (by decide) (br_t (by decide) (And.intro hina ?_)))))
      rw [ea]; exact br_t s0 hp
    · refine yr_pre (by decide) hh ht hl (fun t v u w h1 h0 h2 => ?_)
      unfold wY_step_120
      refine br_f (by decide) (br_f (by decide) (br_t (by decide) (And.intro hina ?_)))
      rw [ea]; exact br_t (c0.mp s0) (br_t rfl hp)
  · by_cases s4 : a_sort (pp_g ar i) = 4
    · refine ⟨(nI no, nI (4 + h), nI (i + 1), 4, -1, a_sort, a_made, a_number, a_ready), (nI no, nI h, nI i, 4, -1, b_sorts, b_classes, b_ints, b_ready), fun post hp => ?_, fun post hp => ?_, Or.inr ⟨by show (0 : Int32) ≤ 4; decide, rfl, rfl, rfl, no, by omega, hO, fun j hj => (hV j (by omega)).1⟩⟩
      · refine br_f (by decide) (br_f (by decide) (br_f (by decide) (br_f (by decide) (br_t (by decide) (And.intro hina ?_)))))
        rw [ea]; exact br_f s0 (And.intro hina (br_t s4 hp))
      · refine yr_pre (by decide) hh ht hl (fun t v u w h1 h0 h2 => ?_)
        unfold wY_step_120
        refine br_f (by decide) (br_f (by decide) (br_t (by decide) (And.intro hina ?_)))
        rw [ea]; exact br_f (fun z => s0 (c0.mpr z)) (And.intro hina (br_t (c4.mp s4) (br_t rfl hp)))
    · refine ⟨(nI no, nI (4 + h + 1), nI (i + 1), -1, -1, upd a_sort (4 + h) (a_sort (pp_g ar i)), a_made, upd a_number (4 + h) (a_number (pp_g ar i)), a_ready), (nI no, nI (h + 1), nI (i + 1), -1, -1, upd b_sorts (4 + h) (b_sorts (pp_g ar i)), b_classes, upd b_ints (4 + h) (b_ints (pp_g ar i)), b_ready), fun post hp => ?_, fun post hp => ?_, Or.inl ⟨rfl, rfl, rfl, rfl, no, h + 1, i + 1, rfl, rfl, by omega, rfl, rfl, rfl, rfl, by omega, by omega, hO, rn_V_up (n := 4 + (h + 1)) (fun j hj ne => hV j (by omega)) hv⟩⟩
      · refine br_f (by decide) (br_f (by decide) (br_f (by decide) (br_f (by decide) (br_t (by decide) (And.intro hina ?_)))))
        rw [ea]; exact br_f s0 (And.intro hina (br_f s4 (And.intro hina (And.intro hina (xr_pile (by omega) (rl_V_n hv.1) hp)))))
      · refine yr_pre (by decide) hh ht hl (fun t v u w h1 h0 h2 => ?_)
        unfold wY_step_120
        refine br_f (by decide) (br_f (by decide) (br_t (by decide) (And.intro hina ?_)))
        rw [ea]
        refine br_f (fun z => s0 (c0.mpr z)) (And.intro hina (br_f (fun z => s4 (c4.mpr z)) (br_f (by decide) (nm_r (nI_1 i) (br_f (by decide) (br_f (by decide) (br_f (by decide) (br_f (by decide) (br_t (by decide) (?_))))))))))
        exact And.intro hina (And.intro hina (yr_put (by omega) hp))
theorem rn_s3 {no h i : Nat} (P : pp_P cn hn op fr tt tg ct pa be ar) (M : pp_M cn hn op tg ar) (A : xa_A pa an) (hi : i < cn) (hop : op i = 3) (hno : no ≤ 203) (hh : h ≤ 6) (ht : aa_tk 3 ≤ h) (hl : h - aa_tk 3 + aa_pt 3 ≤ 6) (hO : rl_O no a_made a_ready b_classes b_ready) (hV : ∀ j, j < 4 + h → rn_V cn no (a_sort j) (a_number j) (b_sorts j) (b_ints j)) :
    ∃ x y : rn_T, (∀ post : SX → Prop, post ((nI cn), (nI hn), f_met, f_waiting, f_tooMany, f_size, f_height, f_why, f_found, x.1, x.2.1, x.2.2.1, (nI i), f_steps, x.2.2.2.1, x.2.2.2.2.1, f_ran, (aa_N pa), an, (aa_N be), (aa_N op), ar, (aa_N fr), (aa_N tt), (aa_N tg), (aa_N ct), a_keys, a_heights, a_faults, a_table, a_todo, a_said, a_sorted, a_instruction, a_values, a_jumps, a_caught, a_caller, a_mapped, a_known, a_types, a_maps, a_now, x.2.2.2.2.2.1, x.2.2.2.2.2.2.1, x.2.2.2.2.2.2.2.1, x.2.2.2.2.2.2.2.2) → wpX_step post ((nI cn), (nI hn), f_met, f_waiting, f_tooMany, f_size, f_height, f_why, f_found, (nI no), (nI (4 + h)), (nI (i + 1)), (nI i), f_steps, (-1), (-1), f_ran, (aa_N pa), an, (aa_N be), (aa_N op), ar, (aa_N fr), (aa_N tt), (aa_N tg), (aa_N ct), a_keys, a_heights, a_faults, a_table, a_todo, a_said, a_sorted, a_instruction, a_values, a_jumps, a_caught, a_caller, a_mapped, a_known, a_types, a_maps, a_now, a_sort, a_made, a_number, a_ready) (nI 3) (ar i) (nI (3 + h))) ∧ (∀ post : SY → Prop, post ((nI cn), (nI hn), g_many, g_there, g_typed, g_wrongNumber, g_wrongPlace, g_size, g_why, y.2.1, y.1, y.2.2.1, g_begun, y.2.2.2.2.1, y.2.2.2.1, (aa_N pa), (aa_N be), (aa_N op), ar, (aa_N fr), (aa_N tt), (aa_N tg), (aa_N ct), b_places, b_heights, b_gone, b_worst, b_frames, b_maps, b_high, b_known, b_mapped, b_now, y.2.2.2.2.2.1, y.2.2.2.2.2.2.2.1, y.2.2.2.2.2.2.1, y.2.2.2.2.2.2.2.2) → wpY_step post ((nI cn), (nI hn), g_many, g_there, g_typed, g_wrongNumber, g_wrongPlace, g_size, g_why, (nI h), (nI no), (nI i), g_begun, (-1), (-1), (aa_N pa), (aa_N be), (aa_N op), ar, (aa_N fr), (aa_N tt), (aa_N tg), (aa_N ct), b_places, b_heights, b_gone, b_worst, b_frames, b_maps, b_high, b_known, b_mapped, b_now, b_sorts, b_ints, b_classes, b_ready) (nI 3) (ar i)) ∧ rn_E cn no i x y := by
  have t1 : aa_tk 3 = 1 := rfl
  have t2 : aa_pt 3 = 0 := rfl
  have hc24 := P.1
  have hpa := P.2.2.2.2.1
  obtain ⟨g1, g2⟩ := pp_g4 P (i := i) (by omega)
  have ea : (nI (pp_g ar i)).toNatClampNeg = pp_g ar i := nI_clamp (by omega)
  have et : (nI (3 + h)).toNatClampNeg = 3 + h := nI_clamp (by omega)
  have hina := vp_in_nI (n := pp_g ar i) (N := 10) (by omega) (by decide)
  have hint := vp_in_nI (n := 3 + h) (N := 10) (by omega) (by decide)
  have hv := hV (3 + h) (by omega)
  have eh : nI (4 + h) - 1 = nI (4 + (h - 1)) := (pk_sub (b := 1) (by omega)).trans (congrArg nI (by omega))
  rw [g1]
  refine ⟨(nI no, nI (4 + (h - 1)), nI (i + 1), -1, -1, upd a_sort (pp_g ar i) (a_sort (3 + h)), a_made, upd a_number (pp_g ar i) (a_number (3 + h)), a_ready), (nI no, nI (h - 1), nI (i + 1), -1, -1, upd b_sorts (pp_g ar i) (b_sorts (3 + h)), b_classes, upd b_ints (pp_g ar i) (b_ints (3 + h)), b_ready), fun post hp => ?_, fun post hp => ?_, Or.inl ⟨rfl, rfl, rfl, rfl, no, h - 1, i + 1, rfl, rfl, by omega, rfl, rfl, rfl, rfl, by omega, by omega, hO, rn_V_up (n := 4 + (h - 1)) (fun j hj ne => hV j (by omega)) hv⟩⟩
  · refine br_f (by decide) (br_f (by decide) (br_f (by decide) (br_f (by decide) (br_f (by decide) (br_t (by decide) (And.intro hint (And.intro hint ?_)))))))
    rw [et]; exact xr_set (by omega) (rl_V_n hv.1) (nm_r eh hp)
  · refine yr_pre (by decide) hh ht hl (fun t v u w h1 h0 h2 => ?_)
    obtain ⟨q1, q2⟩ := h1 (by omega)
    unfold wY_step_120
    rw [q1, q2]
    exact br_f (by decide) (br_f (by decide) (br_f (by decide) (br_t (by decide) (br_f (by decide) (nm_r (nI_1 i) (br_f (by decide) (br_f (by decide) (br_f (by decide) (br_f (by decide) (br_f (by decide) (br_t (by decide) (And.intro hina (nm_r (e' := upd b_sorts (pp_g ar i) (b_sorts (3 + h))) (by rw [ea]) (And.intro hina (nm_r (e' := upd b_ints (pp_g ar i) (b_ints (3 + h))) (by rw [ea]) hp)))))))))))))))
theorem rn_s4 {no h i : Nat} (P : pp_P cn hn op fr tt tg ct pa be ar) (M : pp_M cn hn op tg ar) (A : xa_A pa an) (hi : i < cn) (hop : op i = 4) (hno : no ≤ 203) (hh : h ≤ 6) (ht : aa_tk 4 ≤ h) (hl : h - aa_tk 4 + aa_pt 4 ≤ 6) (hO : rl_O no a_made a_ready b_classes b_ready) (hV : ∀ j, j < 4 + h → rn_V cn no (a_sort j) (a_number j) (b_sorts j) (b_ints j)) :
    ∃ x y : rn_T, (∀ post : SX → Prop, post ((nI cn), (nI hn), f_met, f_waiting, f_tooMany, f_size, f_height, f_why, f_found, x.1, x.2.1, x.2.2.1, (nI i), f_steps, x.2.2.2.1, x.2.2.2.2.1, f_ran, (aa_N pa), an, (aa_N be), (aa_N op), ar, (aa_N fr), (aa_N tt), (aa_N tg), (aa_N ct), a_keys, a_heights, a_faults, a_table, a_todo, a_said, a_sorted, a_instruction, a_values, a_jumps, a_caught, a_caller, a_mapped, a_known, a_types, a_maps, a_now, x.2.2.2.2.2.1, x.2.2.2.2.2.2.1, x.2.2.2.2.2.2.2.1, x.2.2.2.2.2.2.2.2) → wpX_step post ((nI cn), (nI hn), f_met, f_waiting, f_tooMany, f_size, f_height, f_why, f_found, (nI no), (nI (4 + h)), (nI (i + 1)), (nI i), f_steps, (-1), (-1), f_ran, (aa_N pa), an, (aa_N be), (aa_N op), ar, (aa_N fr), (aa_N tt), (aa_N tg), (aa_N ct), a_keys, a_heights, a_faults, a_table, a_todo, a_said, a_sorted, a_instruction, a_values, a_jumps, a_caught, a_caller, a_mapped, a_known, a_types, a_maps, a_now, a_sort, a_made, a_number, a_ready) (nI 4) (ar i) (nI (3 + h))) ∧ (∀ post : SY → Prop, post ((nI cn), (nI hn), g_many, g_there, g_typed, g_wrongNumber, g_wrongPlace, g_size, g_why, y.2.1, y.1, y.2.2.1, g_begun, y.2.2.2.2.1, y.2.2.2.1, (aa_N pa), (aa_N be), (aa_N op), ar, (aa_N fr), (aa_N tt), (aa_N tg), (aa_N ct), b_places, b_heights, b_gone, b_worst, b_frames, b_maps, b_high, b_known, b_mapped, b_now, y.2.2.2.2.2.1, y.2.2.2.2.2.2.2.1, y.2.2.2.2.2.2.1, y.2.2.2.2.2.2.2.2) → wpY_step post ((nI cn), (nI hn), g_many, g_there, g_typed, g_wrongNumber, g_wrongPlace, g_size, g_why, (nI h), (nI no), (nI i), g_begun, (-1), (-1), (aa_N pa), (aa_N be), (aa_N op), ar, (aa_N fr), (aa_N tt), (aa_N tg), (aa_N ct), b_places, b_heights, b_gone, b_worst, b_frames, b_maps, b_high, b_known, b_mapped, b_now, b_sorts, b_ints, b_classes, b_ready) (nI 4) (ar i)) ∧ rn_E cn no i x y := by
  have t1 : aa_tk 4 = 1 := rfl
  have t2 : aa_pt 4 = 0 := rfl
  have hc24 := P.1
  have hpa := P.2.2.2.2.1
  have eh : nI (4 + h) - 1 = nI (4 + (h - 1)) := (pk_sub (b := 1) (by omega)).trans (congrArg nI (by omega))
  refine ⟨(nI no, nI (4 + (h - 1)), nI (i + 1), -1, -1, a_sort, a_made, a_number, a_ready), (nI no, nI (h - 1), nI (i + 1), -1, -1, b_sorts, b_classes, b_ints, b_ready), fun post hp => ?_, fun post hp => ?_, Or.inl ⟨rfl, rfl, rfl, rfl, no, h - 1, i + 1, rfl, rfl, by omega, rfl, rfl, rfl, rfl, by omega, by omega, hO, fun j hj => hV j (by omega)⟩⟩
  · exact br_f (by decide) (br_f (by decide) (br_f (by decide) (br_f (by decide) (br_f (by decide) (br_f (by decide) (br_t (by decide) (nm_r eh hp)))))))
  · refine yr_pre (by decide) hh ht hl (fun t v u w h1 h0 h2 => ?_)
    unfold wY_step_120
    exact br_f (by decide) (br_f (by decide) (br_f (by decide) (br_f (by decide) (br_t (by decide) (br_f (by decide) (nm_r (nI_1 i) (br_f (by decide) (br_f (by decide) (br_f (by decide) (br_f (by decide) (br_f (by decide) (br_f (by decide) (br_t (by decide) (hp))))))))))))))
theorem rn_s5 {no h i : Nat} (P : pp_P cn hn op fr tt tg ct pa be ar) (M : pp_M cn hn op tg ar) (A : xa_A pa an) (hi : i < cn) (hop : op i = 5) (hno : no ≤ 203) (hh : h ≤ 6) (ht : aa_tk 5 ≤ h) (hl : h - aa_tk 5 + aa_pt 5 ≤ 6) (hO : rl_O no a_made a_ready b_classes b_ready) (hV : ∀ j, j < 4 + h → rn_V cn no (a_sort j) (a_number j) (b_sorts j) (b_ints j)) :
    ∃ x y : rn_T, (∀ post : SX → Prop, post ((nI cn), (nI hn), f_met, f_waiting, f_tooMany, f_size, f_height, f_why, f_found, x.1, x.2.1, x.2.2.1, (nI i), f_steps, x.2.2.2.1, x.2.2.2.2.1, f_ran, (aa_N pa), an, (aa_N be), (aa_N op), ar, (aa_N fr), (aa_N tt), (aa_N tg), (aa_N ct), a_keys, a_heights, a_faults, a_table, a_todo, a_said, a_sorted, a_instruction, a_values, a_jumps, a_caught, a_caller, a_mapped, a_known, a_types, a_maps, a_now, x.2.2.2.2.2.1, x.2.2.2.2.2.2.1, x.2.2.2.2.2.2.2.1, x.2.2.2.2.2.2.2.2) → wpX_step post ((nI cn), (nI hn), f_met, f_waiting, f_tooMany, f_size, f_height, f_why, f_found, (nI no), (nI (4 + h)), (nI (i + 1)), (nI i), f_steps, (-1), (-1), f_ran, (aa_N pa), an, (aa_N be), (aa_N op), ar, (aa_N fr), (aa_N tt), (aa_N tg), (aa_N ct), a_keys, a_heights, a_faults, a_table, a_todo, a_said, a_sorted, a_instruction, a_values, a_jumps, a_caught, a_caller, a_mapped, a_known, a_types, a_maps, a_now, a_sort, a_made, a_number, a_ready) (nI 5) (ar i) (nI (3 + h))) ∧ (∀ post : SY → Prop, post ((nI cn), (nI hn), g_many, g_there, g_typed, g_wrongNumber, g_wrongPlace, g_size, g_why, y.2.1, y.1, y.2.2.1, g_begun, y.2.2.2.2.1, y.2.2.2.1, (aa_N pa), (aa_N be), (aa_N op), ar, (aa_N fr), (aa_N tt), (aa_N tg), (aa_N ct), b_places, b_heights, b_gone, b_worst, b_frames, b_maps, b_high, b_known, b_mapped, b_now, y.2.2.2.2.2.1, y.2.2.2.2.2.2.2.1, y.2.2.2.2.2.2.1, y.2.2.2.2.2.2.2.2) → wpY_step post ((nI cn), (nI hn), g_many, g_there, g_typed, g_wrongNumber, g_wrongPlace, g_size, g_why, (nI h), (nI no), (nI i), g_begun, (-1), (-1), (aa_N pa), (aa_N be), (aa_N op), ar, (aa_N fr), (aa_N tt), (aa_N tg), (aa_N ct), b_places, b_heights, b_gone, b_worst, b_frames, b_maps, b_high, b_known, b_mapped, b_now, b_sorts, b_ints, b_classes, b_ready) (nI 5) (ar i)) ∧ rn_E cn no i x y := by
  have t1 : aa_tk 5 = 1 := rfl
  have t2 : aa_pt 5 = 2 := rfl
  have hc24 := P.1
  have hpa := P.2.2.2.2.1
  have et : (nI (3 + h)).toNatClampNeg = 3 + h := nI_clamp (by omega)
  have hint := vp_in_nI (n := 3 + h) (N := 10) (by omega) (by decide)
  have hv := hV (3 + h) (by omega)
  have e5 : h - aa_tk 5 = h - 1 := by omega
  refine ⟨(nI no, nI (4 + h + 1), nI (i + 1), -1, -1, upd a_sort (4 + h) (a_sort (3 + h)), a_made, upd a_number (4 + h) (a_number (3 + h)), a_ready), (nI no, nI (h - 1 + 1 + 1), nI (i + 1), -1, -1, upd (upd b_sorts (4 + (h - 1)) (b_sorts (3 + h))) (4 + (h - 1 + 1)) (b_sorts (3 + h)), b_classes, upd (upd b_ints (4 + (h - 1)) (b_ints (3 + h))) (4 + (h - 1 + 1)) (b_ints (3 + h)), b_ready), fun post hp => ?_, fun post hp => ?_, Or.inl ⟨rfl, rfl, rfl, rfl, no, h + 1, i + 1, rfl, rfl, by omega, rfl, congrArg nI (show h - 1 + 1 + 1 = h + 1 by omega), rfl, rfl, by omega, by omega, hO, ?_⟩⟩
  · refine br_f (by decide) (br_f (by decide) (br_f (by decide) (br_f (by decide) (br_f (by decide) (br_f (by decide) (br_f (by decide) (br_t (by decide) (And.intro hint (And.intro hint ?_)))))))))
    rw [et]; exact xr_pile (by omega) (rl_V_n hv.1) hp
  · refine yr_pre (by decide) hh ht hl (fun t v u w h1 h0 h2 => ?_)
    obtain ⟨q1, q2⟩ := h1 (by omega)
    unfold wY_step_120
    rw [q1, q2, e5]
    exact br_f (by decide) (br_f (by decide) (br_f (by decide) (br_f (by decide) (br_f (by decide) (br_t (by decide) (br_f (by decide) (nm_r (nI_1 i) (br_f (by decide) (br_f (by decide) (br_f (by decide) (br_f (by decide) (br_f (by decide) (br_f (by decide) (br_f (by decide) (br_t (by decide) (yr_put (by omega) (yr_put (by omega) hp)))))))))))))))))
  · rw [show 4 + (h - 1 + 1) = 4 + h from by omega, show 4 + (h - 1) = 3 + h from by omega]
    refine rn_V_up (n := 4 + (h + 1)) (fun j hj ne => ?_) hv
    by_cases e : j = 3 + h
    · rw [e, pk_us, pk_us]; exact hv
    · rw [pk_un e, pk_un e]; exact hV j (by omega)
theorem rn_s6 {no h i : Nat} (P : pp_P cn hn op fr tt tg ct pa be ar) (M : pp_M cn hn op tg ar) (A : xa_A pa an) (hi : i < cn) (hop : op i = 6) (hno : no ≤ 203) (hh : h ≤ 6) (ht : aa_tk 6 ≤ h) (hl : h - aa_tk 6 + aa_pt 6 ≤ 6) (hO : rl_O no a_made a_ready b_classes b_ready) (hV : ∀ j, j < 4 + h → rn_V cn no (a_sort j) (a_number j) (b_sorts j) (b_ints j)) :
    ∃ x y : rn_T, (∀ post : SX → Prop, post ((nI cn), (nI hn), f_met, f_waiting, f_tooMany, f_size, f_height, f_why, f_found, x.1, x.2.1, x.2.2.1, (nI i), f_steps, x.2.2.2.1, x.2.2.2.2.1, f_ran, (aa_N pa), an, (aa_N be), (aa_N op), ar, (aa_N fr), (aa_N tt), (aa_N tg), (aa_N ct), a_keys, a_heights, a_faults, a_table, a_todo, a_said, a_sorted, a_instruction, a_values, a_jumps, a_caught, a_caller, a_mapped, a_known, a_types, a_maps, a_now, x.2.2.2.2.2.1, x.2.2.2.2.2.2.1, x.2.2.2.2.2.2.2.1, x.2.2.2.2.2.2.2.2) → wpX_step post ((nI cn), (nI hn), f_met, f_waiting, f_tooMany, f_size, f_height, f_why, f_found, (nI no), (nI (4 + h)), (nI (i + 1)), (nI i), f_steps, (-1), (-1), f_ran, (aa_N pa), an, (aa_N be), (aa_N op), ar, (aa_N fr), (aa_N tt), (aa_N tg), (aa_N ct), a_keys, a_heights, a_faults, a_table, a_todo, a_said, a_sorted, a_instruction, a_values, a_jumps, a_caught, a_caller, a_mapped, a_known, a_types, a_maps, a_now, a_sort, a_made, a_number, a_ready) (nI 6) (ar i) (nI (3 + h))) ∧ (∀ post : SY → Prop, post ((nI cn), (nI hn), g_many, g_there, g_typed, g_wrongNumber, g_wrongPlace, g_size, g_why, y.2.1, y.1, y.2.2.1, g_begun, y.2.2.2.2.1, y.2.2.2.1, (aa_N pa), (aa_N be), (aa_N op), ar, (aa_N fr), (aa_N tt), (aa_N tg), (aa_N ct), b_places, b_heights, b_gone, b_worst, b_frames, b_maps, b_high, b_known, b_mapped, b_now, y.2.2.2.2.2.1, y.2.2.2.2.2.2.2.1, y.2.2.2.2.2.2.1, y.2.2.2.2.2.2.2.2) → wpY_step post ((nI cn), (nI hn), g_many, g_there, g_typed, g_wrongNumber, g_wrongPlace, g_size, g_why, (nI h), (nI no), (nI i), g_begun, (-1), (-1), (aa_N pa), (aa_N be), (aa_N op), ar, (aa_N fr), (aa_N tt), (aa_N tg), (aa_N ct), b_places, b_heights, b_gone, b_worst, b_frames, b_maps, b_high, b_known, b_mapped, b_now, b_sorts, b_ints, b_classes, b_ready) (nI 6) (ar i)) ∧ rn_E cn no i x y := by
  have t1 : aa_tk 6 = 2 := rfl
  have t2 : aa_pt 6 = 2 := rfl
  have hc24 := P.1
  have hpa := P.2.2.2.2.1
  have et : (nI (3 + h)).toNatClampNeg = 3 + h := nI_clamp (by omega)
  have eu : (nI (2 + h)).toNatClampNeg = 2 + h := nI_clamp (by omega)
  have e2 : nI (3 + h) - 1 = nI (2 + h) := (pk_sub (b := 1) (by omega)).trans (congrArg nI (by omega))
  have hint := vp_in_nI (n := 3 + h) (N := 10) (by omega) (by decide)
  have hinu := vp_in_nI (n := 2 + h) (N := 10) (by omega) (by decide)
  have hv := hV (3 + h) (by omega)
  have hu := hV (2 + h) (by omega)
  have e5 : h - aa_tk 6 = h - 2 := by omega
  refine ⟨(nI no, nI (4 + h), nI (i + 1), -1, -1, upd (upd a_sort (3 + h) (a_sort (2 + h))) (2 + h) (a_sort (3 + h)), a_made, upd (upd a_number (3 + h) (a_number (2 + h))) (2 + h) (a_number (3 + h)), a_ready), (nI no, nI (h - 2 + 1 + 1), nI (i + 1), -1, -1, upd (upd b_sorts (4 + (h - 2)) (b_sorts (3 + h))) (4 + (h - 2 + 1)) (b_sorts (2 + h)), b_classes, upd (upd b_ints (4 + (h - 2)) (b_ints (3 + h))) (4 + (h - 2 + 1)) (b_ints (2 + h)), b_ready), fun post hp => ?_, fun post hp => ?_, Or.inl ⟨rfl, rfl, rfl, rfl, no, h, i + 1, rfl, rfl, by omega, rfl, congrArg nI (show h - 2 + 1 + 1 = h by omega), rfl, rfl, by omega, by omega, hO, ?_⟩⟩
  · refine br_f (by decide) (br_f (by decide) (br_f (by decide) (br_f (by decide) (br_f (by decide) (br_f (by decide) (br_f (by decide) (br_f (by decide) (br_t (by decide) (And.intro hint ?_)))))))))
    rw [e2, et, eu]
    exact nm_e (And.intro hint (nm_e (And.intro hinu (And.intro hinu (xr_set (by omega) (rl_V_n hu.1) (xr_set (by omega) (rl_V_n hv.1) hp))))))
  · refine yr_pre (by decide) hh ht hl (fun t v u w h1 h0 h2 => ?_)
    obtain ⟨q1, q2⟩ := h1 (by omega)
    obtain ⟨q3, q4⟩ := h2 (by omega)
    unfold wY_step_120
    rw [q1, q2, q3, q4, e5]
    exact br_f (by decide) (br_f (by decide) (br_f (by decide) (br_f (by decide) (br_f (by decide) (br_f (by decide) (br_t (by decide) (br_f (by decide) (nm_r (nI_1 i) (br_f (by decide) (br_f (by decide) (br_f (by decide) (br_f (by decide) (br_f (by decide) (br_f (by decide) (br_f (by decide) (br_f (by decide) (br_t (by decide) (yr_put (by omega) (yr_put (by omega) hp)))))))))))))))))))
  · rw [show 4 + (h - 2 + 1) = 3 + h from by omega, show 4 + (h - 2) = 2 + h from by omega]
    intro j hj
    dsimp only
    by_cases e : j = 2 + h
    · rw [e, pk_us, pk_us, pk_un (by omega), pk_us, pk_un (by omega), pk_us]; exact hv
    · by_cases e' : j = 3 + h
      · rw [e', pk_un (by omega), pk_us, pk_un (by omega), pk_us, pk_us, pk_us]; exact hu
      · rw [pk_un e, pk_un e', pk_un e, pk_un e', pk_un e', pk_un e, pk_un e', pk_un e]; exact hV j (by omega)
theorem rn_s7 {no h i : Nat} (P : pp_P cn hn op fr tt tg ct pa be ar) (M : pp_M cn hn op tg ar) (A : xa_A pa an) (hi : i < cn) (hop : op i = 7) (hno : no ≤ 203) (hh : h ≤ 6) (ht : aa_tk 7 ≤ h) (hl : h - aa_tk 7 + aa_pt 7 ≤ 6) (hO : rl_O no a_made a_ready b_classes b_ready) (hV : ∀ j, j < 4 + h → rn_V cn no (a_sort j) (a_number j) (b_sorts j) (b_ints j)) :
    ∃ x y : rn_T, (∀ post : SX → Prop, post ((nI cn), (nI hn), f_met, f_waiting, f_tooMany, f_size, f_height, f_why, f_found, x.1, x.2.1, x.2.2.1, (nI i), f_steps, x.2.2.2.1, x.2.2.2.2.1, f_ran, (aa_N pa), an, (aa_N be), (aa_N op), ar, (aa_N fr), (aa_N tt), (aa_N tg), (aa_N ct), a_keys, a_heights, a_faults, a_table, a_todo, a_said, a_sorted, a_instruction, a_values, a_jumps, a_caught, a_caller, a_mapped, a_known, a_types, a_maps, a_now, x.2.2.2.2.2.1, x.2.2.2.2.2.2.1, x.2.2.2.2.2.2.2.1, x.2.2.2.2.2.2.2.2) → wpX_step post ((nI cn), (nI hn), f_met, f_waiting, f_tooMany, f_size, f_height, f_why, f_found, (nI no), (nI (4 + h)), (nI (i + 1)), (nI i), f_steps, (-1), (-1), f_ran, (aa_N pa), an, (aa_N be), (aa_N op), ar, (aa_N fr), (aa_N tt), (aa_N tg), (aa_N ct), a_keys, a_heights, a_faults, a_table, a_todo, a_said, a_sorted, a_instruction, a_values, a_jumps, a_caught, a_caller, a_mapped, a_known, a_types, a_maps, a_now, a_sort, a_made, a_number, a_ready) (nI 7) (ar i) (nI (3 + h))) ∧ (∀ post : SY → Prop, post ((nI cn), (nI hn), g_many, g_there, g_typed, g_wrongNumber, g_wrongPlace, g_size, g_why, y.2.1, y.1, y.2.2.1, g_begun, y.2.2.2.2.1, y.2.2.2.1, (aa_N pa), (aa_N be), (aa_N op), ar, (aa_N fr), (aa_N tt), (aa_N tg), (aa_N ct), b_places, b_heights, b_gone, b_worst, b_frames, b_maps, b_high, b_known, b_mapped, b_now, y.2.2.2.2.2.1, y.2.2.2.2.2.2.2.1, y.2.2.2.2.2.2.1, y.2.2.2.2.2.2.2.2) → wpY_step post ((nI cn), (nI hn), g_many, g_there, g_typed, g_wrongNumber, g_wrongPlace, g_size, g_why, (nI h), (nI no), (nI i), g_begun, (-1), (-1), (aa_N pa), (aa_N be), (aa_N op), ar, (aa_N fr), (aa_N tt), (aa_N tg), (aa_N ct), b_places, b_heights, b_gone, b_worst, b_frames, b_maps, b_high, b_known, b_mapped, b_now, b_sorts, b_ints, b_classes, b_ready) (nI 7) (ar i)) ∧ rn_E cn no i x y := by
  have t1 : aa_tk 7 = 2 := rfl
  have t2 : aa_pt 7 = 1 := rfl
  have hc24 := P.1
  have hpa := P.2.2.2.2.1
  have et : (nI (3 + h)).toNatClampNeg = 3 + h := nI_clamp (by omega)
  have eu : (nI (2 + h)).toNatClampNeg = 2 + h := nI_clamp (by omega)
  have e2 : nI (3 + h) - 1 = nI (2 + h) := (pk_sub (b := 1) (by omega)).trans (congrArg nI (by omega))
  have eh : nI (4 + h) - 1 = nI (4 + (h - 1)) := (pk_sub (b := 1) (by omega)).trans (congrArg nI (by omega))
  have hint := vp_in_nI (n := 3 + h) (N := 10) (by omega) (by decide)
  have hinu := vp_in_nI (n := 2 + h) (N := 10) (by omega) (by decide)
  have hv := hV (3 + h) (by omega)
  have hu := hV (2 + h) (by omega)
  have e5 : h - aa_tk 7 = h - 2 := by omega
  obtain ⟨-, c1, -, -, v1, -, -, -⟩ := rl_cs (by omega) hv.1
  obtain ⟨-, d1, -, -, w1, -, -, -⟩ := rl_cs (by omega) hu.1
  by_cases T : a_sort (3 + h) = 1
  · by_cases U : a_sort (2 + h) = 1
    · refine ⟨(nI no, nI (4 + (h - 1)), nI (i + 1), -1, -1, a_sort, a_made, upd a_number (2 + h) (a_number (2 + h) + a_number (3 + h)), a_ready), (nI no, nI (h - 2 + 1), nI (i + 1), -1, -1, upd b_sorts (4 + (h - 2)) 1, b_classes, upd b_ints (4 + (h - 2)) (b_ints (3 + h) + b_ints (2 + h)), b_ready), fun post hp => ?_, fun post hp => ?_, Or.inl ⟨rfl, rfl, rfl, rfl, no, h - 1, i + 1, rfl, rfl, by omega, rfl, congrArg nI (show h - 2 + 1 = h - 1 by omega), rfl, rfl, by omega, by omega, hO, ?_⟩⟩
      · refine br_f (by decide) (br_f (by decide) (br_f (by decide) (br_f (by decide) (br_f (by decide) (br_f (by decide) (br_f (by decide) (br_f (by decide) (br_f (by decide) (br_t (by decide) (And.intro hint ?_))))))))))
        rw [e2, et, eu]
        exact br_t T (And.intro hinu (br_t U (And.intro hinu (And.intro hint (And.intro hinu (nm_e (nm_r eh hp)))))))
      · refine yr_pre (by decide) hh ht hl (fun t v u w h1 h0 h2 => ?_)
        obtain ⟨q1, q2⟩ := h1 (by omega)
        obtain ⟨q3, q4⟩ := h2 (by omega)
        unfold wY_step_120
        rw [q1, q2, q3, q4, e5]
        exact br_f (by decide) (br_f (by decide) (br_f (by decide) (br_f (by decide) (br_f (by decide) (br_f (by decide) (br_f (by decide) (br_t (by decide) (br_t (c1.mp T) (br_t (d1.mp U) (br_f (by decide) (nm_r (nI_1 i) (br_f (by decide) (br_f (by decide) (br_f (by decide) (br_f (by decide) (br_f (by decide) (br_f (by decide) (br_f (by decide) (br_f (by decide) (br_f (by decide) (br_t (by decide) (yr_put (by omega) hp))))))))))))))))))))))
      · rw [show 4 + (h - 2) = 2 + h from by omega]
        intro j hj
        dsimp only
        by_cases e : j = 2 + h
        · rw [e, pk_us, pk_us, pk_us, U, w1 U, v1 T, Int32.add_comm]; exact ⟨Or.inr (Or.inl ⟨rfl, rfl, rfl⟩), fun z => absurd z (by decide)⟩
        · rw [pk_un e, pk_un e, pk_un e]; exact hV j (by omega)
    · refine ⟨(nI no, nI (4 + (h - 1)), nI (i + 1), 4, -1, a_sort, a_made, a_number, a_ready), (nI no, nI h, nI i, 4, -1, b_sorts, b_classes, b_ints, b_ready), fun post hp => ?_, fun post hp => ?_, Or.inr ⟨by show (0 : Int32) ≤ 4; decide, rfl, rfl, rfl, no, by omega, hO, fun j hj => (hV j (by omega)).1⟩⟩
      · refine br_f (by decide) (br_f (by decide) (br_f (by decide) (br_f (by decide) (br_f (by decide) (br_f (by decide) (br_f (by decide) (br_f (by decide) (br_f (by decide) (br_t (by decide) (And.intro hint ?_))))))))))
        rw [e2, et, eu]
        exact br_t T (And.intro hinu (br_f U (nm_r eh hp)))
      · refine yr_pre (by decide) hh ht hl (fun t v u w h1 h0 h2 => ?_)
        obtain ⟨q1, q2⟩ := h1 (by omega)
        obtain ⟨q3, q4⟩ := h2 (by omega)
        unfold wY_step_120
        rw [q1, q2, q3, q4]
        exact br_f (by decide) (br_f (by decide) (br_f (by decide) (br_f (by decide) (br_f (by decide) (br_f (by decide) (br_f (by decide) (br_t (by decide) (br_t (c1.mp T) (br_f (fun z => U (d1.mpr z)) (br_t rfl hp))))))))))
  · refine ⟨(nI no, nI (4 + (h - 1)), nI (i + 1), 4, -1, a_sort, a_made, a_number, a_ready), (nI no, nI h, nI i, 4, -1, b_sorts, b_classes, b_ints, b_ready), fun post hp => ?_, fun post hp => ?_, Or.inr ⟨by show (0 : Int32) ≤ 4; decide, rfl, rfl, rfl, no, by omega, hO, fun j hj => (hV j (by omega)).1⟩⟩
    · refine br_f (by decide) (br_f (by decide) (br_f (by decide) (br_f (by decide) (br_f (by decide) (br_f (by decide) (br_f (by decide) (br_f (by decide) (br_f (by decide) (br_t (by decide) (And.intro hint ?_))))))))))
      rw [et]
      exact br_f T (nm_r eh hp)
    · refine yr_pre (by decide) hh ht hl (fun t v u w h1 h0 h2 => ?_)
      obtain ⟨q1, q2⟩ := h1 (by omega)
      unfold wY_step_120
      rw [q1, q2]
      exact br_f (by decide) (br_f (by decide) (br_f (by decide) (br_f (by decide) (br_f (by decide) (br_f (by decide) (br_f (by decide) (br_t (by decide) (br_f (fun z => T (c1.mpr z)) (br_t rfl hp)))))))))
theorem rn_s8 {no h i : Nat} (P : pp_P cn hn op fr tt tg ct pa be ar) (M : pp_M cn hn op tg ar) (A : xa_A pa an) (hi : i < cn) (hop : op i = 8) (hno : no ≤ 203) (hh : h ≤ 6) (ht : aa_tk 8 ≤ h) (hl : h - aa_tk 8 + aa_pt 8 ≤ 6) (hO : rl_O no a_made a_ready b_classes b_ready) (hV : ∀ j, j < 4 + h → rn_V cn no (a_sort j) (a_number j) (b_sorts j) (b_ints j)) :
    ∃ x y : rn_T, (∀ post : SX → Prop, post ((nI cn), (nI hn), f_met, f_waiting, f_tooMany, f_size, f_height, f_why, f_found, x.1, x.2.1, x.2.2.1, (nI i), f_steps, x.2.2.2.1, x.2.2.2.2.1, f_ran, (aa_N pa), an, (aa_N be), (aa_N op), ar, (aa_N fr), (aa_N tt), (aa_N tg), (aa_N ct), a_keys, a_heights, a_faults, a_table, a_todo, a_said, a_sorted, a_instruction, a_values, a_jumps, a_caught, a_caller, a_mapped, a_known, a_types, a_maps, a_now, x.2.2.2.2.2.1, x.2.2.2.2.2.2.1, x.2.2.2.2.2.2.2.1, x.2.2.2.2.2.2.2.2) → wpX_step post ((nI cn), (nI hn), f_met, f_waiting, f_tooMany, f_size, f_height, f_why, f_found, (nI no), (nI (4 + h)), (nI (i + 1)), (nI i), f_steps, (-1), (-1), f_ran, (aa_N pa), an, (aa_N be), (aa_N op), ar, (aa_N fr), (aa_N tt), (aa_N tg), (aa_N ct), a_keys, a_heights, a_faults, a_table, a_todo, a_said, a_sorted, a_instruction, a_values, a_jumps, a_caught, a_caller, a_mapped, a_known, a_types, a_maps, a_now, a_sort, a_made, a_number, a_ready) (nI 8) (ar i) (nI (3 + h))) ∧ (∀ post : SY → Prop, post ((nI cn), (nI hn), g_many, g_there, g_typed, g_wrongNumber, g_wrongPlace, g_size, g_why, y.2.1, y.1, y.2.2.1, g_begun, y.2.2.2.2.1, y.2.2.2.1, (aa_N pa), (aa_N be), (aa_N op), ar, (aa_N fr), (aa_N tt), (aa_N tg), (aa_N ct), b_places, b_heights, b_gone, b_worst, b_frames, b_maps, b_high, b_known, b_mapped, b_now, y.2.2.2.2.2.1, y.2.2.2.2.2.2.2.1, y.2.2.2.2.2.2.1, y.2.2.2.2.2.2.2.2) → wpY_step post ((nI cn), (nI hn), g_many, g_there, g_typed, g_wrongNumber, g_wrongPlace, g_size, g_why, (nI h), (nI no), (nI i), g_begun, (-1), (-1), (aa_N pa), (aa_N be), (aa_N op), ar, (aa_N fr), (aa_N tt), (aa_N tg), (aa_N ct), b_places, b_heights, b_gone, b_worst, b_frames, b_maps, b_high, b_known, b_mapped, b_now, b_sorts, b_ints, b_classes, b_ready) (nI 8) (ar i)) ∧ rn_E cn no i x y := by
  have t1 : aa_tk 8 = 0 := rfl
  have t2 : aa_pt 8 = 1 := rfl
  have hc24 := P.1
  have hpa := P.2.2.2.2.1
  obtain ⟨g1, g2⟩ := pp_g8 P (i := i) (by omega)
  rw [g1]
  refine ⟨(nI (no + 1), nI (4 + h + 1), nI (i + 1), -1, -1, upd a_sort (4 + h) 3, upd a_made no (nI (pp_g ar i)), upd a_number (4 + h) (nI no), upd a_ready no 0), (nI (no + 1), nI (h + 1), nI (i + 1), -1, -1, upd b_sorts (4 + h) (nI (4 + no)), upd b_classes no (nI (pp_g ar i)), upd b_ints (4 + h) 0, upd b_ready no 0), fun post hp => ?_, fun post hp => ?_, Or.inl ⟨rfl, rfl, rfl, rfl, no + 1, h + 1, i + 1, rfl, rfl, by omega, rfl, rfl, rfl, rfl, by omega, by omega, rl_O_new hO g2 (Or.inl rfl), rn_V_up (n := 4 + (h + 1)) (fun j hj ne => rn_V_mono (by omega) (hV j (by omega))) ⟨Or.inr (Or.inr (Or.inr (Or.inl ⟨no, by omega, rfl, rfl, rfl⟩))), fun z => absurd z (by decide)⟩⟩⟩
  · refine br_f (by decide) (br_t (by decide) (xr_further hpa A (by omega) hh hO (fun z => ⟨_, _, (hV (3 + h) (by omega)).1⟩) (fun z0 hz0 => ?_)))
    exact br_f (by decide) (br_f (by decide) (br_t (by decide) (xr_object (by omega) (by omega) (Or.inl rfl) (xr_pile (by omega) (aa_nb (n := 3) (by decide)) hp))))
  · refine yr_pre (by decide) hh ht hl (fun t v u w h1 h0 h2 => ?_)
    unfold wY_step_120
    exact br_f (by decide) (br_f (by decide) (br_f (by decide) (br_f (by decide) (br_f (by decide) (br_f (by decide) (br_f (by decide) (br_f (by decide) (br_t (by decide) (br_f (by decide) (nm_r (nI_1 i) (br_f (by decide) (br_f (by decide) (br_f (by decide) (br_f (by decide) (br_f (by decide) (br_f (by decide) (br_f (by decide) (br_f (by decide) (br_f (by decide) (br_f (by decide) (br_t (by decide) (yr_object (by omega) (Or.inl rfl) (yr_put (by omega) hp)))))))))))))))))))))))
theorem rn_s12 {no h i : Nat} (P : pp_P cn hn op fr tt tg ct pa be ar) (M : pp_M cn hn op tg ar) (A : xa_A pa an) (hi : i < cn) (hop : op i = 12) (hno : no ≤ 203) (hh : h ≤ 6) (ht : aa_tk 12 ≤ h) (hl : h - aa_tk 12 + aa_pt 12 ≤ 6) (hO : rl_O no a_made a_ready b_classes b_ready) (hV : ∀ j, j < 4 + h → rn_V cn no (a_sort j) (a_number j) (b_sorts j) (b_ints j)) :
    ∃ x y : rn_T, (∀ post : SX → Prop, post ((nI cn), (nI hn), f_met, f_waiting, f_tooMany, f_size, f_height, f_why, f_found, x.1, x.2.1, x.2.2.1, (nI i), f_steps, x.2.2.2.1, x.2.2.2.2.1, f_ran, (aa_N pa), an, (aa_N be), (aa_N op), ar, (aa_N fr), (aa_N tt), (aa_N tg), (aa_N ct), a_keys, a_heights, a_faults, a_table, a_todo, a_said, a_sorted, a_instruction, a_values, a_jumps, a_caught, a_caller, a_mapped, a_known, a_types, a_maps, a_now, x.2.2.2.2.2.1, x.2.2.2.2.2.2.1, x.2.2.2.2.2.2.2.1, x.2.2.2.2.2.2.2.2) → wpX_step post ((nI cn), (nI hn), f_met, f_waiting, f_tooMany, f_size, f_height, f_why, f_found, (nI no), (nI (4 + h)), (nI (i + 1)), (nI i), f_steps, (-1), (-1), f_ran, (aa_N pa), an, (aa_N be), (aa_N op), ar, (aa_N fr), (aa_N tt), (aa_N tg), (aa_N ct), a_keys, a_heights, a_faults, a_table, a_todo, a_said, a_sorted, a_instruction, a_values, a_jumps, a_caught, a_caller, a_mapped, a_known, a_types, a_maps, a_now, a_sort, a_made, a_number, a_ready) (nI 12) (ar i) (nI (3 + h))) ∧ (∀ post : SY → Prop, post ((nI cn), (nI hn), g_many, g_there, g_typed, g_wrongNumber, g_wrongPlace, g_size, g_why, y.2.1, y.1, y.2.2.1, g_begun, y.2.2.2.2.1, y.2.2.2.1, (aa_N pa), (aa_N be), (aa_N op), ar, (aa_N fr), (aa_N tt), (aa_N tg), (aa_N ct), b_places, b_heights, b_gone, b_worst, b_frames, b_maps, b_high, b_known, b_mapped, b_now, y.2.2.2.2.2.1, y.2.2.2.2.2.2.2.1, y.2.2.2.2.2.2.1, y.2.2.2.2.2.2.2.2) → wpY_step post ((nI cn), (nI hn), g_many, g_there, g_typed, g_wrongNumber, g_wrongPlace, g_size, g_why, (nI h), (nI no), (nI i), g_begun, (-1), (-1), (aa_N pa), (aa_N be), (aa_N op), ar, (aa_N fr), (aa_N tt), (aa_N tg), (aa_N ct), b_places, b_heights, b_gone, b_worst, b_frames, b_maps, b_high, b_known, b_mapped, b_now, b_sorts, b_ints, b_classes, b_ready) (nI 12) (ar i)) ∧ rn_E cn no i x y := by
  have t1 : aa_tk 12 = 0 := rfl
  have t2 : aa_pt 12 = 0 := rfl
  have hc24 := P.1
  have hpa := P.2.2.2.2.1
  have ld : aa_ld (op i) = true := by rw [hop]; decide
  obtain ⟨g1, g2⟩ := pp_g24 P ld
  have hg := M.2.1 i hi ld
  rw [g1]
  refine ⟨(nI no, nI (4 + h), nI (pp_g ar i), -1, -1, a_sort, a_made, a_number, a_ready), (nI no, nI h, nI (pp_g ar i), -1, -1, b_sorts, b_classes, b_ints, b_ready), fun post hp => ?_, fun post hp => ?_, Or.inl ⟨rfl, rfl, rfl, rfl, no, h, pp_g ar i, rfl, rfl, by omega, rfl, rfl, rfl, rfl, by omega, by omega, hO, hV⟩⟩
  · refine br_f (by decide) (br_t (by decide) (xr_further hpa A (by omega) hh hO (fun z => ⟨_, _, (hV (3 + h) (by omega)).1⟩) (fun z0 hz0 => ?_)))
    exact br_f (by decide) (br_f (by decide) (br_f (by decide) (br_f (by decide) (br_f (by decide) (br_f (by decide) (br_t (by decide) (hp)))))))
  · refine yr_pre (by decide) hh ht hl (fun t v u w h1 h0 h2 => ?_)
    unfold wY_step_120
    exact br_f (by decide) (br_f (by decide) (br_f (by decide) (br_f (by decide) (br_f (by decide) (br_f (by decide) (br_f (by decide) (br_f (by decide) (br_f (by decide) (br_f (by decide) (br_f (by decide) (br_f (by decide) (br_t (by decide) (br_f (by decide) (nm_r (nI_1 i) (br_f (by decide) (br_f (by decide) (br_f (by decide) (br_f (by decide) (br_f (by decide) (br_f (by decide) (br_f (by decide) (br_f (by decide) (br_f (by decide) (br_f (by decide) (br_f (by decide) (br_f (by decide) (br_f (by decide) (br_f (by decide) (br_t (by decide) (hp))))))))))))))))))))))))))))))
theorem rn_s17 {no h i : Nat} (P : pp_P cn hn op fr tt tg ct pa be ar) (M : pp_M cn hn op tg ar) (A : xa_A pa an) (hi : i < cn) (hop : op i = 17) (hno : no ≤ 203) (hh : h ≤ 6) (ht : aa_tk 17 ≤ h) (hl : h - aa_tk 17 + aa_pt 17 ≤ 6) (hO : rl_O no a_made a_ready b_classes b_ready) (hV : ∀ j, j < 4 + h → rn_V cn no (a_sort j) (a_number j) (b_sorts j) (b_ints j)) :
    ∃ x y : rn_T, (∀ post : SX → Prop, post ((nI cn), (nI hn), f_met, f_waiting, f_tooMany, f_size, f_height, f_why, f_found, x.1, x.2.1, x.2.2.1, (nI i), f_steps, x.2.2.2.1, x.2.2.2.2.1, f_ran, (aa_N pa), an, (aa_N be), (aa_N op), ar, (aa_N fr), (aa_N tt), (aa_N tg), (aa_N ct), a_keys, a_heights, a_faults, a_table, a_todo, a_said, a_sorted, a_instruction, a_values, a_jumps, a_caught, a_caller, a_mapped, a_known, a_types, a_maps, a_now, x.2.2.2.2.2.1, x.2.2.2.2.2.2.1, x.2.2.2.2.2.2.2.1, x.2.2.2.2.2.2.2.2) → wpX_step post ((nI cn), (nI hn), f_met, f_waiting, f_tooMany, f_size, f_height, f_why, f_found, (nI no), (nI (4 + h)), (nI (i + 1)), (nI i), f_steps, (-1), (-1), f_ran, (aa_N pa), an, (aa_N be), (aa_N op), ar, (aa_N fr), (aa_N tt), (aa_N tg), (aa_N ct), a_keys, a_heights, a_faults, a_table, a_todo, a_said, a_sorted, a_instruction, a_values, a_jumps, a_caught, a_caller, a_mapped, a_known, a_types, a_maps, a_now, a_sort, a_made, a_number, a_ready) (nI 17) (ar i) (nI (3 + h))) ∧ (∀ post : SY → Prop, post ((nI cn), (nI hn), g_many, g_there, g_typed, g_wrongNumber, g_wrongPlace, g_size, g_why, y.2.1, y.1, y.2.2.1, g_begun, y.2.2.2.2.1, y.2.2.2.1, (aa_N pa), (aa_N be), (aa_N op), ar, (aa_N fr), (aa_N tt), (aa_N tg), (aa_N ct), b_places, b_heights, b_gone, b_worst, b_frames, b_maps, b_high, b_known, b_mapped, b_now, y.2.2.2.2.2.1, y.2.2.2.2.2.2.2.1, y.2.2.2.2.2.2.1, y.2.2.2.2.2.2.2.2) → wpY_step post ((nI cn), (nI hn), g_many, g_there, g_typed, g_wrongNumber, g_wrongPlace, g_size, g_why, (nI h), (nI no), (nI i), g_begun, (-1), (-1), (aa_N pa), (aa_N be), (aa_N op), ar, (aa_N fr), (aa_N tt), (aa_N tg), (aa_N ct), b_places, b_heights, b_gone, b_worst, b_frames, b_maps, b_high, b_known, b_mapped, b_now, b_sorts, b_ints, b_classes, b_ready) (nI 17) (ar i)) ∧ rn_E cn no i x y := by
  have t1 : aa_tk 17 = 0 := rfl
  have t2 : aa_pt 17 = 0 := rfl
  have hc24 := P.1
  have hpa := P.2.2.2.2.1
  refine ⟨(nI no, nI (4 + h), nI (i + 1), 0, -1, a_sort, a_made, a_number, a_ready), (nI no, nI h, nI i, 0, -1, b_sorts, b_classes, b_ints, b_ready), fun post hp => ?_, fun post hp => ?_, Or.inr ⟨by show (0 : Int32) ≤ 0; decide, rfl, rfl, rfl, no, by omega, hO, fun j hj => (hV j (by omega)).1⟩⟩
  · refine br_f (by decide) (br_t (by decide) (xr_further hpa A (by omega) hh hO (fun z => ⟨_, _, (hV (3 + h) (by omega)).1⟩) (fun z0 hz0 => ?_)))
    exact br_f (by decide) (br_f (by decide) (br_f (by decide) (br_f (by decide) (br_f (by decide) (br_f (by decide) (br_f (by decide) (br_f (by decide) (br_f (by decide) (br_f (by decide) (br_f (by decide) (br_t (by decide) (hp))))))))))))
  · refine yr_pre (by decide) hh ht hl (fun t v u w h1 h0 h2 => ?_)
    unfold wY_step_120
    rw [h0 rfl]
    exact br_f (by decide) (br_f (by decide) (br_f (by decide) (br_f (by decide) (br_f (by decide) (br_f (by decide) (br_f (by decide) (br_f (by decide) (br_f (by decide) (br_f (by decide) (br_f (by decide) (br_f (by decide) (br_f (by decide) (br_f (by decide) (br_f (by decide) (br_f (by decide) (br_f (by decide) (br_t (by decide) (br_f (by decide) (nm_r (nI_1 i) (br_f (by decide) (br_f (by decide) (br_f (by decide) (br_f (by decide) (br_f (by decide) (br_f (by decide) (br_f (by decide) (br_f (by decide) (br_f (by decide) (br_f (by decide) (br_f (by decide) (br_f (by decide) (br_f (by decide) (br_f (by decide) (br_f (by decide) (br_f (by decide) (br_f (by decide) (br_f (by decide) (br_f (by decide) (br_t (by decide) (br_t rfl (br_t (by decide) hp)))))))))))))))))))))))))))))))))))))))))
theorem rn_s15 {no h i : Nat} (P : pp_P cn hn op fr tt tg ct pa be ar) (M : pp_M cn hn op tg ar) (A : xa_A pa an) (hi : i < cn) (hop : op i = 15) (hno : no ≤ 203) (hh : h ≤ 6) (ht : aa_tk 15 ≤ h) (hl : h - aa_tk 15 + aa_pt 15 ≤ 6) (hO : rl_O no a_made a_ready b_classes b_ready) (hV : ∀ j, j < 4 + h → rn_V cn no (a_sort j) (a_number j) (b_sorts j) (b_ints j)) :
    ∃ x y : rn_T, (∀ post : SX → Prop, post ((nI cn), (nI hn), f_met, f_waiting, f_tooMany, f_size, f_height, f_why, f_found, x.1, x.2.1, x.2.2.1, (nI i), f_steps, x.2.2.2.1, x.2.2.2.2.1, f_ran, (aa_N pa), an, (aa_N be), (aa_N op), ar, (aa_N fr), (aa_N tt), (aa_N tg), (aa_N ct), a_keys, a_heights, a_faults, a_table, a_todo, a_said, a_sorted, a_instruction, a_values, a_jumps, a_caught, a_caller, a_mapped, a_known, a_types, a_maps, a_now, x.2.2.2.2.2.1, x.2.2.2.2.2.2.1, x.2.2.2.2.2.2.2.1, x.2.2.2.2.2.2.2.2) → wpX_step post ((nI cn), (nI hn), f_met, f_waiting, f_tooMany, f_size, f_height, f_why, f_found, (nI no), (nI (4 + h)), (nI (i + 1)), (nI i), f_steps, (-1), (-1), f_ran, (aa_N pa), an, (aa_N be), (aa_N op), ar, (aa_N fr), (aa_N tt), (aa_N tg), (aa_N ct), a_keys, a_heights, a_faults, a_table, a_todo, a_said, a_sorted, a_instruction, a_values, a_jumps, a_caught, a_caller, a_mapped, a_known, a_types, a_maps, a_now, a_sort, a_made, a_number, a_ready) (nI 15) (ar i) (nI (3 + h))) ∧ (∀ post : SY → Prop, post ((nI cn), (nI hn), g_many, g_there, g_typed, g_wrongNumber, g_wrongPlace, g_size, g_why, y.2.1, y.1, y.2.2.1, g_begun, y.2.2.2.2.1, y.2.2.2.1, (aa_N pa), (aa_N be), (aa_N op), ar, (aa_N fr), (aa_N tt), (aa_N tg), (aa_N ct), b_places, b_heights, b_gone, b_worst, b_frames, b_maps, b_high, b_known, b_mapped, b_now, y.2.2.2.2.2.1, y.2.2.2.2.2.2.2.1, y.2.2.2.2.2.2.1, y.2.2.2.2.2.2.2.2) → wpY_step post ((nI cn), (nI hn), g_many, g_there, g_typed, g_wrongNumber, g_wrongPlace, g_size, g_why, (nI h), (nI no), (nI i), g_begun, (-1), (-1), (aa_N pa), (aa_N be), (aa_N op), ar, (aa_N fr), (aa_N tt), (aa_N tg), (aa_N ct), b_places, b_heights, b_gone, b_worst, b_frames, b_maps, b_high, b_known, b_mapped, b_now, b_sorts, b_ints, b_classes, b_ready) (nI 15) (ar i)) ∧ rn_E cn no i x y := by
  have t1 : aa_tk 15 = 0 := rfl
  have t2 : aa_pt 15 = 1 := rfl
  have hc24 := P.1
  have hpa := P.2.2.2.2.1
  have ld : aa_ld (op i) = true := by rw [hop]; decide
  obtain ⟨g1, g2⟩ := pp_g24 P ld
  have hg := M.2.1 i hi ld
  rw [g1]
  refine ⟨(nI no, nI (4 + h + 1), nI (pp_g ar i), -1, -1, upd a_sort (4 + h) 4, a_made, upd a_number (4 + h) (nI i), a_ready), (nI no, nI (h + 1), nI (pp_g ar i), -1, -1, upd b_sorts (4 + h) 3, b_classes, upd b_ints (4 + h) (nI i), b_ready), fun post hp => ?_, fun post hp => ?_, Or.inl ⟨rfl, rfl, rfl, rfl, no, h + 1, pp_g ar i, rfl, rfl, by omega, rfl, rfl, rfl, rfl, by omega, by omega, hO, rn_V_up (n := 4 + (h + 1)) (fun j hj ne => hV j (by omega)) ⟨Or.inr (Or.inr (Or.inr (Or.inr ⟨i, by omega, rfl, rfl, rfl, rfl⟩))), fun _ => ⟨i, hi, rfl⟩⟩⟩⟩
  · refine br_f (by decide) (br_t (by decide) (xr_further hpa A (by omega) hh hO (fun z => ⟨_, _, (hV (3 + h) (by omega)).1⟩) (fun z0 hz0 => ?_)))
    exact br_f (by decide) (br_f (by decide) (br_f (by decide) (br_f (by decide) (br_f (by decide) (br_f (by decide) (br_f (by decide) (br_f (by decide) (br_f (by decide) (br_t (by decide) (xr_pile (by omega) (aa_nb (n := 4) (by decide)) hp))))))))))
  · refine yr_pre (by decide) hh ht hl (fun t v u w h1 h0 h2 => ?_)
    unfold wY_step_120
    exact br_f (by decide) (br_f (by decide) (br_f (by decide) (br_f (by decide) (br_f (by decide) (br_f (by decide) (br_f (by decide) (br_f (by decide) (br_f (by decide) (br_f (by decide) (br_f (by decide) (br_f (by decide) (br_f (by decide) (br_f (by decide) (br_f (by decide) (br_t (by decide) (br_f (by decide) (nm_r (nI_1 i) (br_f (by decide) (br_f (by decide) (br_f (by decide) (br_f (by decide) (br_f (by decide) (br_f (by decide) (br_f (by decide) (br_f (by decide) (br_f (by decide) (br_f (by decide) (br_f (by decide) (br_f (by decide) (br_f (by decide) (br_f (by decide) (br_f (by decide) (br_f (by decide) (br_f (by decide) (br_t (by decide) (yr_put (by omega) hp))))))))))))))))))))))))))))))))))))
theorem rn_s16 {no h i : Nat} (P : pp_P cn hn op fr tt tg ct pa be ar) (M : pp_M cn hn op tg ar) (A : xa_A pa an) (hi : i < cn) (hop : op i = 16) (hno : no ≤ 203) (hh : h ≤ 6) (ht : aa_tk 16 ≤ h) (hl : h - aa_tk 16 + aa_pt 16 ≤ 6) (hO : rl_O no a_made a_ready b_classes b_ready) (hV : ∀ j, j < 4 + h → rn_V cn no (a_sort j) (a_number j) (b_sorts j) (b_ints j)) :
    ∃ x y : rn_T, (∀ post : SX → Prop, post ((nI cn), (nI hn), f_met, f_waiting, f_tooMany, f_size, f_height, f_why, f_found, x.1, x.2.1, x.2.2.1, (nI i), f_steps, x.2.2.2.1, x.2.2.2.2.1, f_ran, (aa_N pa), an, (aa_N be), (aa_N op), ar, (aa_N fr), (aa_N tt), (aa_N tg), (aa_N ct), a_keys, a_heights, a_faults, a_table, a_todo, a_said, a_sorted, a_instruction, a_values, a_jumps, a_caught, a_caller, a_mapped, a_known, a_types, a_maps, a_now, x.2.2.2.2.2.1, x.2.2.2.2.2.2.1, x.2.2.2.2.2.2.2.1, x.2.2.2.2.2.2.2.2) → wpX_step post ((nI cn), (nI hn), f_met, f_waiting, f_tooMany, f_size, f_height, f_why, f_found, (nI no), (nI (4 + h)), (nI (i + 1)), (nI i), f_steps, (-1), (-1), f_ran, (aa_N pa), an, (aa_N be), (aa_N op), ar, (aa_N fr), (aa_N tt), (aa_N tg), (aa_N ct), a_keys, a_heights, a_faults, a_table, a_todo, a_said, a_sorted, a_instruction, a_values, a_jumps, a_caught, a_caller, a_mapped, a_known, a_types, a_maps, a_now, a_sort, a_made, a_number, a_ready) (nI 16) (ar i) (nI (3 + h))) ∧ (∀ post : SY → Prop, post ((nI cn), (nI hn), g_many, g_there, g_typed, g_wrongNumber, g_wrongPlace, g_size, g_why, y.2.1, y.1, y.2.2.1, g_begun, y.2.2.2.2.1, y.2.2.2.1, (aa_N pa), (aa_N be), (aa_N op), ar, (aa_N fr), (aa_N tt), (aa_N tg), (aa_N ct), b_places, b_heights, b_gone, b_worst, b_frames, b_maps, b_high, b_known, b_mapped, b_now, y.2.2.2.2.2.1, y.2.2.2.2.2.2.2.1, y.2.2.2.2.2.2.1, y.2.2.2.2.2.2.2.2) → wpY_step post ((nI cn), (nI hn), g_many, g_there, g_typed, g_wrongNumber, g_wrongPlace, g_size, g_why, (nI h), (nI no), (nI i), g_begun, (-1), (-1), (aa_N pa), (aa_N be), (aa_N op), ar, (aa_N fr), (aa_N tt), (aa_N tg), (aa_N ct), b_places, b_heights, b_gone, b_worst, b_frames, b_maps, b_high, b_known, b_mapped, b_now, b_sorts, b_ints, b_classes, b_ready) (nI 16) (ar i)) ∧ rn_E cn no i x y := by
  have t1 : aa_tk 16 = 0 := rfl
  have t2 : aa_pt 16 = 0 := rfl
  have hc24 := P.1
  have hpa := P.2.2.2.2.1
  obtain ⟨g1, g2⟩ := pp_g4 P (i := i) (by omega)
  have ea : (nI (pp_g ar i)).toNatClampNeg = pp_g ar i := nI_clamp (by omega)
  have hina := vp_in_nI (n := pp_g ar i) (N := 10) (by omega) (by decide)
  have hv := hV (pp_g ar i) (by omega)
  obtain ⟨-, -, -, c4, -, l4, -, -⟩ := rl_cs (by omega) hv.1
  rw [g1]
  by_cases s4 : a_sort (pp_g ar i) = 4
  · obtain ⟨l, hl', e1⟩ := hv.2 s4
    obtain ⟨l', l24, e2, e3⟩ := l4 s4
    have el : l' = l := (nI_eq (by omega) (by omega)).mp (e2.symm.trans e1)
    rw [el] at e3
    refine ⟨(nI no, nI (4 + h), nI (l + 1), -1, -1, a_sort, a_made, a_number, a_ready), (nI no, nI h, nI (l + 1), -1, -1, b_sorts, b_classes, b_ints, b_ready), fun post hp => ?_, fun post hp => ?_, Or.inl ⟨rfl, rfl, rfl, rfl, no, h, l + 1, rfl, rfl, by omega, rfl, rfl, rfl, rfl, by omega, by omega, hO, hV⟩⟩
    · refine br_f (by decide) (br_t (by decide) (xr_further hpa A (by omega) hh hO (fun z => ⟨_, _, (hV (3 + h) (by omega)).1⟩) (fun z0 hz0 => ?_)))
      refine br_f (by decide) (br_f (by decide) (br_f (by decide) (br_f (by decide) (br_f (by decide) (br_f (by decide) (br_f (by decide) (br_f (by decide) (br_f (by decide) (br_f (by decide) (br_t (by decide) (And.intro hina ?_)))))))))))
      rw [ea, e1, nI_1]; exact br_t s4 (And.intro hina (nm_e hp))
    · refine yr_pre (by decide) hh ht hl (fun t v u w h1 h0 h2 => ?_)
      unfold wY_step_120
      refine br_f (by decide) (br_f (by decide) (br_f (by decide) (br_f (by decide) (br_f (by decide) (br_f (by decide) (br_f (by decide) (br_f (by decide) (br_f (by decide) (br_f (by decide) (br_f (by decide) (br_f (by decide) (br_f (by decide) (br_f (by decide) (br_f (by decide) (br_f (by decide) (br_t (by decide) (And.intro hina ?_)))))))))))))))))
      rw [ea]
      refine br_t (c4.mp s4) (br_f (by decide) (nm_r (nI_1 i) (br_f (by decide) (br_f (by decide) (br_f (by decide) (br_f (by decide) (br_f (by decide) (br_f (by decide) (br_f (by decide) (br_f (by decide) (br_f (by decide) (br_f (by decide) (br_f (by decide) (br_f (by decide) (br_f (by decide) (br_f (by decide) (br_f (by decide) (br_f (by decide) (br_f (by decide) (br_f (by decide) (br_t (by decide) (And.intro hina ?_))))))))))))))))))))))
      rw [e3, nI_1]; exact nm_e hp
  · refine ⟨(nI no, nI (4 + h), nI (i + 1), 4, -1, a_sort, a_made, a_number, a_ready), (nI no, nI h, nI i, 4, -1, b_sorts, b_classes, b_ints, b_ready), fun post hp => ?_, fun post hp => ?_, Or.inr ⟨by show (0 : Int32) ≤ 4; decide, rfl, rfl, rfl, no, by omega, hO, fun j hj => (hV j (by omega)).1⟩⟩
    · refine br_f (by decide) (br_t (by decide) (xr_further hpa A (by omega) hh hO (fun z => ⟨_, _, (hV (3 + h) (by omega)).1⟩) (fun z0 hz0 => ?_)))
      refine br_f (by decide) (br_f (by decide) (br_f (by decide) (br_f (by decide) (br_f (by decide) (br_f (by decide) (br_f (by decide) (br_f (by decide) (br_f (by decide) (br_f (by decide) (br_t (by decide) (And.intro hina ?_)))))))))))
      rw [ea]; exact br_f s4 hp
    · refine yr_pre (by decide) hh ht hl (fun t v u w h1 h0 h2 => ?_)
      unfold wY_step_120
      refine br_f (by decide) (br_f (by decide) (br_f (by decide) (br_f (by decide) (br_f (by decide) (br_f (by decide) (br_f (by decide) (br_f (by decide) (br_f (by decide) (br_f (by decide) (br_f (by decide) (br_f (by decide) (br_f (by decide) (br_f (by decide) (br_f (by decide) (br_f (by decide) (br_t (by decide) (And.intro hina ?_)))))))))))))))))
      rw [ea]; exact br_f (fun z => s4 (c4.mpr z)) (br_t rfl hp)
end
end
section
/-! the steps that look at the top -/
section
variable {cn hn : Nat} {op fr tt tg ct pa be : Nat → Nat} {ar an : Nat → Int32}
variable {f_count f_handlers f_met f_waiting f_tooMany f_size f_height f_why f_found f_objects f_high f_at f_here f_steps f_outcome f_last f_ran : Int32} {a_parents a_ancestors a_begins a_ops a_operands a_froms a_tos a_targets a_catches a_keys a_heights a_faults a_table a_todo a_said a_sorted a_instruction a_values a_jumps a_caught a_caller a_mapped a_known a_types a_maps a_now a_sort a_made a_number a_ready : Nat → Int32}
variable {g_length g_handlers g_many g_there g_typed g_wrongNumber g_wrongPlace g_size g_why g_height g_objects g_line g_begun g_last g_end : Int32} {b_parent b_begin b_op b_arg b_from b_to b_target b_caught b_places b_heights b_gone b_worst b_frames b_maps b_high b_known b_mapped b_now b_sorts b_ints b_classes b_ready : Nat → Int32}
theorem rn_s13 {no h i : Nat} (P : pp_P cn hn op fr tt tg ct pa be ar) (M : pp_M cn hn op tg ar) (A : xa_A pa an) (hi : i < cn) (hop : op i = 13) (hno : no ≤ 203) (hh : h ≤ 6) (ht : aa_tk 13 ≤ h) (hl : h - aa_tk 13 + aa_pt 13 ≤ 6) (hO : rl_O no a_made a_ready b_classes b_ready) (hV : ∀ j, j < 4 + h → rn_V cn no (a_sort j) (a_number j) (b_sorts j) (b_ints j)) :
    ∃ x y : rn_T, (∀ post : SX → Prop, post ((nI cn), (nI hn), f_met, f_waiting, f_tooMany, f_size, f_height, f_why, f_found, x.1, x.2.1, x.2.2.1, (nI i), f_steps, x.2.2.2.1, x.2.2.2.2.1, f_ran, (aa_N pa), an, (aa_N be), (aa_N op), ar, (aa_N fr), (aa_N tt), (aa_N tg), (aa_N ct), a_keys, a_heights, a_faults, a_table, a_todo, a_said, a_sorted, a_instruction, a_values, a_jumps, a_caught, a_caller, a_mapped, a_known, a_types, a_maps, a_now, x.2.2.2.2.2.1, x.2.2.2.2.2.2.1, x.2.2.2.2.2.2.2.1, x.2.2.2.2.2.2.2.2) → wpX_step post ((nI cn), (nI hn), f_met, f_waiting, f_tooMany, f_size, f_height, f_why, f_found, (nI no), (nI (4 + h)), (nI (i + 1)), (nI i), f_steps, (-1), (-1), f_ran, (aa_N pa), an, (aa_N be), (aa_N op), ar, (aa_N fr), (aa_N tt), (aa_N tg), (aa_N ct), a_keys, a_heights, a_faults, a_table, a_todo, a_said, a_sorted, a_instruction, a_values, a_jumps, a_caught, a_caller, a_mapped, a_known, a_types, a_maps, a_now, a_sort, a_made, a_number, a_ready) (nI 13) (ar i) (nI (3 + h))) ∧ (∀ post : SY → Prop, post ((nI cn), (nI hn), g_many, g_there, g_typed, g_wrongNumber, g_wrongPlace, g_size, g_why, y.2.1, y.1, y.2.2.1, g_begun, y.2.2.2.2.1, y.2.2.2.1, (aa_N pa), (aa_N be), (aa_N op), ar, (aa_N fr), (aa_N tt), (aa_N tg), (aa_N ct), b_places, b_heights, b_gone, b_worst, b_frames, b_maps, b_high, b_known, b_mapped, b_now, y.2.2.2.2.2.1, y.2.2.2.2.2.2.2.1, y.2.2.2.2.2.2.1, y.2.2.2.2.2.2.2.2) → wpY_step post ((nI cn), (nI hn), g_many, g_there, g_typed, g_wrongNumber, g_wrongPlace, g_size, g_why, (nI h), (nI no), (nI i), g_begun, (-1), (-1), (aa_N pa), (aa_N be), (aa_N op), ar, (aa_N fr), (aa_N tt), (aa_N tg), (aa_N ct), b_places, b_heights, b_gone, b_worst, b_frames, b_maps, b_high, b_known, b_mapped, b_now, b_sorts, b_ints, b_classes, b_ready) (nI 13) (ar i)) ∧ rn_E cn no i x y := by
  have t1 : aa_tk 13 = 1 := rfl
  have t2 : aa_pt 13 = 0 := rfl
  have hc24 := P.1
  have hpa := P.2.2.2.2.1
  have eh : nI (4 + h) - 1 = nI (4 + (h - 1)) := (pk_sub (b := 1) (by omega)).trans (congrArg nI (by omega))
  have et : (nI (3 + h)).toNatClampNeg = 3 + h := nI_clamp (by omega)
  have hint := vp_in_nI (n := 3 + h) (N := 10) (by omega) (by decide)
  have hv := hV (3 + h) (by omega)
  obtain ⟨c0, c1, c2, c4, v1, l4, o3, n3⟩ := rl_cs (by omega) hv.1
  have ld : aa_ld (op i) = true := by rw [hop]; decide
  obtain ⟨g1, g2⟩ := pp_g24 P ld
  have hg := M.2.1 i hi ld
  rw [g1]
  by_cases T : a_sort (3 + h) = 1
  · by_cases Z : a_number (3 + h) = 0
    · refine ⟨(nI no, nI (4 + (h - 1)), nI (i + 1), -1, -1, a_sort, a_made, a_number, a_ready), (nI no, nI (h - 1), nI (i + 1), -1, -1, b_sorts, b_classes, b_ints, b_ready), fun post hp => ?_, fun post hp => ?_, Or.inl ⟨rfl, rfl, rfl, rfl, no, h - 1, i + 1, rfl, rfl, by omega, rfl, rfl, rfl, rfl, by omega, by omega, hO, fun j hj => hV j (by omega)⟩⟩
      · refine br_f (by decide) (br_t (by decide) (xr_further hpa A (by omega) hh hO (fun z => ⟨_, _, (hV (3 + h) (by omega)).1⟩) (fun z0 hz0 => ?_)))
        refine br_f (by decide) (br_f (by decide) (br_f (by decide) (br_f (by decide) (br_f (by decide) (br_f (by decide) (br_f (by decide) (br_t (by decide) (And.intro hint ?_))))))))
        rw [et]; exact br_t T (And.intro hint (br_t Z (nm_r eh hp)))
      · refine yr_pre (by decide) hh ht hl (fun t v u w h1 h0 h2 => ?_)
        obtain ⟨q1, q2⟩ := h1 (by omega)
        unfold wY_step_120
        rw [q1, q2]
        exact br_f (by decide) (br_f (by decide) (br_f (by decide) (br_f (by decide) (br_f (by decide) (br_f (by decide) (br_f (by decide) (br_f (by decide) (br_f (by decide) (br_f (by decide) (br_f (by decide) (br_f (by decide) (br_f (by decide) (br_t (by decide) (br_t (c1.mp T) (br_f (by decide) (nm_r (nI_1 i) (br_f (by decide) (br_f (by decide) (br_f (by decide) (br_f (by decide) (br_f (by decide) (br_f (by decide) (br_f (by decide) (br_f (by decide) (br_f (by decide) (br_f (by decide) (br_f (by decide) (br_f (by decide) (br_f (by decide) (br_f (by decide) (br_f (by decide) (br_t (by decide) (br_t ((v1 T).symm.trans Z) hp)))))))))))))))))))))))))))))))))
    · refine ⟨(nI no, nI (4 + (h - 1)), nI (pp_g ar i), -1, -1, a_sort, a_made, a_number, a_ready), (nI no, nI (h - 1), nI (pp_g ar i), -1, -1, b_sorts, b_classes, b_ints, b_ready), fun post hp => ?_, fun post hp => ?_, Or.inl ⟨rfl, rfl, rfl, rfl, no, h - 1, pp_g ar i, rfl, rfl, by omega, rfl, rfl, rfl, rfl, by omega, by omega, hO, fun j hj => hV j (by omega)⟩⟩
      · refine br_f (by decide) (br_t (by decide) (xr_further hpa A (by omega) hh hO (fun z => ⟨_, _, (hV (3 + h) (by omega)).1⟩) (fun z0 hz0 => ?_)))
        refine br_f (by decide) (br_f (by decide) (br_f (by decide) (br_f (by decide) (br_f (by decide) (br_f (by decide) (br_f (by decide) (br_t (by decide) (And.intro hint ?_))))))))
        rw [et]; exact br_t T (And.intro hint (br_f Z (nm_r eh hp)))
      · refine yr_pre (by decide) hh ht hl (fun t v u w h1 h0 h2 => ?_)
        obtain ⟨q1, q2⟩ := h1 (by omega)
        unfold wY_step_120
        rw [q1, q2]
        exact br_f (by decide) (br_f (by decide) (br_f (by decide) (br_f (by decide) (br_f (by decide) (br_f (by decide) (br_f (by decide) (br_f (by decide) (br_f (by decide) (br_f (by decide) (br_f (by decide) (br_f (by decide) (br_f (by decide) (br_t (by decide) (br_t (c1.mp T) (br_f (by decide) (nm_r (nI_1 i) (br_f (by decide) (br_f (by decide) (br_f (by decide) (br_f (by decide) (br_f (by decide) (br_f (by decide) (br_f (by decide) (br_f (by decide) (br_f (by decide) (br_f (by decide) (br_f (by decide) (br_f (by decide) (br_f (by decide) (br_f (by decide) (br_f (by decide) (br_t (by decide) (br_f (fun z => Z ((v1 T).trans z)) hp)))))))))))))))))))))))))))))))))
  · refine ⟨(nI no, nI (4 + (h - 1)), nI (i + 1), 4, -1, a_sort, a_made, a_number, a_ready), (nI no, nI h, nI i, 4, -1, b_sorts, b_classes, b_ints, b_ready), fun post hp => ?_, fun post hp => ?_, Or.inr ⟨by show (0 : Int32) ≤ 4; decide, rfl, rfl, rfl, no, by omega, hO, fun j hj => (hV j (by omega)).1⟩⟩
    · refine br_f (by decide) (br_t (by decide) (xr_further hpa A (by omega) hh hO (fun z => ⟨_, _, (hV (3 + h) (by omega)).1⟩) (fun z0 hz0 => ?_)))
      refine br_f (by decide) (br_f (by decide) (br_f (by decide) (br_f (by decide) (br_f (by decide) (br_f (by decide) (br_f (by decide) (br_t (by decide) (And.intro hint ?_))))))))
      rw [et]; exact br_f T (nm_r eh hp)
    · refine yr_pre (by decide) hh ht hl (fun t v u w h1 h0 h2 => ?_)
      obtain ⟨q1, q2⟩ := h1 (by omega)
      unfold wY_step_120
      rw [q1, q2]
      exact br_f (by decide) (br_f (by decide) (br_f (by decide) (br_f (by decide) (br_f (by decide) (br_f (by decide) (br_f (by decide) (br_f (by decide) (br_f (by decide) (br_f (by decide) (br_f (by decide) (br_f (by decide) (br_f (by decide) (br_t (by decide) (br_f (fun z => T (c1.mpr z)) (br_t rfl hp)))))))))))))))
theorem rn_s9 {no h i : Nat} (P : pp_P cn hn op fr tt tg ct pa be ar) (M : pp_M cn hn op tg ar) (A : xa_A pa an) (hi : i < cn) (hop : op i = 9) (hno : no ≤ 203) (hh : h ≤ 6) (ht : aa_tk 9 ≤ h) (hl : h - aa_tk 9 + aa_pt 9 ≤ 6) (hO : rl_O no a_made a_ready b_classes b_ready) (hV : ∀ j, j < 4 + h → rn_V cn no (a_sort j) (a_number j) (b_sorts j) (b_ints j)) :
    ∃ x y : rn_T, (∀ post : SX → Prop, post ((nI cn), (nI hn), f_met, f_waiting, f_tooMany, f_size, f_height, f_why, f_found, x.1, x.2.1, x.2.2.1, (nI i), f_steps, x.2.2.2.1, x.2.2.2.2.1, f_ran, (aa_N pa), an, (aa_N be), (aa_N op), ar, (aa_N fr), (aa_N tt), (aa_N tg), (aa_N ct), a_keys, a_heights, a_faults, a_table, a_todo, a_said, a_sorted, a_instruction, a_values, a_jumps, a_caught, a_caller, a_mapped, a_known, a_types, a_maps, a_now, x.2.2.2.2.2.1, x.2.2.2.2.2.2.1, x.2.2.2.2.2.2.2.1, x.2.2.2.2.2.2.2.2) → wpX_step post ((nI cn), (nI hn), f_met, f_waiting, f_tooMany, f_size, f_height, f_why, f_found, (nI no), (nI (4 + h)), (nI (i + 1)), (nI i), f_steps, (-1), (-1), f_ran, (aa_N pa), an, (aa_N be), (aa_N op), ar, (aa_N fr), (aa_N tt), (aa_N tg), (aa_N ct), a_keys, a_heights, a_faults, a_table, a_todo, a_said, a_sorted, a_instruction, a_values, a_jumps, a_caught, a_caller, a_mapped, a_known, a_types, a_maps, a_now, a_sort, a_made, a_number, a_ready) (nI 9) (ar i) (nI (3 + h))) ∧ (∀ post : SY → Prop, post ((nI cn), (nI hn), g_many, g_there, g_typed, g_wrongNumber, g_wrongPlace, g_size, g_why, y.2.1, y.1, y.2.2.1, g_begun, y.2.2.2.2.1, y.2.2.2.1, (aa_N pa), (aa_N be), (aa_N op), ar, (aa_N fr), (aa_N tt), (aa_N tg), (aa_N ct), b_places, b_heights, b_gone, b_worst, b_frames, b_maps, b_high, b_known, b_mapped, b_now, y.2.2.2.2.2.1, y.2.2.2.2.2.2.2.1, y.2.2.2.2.2.2.1, y.2.2.2.2.2.2.2.2) → wpY_step post ((nI cn), (nI hn), g_many, g_there, g_typed, g_wrongNumber, g_wrongPlace, g_size, g_why, (nI h), (nI no), (nI i), g_begun, (-1), (-1), (aa_N pa), (aa_N be), (aa_N op), ar, (aa_N fr), (aa_N tt), (aa_N tg), (aa_N ct), b_places, b_heights, b_gone, b_worst, b_frames, b_maps, b_high, b_known, b_mapped, b_now, b_sorts, b_ints, b_classes, b_ready) (nI 9) (ar i)) ∧ rn_E cn no i x y := by
  have t1 : aa_tk 9 = 1 := rfl
  have t2 : aa_pt 9 = 0 := rfl
  have hc24 := P.1
  have hpa := P.2.2.2.2.1
  have eh : nI (4 + h) - 1 = nI (4 + (h - 1)) := (pk_sub (b := 1) (by omega)).trans (congrArg nI (by omega))
  have et : (nI (3 + h)).toNatClampNeg = 3 + h := nI_clamp (by omega)
  have hint := vp_in_nI (n := 3 + h) (N := 10) (by omega) (by decide)
  have hv := hV (3 + h) (by omega)
  obtain ⟨c0, c1, c2, c4, v1, l4, o3, n3⟩ := rl_cs (by omega) hv.1
  by_cases T : a_sort (3 + h) = 3
  · obtain ⟨n, n1, e1, e2⟩ := o3 T
    have en : (nI n).toNatClampNeg = n := nI_clamp (by omega)
    have hinn := vp_in_nI (n := n) (N := 210) (by omega) (by decide)
    have hinn' := vp_in_nI (n := n) (N := 240) (by omega) (by decide)
    have gt : ¬ nI (4 + n) ≤ 3 := nI_ge (a := 3) (by omega) (by omega)
    rcases (hO n n1).2 with ⟨r0, r0'⟩ | ⟨r1, r1'⟩
    · refine ⟨(nI no, nI (4 + (h - 1)), nI (i + 1), -1, -1, a_sort, a_made, a_number, upd a_ready n 1), (nI no, nI (h - 1), nI (i + 1), -1, -1, b_sorts, b_classes, b_ints, upd b_ready n 1), fun post hp => ?_, fun post hp => ?_, Or.inl ⟨rfl, rfl, rfl, rfl, no, h - 1, i + 1, rfl, rfl, by omega, rfl, rfl, rfl, rfl, by omega, by omega, rl_O_ready hO, fun j hj => hV j (by omega)⟩⟩
      · refine br_f (by decide) (br_t (by decide) (xr_further hpa A (by omega) hh hO (fun z => ⟨_, _, (hV (3 + h) (by omega)).1⟩) (fun z0 hz0 => ?_)))
        refine br_f (by decide) (br_f (by decide) (br_f (by decide) (br_t (by decide) (And.intro hint ?_))))
        rw [et, e1, en, r0]
        exact br_t T (And.intro hint (And.intro hinn (br_t rfl (And.intro hint (And.intro hinn (nm_r (e' := upd a_ready n 1) (by rw [aa_nz1]) (nm_r eh hp)))))))
      · refine yr_pre (by decide) hh ht hl (fun t v u w h1 h0 h2 => ?_)
        obtain ⟨q1, q2⟩ := h1 (by omega)
        unfold wY_step_120
        rw [q1, q2]
        rw [e2]
        refine br_f (by decide) (br_f (by decide) (br_f (by decide) (br_f (by decide) (br_f (by decide) (br_f (by decide) (br_f (by decide) (br_f (by decide) (br_f (by decide) (br_t (by decide) (br_f gt ?_))))))))))
        rw [yo_m4, en, r0']
        refine And.intro hinn' (br_t rfl (br_f (by decide) (nm_r (nI_1 i) (br_f (by decide) (br_f (by decide) (br_f (by decide) (br_f (by decide) (br_f (by decide) (br_f (by decide) (br_f (by decide) (br_f (by decide) (br_f (by decide) (br_f (by decide) (br_f (by decide) (br_t (by decide) (?_))))))))))))))))
        exact And.intro hinn' (nm_r (e' := upd b_ready n 1) (by rw [aa_nz1]) hp)
    · refine ⟨(nI no, nI (4 + (h - 1)), nI (i + 1), 4, -1, a_sort, a_made, a_number, a_ready), (nI no, nI h, nI i, 4, -1, b_sorts, b_classes, b_ints, b_ready), fun post hp => ?_, fun post hp => ?_, Or.inr ⟨by show (0 : Int32) ≤ 4; decide, rfl, rfl, rfl, no, by omega, hO, fun j hj => (hV j (by omega)).1⟩⟩
      · refine br_f (by decide) (br_t (by decide) (xr_further hpa A (by omega) hh hO (fun z => ⟨_, _, (hV (3 + h) (by omega)).1⟩) (fun z0 hz0 => ?_)))
        refine br_f (by decide) (br_f (by decide) (br_f (by decide) (br_t (by decide) (And.intro hint ?_))))
        rw [et, e1, en, r1]
        exact br_t T (And.intro hint (And.intro hinn (br_f (by decide) (nm_r eh hp))))
      · refine yr_pre (by decide) hh ht hl (fun t v u w h1 h0 h2 => ?_)
        obtain ⟨q1, q2⟩ := h1 (by omega)
        unfold wY_step_120
        rw [q1, q2]
        rw [e2]
        refine br_f (by decide) (br_f (by decide) (br_f (by decide) (br_f (by decide) (br_f (by decide) (br_f (by decide) (br_f (by decide) (br_f (by decide) (br_f (by decide) (br_t (by decide) (br_f gt ?_))))))))))
        rw [yo_m4, en, r1']
        exact And.intro hinn' (br_f (by decide) (br_t rfl hp))
  · refine ⟨(nI no, nI (4 + (h - 1)), nI (i + 1), 4, -1, a_sort, a_made, a_number, a_ready), (nI no, nI h, nI i, 4, -1, b_sorts, b_classes, b_ints, b_ready), fun post hp => ?_, fun post hp => ?_, Or.inr ⟨by show (0 : Int32) ≤ 4; decide, rfl, rfl, rfl, no, by omega, hO, fun j hj => (hV j (by omega)).1⟩⟩
    · refine br_f (by decide) (br_t (by decide) (xr_further hpa A (by omega) hh hO (fun z => ⟨_, _, (hV (3 + h) (by omega)).1⟩) (fun z0 hz0 => ?_)))
      refine br_f (by decide) (br_f (by decide) (br_f (by decide) (br_t (by decide) (And.intro hint ?_))))
      rw [et]; exact br_f T (nm_r eh hp)
    · refine yr_pre (by decide) hh ht hl (fun t v u w h1 h0 h2 => ?_)
      obtain ⟨q1, q2⟩ := h1 (by omega)
      unfold wY_step_120
      rw [q1, q2]
      exact br_f (by decide) (br_f (by decide) (br_f (by decide) (br_f (by decide) (br_f (by decide) (br_f (by decide) (br_f (by decide) (br_f (by decide) (br_f (by decide) (br_t (by decide) (br_t (n3 T) (br_t rfl hp)))))))))))
/-- what is on top: nothing, an object that is ready, or neither -/
theorem rn_top {no h : Nat} (hno : no ≤ 203) (h1 : 1 ≤ h) (hO : rl_O no a_made a_ready b_classes b_ready) (hv : rn_V cn no (a_sort (3 + h)) (a_number (3 + h)) (b_sorts (3 + h)) (b_ints (3 + h))) :
    (a_sort (3 + h) = 2 ∧ b_sorts (3 + h) = 2 ∧ ¬ rn_RO h a_sort a_number a_ready) ∨ (∃ n d, n < no ∧ d < 8 ∧ a_sort (3 + h) = 3 ∧ a_number (3 + h) = nI n ∧ b_sorts (3 + h) = nI (4 + n) ∧ a_ready n = 1 ∧ b_ready n = 1 ∧ a_made n = nI d ∧ b_classes n = nI d ∧ rn_RO h a_sort a_number a_ready) ∨
    (¬ a_sort (3 + h) = 2 ∧ ¬ b_sorts (3 + h) = 2 ∧ ¬ rn_RO h a_sort a_number a_ready ∧ ∀ post : Int32 → Prop, post 0 → wpY_isReady post (g_length, g_handlers, g_many, g_there, g_typed, g_wrongNumber, g_wrongPlace, g_size, g_why, g_height, g_objects, g_line, g_begun, g_last, g_end, b_parent, b_begin, b_op, b_arg, b_from, b_to, b_target, b_caught, b_places, b_heights, b_gone, b_worst, b_frames, b_maps, b_high, b_known, b_mapped, b_now, b_sorts, b_ints, b_classes, b_ready) (b_sorts (3 + h))) := by
  obtain ⟨c0, c1, c2, c4, v1, l4, o3, n3⟩ := rl_cs (by omega) hv.1
  by_cases T : a_sort (3 + h) = 2
  · exact Or.inl ⟨T, c2.mp T, fun w => by rw [w.2.1] at T; exact absurd T (by decide)⟩
  · by_cases S : a_sort (3 + h) = 3
    · obtain ⟨n, n1, e1, e2⟩ := o3 S
      have en : (a_number (3 + h)).toNatClampNeg = n := by rw [e1]; exact nI_clamp (by omega)
      obtain ⟨⟨d, d8, d1, d2⟩, hr⟩ := hO n n1
      rcases hr with ⟨r0, r0'⟩ | ⟨r1, r1'⟩
      · refine Or.inr (Or.inr ⟨T, fun z => T (c2.mpr z), fun w => ?_, fun post hp => ?_⟩)
        · have := w.2.2; rw [en, r0] at this; exact absurd this (by decide)
        · rw [e2]; exact yo_rd (by omega) r0' (Or.inl rfl) hp
      · exact Or.inr (Or.inl ⟨n, d, n1, d8, S, e1, e2, r1, r1', d1, d2, h1, S, by rw [en]; exact r1⟩)
    · exact Or.inr (Or.inr ⟨T, fun z => T (c2.mpr z), fun w => S w.2.1, fun post hp => yo_le (n3 S) hp⟩)
theorem rn_s14 {no h i : Nat} (P : pp_P cn hn op fr tt tg ct pa be ar) (M : pp_M cn hn op tg ar) (A : xa_A pa an) (hi : i < cn) (hop : op i = 14) (hno : no ≤ 203) (hh : h ≤ 6) (ht : aa_tk 14 ≤ h) (hl : h - aa_tk 14 + aa_pt 14 ≤ 6) (hO : rl_O no a_made a_ready b_classes b_ready) (hV : ∀ j, j < 4 + h → rn_V cn no (a_sort j) (a_number j) (b_sorts j) (b_ints j)) :
    ∃ x y : rn_T, (∀ post : SX → Prop, post ((nI cn), (nI hn), f_met, f_waiting, f_tooMany, f_size, f_height, f_why, f_found, x.1, x.2.1, x.2.2.1, (nI i), f_steps, x.2.2.2.1, x.2.2.2.2.1, f_ran, (aa_N pa), an, (aa_N be), (aa_N op), ar, (aa_N fr), (aa_N tt), (aa_N tg), (aa_N ct), a_keys, a_heights, a_faults, a_table, a_todo, a_said, a_sorted, a_instruction, a_values, a_jumps, a_caught, a_caller, a_mapped, a_known, a_types, a_maps, a_now, x.2.2.2.2.2.1, x.2.2.2.2.2.2.1, x.2.2.2.2.2.2.2.1, x.2.2.2.2.2.2.2.2) → wpX_step post ((nI cn), (nI hn), f_met, f_waiting, f_tooMany, f_size, f_height, f_why, f_found, (nI no), (nI (4 + h)), (nI (i + 1)), (nI i), f_steps, (-1), (-1), f_ran, (aa_N pa), an, (aa_N be), (aa_N op), ar, (aa_N fr), (aa_N tt), (aa_N tg), (aa_N ct), a_keys, a_heights, a_faults, a_table, a_todo, a_said, a_sorted, a_instruction, a_values, a_jumps, a_caught, a_caller, a_mapped, a_known, a_types, a_maps, a_now, a_sort, a_made, a_number, a_ready) (nI 14) (ar i) (nI (3 + h))) ∧ (∀ post : SY → Prop, post ((nI cn), (nI hn), g_many, g_there, g_typed, g_wrongNumber, g_wrongPlace, g_size, g_why, y.2.1, y.1, y.2.2.1, g_begun, y.2.2.2.2.1, y.2.2.2.1, (aa_N pa), (aa_N be), (aa_N op), ar, (aa_N fr), (aa_N tt), (aa_N tg), (aa_N ct), b_places, b_heights, b_gone, b_worst, b_frames, b_maps, b_high, b_known, b_mapped, b_now, y.2.2.2.2.2.1, y.2.2.2.2.2.2.2.1, y.2.2.2.2.2.2.1, y.2.2.2.2.2.2.2.2) → wpY_step post ((nI cn), (nI hn), g_many, g_there, g_typed, g_wrongNumber, g_wrongPlace, g_size, g_why, (nI h), (nI no), (nI i), g_begun, (-1), (-1), (aa_N pa), (aa_N be), (aa_N op), ar, (aa_N fr), (aa_N tt), (aa_N tg), (aa_N ct), b_places, b_heights, b_gone, b_worst, b_frames, b_maps, b_high, b_known, b_mapped, b_now, b_sorts, b_ints, b_classes, b_ready) (nI 14) (ar i)) ∧ rn_E cn no i x y := by
  have t1 : aa_tk 14 = 1 := rfl
  have t2 : aa_pt 14 = 0 := rfl
  have hc24 := P.1
  have hpa := P.2.2.2.2.1
  have eh : nI (4 + h) - 1 = nI (4 + (h - 1)) := (pk_sub (b := 1) (by omega)).trans (congrArg nI (by omega))
  have et : (nI (3 + h)).toNatClampNeg = 3 + h := nI_clamp (by omega)
  have hint := vp_in_nI (n := 3 + h) (N := 10) (by omega) (by decide)
  have hv := hV (3 + h) (by omega)
  obtain ⟨c0, c1, c2, c4, v1, l4, o3, n3⟩ := rl_cs (by omega) hv.1
  have ld : aa_ld (op i) = true := by rw [hop]; decide
  obtain ⟨g1, g2⟩ := pp_g24 P ld
  have hg := M.2.1 i hi ld
  rw [g1]
  rcases rn_top hno (by omega) hO hv with ⟨T, T', nr⟩ | ⟨n, d, n1, d8, T, e1, e2, r1, r1', d1, d2, ro⟩ | ⟨T, T', nr, hy⟩
  · refine ⟨(nI no, nI (4 + (h - 1)), nI (pp_g ar i), -1, -1, a_sort, a_made, a_number, a_ready), (nI no, nI (h - 1), nI (pp_g ar i), -1, -1, b_sorts, b_classes, b_ints, b_ready), fun post hp => ?_, fun post hp => ?_, Or.inl ⟨rfl, rfl, rfl, rfl, no, h - 1, pp_g ar i, rfl, rfl, by omega, rfl, rfl, rfl, rfl, by omega, by omega, hO, fun j hj => hV j (by omega)⟩⟩
    · refine br_f (by decide) (br_t (by decide) (xr_further hpa A (by omega) hh hO (fun z => ⟨_, _, (hV (3 + h) (by omega)).1⟩) (fun z0 hz0 => ?_)))
      refine br_f (by decide) (br_f (by decide) (br_f (by decide) (br_f (by decide) (br_f (by decide) (br_f (by decide) (br_f (by decide) (br_f (by decide) (br_t (by decide) (And.intro hint ?_)))))))))
      rw [et]
      refine br_t T (And.intro hint ?_)
      rw [et]; exact br_t T (nm_r eh hp)
    · refine yr_pre (by decide) hh ht hl (fun t v u w h1 h0 h2 => ?_)
      obtain ⟨q1, q2⟩ := h1 (by omega)
      unfold wY_step_120
      rw [q1, q2]
      exact br_f (by decide) (br_f (by decide) (br_f (by decide) (br_f (by decide) (br_f (by decide) (br_f (by decide) (br_f (by decide) (br_f (by decide) (br_f (by decide) (br_f (by decide) (br_f (by decide) (br_f (by decide) (br_f (by decide) (br_f (by decide) (br_t (by decide) (br_t T' (br_f (by decide) (nm_r (nI_1 i) (br_f (by decide) (br_f (by decide) (br_f (by decide) (br_f (by decide) (br_f (by decide) (br_f (by decide) (br_f (by decide) (br_f (by decide) (br_f (by decide) (br_f (by decide) (br_f (by decide) (br_f (by decide) (br_f (by decide) (br_f (by decide) (br_f (by decide) (br_f (by decide) (br_t (by decide) (br_t T' hp)))))))))))))))))))))))))))))))))))
  · have n2 : ¬ a_sort (3 + h) = 2 := by rw [T]; decide
    have n2' : ¬ b_sorts (3 + h) = 2 := fun z => n2 (c2.mpr z)
    refine ⟨(nI no, nI (4 + (h - 1)), nI (i + 1), -1, -1, a_sort, a_made, a_number, a_ready), (nI no, nI (h - 1), nI (i + 1), -1, -1, b_sorts, b_classes, b_ints, b_ready), fun post hp => ?_, fun post hp => ?_, Or.inl ⟨rfl, rfl, rfl, rfl, no, h - 1, i + 1, rfl, rfl, by omega, rfl, rfl, rfl, rfl, by omega, by omega, hO, fun j hj => hV j (by omega)⟩⟩
    · refine br_f (by decide) (br_t (by decide) (xr_further hpa A (by omega) hh hO (fun z => ⟨_, _, (hV (3 + h) (by omega)).1⟩) (fun z0 hz0 => ?_)))
      have z1 : ¬ z0 = 0 := by rcases hz0 with ⟨rfl, -⟩ | ⟨-, w⟩; decide; exact absurd ro w
      refine br_f (by decide) (br_f (by decide) (br_f (by decide) (br_f (by decide) (br_f (by decide) (br_f (by decide) (br_f (by decide) (br_f (by decide) (br_t (by decide) (And.intro hint ?_)))))))))
      rw [et]
      refine br_f n2 (br_f z1 (And.intro hint ?_))
      rw [et]; exact br_f n2 (nm_r eh hp)
    · refine yr_pre (by decide) hh ht hl (fun t v u w h1 h0 h2 => ?_)
      obtain ⟨q1, q2⟩ := h1 (by omega)
      unfold wY_step_120
      rw [q1, q2]
      refine br_f (by decide) (br_f (by decide) (br_f (by decide) (br_f (by decide) (br_f (by decide) (br_f (by decide) (br_f (by decide) (br_f (by decide) (br_f (by decide) (br_f (by decide) (br_f (by decide) (br_f (by decide) (br_f (by decide) (br_f (by decide) (br_t (by decide) (br_f n2' ?_)))))))))))))))
      rw [e2]
      exact yo_rd (by omega) r1' (Or.inr rfl) (br_f (by decide) (br_f (by decide) (nm_r (nI_1 i) (br_f (by decide) (br_f (by decide) (br_f (by decide) (br_f (by decide) (br_f (by decide) (br_f (by decide) (br_f (by decide) (br_f (by decide) (br_f (by decide) (br_f (by decide) (br_f (by decide) (br_f (by decide) (br_f (by decide) (br_f (by decide) (br_f (by decide) (br_f (by decide) (br_t (by decide) (br_f (by rw [← e2]; exact n2') hp)))))))))))))))))))))
  · refine ⟨(nI no, nI (4 + (h - 1)), nI (i + 1), 4, -1, a_sort, a_made, a_number, a_ready), (nI no, nI h, nI i, 4, -1, b_sorts, b_classes, b_ints, b_ready), fun post hp => ?_, fun post hp => ?_, Or.inr ⟨by show (0 : Int32) ≤ 4; decide, rfl, rfl, rfl, no, by omega, hO, fun j hj => (hV j (by omega)).1⟩⟩
    · refine br_f (by decide) (br_t (by decide) (xr_further hpa A (by omega) hh hO (fun z => ⟨_, _, (hV (3 + h) (by omega)).1⟩) (fun z0 hz0 => ?_)))
      have z1 : z0 = 0 := by rcases hz0 with ⟨-, w⟩ | ⟨w, -⟩; exact absurd w nr; exact w
      refine br_f (by decide) (br_f (by decide) (br_f (by decide) (br_f (by decide) (br_f (by decide) (br_f (by decide) (br_f (by decide) (br_f (by decide) (br_t (by decide) (And.intro hint ?_)))))))))
      rw [et]; exact br_f T (br_t z1 (nm_r eh hp))
    · refine yr_pre (by decide) hh ht hl (fun t v u w h1 h0 h2 => ?_)
      obtain ⟨q1, q2⟩ := h1 (by omega)
      unfold wY_step_120
      rw [q1, q2]
      refine br_f (by decide) (br_f (by decide) (br_f (by decide) (br_f (by decide) (br_f (by decide) (br_f (by decide) (br_f (by decide) (br_f (by decide) (br_f (by decide) (br_f (by decide) (br_f (by decide) (br_f (by decide) (br_f (by decide) (br_f (by decide) (br_t (by decide) (br_f T' ?_)))))))))))))))
      exact hy _ (br_t rfl (br_t rfl hp))
end
end
section
/-! the steps that want a reference -/
section
variable {cn hn : Nat} {op fr tt tg ct pa be : Nat → Nat} {ar an : Nat → Int32}
variable {f_count f_handlers f_met f_waiting f_tooMany f_size f_height f_why f_found f_objects f_high f_at f_here f_steps f_outcome f_last f_ran : Int32} {a_parents a_ancestors a_begins a_ops a_operands a_froms a_tos a_targets a_catches a_keys a_heights a_faults a_table a_todo a_said a_sorted a_instruction a_values a_jumps a_caught a_caller a_mapped a_known a_types a_maps a_now a_sort a_made a_number a_ready : Nat → Int32}
variable {g_length g_handlers g_many g_there g_typed g_wrongNumber g_wrongPlace g_size g_why g_height g_objects g_line g_begun g_last g_end : Int32} {b_parent b_begin b_op b_arg b_from b_to b_target b_caught b_places b_heights b_gone b_worst b_frames b_maps b_high b_known b_mapped b_now b_sorts b_ints b_classes b_ready : Nat → Int32}
theorem xo_any {post : Int32 → Prop} {p n d : Nat} {c : Int32} (hp : p < 10) (hnn : n < 210) (hd : d < 8) (h3 : a_sort p = 3) (h4 : a_number p = nI n) (h5 : a_ready n = 1) (h6 : a_made n = nI d) (K : ∀ r : Int32, r = 0 ∨ r = 1 → post r) : wpX_isObject post (f_count, f_handlers, f_met, f_waiting, f_tooMany, f_size, f_height, f_why, f_found, f_objects, f_high, f_at, f_here, f_steps, f_outcome, f_last, f_ran, a_parents, a_ancestors, a_begins, a_ops, a_operands, a_froms, a_tos, a_targets, a_catches, a_keys, a_heights, a_faults, a_table, a_todo, a_said, a_sorted, a_instruction, a_values, a_jumps, a_caught, a_caller, a_mapped, a_known, a_types, a_maps, a_now, a_sort, a_made, a_number, a_ready) (nI p) c := by
  have ep : (nI p).toNatClampNeg = p := nI_clamp (by omega)
  have en : (nI n).toNatClampNeg = n := nI_clamp (by omega)
  have hin := vp_in_nI (n := p) (N := 10) hp (by decide)
  have hin2 := vp_in_nI (n := n) (N := 210) hnn (by decide)
  refine And.intro hin ?_
  rw [ep]
  refine br_t h3 (And.intro hin ?_)
  rw [h4, en, h5, h6]
  exact And.intro hin2 (br_f (by decide) (And.intro hin (And.intro hin2 (And.intro (vp_in_nI hd (by decide)) (br_c (fun _ => K 0 (Or.inl rfl)) (fun _ => K 1 (Or.inr rfl)))))))
theorem yo_of0 {post : Int32 → Prop} {s c : Int32} (h2 : ¬ s = 2) (hy : ∀ post : Int32 → Prop, post 0 → wpY_isReady post (g_length, g_handlers, g_many, g_there, g_typed, g_wrongNumber, g_wrongPlace, g_size, g_why, g_height, g_objects, g_line, g_begun, g_last, g_end, b_parent, b_begin, b_op, b_arg, b_from, b_to, b_target, b_caught, b_places, b_heights, b_gone, b_worst, b_frames, b_maps, b_high, b_known, b_mapped, b_now, b_sorts, b_ints, b_classes, b_ready) s) (K : post 0) : wpY_isOf post (g_length, g_handlers, g_many, g_there, g_typed, g_wrongNumber, g_wrongPlace, g_size, g_why, g_height, g_objects, g_line, g_begun, g_last, g_end, b_parent, b_begin, b_op, b_arg, b_from, b_to, b_target, b_caught, b_places, b_heights, b_gone, b_worst, b_frames, b_maps, b_high, b_known, b_mapped, b_now, b_sorts, b_ints, b_classes, b_ready) s c := br_f h2 (hy _ (br_t rfl K))
theorem yo_ofr {post : Int32 → Prop} {n c d : Nat} (hpa : ∀ c, pa c < 8 ∧ (0 < c → pa c < c)) (hnn : n < 240) (hc : c < 8) (hd : d < 8) (h2 : ¬ nI (4 + n) = 2) (h : b_ready n = 1) (h6 : b_classes n = nI d) (K : post (nI (aa_b2 (ty_ab pa c d)))) : wpY_isOf post ((nI cn), (nI hn), g_many, g_there, g_typed, g_wrongNumber, g_wrongPlace, g_size, g_why, g_height, g_objects, g_line, g_begun, g_last, g_end, (aa_N pa), (aa_N be), (aa_N op), ar, (aa_N fr), (aa_N tt), (aa_N tg), (aa_N ct), b_places, b_heights, b_gone, b_worst, b_frames, b_maps, b_high, b_known, b_mapped, b_now, b_sorts, b_ints, b_classes, b_ready) (nI (4 + n)) (nI c) := by
  have en : (nI n).toNatClampNeg = n := nI_clamp (by omega)
  refine br_f h2 (yo_rd hnn h (Or.inr rfl) (br_f (by decide) ?_))
  rw [yo_m4, en, h6]
  refine And.intro (vp_in_nI hnn (by decide)) (yy_isAbove hpa hc hd ?_)
  by_cases z : ty_ab pa c d = true
  · rw [z] at K ⊢; exact br_f (by decide) K
  · rw [ts_nt z] at K ⊢; exact br_t (by decide) K
/-- a new object is thrown, on both sides -/
theorem rn_toss {no c i : Nat} (P : pp_P cn hn op fr tt tg ct pa be ar) (M : pp_M cn hn op tg ar) (A : xa_A pa an) (hno : no ≤ 203) (hi : i < 24) (hc : c < 8) (hO : rl_O no a_made a_ready b_classes b_ready) (hV : ∀ j, j < 4 → rn_V cn no (a_sort j) (a_number j) (b_sorts j) (b_ints j)) :
    ∃ x y : rn_T, (∀ post : SX → Prop, post ((nI cn), (nI hn), f_met, f_waiting, f_tooMany, f_size, f_height, f_why, f_found, x.1, x.2.1, x.2.2.1, (nI i), f_steps, x.2.2.2.1, x.2.2.2.2.1, f_ran, (aa_N pa), an, (aa_N be), (aa_N op), ar, (aa_N fr), (aa_N tt), (aa_N tg), (aa_N ct), a_keys, a_heights, a_faults, a_table, a_todo, a_said, a_sorted, a_instruction, a_values, a_jumps, a_caught, a_caller, a_mapped, a_known, a_types, a_maps, a_now, x.2.2.2.2.2.1, x.2.2.2.2.2.2.1, x.2.2.2.2.2.2.2.1, x.2.2.2.2.2.2.2.2) → wpX_toss post ((nI cn), (nI hn), f_met, f_waiting, f_tooMany, f_size, f_height, f_why, f_found, (nI no), f_high, f_at, (nI i), f_steps, (-1), (-1), f_ran, (aa_N pa), an, (aa_N be), (aa_N op), ar, (aa_N fr), (aa_N tt), (aa_N tg), (aa_N ct), a_keys, a_heights, a_faults, a_table, a_todo, a_said, a_sorted, a_instruction, a_values, a_jumps, a_caught, a_caller, a_mapped, a_known, a_types, a_maps, a_now, a_sort, a_made, a_number, a_ready) (nI c)) ∧ (∀ post : SY → Prop, post ((nI cn), (nI hn), g_many, g_there, g_typed, g_wrongNumber, g_wrongPlace, g_size, g_why, y.2.1, y.1, y.2.2.1, g_begun, y.2.2.2.2.1, y.2.2.2.1, (aa_N pa), (aa_N be), (aa_N op), ar, (aa_N fr), (aa_N tt), (aa_N tg), (aa_N ct), b_places, b_heights, b_gone, b_worst, b_frames, b_maps, b_high, b_known, b_mapped, b_now, y.2.2.2.2.2.1, y.2.2.2.2.2.2.2.1, y.2.2.2.2.2.2.1, y.2.2.2.2.2.2.2.2) → wpY_raise post ((nI cn), (nI hn), g_many, g_there, g_typed, g_wrongNumber, g_wrongPlace, g_size, g_why, g_height, (nI no), g_line, g_begun, (-1), (-1), (aa_N pa), (aa_N be), (aa_N op), ar, (aa_N fr), (aa_N tt), (aa_N tg), (aa_N ct), b_places, b_heights, b_gone, b_worst, b_frames, b_maps, b_high, b_known, b_mapped, b_now, b_sorts, b_ints, b_classes, b_ready) (nI i) (-1) (nI c)) ∧ rn_E cn no i x y := by
  obtain ⟨x, y, hx, hy, hE⟩ := rn_raise (f_met := f_met) (f_waiting := f_waiting) (f_tooMany := f_tooMany) (f_size := f_size) (f_height := f_height) (f_why := f_why) (f_found := f_found) (f_steps := f_steps) (f_ran := f_ran) (a_keys := a_keys) (a_heights := a_heights) (a_faults := a_faults) (a_table := a_table) (a_todo := a_todo) (a_said := a_said) (a_sorted := a_sorted) (a_instruction := a_instruction) (a_values := a_values) (a_jumps := a_jumps) (a_caught := a_caught) (a_caller := a_caller) (a_mapped := a_mapped) (a_known := a_known) (a_types := a_types) (a_maps := a_maps) (a_now := a_now) (a_sort := a_sort) (a_number := a_number) (g_many := g_many) (g_there := g_there) (g_typed := g_typed) (g_wrongNumber := g_wrongNumber) (g_wrongPlace := g_wrongPlace) (g_size := g_size) (g_why := g_why) (g_begun := g_begun) (b_places := b_places) (b_heights := b_heights) (b_gone := b_gone) (b_worst := b_worst) (b_frames := b_frames) (b_maps := b_maps) (b_high := b_high) (b_known := b_known) (b_mapped := b_mapped) (b_now := b_now) (b_sorts := b_sorts) (b_ints := b_ints) (a_made := upd a_made no (nI c)) (a_ready := upd a_ready no 1) (b_classes := upd b_classes no (nI c)) (b_ready := upd b_ready no 1) (f_high := f_high) (f_at := f_at) (g_height := g_height) (no0 := no) (no := no + 1) (n := no) (d := c) (i := i) P M A (by omega) (by omega) (by omega) hi hc pk_us pk_us (rl_O_new hO hc (Or.inr rfl)) (fun j hj => rn_V_mono (by omega) (hV j hj))
  refine ⟨x, y, fun post hp => ?_, fun post hp => ?_, hE⟩
  · unfold wpX_toss
    exact xr_object (by omega) (by omega) (Or.inr rfl) (hx _ hp)
  · exact br_f (by decide) (yr_object (by omega) (Or.inr rfl) (hy post hp))
theorem rn_s10 {no h i : Nat} (P : pp_P cn hn op fr tt tg ct pa be ar) (M : pp_M cn hn op tg ar) (A : xa_A pa an) (hi : i < cn) (hop : op i = 10) (hno : no ≤ 203) (hh : h ≤ 6) (ht : aa_tk 10 ≤ h) (hl : h - aa_tk 10 + aa_pt 10 ≤ 6) (hO : rl_O no a_made a_ready b_classes b_ready) (hV : ∀ j, j < 4 + h → rn_V cn no (a_sort j) (a_number j) (b_sorts j) (b_ints j)) :
    ∃ x y : rn_T, (∀ post : SX → Prop, post ((nI cn), (nI hn), f_met, f_waiting, f_tooMany, f_size, f_height, f_why, f_found, x.1, x.2.1, x.2.2.1, (nI i), f_steps, x.2.2.2.1, x.2.2.2.2.1, f_ran, (aa_N pa), an, (aa_N be), (aa_N op), ar, (aa_N fr), (aa_N tt), (aa_N tg), (aa_N ct), a_keys, a_heights, a_faults, a_table, a_todo, a_said, a_sorted, a_instruction, a_values, a_jumps, a_caught, a_caller, a_mapped, a_known, a_types, a_maps, a_now, x.2.2.2.2.2.1, x.2.2.2.2.2.2.1, x.2.2.2.2.2.2.2.1, x.2.2.2.2.2.2.2.2) → wpX_step post ((nI cn), (nI hn), f_met, f_waiting, f_tooMany, f_size, f_height, f_why, f_found, (nI no), (nI (4 + h)), (nI (i + 1)), (nI i), f_steps, (-1), (-1), f_ran, (aa_N pa), an, (aa_N be), (aa_N op), ar, (aa_N fr), (aa_N tt), (aa_N tg), (aa_N ct), a_keys, a_heights, a_faults, a_table, a_todo, a_said, a_sorted, a_instruction, a_values, a_jumps, a_caught, a_caller, a_mapped, a_known, a_types, a_maps, a_now, a_sort, a_made, a_number, a_ready) (nI 10) (ar i) (nI (3 + h))) ∧ (∀ post : SY → Prop, post ((nI cn), (nI hn), g_many, g_there, g_typed, g_wrongNumber, g_wrongPlace, g_size, g_why, y.2.1, y.1, y.2.2.1, g_begun, y.2.2.2.2.1, y.2.2.2.1, (aa_N pa), (aa_N be), (aa_N op), ar, (aa_N fr), (aa_N tt), (aa_N tg), (aa_N ct), b_places, b_heights, b_gone, b_worst, b_frames, b_maps, b_high, b_known, b_mapped, b_now, y.2.2.2.2.2.1, y.2.2.2.2.2.2.2.1, y.2.2.2.2.2.2.1, y.2.2.2.2.2.2.2.2) → wpY_step post ((nI cn), (nI hn), g_many, g_there, g_typed, g_wrongNumber, g_wrongPlace, g_size, g_why, (nI h), (nI no), (nI i), g_begun, (-1), (-1), (aa_N pa), (aa_N be), (aa_N op), ar, (aa_N fr), (aa_N tt), (aa_N tg), (aa_N ct), b_places, b_heights, b_gone, b_worst, b_frames, b_maps, b_high, b_known, b_mapped, b_now, b_sorts, b_ints, b_classes, b_ready) (nI 10) (ar i)) ∧ rn_E cn no i x y := by
  have t1 : aa_tk 10 = 1 := rfl
  have t2 : aa_pt 10 = 1 := rfl
  have hc24 := P.1
  have hpa := P.2.2.2.2.1
  have et : (nI (3 + h)).toNatClampNeg = 3 + h := nI_clamp (by omega)
  have hint := vp_in_nI (n := 3 + h) (N := 10) (by omega) (by decide)
  have hv := hV (3 + h) (by omega)
  obtain ⟨c0, c1, c2, c4, v1, l4, o3, n3⟩ := rl_cs (by omega) hv.1
  obtain ⟨g1, g2⟩ := pp_g8 P (i := i) (by omega)
  rw [g1]
  have e5 : h - aa_tk 10 = h - 1 := by omega
  rcases rn_top hno (by omega) hO hv with ⟨T, T', nr⟩ | ⟨n, d, n1, d8, T, e1, e2, r1, r1', d1, d2, ro⟩ | ⟨T, T', nr, hy⟩
  · refine ⟨(nI no, nI (4 + h), nI (i + 1), -1, -1, a_sort, a_made, a_number, a_ready), (nI no, nI (h - 1 + 1), nI (i + 1), -1, -1, upd b_sorts (4 + (h - 1)) (b_sorts (3 + h)), b_classes, upd b_ints (4 + (h - 1)) 0, b_ready), fun post hp => ?_, fun post hp => ?_, Or.inl ⟨rfl, rfl, rfl, rfl, no, h, i + 1, rfl, rfl, by omega, rfl, congrArg nI (show h - 1 + 1 = h by omega), rfl, rfl, by omega, by omega, hO, ?_⟩⟩
    · refine br_f (by decide) (br_t (by decide) (xr_further hpa A (by omega) hh hO (fun z => ⟨_, _, (hV (3 + h) (by omega)).1⟩) (fun z0 hz0 => ?_)))
      refine br_f (by decide) (br_f (by decide) (br_f (by decide) (br_f (by decide) (br_t (by decide) (And.intro hint ?_)))))
      rw [et]; exact br_t T (br_f (by decide) (br_f (by decide) (br_f (by decide) (br_f (by decide) (br_t rfl (br_f (by decide) (br_f (by decide) (br_f (by decide) (br_t rfl (br_f (by decide) hp))))))))))
    · refine yr_pre (by decide) hh ht hl (fun t v u w h1 h0 h2 => ?_)
      obtain ⟨q1, q2⟩ := h1 (by omega)
      unfold wY_step_120
      rw [q1, q2]
      rw [e5]
      exact br_f (by decide) (br_f (by decide) (br_f (by decide) (br_f (by decide) (br_f (by decide) (br_f (by decide) (br_f (by decide) (br_f (by decide) (br_f (by decide) (br_f (by decide) (br_t (by decide) (br_t T' (br_f (by decide) (nm_r (nI_1 i) (br_f (by decide) (br_f (by decide) (br_f (by decide) (br_f (by decide) (br_f (by decide) (br_f (by decide) (br_f (by decide) (br_f (by decide) (br_f (by decide) (br_f (by decide) (br_f (by decide) (br_f (by decide) (br_t (by decide) (br_t T' (br_f (by decide) (yr_put (by omega) hp)))))))))))))))))))))))))))))
    · rw [show 4 + (h - 1) = 3 + h from by omega]
      intro j hj
      dsimp only
      by_cases e : j = 3 + h
      · rw [e, pk_us, pk_us]
        exact ⟨Or.inr (Or.inr (Or.inl ⟨T, T'⟩)), hv.2⟩
      · rw [pk_un e, pk_un e]; exact hV j (by omega)
  · have n2 : ¬ a_sort (3 + h) = 2 := by rw [T]; decide
    have n2' : ¬ nI (4 + n) = 2 := fun z => by have := (nI_eq (b := 2) (by omega) (by decide)).mp z; omega
    have gt3 : ¬ nI (4 + n) ≤ 3 := nI_ge (a := 3) (by omega) (by omega)
    have en : (nI n).toNatClampNeg = n := nI_clamp (by omega)
    by_cases f : ty_ab pa (pp_g ar i) d = true
    · refine ⟨(nI no, nI (4 + h), nI (i + 1), -1, -1, a_sort, a_made, a_number, a_ready), (nI no, nI (h - 1 + 1), nI (i + 1), -1, -1, upd b_sorts (4 + (h - 1)) (b_sorts (3 + h)), b_classes, upd b_ints (4 + (h - 1)) 0, b_ready), fun post hp => ?_, fun post hp => ?_, Or.inl ⟨rfl, rfl, rfl, rfl, no, h, i + 1, rfl, rfl, by omega, rfl, congrArg nI (show h - 1 + 1 = h by omega), rfl, rfl, by omega, by omega, hO, ?_⟩⟩
      · refine br_f (by decide) (br_t (by decide) (xr_further hpa A (by omega) hh hO (fun z => ⟨_, _, (hV (3 + h) (by omega)).1⟩) (fun z0 hz0 => ?_)))
        have z1 : ¬ z0 = 0 := by rcases hz0 with ⟨rfl, -⟩ | ⟨-, w⟩; decide; exact absurd ro w
        refine br_f (by decide) (br_f (by decide) (br_f (by decide) (br_f (by decide) (br_t (by decide) (And.intro hint ?_)))))
        rw [et]
        refine br_f n2 (br_t rfl (br_f z1 (xo_rd A (by omega) (by omega) g2 d8 T e1 r1 d1 ?_)))
        rw [f]
        exact br_f (by decide) (br_t rfl (br_f z1 (br_f (by decide) (br_f (by decide) (br_t rfl (br_f (by decide) (br_f (by decide) (br_t rfl (br_f (by decide) hp)))))))))
      · refine yr_pre (by decide) hh ht hl (fun t v u w h1 h0 h2 => ?_)
        obtain ⟨q1, q2⟩ := h1 (by omega)
        unfold wY_step_120
        rw [q1, q2]
        rw [e5]
        rw [e2] at hp ⊢
        refine br_f (by decide) (br_f (by decide) (br_f (by decide) (br_f (by decide) (br_f (by decide) (br_f (by decide) (br_f (by decide) (br_f (by decide) (br_f (by decide) (br_f (by decide) (br_t (by decide) (br_f n2' (yo_rd (by omega) r1' (Or.inr rfl) (br_f (by decide) (br_f (by decide) (nm_r (nI_1 i) (br_f (by decide) (br_f (by decide) (br_f (by decide) (br_f (by decide) (br_f (by decide) (br_f (by decide) (br_f (by decide) (br_f (by decide) (br_f (by decide) (br_f (by decide) (br_f (by decide) (br_f (by decide) (br_t (by decide) (?_)))))))))))))))))))))))))))))
        refine yo_ofr hpa (by omega) g2 d8 n2' r1' d2 ?_
        rw [f]; exact br_f (by decide) (yr_put (by omega) hp)
      · rw [show 4 + (h - 1) = 3 + h from by omega]
        intro j hj
        dsimp only
        by_cases e : j = 3 + h
        · rw [e, pk_us, pk_us]
          exact ⟨Or.inr (Or.inr (Or.inr (Or.inl ⟨n, n1, T, e1, e2⟩))), hv.2⟩
        · rw [pk_un e, pk_un e]; exact hV j (by omega)
    · obtain ⟨x, y, hx, hy, hE⟩ := rn_toss (f_met := f_met) (f_waiting := f_waiting) (f_tooMany := f_tooMany) (f_size := f_size) (f_height := f_height) (f_why := f_why) (f_found := f_found) (f_steps := f_steps) (f_ran := f_ran) (a_keys := a_keys) (a_heights := a_heights) (a_faults := a_faults) (a_table := a_table) (a_todo := a_todo) (a_said := a_said) (a_sorted := a_sorted) (a_instruction := a_instruction) (a_values := a_values) (a_jumps := a_jumps) (a_caught := a_caught) (a_caller := a_caller) (a_mapped := a_mapped) (a_known := a_known) (a_types := a_types) (a_maps := a_maps) (a_now := a_now) (a_sort := a_sort) (a_made := a_made) (a_number := a_number) (a_ready := a_ready) (g_many := g_many) (g_there := g_there) (g_typed := g_typed) (g_wrongNumber := g_wrongNumber) (g_wrongPlace := g_wrongPlace) (g_size := g_size) (g_why := g_why) (g_begun := g_begun) (b_places := b_places) (b_heights := b_heights) (b_gone := b_gone) (b_worst := b_worst) (b_frames := b_frames) (b_maps := b_maps) (b_high := b_high) (b_known := b_known) (b_mapped := b_mapped) (b_now := b_now) (b_sorts := b_sorts) (b_ints := b_ints) (b_classes := b_classes) (b_ready := b_ready) (f_high := nI (4 + h)) (f_at := nI (i + 1)) (g_height := nI (h - aa_tk 10)) (g_line := nI (i + 1)) (c := 1) (i := i) P M A hno (by omega) (by decide) hO (fun j hj => hV j (by omega))
      refine ⟨x, y, fun post hp => ?_, fun post hp => ?_, hE⟩
      · refine br_f (by decide) (br_t (by decide) (xr_further hpa A (by omega) hh hO (fun z => ⟨_, _, (hV (3 + h) (by omega)).1⟩) (fun z0 hz0 => ?_)))
        have z1 : ¬ z0 = 0 := by rcases hz0 with ⟨rfl, -⟩ | ⟨-, w⟩; decide; exact absurd ro w
        refine br_f (by decide) (br_f (by decide) (br_f (by decide) (br_f (by decide) (br_t (by decide) (And.intro hint ?_)))))
        rw [et]
        refine br_f n2 (br_t rfl (br_f z1 (xo_rd A (by omega) (by omega) g2 d8 T e1 r1 d1 ?_)))
        rw [ts_nt f]
        exact br_t rfl (br_t rfl (br_f z1 (br_t rfl (br_f (by decide) (br_f (by decide) (br_f (by decide) (br_t rfl (br_t rfl (hx _ hp)))))))))
      · refine yr_pre (by decide) hh ht hl (fun t v u w h1 h0 h2 => ?_)
        obtain ⟨q1, q2⟩ := h1 (by omega)
        unfold wY_step_120
        rw [q1, q2]
        rw [e2]
        refine br_f (by decide) (br_f (by decide) (br_f (by decide) (br_f (by decide) (br_f (by decide) (br_f (by decide) (br_f (by decide) (br_f (by decide) (br_f (by decide) (br_f (by decide) (br_t (by decide) (br_f n2' (yo_rd (by omega) r1' (Or.inr rfl) (br_f (by decide) (br_f (by decide) (nm_r (nI_1 i) (br_f (by decide) (br_f (by decide) (br_f (by decide) (br_f (by decide) (br_f (by decide) (br_f (by decide) (br_f (by decide) (br_f (by decide) (br_f (by decide) (br_f (by decide) (br_f (by decide) (br_f (by decide) (br_t (by decide) (?_)))))))))))))))))))))))))))))
        refine yo_ofr hpa (by omega) g2 d8 n2' r1' d2 ?_
        rw [ts_nt f]; exact br_t rfl (hy _ hp)
  · refine ⟨(nI no, nI (4 + h), nI (i + 1), 4, -1, a_sort, a_made, a_number, a_ready), (nI no, nI h, nI i, 4, -1, b_sorts, b_classes, b_ints, b_ready), fun post hp => ?_, fun post hp => ?_, Or.inr ⟨by show (0 : Int32) ≤ 4; decide, rfl, rfl, rfl, no, by omega, hO, fun j hj => (hV j (by omega)).1⟩⟩
    · refine br_f (by decide) (br_t (by decide) (xr_further hpa A (by omega) hh hO (fun z => ⟨_, _, (hV (3 + h) (by omega)).1⟩) (fun z0 hz0 => ?_)))
      have z1 : z0 = 0 := by rcases hz0 with ⟨-, w⟩ | ⟨w, -⟩; exact absurd w nr; exact w
      refine br_f (by decide) (br_f (by decide) (br_f (by decide) (br_f (by decide) (br_t (by decide) (And.intro hint ?_)))))
      rw [et]; exact br_f T (br_t rfl (br_t z1 (br_t rfl (br_t z1 hp))))
    · refine yr_pre (by decide) hh ht hl (fun t v u w h1 h0 h2 => ?_)
      obtain ⟨q1, q2⟩ := h1 (by omega)
      unfold wY_step_120
      rw [q1, q2]
      refine br_f (by decide) (br_f (by decide) (br_f (by decide) (br_f (by decide) (br_f (by decide) (br_f (by decide) (br_f (by decide) (br_f (by decide) (br_f (by decide) (br_f (by decide) (br_t (by decide) (br_f T' ?_)))))))))))
      exact hy _ (br_t rfl (br_t rfl hp))
theorem rn_s11 {no h i : Nat} (P : pp_P cn hn op fr tt tg ct pa be ar) (M : pp_M cn hn op tg ar) (A : xa_A pa an) (hi : i < cn) (hop : op i = 11) (hno : no ≤ 203) (hh : h ≤ 6) (ht : aa_tk 11 ≤ h) (hl : h - aa_tk 11 + aa_pt 11 ≤ 6) (hO : rl_O no a_made a_ready b_classes b_ready) (hV : ∀ j, j < 4 + h → rn_V cn no (a_sort j) (a_number j) (b_sorts j) (b_ints j)) :
    ∃ x y : rn_T, (∀ post : SX → Prop, post ((nI cn), (nI hn), f_met, f_waiting, f_tooMany, f_size, f_height, f_why, f_found, x.1, x.2.1, x.2.2.1, (nI i), f_steps, x.2.2.2.1, x.2.2.2.2.1, f_ran, (aa_N pa), an, (aa_N be), (aa_N op), ar, (aa_N fr), (aa_N tt), (aa_N tg), (aa_N ct), a_keys, a_heights, a_faults, a_table, a_todo, a_said, a_sorted, a_instruction, a_values, a_jumps, a_caught, a_caller, a_mapped, a_known, a_types, a_maps, a_now, x.2.2.2.2.2.1, x.2.2.2.2.2.2.1, x.2.2.2.2.2.2.2.1, x.2.2.2.2.2.2.2.2) → wpX_step post ((nI cn), (nI hn), f_met, f_waiting, f_tooMany, f_size, f_height, f_why, f_found, (nI no), (nI (4 + h)), (nI (i + 1)), (nI i), f_steps, (-1), (-1), f_ran, (aa_N pa), an, (aa_N be), (aa_N op), ar, (aa_N fr), (aa_N tt), (aa_N tg), (aa_N ct), a_keys, a_heights, a_faults, a_table, a_todo, a_said, a_sorted, a_instruction, a_values, a_jumps, a_caught, a_caller, a_mapped, a_known, a_types, a_maps, a_now, a_sort, a_made, a_number, a_ready) (nI 11) (ar i) (nI (3 + h))) ∧ (∀ post : SY → Prop, post ((nI cn), (nI hn), g_many, g_there, g_typed, g_wrongNumber, g_wrongPlace, g_size, g_why, y.2.1, y.1, y.2.2.1, g_begun, y.2.2.2.2.1, y.2.2.2.1, (aa_N pa), (aa_N be), (aa_N op), ar, (aa_N fr), (aa_N tt), (aa_N tg), (aa_N ct), b_places, b_heights, b_gone, b_worst, b_frames, b_maps, b_high, b_known, b_mapped, b_now, y.2.2.2.2.2.1, y.2.2.2.2.2.2.2.1, y.2.2.2.2.2.2.1, y.2.2.2.2.2.2.2.2) → wpY_step post ((nI cn), (nI hn), g_many, g_there, g_typed, g_wrongNumber, g_wrongPlace, g_size, g_why, (nI h), (nI no), (nI i), g_begun, (-1), (-1), (aa_N pa), (aa_N be), (aa_N op), ar, (aa_N fr), (aa_N tt), (aa_N tg), (aa_N ct), b_places, b_heights, b_gone, b_worst, b_frames, b_maps, b_high, b_known, b_mapped, b_now, b_sorts, b_ints, b_classes, b_ready) (nI 11) (ar i)) ∧ rn_E cn no i x y := by
  have t1 : aa_tk 11 = 1 := rfl
  have t2 : aa_pt 11 = 0 := rfl
  have hc24 := P.1
  have hpa := P.2.2.2.2.1
  have eh : nI (4 + h) - 1 = nI (4 + (h - 1)) := (pk_sub (b := 1) (by omega)).trans (congrArg nI (by omega))
  have et : (nI (3 + h)).toNatClampNeg = 3 + h := nI_clamp (by omega)
  have hint := vp_in_nI (n := 3 + h) (N := 10) (by omega) (by decide)
  have hv := hV (3 + h) (by omega)
  obtain ⟨c0, c1, c2, c4, v1, l4, o3, n3⟩ := rl_cs (by omega) hv.1
  obtain ⟨g1, g2⟩ := pp_g8 P (i := i) (by omega)
  rw [g1]
  rcases rn_top hno (by omega) hO hv with ⟨T, T', nr⟩ | ⟨n, d, n1, d8, T, e1, e2, r1, r1', d1, d2, ro⟩ | ⟨T, T', nr, hy⟩
  · obtain ⟨x, y, hx, hy, hE⟩ := rn_toss (f_met := f_met) (f_waiting := f_waiting) (f_tooMany := f_tooMany) (f_size := f_size) (f_height := f_height) (f_why := f_why) (f_found := f_found) (f_steps := f_steps) (f_ran := f_ran) (a_keys := a_keys) (a_heights := a_heights) (a_faults := a_faults) (a_table := a_table) (a_todo := a_todo) (a_said := a_said) (a_sorted := a_sorted) (a_instruction := a_instruction) (a_values := a_values) (a_jumps := a_jumps) (a_caught := a_caught) (a_caller := a_caller) (a_mapped := a_mapped) (a_known := a_known) (a_types := a_types) (a_maps := a_maps) (a_now := a_now) (a_sort := a_sort) (a_made := a_made) (a_number := a_number) (a_ready := a_ready) (g_many := g_many) (g_there := g_there) (g_typed := g_typed) (g_wrongNumber := g_wrongNumber) (g_wrongPlace := g_wrongPlace) (g_size := g_size) (g_why := g_why) (g_begun := g_begun) (b_places := b_places) (b_heights := b_heights) (b_gone := b_gone) (b_worst := b_worst) (b_frames := b_frames) (b_maps := b_maps) (b_high := b_high) (b_known := b_known) (b_mapped := b_mapped) (b_now := b_now) (b_sorts := b_sorts) (b_ints := b_ints) (b_classes := b_classes) (b_ready := b_ready) (f_high := nI (4 + h)) (f_at := nI (i + 1)) (g_height := nI (h - aa_tk 11)) (g_line := nI (i + 1)) (c := 2) (i := i) P M A hno (by omega) (by decide) hO (fun j hj => hV j (by omega))
    refine ⟨x, y, fun post hp => ?_, fun post hp => ?_, hE⟩
    · refine br_f (by decide) (br_t (by decide) (xr_further hpa A (by omega) hh hO (fun z => ⟨_, _, (hV (3 + h) (by omega)).1⟩) (fun z0 hz0 => ?_)))
      refine br_f (by decide) (br_f (by decide) (br_f (by decide) (br_f (by decide) (br_f (by decide) (br_t (by decide) (And.intro hint ?_))))))
      rw [et]; exact br_t T (br_f (by decide) (br_f (by decide) (br_f (by decide) (br_f (by decide) (br_f (by decide) (br_f (by decide) (br_f (by decide) (br_f (by decide) (hx _ hp)))))))))
    · refine yr_pre (by decide) hh ht hl (fun t v u w h1 h0 h2 => ?_)
      obtain ⟨q1, q2⟩ := h1 (by omega)
      unfold wY_step_120
      rw [q1, q2]
      refine br_f (by decide) (br_f (by decide) (br_f (by decide) (br_f (by decide) (br_f (by decide) (br_f (by decide) (br_f (by decide) (br_f (by decide) (br_f (by decide) (br_f (by decide) (br_f (by decide) (br_t (by decide) (?_))))))))))))
      exact br_t T' (And.intro rfl (br_f (by decide) (nm_r (nI_1 i) (br_f (by decide) (br_f (by decide) (br_f (by decide) (br_f (by decide) (br_f (by decide) (br_f (by decide) (br_f (by decide) (br_f (by decide) (br_f (by decide) (br_f (by decide) (br_f (by decide) (br_f (by decide) (br_f (by decide) (br_t (by decide) (br_t T' (hy _ hp)))))))))))))))))))
  · have n2 : ¬ a_sort (3 + h) = 2 := by rw [T]; decide
    have n2' : ¬ nI (4 + n) = 2 := fun z => by have := (nI_eq (b := 2) (by omega) (by decide)).mp z; omega
    have gt3 : ¬ nI (4 + n) ≤ 3 := nI_ge (a := 3) (by omega) (by omega)
    have en : (nI n).toNatClampNeg = n := nI_clamp (by omega)
    by_cases f : ty_ab pa (pp_g ar i) d = true
    · refine ⟨(nI no, nI (4 + (h - 1)), nI (i + 1), -1, -1, a_sort, a_made, a_number, a_ready), (nI no, nI (h - 1), nI (i + 1), -1, -1, b_sorts, b_classes, b_ints, b_ready), fun post hp => ?_, fun post hp => ?_, Or.inl ⟨rfl, rfl, rfl, rfl, no, h - 1, i + 1, rfl, rfl, by omega, rfl, rfl, rfl, rfl, by omega, by omega, hO, fun j hj => hV j (by omega)⟩⟩
      · refine br_f (by decide) (br_t (by decide) (xr_further hpa A (by omega) hh hO (fun z => ⟨_, _, (hV (3 + h) (by omega)).1⟩) (fun z0 hz0 => ?_)))
        have z1 : ¬ z0 = 0 := by rcases hz0 with ⟨rfl, -⟩ | ⟨-, w⟩; decide; exact absurd ro w
        refine br_f (by decide) (br_f (by decide) (br_f (by decide) (br_f (by decide) (br_f (by decide) (br_t (by decide) (And.intro hint ?_))))))
        rw [et]
        refine br_f n2 (br_t rfl (br_f z1 (xo_rd A (by omega) (by omega) g2 d8 T e1 r1 d1 ?_)))
        rw [f]
        exact br_f (by decide) (br_t rfl (br_f z1 (br_f (by decide) (br_f (by decide) (br_f (by decide) (br_f (by decide) (br_t rfl (br_t rfl (nm_r eh hp)))))))))
      · refine yr_pre (by decide) hh ht hl (fun t v u w h1 h0 h2 => ?_)
        obtain ⟨q1, q2⟩ := h1 (by omega)
        unfold wY_step_120
        rw [q1, q2]
        rw [e2]
        refine br_f (by decide) (br_f (by decide) (br_f (by decide) (br_f (by decide) (br_f (by decide) (br_f (by decide) (br_f (by decide) (br_f (by decide) (br_f (by decide) (br_f (by decide) (br_f (by decide) (br_t (by decide) (?_))))))))))))
        refine yo_ofr hpa (by omega) g2 d8 n2' r1' d2 ?_
        rw [f]
        exact And.intro rfl (br_f (by decide) (nm_r (nI_1 i) (br_f (by decide) (br_f (by decide) (br_f (by decide) (br_f (by decide) (br_f (by decide) (br_f (by decide) (br_f (by decide) (br_f (by decide) (br_f (by decide) (br_f (by decide) (br_f (by decide) (br_f (by decide) (br_f (by decide) (br_t (by decide) (br_f n2' hp)))))))))))))))))
    · refine ⟨(nI no, nI (4 + h), nI (i + 1), 4, -1, a_sort, a_made, a_number, a_ready), (nI no, nI h, nI i, 4, -1, b_sorts, b_classes, b_ints, b_ready), fun post hp => ?_, fun post hp => ?_, Or.inr ⟨by show (0 : Int32) ≤ 4; decide, rfl, rfl, rfl, no, by omega, hO, fun j hj => (hV j (by omega)).1⟩⟩
      · refine br_f (by decide) (br_t (by decide) (xr_further hpa A (by omega) hh hO (fun z => ⟨_, _, (hV (3 + h) (by omega)).1⟩) (fun z0 hz0 => ?_)))
        have z1 : ¬ z0 = 0 := by rcases hz0 with ⟨rfl, -⟩ | ⟨-, w⟩; decide; exact absurd ro w
        refine br_f (by decide) (br_f (by decide) (br_f (by decide) (br_f (by decide) (br_f (by decide) (br_t (by decide) (And.intro hint ?_))))))
        rw [et]
        refine br_f n2 (br_t rfl (br_f z1 (xo_rd A (by omega) (by omega) g2 d8 T e1 r1 d1 ?_)))
        rw [ts_nt f]
        exact br_t rfl (br_t rfl (br_f z1 (br_t rfl (br_t rfl hp))))
      · refine yr_pre (by decide) hh ht hl (fun t v u w h1 h0 h2 => ?_)
        obtain ⟨q1, q2⟩ := h1 (by omega)
        unfold wY_step_120
        rw [q1, q2]
        rw [e2]
        refine br_f (by decide) (br_f (by decide) (br_f (by decide) (br_f (by decide) (br_f (by decide) (br_f (by decide) (br_f (by decide) (br_f (by decide) (br_f (by decide) (br_f (by decide) (br_f (by decide) (br_t (by decide) (?_))))))))))))
        refine yo_ofr hpa (by omega) g2 d8 n2' r1' d2 ?_
        rw [ts_nt f]
        exact And.intro rfl (br_t rfl hp)
  · refine ⟨(nI no, nI (4 + h), nI (i + 1), 4, -1, a_sort, a_made, a_number, a_ready), (nI no, nI h, nI i, 4, -1, b_sorts, b_classes, b_ints, b_ready), fun post hp => ?_, fun post hp => ?_, Or.inr ⟨by show (0 : Int32) ≤ 4; decide, rfl, rfl, rfl, no, by omega, hO, fun j hj => (hV j (by omega)).1⟩⟩
    · refine br_f (by decide) (br_t (by decide) (xr_further hpa A (by omega) hh hO (fun z => ⟨_, _, (hV (3 + h) (by omega)).1⟩) (fun z0 hz0 => ?_)))
      have z1 : z0 = 0 := by rcases hz0 with ⟨-, w⟩ | ⟨w, -⟩; exact absurd w nr; exact w
      refine br_f (by decide) (br_f (by decide) (br_f (by decide) (br_f (by decide) (br_f (by decide) (br_t (by decide) (And.intro hint ?_))))))
      rw [et]; exact br_f T (br_t rfl (br_t z1 (br_t rfl (br_t z1 hp))))
    · refine yr_pre (by decide) hh ht hl (fun t v u w h1 h0 h2 => ?_)
      obtain ⟨q1, q2⟩ := h1 (by omega)
      unfold wY_step_120
      rw [q1, q2]
      refine br_f (by decide) (br_f (by decide) (br_f (by decide) (br_f (by decide) (br_f (by decide) (br_f (by decide) (br_f (by decide) (br_f (by decide) (br_f (by decide) (br_f (by decide) (br_f (by decide) (br_t (by decide) (?_))))))))))))
      exact yo_of0 T' hy (And.intro rfl (br_t rfl hp))
theorem rn_s18 {no h i : Nat} (P : pp_P cn hn op fr tt tg ct pa be ar) (M : pp_M cn hn op tg ar) (A : xa_A pa an) (hi : i < cn) (hop : op i = 18) (hno : no ≤ 203) (hh : h ≤ 6) (ht : aa_tk 18 ≤ h) (hl : h - aa_tk 18 + aa_pt 18 ≤ 6) (hO : rl_O no a_made a_ready b_classes b_ready) (hV : ∀ j, j < 4 + h → rn_V cn no (a_sort j) (a_number j) (b_sorts j) (b_ints j)) :
    ∃ x y : rn_T, (∀ post : SX → Prop, post ((nI cn), (nI hn), f_met, f_waiting, f_tooMany, f_size, f_height, f_why, f_found, x.1, x.2.1, x.2.2.1, (nI i), f_steps, x.2.2.2.1, x.2.2.2.2.1, f_ran, (aa_N pa), an, (aa_N be), (aa_N op), ar, (aa_N fr), (aa_N tt), (aa_N tg), (aa_N ct), a_keys, a_heights, a_faults, a_table, a_todo, a_said, a_sorted, a_instruction, a_values, a_jumps, a_caught, a_caller, a_mapped, a_known, a_types, a_maps, a_now, x.2.2.2.2.2.1, x.2.2.2.2.2.2.1, x.2.2.2.2.2.2.2.1, x.2.2.2.2.2.2.2.2) → wpX_step post ((nI cn), (nI hn), f_met, f_waiting, f_tooMany, f_size, f_height, f_why, f_found, (nI no), (nI (4 + h)), (nI (i + 1)), (nI i), f_steps, (-1), (-1), f_ran, (aa_N pa), an, (aa_N be), (aa_N op), ar, (aa_N fr), (aa_N tt), (aa_N tg), (aa_N ct), a_keys, a_heights, a_faults, a_table, a_todo, a_said, a_sorted, a_instruction, a_values, a_jumps, a_caught, a_caller, a_mapped, a_known, a_types, a_maps, a_now, a_sort, a_made, a_number, a_ready) (nI 18) (ar i) (nI (3 + h))) ∧ (∀ post : SY → Prop, post ((nI cn), (nI hn), g_many, g_there, g_typed, g_wrongNumber, g_wrongPlace, g_size, g_why, y.2.1, y.1, y.2.2.1, g_begun, y.2.2.2.2.1, y.2.2.2.1, (aa_N pa), (aa_N be), (aa_N op), ar, (aa_N fr), (aa_N tt), (aa_N tg), (aa_N ct), b_places, b_heights, b_gone, b_worst, b_frames, b_maps, b_high, b_known, b_mapped, b_now, y.2.2.2.2.2.1, y.2.2.2.2.2.2.2.1, y.2.2.2.2.2.2.1, y.2.2.2.2.2.2.2.2) → wpY_step post ((nI cn), (nI hn), g_many, g_there, g_typed, g_wrongNumber, g_wrongPlace, g_size, g_why, (nI h), (nI no), (nI i), g_begun, (-1), (-1), (aa_N pa), (aa_N be), (aa_N op), ar, (aa_N fr), (aa_N tt), (aa_N tg), (aa_N ct), b_places, b_heights, b_gone, b_worst, b_frames, b_maps, b_high, b_known, b_mapped, b_now, b_sorts, b_ints, b_classes, b_ready) (nI 18) (ar i)) ∧ rn_E cn no i x y := by
  have t1 : aa_tk 18 = 1 := rfl
  have t2 : aa_pt 18 = 0 := rfl
  have hc24 := P.1
  have hpa := P.2.2.2.2.1
  have et : (nI (3 + h)).toNatClampNeg = 3 + h := nI_clamp (by omega)
  have hint := vp_in_nI (n := 3 + h) (N := 10) (by omega) (by decide)
  have hv := hV (3 + h) (by omega)
  obtain ⟨c0, c1, c2, c4, v1, l4, o3, n3⟩ := rl_cs (by omega) hv.1
  obtain ⟨g1, g2⟩ := pp_g8 P (i := i) (by omega)
  rw [g1]
  rcases rn_top hno (by omega) hO hv with ⟨T, T', nr⟩ | ⟨n, d, n1, d8, T, e1, e2, r1, r1', d1, d2, ro⟩ | ⟨T, T', nr, hy⟩
  · refine ⟨(nI no, nI (4 + h), nI (i + 1), 1, -1, a_sort, a_made, a_number, a_ready), (nI no, nI (h - aa_tk 18), nI i, 1, -1, b_sorts, b_classes, b_ints, b_ready), fun post hp => ?_, fun post hp => ?_, Or.inr ⟨by show (0 : Int32) ≤ 1; decide, rfl, rfl, rfl, no, by omega, hO, fun j hj => (hV j (by omega)).1⟩⟩
    · refine br_f (by decide) (br_t (by decide) (xr_further hpa A (by omega) hh hO (fun z => ⟨_, _, (hV (3 + h) (by omega)).1⟩) (fun z0 hz0 => ?_)))
      refine br_f (by decide) (br_t (by decide) (And.intro hint ?_))
      rw [et]; exact br_t T (br_f (by decide) (br_f (by decide) (br_f (by decide) (br_t rfl (br_f (by decide) hp)))))
    · refine yr_pre (by decide) hh ht hl (fun t v u w h1 h0 h2 => ?_)
      obtain ⟨q1, q2⟩ := h1 (by omega)
      unfold wY_step_120
      rw [q1, q2]
      refine br_f (by decide) (br_f (by decide) (br_f (by decide) (br_f (by decide) (br_f (by decide) (br_f (by decide) (br_f (by decide) (br_f (by decide) (br_f (by decide) (br_f (by decide) (br_f (by decide) (br_f (by decide) (br_f (by decide) (br_f (by decide) (br_f (by decide) (br_f (by decide) (br_f (by decide) (br_f (by decide) (br_t (by decide) (?_)))))))))))))))))))
      refine br_t T' (And.intro rfl (br_f (by decide) (nm_r (nI_1 i) (br_f (by decide) (br_f (by decide) (br_f (by decide) (br_f (by decide) (br_f (by decide) (br_f (by decide) (br_f (by decide) (br_f (by decide) (br_f (by decide) (br_f (by decide) (br_f (by decide) (br_f (by decide) (br_f (by decide) (br_f (by decide) (br_f (by decide) (br_f (by decide) (br_f (by decide) (br_f (by decide) (br_f (by decide) (br_f (by decide) (br_t (by decide) (?_)))))))))))))))))))))))))
      rw [T']; exact br_f (by decide) (br_t (by decide) hp)
  · have n2 : ¬ a_sort (3 + h) = 2 := by rw [T]; decide
    have n2' : ¬ nI (4 + n) = 2 := fun z => by have := (nI_eq (b := 2) (by omega) (by decide)).mp z; omega
    have gt3 : ¬ nI (4 + n) ≤ 3 := nI_ge (a := 3) (by omega) (by omega)
    have en : (nI n).toNatClampNeg = n := nI_clamp (by omega)
    by_cases f : ty_ab pa (pp_g ar i) d = true
    · refine ⟨(nI no, nI (4 + h), nI (i + 1), 1, nI d, a_sort, a_made, a_number, a_ready), (nI no, nI (h - aa_tk 18), nI i, 1, nI d, b_sorts, b_classes, b_ints, b_ready), fun post hp => ?_, fun post hp => ?_, Or.inr ⟨by show (0 : Int32) ≤ 1; decide, rfl, rfl, rfl, no, by omega, hO, fun j hj => (hV j (by omega)).1⟩⟩
      · refine br_f (by decide) (br_t (by decide) (xr_further hpa A (by omega) hh hO (fun z => ⟨_, _, (hV (3 + h) (by omega)).1⟩) (fun z0 hz0 => ?_)))
        have z1 : ¬ z0 = 0 := by rcases hz0 with ⟨rfl, -⟩ | ⟨-, w⟩; decide; exact absurd ro w
        refine br_f (by decide) (br_t (by decide) (And.intro hint ?_))
        rw [et]
        refine br_f n2 (br_t rfl (br_f z1 (xo_rd A (by omega) (by omega) g2 d8 T e1 r1 d1 ?_)))
        rw [f]
        refine br_f (by decide) (br_t rfl (br_f z1 (br_f (by decide) (br_t rfl (br_t rfl (And.intro hint ?_))))))
        rw [et, e1, en]
        exact And.intro (vp_in_nI (by omega) (by decide)) (nm_r d1 hp)
      · refine yr_pre (by decide) hh ht hl (fun t v u w h1 h0 h2 => ?_)
        obtain ⟨q1, q2⟩ := h1 (by omega)
        unfold wY_step_120
        rw [q1, q2]
        rw [e2]
        refine br_f (by decide) (br_f (by decide) (br_f (by decide) (br_f (by decide) (br_f (by decide) (br_f (by decide) (br_f (by decide) (br_f (by decide) (br_f (by decide) (br_f (by decide) (br_f (by decide) (br_f (by decide) (br_f (by decide) (br_f (by decide) (br_f (by decide) (br_f (by decide) (br_f (by decide) (br_f (by decide) (br_t (by decide) (?_)))))))))))))))))))
        refine yo_ofr hpa (by omega) g2 d8 n2' r1' d2 ?_
        rw [f]
        refine And.intro rfl (br_f (by decide) (nm_r (nI_1 i) (br_f (by decide) (br_f (by decide) (br_f (by decide) (br_f (by decide) (br_f (by decide) (br_f (by decide) (br_f (by decide) (br_f (by decide) (br_f (by decide) (br_f (by decide) (br_f (by decide) (br_f (by decide) (br_f (by decide) (br_f (by decide) (br_f (by decide) (br_f (by decide) (br_f (by decide) (br_f (by decide) (br_f (by decide) (br_f (by decide) (br_t (by decide) (?_))))))))))))))))))))))))
        refine br_f (by decide) (br_f gt3 ?_)
        rw [yo_m4, en]
        exact And.intro (vp_in_nI (by omega) (by decide)) (nm_r d2 hp)
    · refine ⟨(nI no, nI (4 + h), nI (i + 1), 4, -1, a_sort, a_made, a_number, a_ready), (nI no, nI h, nI i, 4, -1, b_sorts, b_classes, b_ints, b_ready), fun post hp => ?_, fun post hp => ?_, Or.inr ⟨by show (0 : Int32) ≤ 4; decide, rfl, rfl, rfl, no, by omega, hO, fun j hj => (hV j (by omega)).1⟩⟩
      · refine br_f (by decide) (br_t (by decide) (xr_further hpa A (by omega) hh hO (fun z => ⟨_, _, (hV (3 + h) (by omega)).1⟩) (fun z0 hz0 => ?_)))
        have z1 : ¬ z0 = 0 := by rcases hz0 with ⟨rfl, -⟩ | ⟨-, w⟩; decide; exact absurd ro w
        refine br_f (by decide) (br_t (by decide) (And.intro hint ?_))
        rw [et]
        refine br_f n2 (br_t rfl (br_f z1 (xo_rd A (by omega) (by omega) g2 d8 T e1 r1 d1 ?_)))
        rw [ts_nt f]
        exact br_t rfl (br_t rfl (br_f z1 (br_t rfl (br_f (by decide) (br_t rfl hp)))))
      · refine yr_pre (by decide) hh ht hl (fun t v u w h1 h0 h2 => ?_)
        obtain ⟨q1, q2⟩ := h1 (by omega)
        unfold wY_step_120
        rw [q1, q2]
        rw [e2]
        refine br_f (by decide) (br_f (by decide) (br_f (by decide) (br_f (by decide) (br_f (by decide) (br_f (by decide) (br_f (by decide) (br_f (by decide) (br_f (by decide) (br_f (by decide) (br_f (by decide) (br_f (by decide) (br_f (by decide) (br_f (by decide) (br_f (by decide) (br_f (by decide) (br_f (by decide) (br_f (by decide) (br_t (by decide) (?_)))))))))))))))))))
        refine yo_ofr hpa (by omega) g2 d8 n2' r1' d2 ?_
        rw [ts_nt f]
        exact And.intro rfl (br_t rfl hp)
  · refine ⟨(nI no, nI (4 + h), nI (i + 1), 4, -1, a_sort, a_made, a_number, a_ready), (nI no, nI h, nI i, 4, -1, b_sorts, b_classes, b_ints, b_ready), fun post hp => ?_, fun post hp => ?_, Or.inr ⟨by show (0 : Int32) ≤ 4; decide, rfl, rfl, rfl, no, by omega, hO, fun j hj => (hV j (by omega)).1⟩⟩
    · refine br_f (by decide) (br_t (by decide) (xr_further hpa A (by omega) hh hO (fun z => ⟨_, _, (hV (3 + h) (by omega)).1⟩) (fun z0 hz0 => ?_)))
      have z1 : z0 = 0 := by rcases hz0 with ⟨-, w⟩ | ⟨w, -⟩; exact absurd w nr; exact w
      refine br_f (by decide) (br_t (by decide) (And.intro hint ?_))
      rw [et]; exact br_f T (br_t rfl (br_t z1 (br_t rfl (br_t z1 hp))))
    · refine yr_pre (by decide) hh ht hl (fun t v u w h1 h0 h2 => ?_)
      obtain ⟨q1, q2⟩ := h1 (by omega)
      unfold wY_step_120
      rw [q1, q2]
      refine br_f (by decide) (br_f (by decide) (br_f (by decide) (br_f (by decide) (br_f (by decide) (br_f (by decide) (br_f (by decide) (br_f (by decide) (br_f (by decide) (br_f (by decide) (br_f (by decide) (br_f (by decide) (br_f (by decide) (br_f (by decide) (br_f (by decide) (br_f (by decide) (br_f (by decide) (br_f (by decide) (br_t (by decide) (?_)))))))))))))))))))
      exact yo_of0 T' hy (And.intro rfl (br_t rfl hp))
theorem rn_s19 {no h i : Nat} (P : pp_P cn hn op fr tt tg ct pa be ar) (M : pp_M cn hn op tg ar) (A : xa_A pa an) (hi : i < cn) (hop : op i = 19) (hno : no ≤ 203) (hh : h ≤ 6) (ht : aa_tk 19 ≤ h) (hl : h - aa_tk 19 + aa_pt 19 ≤ 6) (hO : rl_O no a_made a_ready b_classes b_ready) (hV : ∀ j, j < 4 + h → rn_V cn no (a_sort j) (a_number j) (b_sorts j) (b_ints j)) :
    ∃ x y : rn_T, (∀ post : SX → Prop, post ((nI cn), (nI hn), f_met, f_waiting, f_tooMany, f_size, f_height, f_why, f_found, x.1, x.2.1, x.2.2.1, (nI i), f_steps, x.2.2.2.1, x.2.2.2.2.1, f_ran, (aa_N pa), an, (aa_N be), (aa_N op), ar, (aa_N fr), (aa_N tt), (aa_N tg), (aa_N ct), a_keys, a_heights, a_faults, a_table, a_todo, a_said, a_sorted, a_instruction, a_values, a_jumps, a_caught, a_caller, a_mapped, a_known, a_types, a_maps, a_now, x.2.2.2.2.2.1, x.2.2.2.2.2.2.1, x.2.2.2.2.2.2.2.1, x.2.2.2.2.2.2.2.2) → wpX_step post ((nI cn), (nI hn), f_met, f_waiting, f_tooMany, f_size, f_height, f_why, f_found, (nI no), (nI (4 + h)), (nI (i + 1)), (nI i), f_steps, (-1), (-1), f_ran, (aa_N pa), an, (aa_N be), (aa_N op), ar, (aa_N fr), (aa_N tt), (aa_N tg), (aa_N ct), a_keys, a_heights, a_faults, a_table, a_todo, a_said, a_sorted, a_instruction, a_values, a_jumps, a_caught, a_caller, a_mapped, a_known, a_types, a_maps, a_now, a_sort, a_made, a_number, a_ready) (nI 19) (ar i) (nI (3 + h))) ∧ (∀ post : SY → Prop, post ((nI cn), (nI hn), g_many, g_there, g_typed, g_wrongNumber, g_wrongPlace, g_size, g_why, y.2.1, y.1, y.2.2.1, g_begun, y.2.2.2.2.1, y.2.2.2.1, (aa_N pa), (aa_N be), (aa_N op), ar, (aa_N fr), (aa_N tt), (aa_N tg), (aa_N ct), b_places, b_heights, b_gone, b_worst, b_frames, b_maps, b_high, b_known, b_mapped, b_now, y.2.2.2.2.2.1, y.2.2.2.2.2.2.2.1, y.2.2.2.2.2.2.1, y.2.2.2.2.2.2.2.2) → wpY_step post ((nI cn), (nI hn), g_many, g_there, g_typed, g_wrongNumber, g_wrongPlace, g_size, g_why, (nI h), (nI no), (nI i), g_begun, (-1), (-1), (aa_N pa), (aa_N be), (aa_N op), ar, (aa_N fr), (aa_N tt), (aa_N tg), (aa_N ct), b_places, b_heights, b_gone, b_worst, b_frames, b_maps, b_high, b_known, b_mapped, b_now, b_sorts, b_ints, b_classes, b_ready) (nI 19) (ar i)) ∧ rn_E cn no i x y := by
  have t1 : aa_tk 19 = 1 := rfl
  have t2 : aa_pt 19 = 0 := rfl
  have hc24 := P.1
  have hpa := P.2.2.2.2.1
  have et : (nI (3 + h)).toNatClampNeg = 3 + h := nI_clamp (by omega)
  have hint := vp_in_nI (n := 3 + h) (N := 10) (by omega) (by decide)
  have hv := hV (3 + h) (by omega)
  obtain ⟨c0, c1, c2, c4, v1, l4, o3, n3⟩ := rl_cs (by omega) hv.1
  rcases rn_top hno (by omega) hO hv with ⟨T, T', nr⟩ | ⟨n, d, n1, d8, T, e1, e2, r1, r1', d1, d2, ro⟩ | ⟨T, T', nr, hy⟩
  · obtain ⟨x, y, hx, hy, hE⟩ := rn_toss (f_met := f_met) (f_waiting := f_waiting) (f_tooMany := f_tooMany) (f_size := f_size) (f_height := f_height) (f_why := f_why) (f_found := f_found) (f_steps := f_steps) (f_ran := f_ran) (a_keys := a_keys) (a_heights := a_heights) (a_faults := a_faults) (a_table := a_table) (a_todo := a_todo) (a_said := a_said) (a_sorted := a_sorted) (a_instruction := a_instruction) (a_values := a_values) (a_jumps := a_jumps) (a_caught := a_caught) (a_caller := a_caller) (a_mapped := a_mapped) (a_known := a_known) (a_types := a_types) (a_maps := a_maps) (a_now := a_now) (a_sort := a_sort) (a_made := a_made) (a_number := a_number) (a_ready := a_ready) (g_many := g_many) (g_there := g_there) (g_typed := g_typed) (g_wrongNumber := g_wrongNumber) (g_wrongPlace := g_wrongPlace) (g_size := g_size) (g_why := g_why) (g_begun := g_begun) (b_places := b_places) (b_heights := b_heights) (b_gone := b_gone) (b_worst := b_worst) (b_frames := b_frames) (b_maps := b_maps) (b_high := b_high) (b_known := b_known) (b_mapped := b_mapped) (b_now := b_now) (b_sorts := b_sorts) (b_ints := b_ints) (b_classes := b_classes) (b_ready := b_ready) (f_high := nI (4 + h)) (f_at := nI (i + 1)) (g_height := nI (h - aa_tk 19)) (g_line := nI (i + 1)) (c := 2) (i := i) P M A hno (by omega) (by decide) hO (fun j hj => hV j (by omega))
    refine ⟨x, y, fun post hp => ?_, fun post hp => ?_, hE⟩
    · refine br_f (by decide) (br_t (by decide) (xr_further hpa A (by omega) hh hO (fun z => ⟨_, _, (hV (3 + h) (by omega)).1⟩) (fun z0 hz0 => ?_)))
      have z1 : z0 = 0 := by rcases hz0 with ⟨-, w⟩ | ⟨w, -⟩; exact absurd w nr; exact w
      refine br_f (by decide) (br_t (by decide) (And.intro hint ?_))
      rw [et]; exact br_t T (br_f (by decide) (br_f (by decide) (br_f (by decide) (br_f (by decide) (br_f (by decide) (br_t rfl (br_t z1 (br_f (by decide) (br_f (by decide) (hx _ hp))))))))))
    · refine yr_pre (by decide) hh ht hl (fun t v u w h1 h0 h2 => ?_)
      obtain ⟨q1, q2⟩ := h1 (by omega)
      unfold wY_step_120
      rw [q1, q2]
      exact br_f (by decide) (br_f (by decide) (br_f (by decide) (br_f (by decide) (br_f (by decide) (br_f (by decide) (br_f (by decide) (br_f (by decide) (br_f (by decide) (br_f (by decide) (br_f (by decide) (br_f (by decide) (br_f (by decide) (br_f (by decide) (br_f (by decide) (br_f (by decide) (br_f (by decide) (br_f (by decide) (br_f (by decide) (br_t (by decide) (br_t T' (br_f (by decide) (nm_r (nI_1 i) (br_f (by decide) (br_f (by decide) (br_f (by decide) (br_f (by decide) (br_f (by decide) (br_f (by decide) (br_f (by decide) (br_f (by decide) (br_f (by decide) (br_f (by decide) (br_f (by decide) (br_f (by decide) (br_f (by decide) (br_f (by decide) (br_f (by decide) (br_f (by decide) (br_f (by decide) (br_f (by decide) (br_f (by decide) (br_f (by decide) (br_f (by decide) (br_t (by decide) (br_t T' (hy _ hp))))))))))))))))))))))))))))))))))))))))))))))
  · have n2 : ¬ a_sort (3 + h) = 2 := by rw [T]; decide
    have n2' : ¬ nI (4 + n) = 2 := fun z => by have := (nI_eq (b := 2) (by omega) (by decide)).mp z; omega
    have gt3 : ¬ nI (4 + n) ≤ 3 := nI_ge (a := 3) (by omega) (by omega)
    have en : (nI n).toNatClampNeg = n := nI_clamp (by omega)
    obtain ⟨x, y, hx, hy, hE⟩ := rn_raise (f_met := f_met) (f_waiting := f_waiting) (f_tooMany := f_tooMany) (f_size := f_size) (f_height := f_height) (f_why := f_why) (f_found := f_found) (f_steps := f_steps) (f_ran := f_ran) (a_keys := a_keys) (a_heights := a_heights) (a_faults := a_faults) (a_table := a_table) (a_todo := a_todo) (a_said := a_said) (a_sorted := a_sorted) (a_instruction := a_instruction) (a_values := a_values) (a_jumps := a_jumps) (a_caught := a_caught) (a_caller := a_caller) (a_mapped := a_mapped) (a_known := a_known) (a_types := a_types) (a_maps := a_maps) (a_now := a_now) (a_sort := a_sort) (a_made := a_made) (a_number := a_number) (a_ready := a_ready) (g_many := g_many) (g_there := g_there) (g_typed := g_typed) (g_wrongNumber := g_wrongNumber) (g_wrongPlace := g_wrongPlace) (g_size := g_size) (g_why := g_why) (g_begun := g_begun) (b_places := b_places) (b_heights := b_heights) (b_gone := b_gone) (b_worst := b_worst) (b_frames := b_frames) (b_maps := b_maps) (b_high := b_high) (b_known := b_known) (b_mapped := b_mapped) (b_now := b_now) (b_sorts := b_sorts) (b_ints := b_ints) (b_classes := b_classes) (b_ready := b_ready) (f_high := nI (4 + h)) (f_at := nI (i + 1)) (g_height := nI (h - aa_tk 19)) (no0 := no) (no := no) (n := n) (d := d) (i := i) P M A (by omega) (by omega) n1 (by omega) d8 d1 d2 hO (fun j hj => hV j (by omega))
    refine ⟨x, y, fun post hp => ?_, fun post hp => ?_, hE⟩
    · refine br_f (by decide) (br_t (by decide) (xr_further hpa A (by omega) hh hO (fun z => ⟨_, _, (hV (3 + h) (by omega)).1⟩) (fun z0 hz0 => ?_)))
      have z1 : ¬ z0 = 0 := by rcases hz0 with ⟨rfl, -⟩ | ⟨-, w⟩; decide; exact absurd ro w
      refine br_f (by decide) (br_t (by decide) (And.intro hint ?_))
      rw [et]
      have r135 : wX_refer_135 post (nI 19) (nI (3 + h)) z0 0 (nI cn) (nI hn) f_met f_waiting f_tooMany f_size f_height f_why f_found (nI no) (nI (4 + h)) (nI (i + 1)) (nI i) f_steps (-1) (-1) f_ran (aa_N pa) an (aa_N be) (aa_N op) ar (aa_N fr) (aa_N tt) (aa_N tg) (aa_N ct) a_keys a_heights a_faults a_table a_todo a_said a_sorted a_instruction a_values a_jumps a_caught a_caller a_mapped a_known a_types a_maps a_now a_sort a_made a_number a_ready := by
        refine br_t rfl (br_f z1 (And.intro hint ?_))
        rw [et, e1]; exact hx _ hp
      refine br_f n2 (br_t rfl (br_f z1 (xo_any (by omega) (by omega) d8 T e1 r1 d1 (fun r hr => ?_))))
      rcases hr with rfl | rfl
      · exact br_t rfl (br_t rfl (br_f z1 (br_t rfl (br_f (by decide) (br_f (by decide) (br_f (by decide) (br_f (by decide) r135)))))))
      · exact br_f (by decide) (br_t rfl (br_f z1 (br_f (by decide) (br_f (by decide) (br_f (by decide) r135)))))
    · refine yr_pre (by decide) hh ht hl (fun t v u w h1 h0 h2 => ?_)
      obtain ⟨q1, q2⟩ := h1 (by omega)
      unfold wY_step_120
      rw [q1, q2]
      rw [e2]
      refine br_f (by decide) (br_f (by decide) (br_f (by decide) (br_f (by decide) (br_f (by decide) (br_f (by decide) (br_f (by decide) (br_f (by decide) (br_f (by decide) (br_f (by decide) (br_f (by decide) (br_f (by decide) (br_f (by decide) (br_f (by decide) (br_f (by decide) (br_f (by decide) (br_f (by decide) (br_f (by decide) (br_f (by decide) (br_t (by decide) (br_f n2' (yo_rd (by omega) r1' (Or.inr rfl) (br_f (by decide) (br_f (by decide) (nm_r (nI_1 i) (br_f (by decide) (br_f (by decide) (br_f (by decide) (br_f (by decide) (br_f (by decide) (br_f (by decide) (br_f (by decide) (br_f (by decide) (br_f (by decide) (br_f (by decide) (br_f (by decide) (br_f (by decide) (br_f (by decide) (br_f (by decide) (br_f (by decide) (br_f (by decide) (br_f (by decide) (br_f (by decide) (br_f (by decide) (br_f (by decide) (br_f (by decide) (br_t (by decide) (br_f n2' (br_t (nI_pos' (by omega)) ?_))))))))))))))))))))))))))))))))))))))))))))))))
      exact hy _ hp
  · refine ⟨(nI no, nI (4 + h), nI (i + 1), 4, -1, a_sort, a_made, a_number, a_ready), (nI no, nI h, nI i, 4, -1, b_sorts, b_classes, b_ints, b_ready), fun post hp => ?_, fun post hp => ?_, Or.inr ⟨by show (0 : Int32) ≤ 4; decide, rfl, rfl, rfl, no, by omega, hO, fun j hj => (hV j (by omega)).1⟩⟩
    · refine br_f (by decide) (br_t (by decide) (xr_further hpa A (by omega) hh hO (fun z => ⟨_, _, (hV (3 + h) (by omega)).1⟩) (fun z0 hz0 => ?_)))
      have z1 : z0 = 0 := by rcases hz0 with ⟨-, w⟩ | ⟨w, -⟩; exact absurd w nr; exact w
      refine br_f (by decide) (br_t (by decide) (And.intro hint ?_))
      rw [et]; exact br_f T (br_t rfl (br_t z1 (br_t rfl (br_t z1 hp))))
    · refine yr_pre (by decide) hh ht hl (fun t v u w h1 h0 h2 => ?_)
      obtain ⟨q1, q2⟩ := h1 (by omega)
      unfold wY_step_120
      rw [q1, q2]
      refine br_f (by decide) (br_f (by decide) (br_f (by decide) (br_f (by decide) (br_f (by decide) (br_f (by decide) (br_f (by decide) (br_f (by decide) (br_f (by decide) (br_f (by decide) (br_f (by decide) (br_f (by decide) (br_f (by decide) (br_f (by decide) (br_f (by decide) (br_f (by decide) (br_f (by decide) (br_f (by decide) (br_f (by decide) (br_t (by decide) (br_f T' ?_))))))))))))))))))))
      exact hy _ (br_t rfl (br_t rfl hp))
end
end
section
/-! runs whole -/
section
variable {cn hn : Nat} {op fr tt tg ct pa be : Nat → Nat} {ar an : Nat → Int32}
variable {f_count f_handlers f_met f_waiting f_tooMany f_size f_height f_why f_found f_objects f_high f_at f_here f_steps f_outcome f_last f_ran : Int32} {a_parents a_ancestors a_begins a_ops a_operands a_froms a_tos a_targets a_catches a_keys a_heights a_faults a_table a_todo a_said a_sorted a_instruction a_values a_jumps a_caught a_caller a_mapped a_known a_types a_maps a_now a_sort a_made a_number a_ready : Nat → Int32}
variable {g_length g_handlers g_many g_there g_typed g_wrongNumber g_wrongPlace g_size g_why g_height g_objects g_line g_begun g_last g_end : Int32} {b_parent b_begin b_op b_arg b_from b_to b_target b_caught b_places b_heights b_gone b_worst b_frames b_maps b_high b_known b_mapped b_now b_sorts b_ints b_classes b_ready : Nat → Int32}
theorem rn_step {no h i : Nat} (P : pp_P cn hn op fr tt tg ct pa be ar) (M : pp_M cn hn op tg ar) (A : xa_A pa an) (hi : i < cn) (hno : no ≤ 203) (hh : h ≤ 6) (ht : aa_tk (op i) ≤ h) (hl : h - aa_tk (op i) + aa_pt (op i) ≤ 6) (hO : rl_O no a_made a_ready b_classes b_ready) (hV : ∀ j, j < 4 + h → rn_V cn no (a_sort j) (a_number j) (b_sorts j) (b_ints j)) :
    ∃ x y : rn_T, (∀ post : SX → Prop, post ((nI cn), (nI hn), f_met, f_waiting, f_tooMany, f_size, f_height, f_why, f_found, x.1, x.2.1, x.2.2.1, (nI i), f_steps, x.2.2.2.1, x.2.2.2.2.1, f_ran, (aa_N pa), an, (aa_N be), (aa_N op), ar, (aa_N fr), (aa_N tt), (aa_N tg), (aa_N ct), a_keys, a_heights, a_faults, a_table, a_todo, a_said, a_sorted, a_instruction, a_values, a_jumps, a_caught, a_caller, a_mapped, a_known, a_types, a_maps, a_now, x.2.2.2.2.2.1, x.2.2.2.2.2.2.1, x.2.2.2.2.2.2.2.1, x.2.2.2.2.2.2.2.2) → wpX_step post ((nI cn), (nI hn), f_met, f_waiting, f_tooMany, f_size, f_height, f_why, f_found, (nI no), (nI (4 + h)), (nI (i + 1)), (nI i), f_steps, (-1), (-1), f_ran, (aa_N pa), an, (aa_N be), (aa_N op), ar, (aa_N fr), (aa_N tt), (aa_N tg), (aa_N ct), a_keys, a_heights, a_faults, a_table, a_todo, a_said, a_sorted, a_instruction, a_values, a_jumps, a_caught, a_caller, a_mapped, a_known, a_types, a_maps, a_now, a_sort, a_made, a_number, a_ready) (nI (op i)) (ar i) (nI (3 + h))) ∧ (∀ post : SY → Prop, post ((nI cn), (nI hn), g_many, g_there, g_typed, g_wrongNumber, g_wrongPlace, g_size, g_why, y.2.1, y.1, y.2.2.1, g_begun, y.2.2.2.2.1, y.2.2.2.1, (aa_N pa), (aa_N be), (aa_N op), ar, (aa_N fr), (aa_N tt), (aa_N tg), (aa_N ct), b_places, b_heights, b_gone, b_worst, b_frames, b_maps, b_high, b_known, b_mapped, b_now, y.2.2.2.2.2.1, y.2.2.2.2.2.2.2.1, y.2.2.2.2.2.2.1, y.2.2.2.2.2.2.2.2) → wpY_step post ((nI cn), (nI hn), g_many, g_there, g_typed, g_wrongNumber, g_wrongPlace, g_size, g_why, (nI h), (nI no), (nI i), g_begun, (-1), (-1), (aa_N pa), (aa_N be), (aa_N op), ar, (aa_N fr), (aa_N tt), (aa_N tg), (aa_N ct), b_places, b_heights, b_gone, b_worst, b_frames, b_maps, b_high, b_known, b_mapped, b_now, b_sorts, b_ints, b_classes, b_ready) (nI (op i)) (ar i)) ∧ rn_E cn no i x y := by
  rcases aa_c20 (P.2.2.1 i) with e | e | e | e | e | e | e | e | e | e | e | e | e | e | e | e | e | e | e | e
  · rw [e] at ht hl ⊢; exact rn_s0 P M A hi e hno hh ht hl hO hV
  · rw [e] at ht hl ⊢; exact rn_s1 P M A hi e hno hh ht hl hO hV
  · rw [e] at ht hl ⊢; exact rn_s2 P M A hi e hno hh ht hl hO hV
  · rw [e] at ht hl ⊢; exact rn_s3 P M A hi e hno hh ht hl hO hV
  · rw [e] at ht hl ⊢; exact rn_s4 P M A hi e hno hh ht hl hO hV
  · rw [e] at ht hl ⊢; exact rn_s5 P M A hi e hno hh ht hl hO hV
  · rw [e] at ht hl ⊢; exact rn_s6 P M A hi e hno hh ht hl hO hV
  · rw [e] at ht hl ⊢; exact rn_s7 P M A hi e hno hh ht hl hO hV
  · rw [e] at ht hl ⊢; exact rn_s8 P M A hi e hno hh ht hl hO hV
  · rw [e] at ht hl ⊢; exact rn_s9 P M A hi e hno hh ht hl hO hV
  · rw [e] at ht hl ⊢; exact rn_s10 P M A hi e hno hh ht hl hO hV
  · rw [e] at ht hl ⊢; exact rn_s11 P M A hi e hno hh ht hl hO hV
  · rw [e] at ht hl ⊢; exact rn_s12 P M A hi e hno hh ht hl hO hV
  · rw [e] at ht hl ⊢; exact rn_s13 P M A hi e hno hh ht hl hO hV
  · rw [e] at ht hl ⊢; exact rn_s14 P M A hi e hno hh ht hl hO hV
  · rw [e] at ht hl ⊢; exact rn_s15 P M A hi e hno hh ht hl hO hV
  · rw [e] at ht hl ⊢; exact rn_s16 P M A hi e hno hh ht hl hO hV
  · rw [e] at ht hl ⊢; exact rn_s17 P M A hi e hno hh ht hl hO hV
  · rw [e] at ht hl ⊢; exact rn_s18 P M A hi e hno hh ht hl hO hV
  · rw [e] at ht hl ⊢; exact rn_s19 P M A hi e hno hh ht hl hO hV
theorem yr_stk {post : SY → Prop} {o h : Nat} {a : Int32} (ho : o < 20) (hh : h ≤ 6) (hs : ¬ (aa_tk o ≤ h ∧ h - aa_tk o + aa_pt o ≤ 6)) (K : post ((nI cn), (nI hn), g_many, g_there, g_typed, g_wrongNumber, g_wrongPlace, g_size, g_why, (nI h), g_objects, g_line, g_begun, g_last, 4, (aa_N pa), (aa_N be), (aa_N op), ar, (aa_N fr), (aa_N tt), (aa_N tg), (aa_N ct), b_places, b_heights, b_gone, b_worst, b_frames, b_maps, b_high, b_known, b_mapped, b_now, b_sorts, b_ints, b_classes, b_ready)) : wpY_step post ((nI cn), (nI hn), g_many, g_there, g_typed, g_wrongNumber, g_wrongPlace, g_size, g_why, (nI h), g_objects, g_line, g_begun, g_last, g_end, (aa_N pa), (aa_N be), (aa_N op), ar, (aa_N fr), (aa_N tt), (aa_N tg), (aa_N ct), b_places, b_heights, b_gone, b_worst, b_frames, b_maps, b_high, b_known, b_mapped, b_now, b_sorts, b_ints, b_classes, b_ready) (nI o) a := by
  have tk2 := aa_tk2 o
  have pt2 := aa_pt2 o
  unfold wpY_step
  dsimp only
  refine yy_takes ho (nm_e ?_)
  by_cases z : aa_tk o ≤ h
  · rw [pk_sub z]
    refine br_f (nI_pos (by omega)) (yy_puts ho ?_)
    rw [nI_add]
    exact br_f (nI_ge (a := 6) (by omega) (by omega)) K
  · exact br_t (pk_sneg (by omega) (by omega)) K
theorem rn_both {mo : Nat} (P : pp_P cn hn op fr tt tg ct pa be ar) (M : pp_M cn hn op tg ar) (A : xa_A pa an) (hmo : mo ≤ 200) : ∀ d st, st + d = mo → ∀ (no h i : Nat) (f_here : Int32) (a_sort a_made a_number a_ready b_sorts b_ints b_classes b_ready : Nat → Int32), no ≤ 4 + st → h ≤ 6 → i ≤ cn → rl_O no a_made a_ready b_classes b_ready → (∀ j, j < 4 + h → rn_V cn no (a_sort j) (a_number j) (b_sorts j) (b_ints j)) →
    ∃ (r he sp AT : Int32) (x y : rn_T), (∀ post : Int32 → SX → Prop, post r ((nI cn), (nI hn), f_met, f_waiting, f_tooMany, f_size, f_height, f_why, f_found, x.1, x.2.1, AT, he, sp, x.2.2.2.1, x.2.2.2.2.1, f_ran, (aa_N pa), an, (aa_N be), (aa_N op), ar, (aa_N fr), (aa_N tt), (aa_N tg), (aa_N ct), a_keys, a_heights, a_faults, a_table, a_todo, a_said, a_sorted, a_instruction, a_values, a_jumps, a_caught, a_caller, a_mapped, a_known, a_types, a_maps, a_now, x.2.2.2.2.2.1, x.2.2.2.2.2.2.1, x.2.2.2.2.2.2.2.1, x.2.2.2.2.2.2.2.2) → wX_run_131 post (nI mo) (d + 2) (nI cn) (nI hn) f_met f_waiting f_tooMany f_size f_height f_why f_found (nI no) (nI (4 + h)) (nI i) f_here (nI st) (-1) (-1) f_ran (aa_N pa) an (aa_N be) (aa_N op) ar (aa_N fr) (aa_N tt) (aa_N tg) (aa_N ct) a_keys a_heights a_faults a_table a_todo a_said a_sorted a_instruction a_values a_jumps a_caught a_caller a_mapped a_known a_types a_maps a_now a_sort a_made a_number a_ready) ∧ (∀ post : Int32 → SY → Prop, post r ((nI cn), (nI hn), g_many, g_there, g_typed, g_wrongNumber, g_wrongPlace, g_size, g_why, y.2.1, y.1, AT, sp, y.2.2.2.2.1, y.2.2.2.1, (aa_N pa), (aa_N be), (aa_N op), ar, (aa_N fr), (aa_N tt), (aa_N tg), (aa_N ct), b_places, b_heights, b_gone, b_worst, b_frames, b_maps, b_high, b_known, b_mapped, b_now, y.2.2.2.2.2.1, y.2.2.2.2.2.2.2.1, y.2.2.2.2.2.2.1, y.2.2.2.2.2.2.2.2) → wY_run_109 post (nI mo) (d + 2) (nI cn) (nI hn) g_many g_there g_typed g_wrongNumber g_wrongPlace g_size g_why (nI h) (nI no) (nI i) (nI st) (-1) (-1) (aa_N pa) (aa_N be) (aa_N op) ar (aa_N fr) (aa_N tt) (aa_N tg) (aa_N ct) b_places b_heights b_gone b_worst b_frames b_maps b_high b_known b_mapped b_now b_sorts b_ints b_classes b_ready) ∧ 0 ≤ y.2.2.2.1 ∧ r = x.2.2.2.1 ∧ y.2.2.2.1 = x.2.2.2.1 ∧ x.2.2.2.2.1 = y.2.2.2.2.1 ∧ ∃ no', no' ≤ 204 ∧ rl_O no' x.2.2.2.2.2.2.1 x.2.2.2.2.2.2.2.2 y.2.2.2.2.2.2.1 y.2.2.2.2.2.2.2.2 ∧ ∀ j, j < 4 → rl_V no' (x.2.2.2.2.2.1 j) (x.2.2.2.2.2.2.2.1 j) (y.2.2.2.2.2.1 j) (y.2.2.2.2.2.2.2.1 j) := by
  have hc24 := P.1
  intro d
  -- an end without a step
  have fin : ∀ (c : Int32), 0 ≤ c → ∀ (n st no h i : Nat) (f_here : Int32) (a_sort a_made a_number a_ready b_sorts b_ints b_classes b_ready : Nat → Int32), no ≤ 204 → rl_O no a_made a_ready b_classes b_ready → (∀ j, j < 4 + h → rn_V cn no (a_sort j) (a_number j) (b_sorts j) (b_ints j)) → ∀ (Wx : (Int32 → SX → Prop) → Prop) (Wy : (Int32 → SY → Prop) → Prop), (∀ post, wX_run_131 post (nI mo) (n + 1) (nI cn) (nI hn) f_met f_waiting f_tooMany f_size f_height f_why f_found (nI no) (nI (4 + h)) (nI i) f_here (nI st) c (-1) f_ran (aa_N pa) an (aa_N be) (aa_N op) ar (aa_N fr) (aa_N tt) (aa_N tg) (aa_N ct) a_keys a_heights a_faults a_table a_todo a_said a_sorted a_instruction a_values a_jumps a_caught a_caller a_mapped a_known a_types a_maps a_now a_sort a_made a_number a_ready → Wx post) → (∀ post, wY_run_109 post (nI mo) (n + 1) (nI cn) (nI hn) g_many g_there g_typed g_wrongNumber g_wrongPlace g_size g_why (nI h) (nI no) (nI i) (nI st) (-1) c (aa_N pa) (aa_N be) (aa_N op) ar (aa_N fr) (aa_N tt) (aa_N tg) (aa_N ct) b_places b_heights b_gone b_worst b_frames b_maps b_high b_known b_mapped b_now b_sorts b_ints b_classes b_ready → Wy post) →
      ∃ (r he sp AT : Int32) (x y : rn_T), (∀ post : Int32 → SX → Prop, post r ((nI cn), (nI hn), f_met, f_waiting, f_tooMany, f_size, f_height, f_why, f_found, x.1, x.2.1, AT, he, sp, x.2.2.2.1, x.2.2.2.2.1, f_ran, (aa_N pa), an, (aa_N be), (aa_N op), ar, (aa_N fr), (aa_N tt), (aa_N tg), (aa_N ct), a_keys, a_heights, a_faults, a_table, a_todo, a_said, a_sorted, a_instruction, a_values, a_jumps, a_caught, a_caller, a_mapped, a_known, a_types, a_maps, a_now, x.2.2.2.2.2.1, x.2.2.2.2.2.2.1, x.2.2.2.2.2.2.2.1, x.2.2.2.2.2.2.2.2) → Wx post) ∧ (∀ post : Int32 → SY → Prop, post r ((nI cn), (nI hn), g_many, g_there, g_typed, g_wrongNumber, g_wrongPlace, g_size, g_why, y.2.1, y.1, AT, sp, y.2.2.2.2.1, y.2.2.2.1, (aa_N pa), (aa_N be), (aa_N op), ar, (aa_N fr), (aa_N tt), (aa_N tg), (aa_N ct), b_places, b_heights, b_gone, b_worst, b_frames, b_maps, b_high, b_known, b_mapped, b_now, y.2.2.2.2.2.1, y.2.2.2.2.2.2.2.1, y.2.2.2.2.2.2.1, y.2.2.2.2.2.2.2.2) → Wy post) ∧ 0 ≤ y.2.2.2.1 ∧ r = x.2.2.2.1 ∧ y.2.2.2.1 = x.2.2.2.1 ∧ x.2.2.2.2.1 = y.2.2.2.2.1 ∧ ∃ no', no' ≤ 204 ∧ rl_O no' x.2.2.2.2.2.2.1 x.2.2.2.2.2.2.2.2 y.2.2.2.2.2.2.1 y.2.2.2.2.2.2.2.2 ∧ ∀ j, j < 4 → rl_V no' (x.2.2.2.2.2.1 j) (x.2.2.2.2.2.2.2.1 j) (y.2.2.2.2.2.1 j) (y.2.2.2.2.2.2.2.1 j) := by
    intro c hc n st no h i f_here a_sort a_made a_number a_ready b_sorts b_ints b_classes b_ready hno hO hV Wx Wy hx hy
    exact ⟨c, f_here, nI st, nI i, (nI no, nI (4 + h), 0, c, -1, a_sort, a_made, a_number, a_ready), (nI no, nI h, 0, c, -1, b_sorts, b_classes, b_ints, b_ready), fun post hp => hx post (br_t hc hp), fun post hp => hy post (br_t hc hp), hc, rfl, rfl, rfl, no, hno, hO, fun j hj => (hV j (by omega)).1⟩
  have m1 : ¬ (0 : Int32) ≤ -1 := by decide
  induction d with
  | zero =>
    intro st hst no h i f_here a_sort a_made a_number a_ready b_sorts b_ints b_classes b_ready hno hh hi hO hV
    by_cases e : i = cn
    · subst e
      exact fin 4 (by decide) 0 st no h i f_here a_sort a_made a_number a_ready b_sorts b_ints b_classes b_ready (by omega) hO hV _ _ (fun post w => br_f m1 (br_t rfl w)) (fun post w => br_f m1 (br_t rfl w))
    · have ne : ¬ nI i = nI cn := fun z => e ((nI_eq (by omega) (by omega)).mp z)
      have es : st = mo := by omega
      subst es
      exact fin 3 (by decide) 0 st no h i f_here a_sort a_made a_number a_ready b_sorts b_ints b_classes b_ready (by omega) hO hV _ _ (fun post w => br_f m1 (br_f ne (br_t rfl w))) (fun post w => br_f m1 (br_f ne (br_t rfl w)))
  | succ d ih =>
    intro st hst no h i f_here a_sort a_made a_number a_ready b_sorts b_ints b_classes b_ready hno hh hi hO hV
    by_cases e : i = cn
    · subst e
      exact fin 4 (by decide) (d + 1) st no h i f_here a_sort a_made a_number a_ready b_sorts b_ints b_classes b_ready (by omega) hO hV _ _ (fun post w => br_f m1 (br_t rfl w)) (fun post w => br_f m1 (br_t rfl w))
    · have ne : ¬ nI i = nI cn := fun z => e ((nI_eq (by omega) (by omega)).mp z)
      have ns : ¬ nI st = nI mo := fun z => by have := (nI_eq (by omega) (by omega)).mp z; omega
      have ei : (nI i).toNatClampNeg = i := nI_clamp (by omega)
      have hin := vp_in_nI (n := i) (N := 24) (by omega) (by decide)
      have ho := P.2.2.1 i
      have tk2 := aa_tk2 (op i)
      have pt2 := aa_pt2 (op i)
      have e4 : nI (4 + h) - 4 = nI h := yo_m4
      have e3 : nI (4 + h) - 1 = nI (3 + h) := (pk_sub (b := 1) (by omega)).trans (congrArg nI (by omega))
      by_cases ok : aa_tk (op i) ≤ h ∧ h - aa_tk (op i) + aa_pt (op i) ≤ 6
      · obtain ⟨x, y, hx, hy, hE⟩ := rn_step (f_met := f_met) (f_waiting := f_waiting) (f_tooMany := f_tooMany) (f_size := f_size) (f_height := f_height) (f_why := f_why) (f_found := f_found) (f_ran := f_ran) (a_keys := a_keys) (a_heights := a_heights) (a_faults := a_faults) (a_table := a_table) (a_todo := a_todo) (a_said := a_said) (a_sorted := a_sorted) (a_instruction := a_instruction) (a_values := a_values) (a_jumps := a_jumps) (a_caught := a_caught) (a_caller := a_caller) (a_mapped := a_mapped) (a_known := a_known) (a_types := a_types) (a_maps := a_maps) (a_now := a_now) (a_sort := a_sort) (a_made := a_made) (a_number := a_number) (a_ready := a_ready) (g_many := g_many) (g_there := g_there) (g_typed := g_typed) (g_wrongNumber := g_wrongNumber) (g_wrongPlace := g_wrongPlace) (g_size := g_size) (g_why := g_why) (b_places := b_places) (b_heights := b_heights) (b_gone := b_gone) (b_worst := b_worst) (b_frames := b_frames) (b_maps := b_maps) (b_high := b_high) (b_known := b_known) (b_mapped := b_mapped) (b_now := b_now) (b_sorts := b_sorts) (b_ints := b_ints) (b_classes := b_classes) (b_ready := b_ready) (f_steps := nI (st + 1)) (g_begun := nI (st + 1)) (no := no) (h := h) (i := i) P M A (by omega) (by omega) hh ok.1 ok.2 hO hV
        -- both walks to what is behind the step
        have xw : ∀ (post : Int32 → SX → Prop), ((x.2.2.2.1 < 0 → wX_run_131 post (nI mo) (d + 2) (nI cn) (nI hn) f_met f_waiting f_tooMany f_size f_height f_why f_found x.1 x.2.1 x.2.2.1 (nI i) (nI (st + 1)) x.2.2.2.1 x.2.2.2.2.1 f_ran (aa_N pa) an (aa_N be) (aa_N op) ar (aa_N fr) (aa_N tt) (aa_N tg) (aa_N ct) a_keys a_heights a_faults a_table a_todo a_said a_sorted a_instruction a_values a_jumps a_caught a_caller a_mapped a_known a_types a_maps a_now x.2.2.2.2.2.1 x.2.2.2.2.2.2.1 x.2.2.2.2.2.2.2.1 x.2.2.2.2.2.2.2.2) ∧ (¬ x.2.2.2.1 < 0 → wX_run_131 post (nI mo) (d + 2) (nI cn) (nI hn) f_met f_waiting f_tooMany f_size f_height f_why f_found x.1 x.2.1 (nI i) (nI i) (nI (st + 1)) x.2.2.2.1 x.2.2.2.2.1 f_ran (aa_N pa) an (aa_N be) (aa_N op) ar (aa_N fr) (aa_N tt) (aa_N tg) (aa_N ct) a_keys a_heights a_faults a_table a_todo a_said a_sorted a_instruction a_values a_jumps a_caught a_caller a_mapped a_known a_types a_maps a_now x.2.2.2.2.2.1 x.2.2.2.2.2.2.1 x.2.2.2.2.2.2.2.1 x.2.2.2.2.2.2.2.2)) → wX_run_131 post (nI mo) (d + 1 + 2) (nI cn) (nI hn) f_met f_waiting f_tooMany f_size f_height f_why f_found (nI no) (nI (4 + h)) (nI i) f_here (nI st) (-1) (-1) f_ran (aa_N pa) an (aa_N be) (aa_N op) ar (aa_N fr) (aa_N tt) (aa_N tg) (aa_N ct) a_keys a_heights a_faults a_table a_todo a_said a_sorted a_instruction a_values a_jumps a_caught a_caller a_mapped a_known a_types a_maps a_now a_sort a_made a_number a_ready := by
          intro post w
          refine br_f m1 (br_f ne (br_f ns (nm_r (nI_1 st) (And.intro hin (nm_r (e' := nI (op i)) (by rw [ei]; rfl) (xx_takes ho ?_))))))
          rw [e4]
          refine br_f (nI_nlt ok.1 (by omega)) (xx_takes ho (xx_puts ho ?_))
          rw [pk_sub ok.1, nI_add]
          refine br_t (nI_le (b := 6) ok.2 (by decide)) (nm_r (nI_1 i) (And.intro hin ?_))
          rw [ei, e3]
          exact hx _ w
        have yw : ∀ (post : Int32 → SY → Prop), wY_run_109 post (nI mo) (d + 2) (nI cn) (nI hn) g_many g_there g_typed g_wrongNumber g_wrongPlace g_size g_why y.2.1 y.1 y.2.2.1 (nI (st + 1)) y.2.2.2.2.1 y.2.2.2.1 (aa_N pa) (aa_N be) (aa_N op) ar (aa_N fr) (aa_N tt) (aa_N tg) (aa_N ct) b_places b_heights b_gone b_worst b_frames b_maps b_high b_known b_mapped b_now y.2.2.2.2.2.1 y.2.2.2.2.2.2.2.1 y.2.2.2.2.2.2.1 y.2.2.2.2.2.2.2.2 → wY_run_109 post (nI mo) (d + 1 + 2) (nI cn) (nI hn) g_many g_there g_typed g_wrongNumber g_wrongPlace g_size g_why (nI h) (nI no) (nI i) (nI st) (-1) (-1) (aa_N pa) (aa_N be) (aa_N op) ar (aa_N fr) (aa_N tt) (aa_N tg) (aa_N ct) b_places b_heights b_gone b_worst b_frames b_maps b_high b_known b_mapped b_now b_sorts b_ints b_classes b_ready := by
          intro post w
          refine br_f m1 (br_f ne (br_f ns (nm_r (nI_1 st) (And.intro hin (And.intro hin ?_)))))
          rw [ei]
          exact hy _ w
        rcases hE with ⟨a1, a2, a3, a4, no', h', i', b1, b2, b3, b4, b5, b6, b7, b8, b9, c1, c2⟩ | ⟨a1, a2, a3, a4, no', b1, c1, c2⟩
        · obtain ⟨r, he, sp, AT, x', y', hx', hy', hR⟩ := ih (st + 1) (by omega) no' h' i' (nI i) x.2.2.2.2.2.1 x.2.2.2.2.2.2.1 x.2.2.2.2.2.2.2.1 x.2.2.2.2.2.2.2.2 y.2.2.2.2.2.1 y.2.2.2.2.2.2.2.1 y.2.2.2.2.2.2.1 y.2.2.2.2.2.2.2.2 (by omega) b8 b9 c1 c2
          refine ⟨r, he, sp, AT, x', y', fun post hp => xw post ?_, fun post hp => yw post ?_, hR⟩
          · rw [a1, a3, b1, b4, b6]
            exact br_t (by decide) (hx' post hp)
          · rw [a2, a4, b2, b5, b7]
            exact hy' post hp
        · refine ⟨x.2.2.2.1, nI i, nI (st + 1), nI i, x, y, fun post hp => xw post (br_f (Int32.not_lt.mpr a1) (br_t a1 hp)), fun post hp => yw post ?_, by rw [a2]; exact a1, rfl, a2, a3, no', by omega, c1, c2⟩
          rw [a4]
          refine br_t (by rw [a2]; exact a1) ?_
          rw [← a2] at hp; exact hp
      · exact fin 4 (by decide) (d + 1) (st + 1) no h i f_here a_sort a_made a_number a_ready b_sorts b_ints b_classes b_ready (by omega) hO hV _ _ (fun post w => by
          refine br_f m1 (br_f ne (br_f ns (nm_r (nI_1 st) (And.intro hin (nm_r (e' := nI (op i)) (by rw [ei]; rfl) (xx_takes ho ?_))))))
          rw [e4]
          refine pk_lt h (aa_tk (op i)) (fun _ => w) (fun z => xx_takes ho (xx_puts ho ?_))
          rw [pk_sub z, nI_add]
          exact br_f (nI_ge (a := 6) (by omega) (by omega)) w) (fun post w => by
          refine br_f m1 (br_f ne (br_f ns (nm_r (nI_1 st) (And.intro hin (And.intro hin ?_)))))
          rw [ei]
          exact yr_stk ho hh ok w)
/-- the locals at the start -/
theorem rn_start {x1 : Int32} (P : pp_P cn hn op fr tt tg ct pa be ar) : ∀ d l, l + d = 4 → ∀ (no : Nat) (a_sort a_made a_number a_ready b_sorts b_ints b_classes b_ready : Nat → Int32), no ≤ l → rl_O no a_made a_ready b_classes b_ready → (∀ j, j < l → rn_V cn no (a_sort j) (a_number j) (b_sorts j) (b_ints j)) →
    ∃ (no' : Nat) (so ma nu re so' it cl re' : Nat → Int32), no' ≤ 4 ∧ rl_O no' ma re cl re' ∧ (∀ j, j < 4 → rn_V cn no' (so j) (nu j) (so' j) (it j)) ∧ (∀ post : Int32 → SX → Prop, (∃ n131, wX_run_131 post x1 n131 (nI cn) (nI hn) f_met f_waiting f_tooMany f_size f_height f_why f_found (nI no') f_high f_at f_here f_steps f_outcome f_last f_ran (aa_N pa) an (aa_N be) (aa_N op) ar (aa_N fr) (aa_N tt) (aa_N tg) (aa_N ct) a_keys a_heights a_faults a_table a_todo a_said a_sorted a_instruction a_values a_jumps a_caught a_caller a_mapped a_known a_types a_maps a_now so ma nu re) → wX_run_58 post x1 (d + 1) (nI l) (nI cn) (nI hn) f_met f_waiting f_tooMany f_size f_height f_why f_found (nI no) f_high f_at f_here f_steps f_outcome f_last f_ran (aa_N pa) an (aa_N be) (aa_N op) ar (aa_N fr) (aa_N tt) (aa_N tg) (aa_N ct) a_keys a_heights a_faults a_table a_todo a_said a_sorted a_instruction a_values a_jumps a_caught a_caller a_mapped a_known a_types a_maps a_now a_sort a_made a_number a_ready) ∧ (∀ post : Int32 → SY → Prop, (∃ n109, wY_run_109 post x1 n109 (nI cn) (nI hn) g_many g_there g_typed g_wrongNumber g_wrongPlace g_size g_why g_height (nI no') 0 g_begun g_last (-1) (aa_N pa) (aa_N be) (aa_N op) ar (aa_N fr) (aa_N tt) (aa_N tg) (aa_N ct) b_places b_heights b_gone b_worst b_frames b_maps b_high b_known b_mapped b_now so' it cl re') → wY_run_43 post x1 (d + 1) (nI l) (nI cn) (nI hn) g_many g_there g_typed g_wrongNumber g_wrongPlace g_size g_why g_height (nI no) g_line g_begun g_last g_end (aa_N pa) (aa_N be) (aa_N op) ar (aa_N fr) (aa_N tt) (aa_N tg) (aa_N ct) b_places b_heights b_gone b_worst b_frames b_maps b_high b_known b_mapped b_now b_sorts b_ints b_classes b_ready) := by
  have hbe := P.2.2.2.2.2.1
  intro d
  induction d with
  | zero =>
    intro l hl no a_sort a_made a_number a_ready b_sorts b_ints b_classes b_ready hno hO hV
    have : l = 4 := by omega
    subst this
    exact ⟨no, a_sort, a_made, a_number, a_ready, b_sorts, b_ints, b_classes, b_ready, hno, hO, hV, fun post w => br_t (by decide) w, fun post w => br_t (by decide) w⟩
  | succ d ih =>
    intro l hl no a_sort a_made a_number a_ready b_sorts b_ints b_classes b_ready hno hO hV
    have el : (nI l).toNatClampNeg = l := nI_clamp (by omega)
    have h4 := vp_in_nI (n := l) (N := 4) (by omega) (by decide)
    have h10 := vp_in_nI (n := l) (N := 10) (by omega) (by decide)
    have hb := hbe l
    have n4 : ¬ (4 : Int32) ≤ nI l := nI_ge (b := 4) (by omega) (by decide)
    have ebe : aa_N be l = nI (be l) := rfl
    by_cases c : be l < 3
    · have c1 : ¬ (3 : Int32) ≤ nI (be l) := nI_ge (b := 3) c (by decide)
      have c2 : nI (be l) < 3 := nI_lt (b := 3) c (by decide)
      obtain ⟨no', so, ma, nu, re, so', it, cl, re', q1, q2, q3, hx, hy⟩ := ih (l + 1) (by omega) no (upd a_sort l (nI (be l))) a_made (upd a_number l 0) a_ready (upd b_sorts l (nI (be l))) (upd b_ints l 0) b_classes b_ready (by omega) hO (rn_V_up (n := l + 1) (fun j hj ne => hV j (by omega)) (by
        have : be l = 0 ∨ be l = 1 ∨ be l = 2 := by omega
        rcases this with e | e | e <;> rw [e]
        · exact ⟨Or.inl ⟨rfl, rfl⟩, fun z => absurd z (by decide)⟩
        · exact ⟨Or.inr (Or.inl ⟨rfl, rfl, rfl⟩), fun z => absurd z (by decide)⟩
        · exact ⟨Or.inr (Or.inr (Or.inl ⟨rfl, rfl⟩)), fun z => absurd z (by decide)⟩))
      refine ⟨no', so, ma, nu, re, so', it, cl, re', q1, q2, q3, fun post w => ?_, fun post w => ?_⟩
      · refine br_f n4 (And.intro h4 ?_)
        rw [el, ebe]
        refine br_f c1 (And.intro h4 (And.intro h10 (nm_r (e' := upd a_sort l (nI (be l))) (by rw [el, aa_nb1 (by omega)]) (And.intro h10 (nm_r (e' := upd a_number l 0) (by rw [el]) (And.intro h4 ?_))))))
        rw [el, ebe]
        exact br_t c2 (nm_r (nI_1 l) (hx post w))
      · refine br_f n4 (And.intro h10 (nm_r (e' := upd b_ints l 0) (by rw [el]) (And.intro h4 ?_)))
        rw [el, ebe]
        exact br_f c1 (And.intro h4 (And.intro h10 (nm_r (e' := upd b_sorts l (nI (be l))) rfl (nm_r (nI_1 l) (hy post w)))))
    · have c1 : (3 : Int32) ≤ nI (be l) := nI_le (a := 3) (by omega) (by omega)
      have c2 : ¬ nI (be l) < 3 := nI_nlt (b := 3) (by omega) (by omega)
      have e3 : nI (be l) - 3 = nI (be l - 3) := pk_sub (b := 3) (by omega)
      obtain ⟨no', so, ma, nu, re, so', it, cl, re', q1, q2, q3, hx, hy⟩ := ih (l + 1) (by omega) (no + 1) (upd a_sort l 3) (upd a_made no (nI (be l - 3))) (upd (upd a_number l 0) l (nI no)) (upd a_ready no 1) (upd b_sorts l (nI (4 + no))) (upd b_ints l 0) (upd b_classes no (nI (be l - 3))) (upd b_ready no 1) (by omega) (rl_O_new hO (by omega) (Or.inr rfl)) (by
        intro j hj
        by_cases e : j = l
        · rw [e, pk_us, pk_us, pk_us, pk_us]; exact ⟨Or.inr (Or.inr (Or.inr (Or.inl ⟨no, by omega, rfl, rfl, rfl⟩))), fun z => absurd z (by decide)⟩
        · rw [pk_un e, pk_un e, pk_un e, pk_un e, pk_un e]; exact rn_V_mono (by omega) (hV j (by omega)))
      refine ⟨no', so, ma, nu, re, so', it, cl, re', q1, q2, q3, fun post w => ?_, fun post w => ?_⟩
      · refine br_f n4 (And.intro h4 ?_)
        rw [el, ebe]
        refine br_t c1 (And.intro h10 (nm_r (e' := upd a_sort l 3) (by rw [el, show vp_nar .byte 3 = 3 from aa_nb1 (n := 3) (by decide)]) (And.intro h10 (nm_r (e' := upd a_number l 0) (by rw [el]) (And.intro h4 ?_)))))
        rw [el, ebe, e3]
        exact br_f c2 (And.intro h4 (xr_object (by omega) (by omega) (Or.inr rfl) (And.intro h10 (nm_r (e' := upd (upd a_number l 0) l (nI no)) rfl (nm_r (nI_1 l) (hx post w))))))
      · refine br_f n4 (And.intro h10 (nm_r (e' := upd b_ints l 0) (by rw [el]) (And.intro h4 ?_)))
        rw [el, ebe, e3]
        exact br_t c1 (And.intro h4 (yr_object (by omega) (Or.inr rfl) (And.intro h10 (nm_r (e' := upd b_sorts l (nI (4 + no))) rfl (nm_r (nI_1 l) (hy post w))))))
end
end
section
/-! run -/
theorem i_vc_run {k : Nat} {u : SX} {v : SY} (I : i_Rel k u v) (hk : k + 5 ≤ 2560) (v1 : Int32) : wpX_run (fun r u' => wpY_run (fun r' v' => r' = r ∧ i_Rel (k + 5) u' v') v v1) u v1 := by
  refine i_el (Z := fun u v => wpX_run (fun r u' => wpY_run (fun r' v' => r' = r ∧ i_Rel (k + 5) u' v') v v1) u v1) I (fun cn hn op fr tt tg ct pa be ar an f_met f_waiting f_tooMany f_size f_height f_why f_found f_objects f_high f_at f_here f_steps f_outcome f_last f_ran a_keys a_heights a_faults a_table a_todo a_said a_sorted a_instruction a_values a_jumps a_caught a_caller a_mapped a_known a_types a_maps a_now a_sort a_made a_number a_ready g_many g_there g_typed g_wrongNumber g_wrongPlace g_size g_height g_objects g_line g_begun g_last g_end b_places b_heights b_gone b_worst b_frames b_maps b_high b_known b_mapped b_now b_sorts b_ints b_classes b_ready hP hA hS hL hR => ?_)
  have same := i_in (k := k + 5) (f_met := f_met) (f_waiting := f_waiting) (f_tooMany := f_tooMany) (f_height := f_height) (f_why := f_why) (f_objects := f_objects) (f_high := f_high) (f_here := f_here) (f_outcome := f_outcome) (a_keys := a_keys) (a_heights := a_heights) (a_faults := a_faults) (a_table := a_table) (a_todo := a_todo) (a_known := a_known) (a_now := a_now) (g_size := g_size) (g_height := g_height) (g_objects := g_objects) (b_heights := b_heights) (b_gone := b_gone) (b_worst := b_worst) (b_known := b_known) (b_now := b_now) hP hA hS hL hR
  by_cases c1 : v1 < 1
  · exact br_t c1 (br_t c1 ⟨rfl, same⟩)
  · by_cases c2 : 200 < v1
    · exact br_f c1 (br_t c2 (br_f c1 (br_t c2 ⟨rfl, same⟩)))
    · obtain ⟨mo, hmo, rfl⟩ := nI_of2 (x := v1) (M := 200) (n := 200) (by decide) (fun z => c1 (Int32.lt_trans z (by decide))) (Int32.not_lt.mp c2)
      refine br_f c1 (br_f c2 (xb_isBad hP (fun M => br_t rfl ?_) (fun M => br_f (by decide) (br_f c1 (br_f c2 (yb_isMethod hP (fun M' => absurd M' M) (fun _ => br_t rfl ⟨rfl, same⟩)))))))
      obtain ⟨no, so, ma, nu, re, so', it, cl, re', q1, q2, q3, hx, hy⟩ := rn_start (f_met := f_met) (f_waiting := f_waiting) (f_tooMany := f_tooMany) (f_size := f_size) (f_height := f_height) (f_why := f_why) (f_found := f_found) (a_keys := a_keys) (a_heights := a_heights) (a_faults := a_faults) (a_table := a_table) (a_todo := a_todo) (a_said := a_said) (a_sorted := a_sorted) (a_instruction := a_instruction) (a_values := a_values) (a_jumps := a_jumps) (a_caught := a_caught) (a_caller := a_caller) (a_mapped := a_mapped) (a_known := a_known) (a_types := a_types) (a_maps := a_maps) (a_now := a_now) (g_many := g_many) (g_there := g_there) (g_typed := g_typed) (g_wrongNumber := g_wrongNumber) (g_wrongPlace := g_wrongPlace) (g_size := g_size) (b_places := b_places) (b_heights := b_heights) (b_gone := b_gone) (b_worst := b_worst) (b_frames := b_frames) (b_maps := b_maps) (b_high := b_high) (b_known := b_known) (b_mapped := b_mapped) (b_now := b_now) (f_high := 4) (f_at := 0) (f_here := f_here) (f_steps := 0) (f_outcome := -1) (f_last := -1) (f_ran := 1) (g_why := f_why) (g_height := 0) (g_line := g_line) (g_begun := 0) (g_last := -1) (g_end := g_end) (x1 := nI mo) hP 4 0 (by omega) 0 a_sort a_made a_number a_ready b_sorts b_ints b_classes b_ready (by omega) (fun n hn' => by omega) (fun j hj => by omega)
      obtain ⟨r, he, sp, AT, x, y, hx2, hy2, w1, w2, w3, w4, no', n1, n2, n3⟩ := rn_both (f_met := f_met) (f_waiting := f_waiting) (f_tooMany := f_tooMany) (f_size := f_size) (f_height := f_height) (f_why := f_why) (f_found := f_found) (a_keys := a_keys) (a_heights := a_heights) (a_faults := a_faults) (a_table := a_table) (a_todo := a_todo) (a_said := a_said) (a_sorted := a_sorted) (a_instruction := a_instruction) (a_values := a_values) (a_jumps := a_jumps) (a_caught := a_caught) (a_caller := a_caller) (a_mapped := a_mapped) (a_known := a_known) (a_types := a_types) (a_maps := a_maps) (a_now := a_now) (g_many := g_many) (g_there := g_there) (g_typed := g_typed) (g_wrongNumber := g_wrongNumber) (g_wrongPlace := g_wrongPlace) (g_size := g_size) (b_places := b_places) (b_heights := b_heights) (b_gone := b_gone) (b_worst := b_worst) (b_frames := b_frames) (b_maps := b_maps) (b_high := b_high) (b_known := b_known) (b_mapped := b_mapped) (b_now := b_now) (f_ran := 1) (g_why := f_why) (mo := mo) hP M hA hmo mo 0 (by omega) no 0 0 f_here so ma nu re so' it cl re' (by omega) (by omega) (by omega) q2 q3
      refine ⟨5, hx _ ⟨mo + 2, hx2 _ ?_⟩⟩
      refine br_f c1 (br_f c2 (yb_isMethod hP (fun _ => br_f (by decide) ⟨5, hy _ ⟨mo + 2, hy2 _ ?_⟩⟩) (fun M' => absurd M M')))
      exact ⟨rfl, i_in hP hA hS hL (Or.inr ⟨rfl, w1, rfl, rfl, w4, no', n1, n2, n3⟩)⟩
end
