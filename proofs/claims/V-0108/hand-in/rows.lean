section
/-! pure rows to paste: stores, nI and lN arithmetic, masks, shifts, narrowing, branches by naturals (pk_le, pk_lt, pk_eq), loops (lp1 .. lp16: the measure of the state; rp1 ..: recursion), negatives. Take what you need -/
theorem pk_us {f : Nat → Int32} {k : Nat} {x : Int32} : upd f k x k = x := if_pos rfl
theorem pk_un {f : Nat → Int32} {k j : Nat} {x : Int32} (h : j ≠ k) : upd f k x j = f j := if_neg h
theorem pk_uLs {f : Nat → Int64} {k : Nat} {x : Int64} : vp_updL f k x k = x := if_pos rfl
theorem pk_uLn {f : Nat → Int64} {k j : Nat} {x : Int64} (h : j ≠ k) : vp_updL f k x j = f j := if_neg h
theorem pk_sub {a b : Nat} (h : b ≤ a) : nI a - nI b = nI (a - b) := by
  obtain ⟨c, rfl⟩ : ∃ c, a = c + b := ⟨a - b, by omega⟩
  rw [← nI_add, Int32.add_sub_cancel, Nat.add_sub_cancel]
theorem pk_m1 (n : Nat) : nI (n + 1) + (-1) = nI n := by
  rw [← nI_1, Int32.add_assoc, show (1 : Int32) + (-1) = 0 from rfl, Int32.add_zero]
theorem pk_mul (a b : Nat) : nI a * nI b = nI (a * b) := (Int32.ofNat_mul a b).symm
theorem pk_div {a d : Nat} (ha : a < 2 ^ 31) (h0 : 0 < d) (hd : d < 2 ^ 31) : nI a / nI d = nI (a / d) := by
  apply Int32.toInt_inj.mp
  rw [lg_idiv_nonneg (by rw [nI_toInt ha]; omega) (by rw [nI_toInt hd]; omega), nI_toInt ha, nI_toInt hd, nI_toInt (Nat.lt_of_le_of_lt (Nat.div_le_self a d) ha)]
  first | rfl | exact (Int.natCast_ediv _ _).symm
theorem pk_rem {a d : Nat} (ha : a < 2 ^ 31) (h0 : 0 < d) (hd : d < 2 ^ 31) : nI a - nI a / nI d * nI d = nI (a % d) := by
  rw [pk_div ha h0 hd, pk_mul, pk_sub (Nat.div_mul_le_self a d)]
  exact congrArg nI (by have := Nat.div_add_mod' a d; omega)
theorem pk_sub_toInt {a b : Nat} (ha : a < 2 ^ 30) (hb : b < 2 ^ 30) : (nI a - nI b).toInt = (a : Int) - b := by
  rw [Int32.toInt_sub, nI_toInt (by omega), nI_toInt (by omega)]
  exact Int.bmod_eq_of_le (by omega) (by omega)
theorem pk_sneg {a b : Nat} (hb : b < 2 ^ 30) (h : a < b) : nI a - nI b < 0 := by
  rw [Int32.lt_iff_toInt_lt, pk_sub_toInt (by omega) hb, show (0 : Int32).toInt = 0 from by decide]
  omega
theorem pk_ix (x : Int32) {n : Nat} (hn : n < 2 ^ 31) : x < 0 ∨ nI n ≤ x ∨ ∃ j : Nat, j < n ∧ x = nI j := by
  by_cases h : x < 0
  · exact Or.inl h
  · obtain ⟨j, hj, rfl⟩ := nI_of h
    by_cases h2 : j < n
    · exact Or.inr (Or.inr ⟨j, h2, rfl⟩)
    · exact Or.inr (Or.inl (nI_le (by omega) hj))
theorem pk_le {x y : Int32} {A B : Prop} (a b : Nat) (f : a ≤ b → A) (g : b < a → B) (hx : x = nI a := by rfl) (hy : y = nI b := by rfl) (ha : a < 2 ^ 31 := by omega) (hb : b < 2 ^ 31 := by omega) : (x ≤ y → A) ∧ (¬ x ≤ y → B) := by
  subst hx hy
  rw [nI_leI ha hb]
  exact ⟨f, fun z => g (by omega)⟩
theorem pk_lt {x y : Int32} {A B : Prop} (a b : Nat) (f : a < b → A) (g : b ≤ a → B) (hx : x = nI a := by rfl) (hy : y = nI b := by rfl) (ha : a < 2 ^ 31 := by omega) (hb : b < 2 ^ 31 := by omega) : (x < y → A) ∧ (¬ x < y → B) := by
  subst hx hy
  rw [nI_ltI ha hb]
  exact ⟨f, fun z => g (by omega)⟩
theorem pk_eq {x y : Int32} {A B : Prop} (a b : Nat) (f : a = b → A) (g : a ≠ b → B) (hx : x = nI a := by rfl) (hy : y = nI b := by rfl) (ha : a < 2 ^ 31 := by omega) (hb : b < 2 ^ 31 := by omega) : (x = y → A) ∧ (¬ x = y → B) := by
  subst hx hy
  rw [nI_eq ha hb]
  exact ⟨f, g⟩
theorem pk_in {x : Int32} (n N : Nat) (h : n < N) (hx : x = nI n := by rfl) (hN : N < 2 ^ 31 := by omega) : vp_in x N := by
  subst hx
  exact vp_in_nI h hN
theorem pk_cl {x : Int32} (n : Nat) (hx : x = nI n := by rfl) (h : n < 2 ^ 31 := by omega) : x.toNatClampNeg = n := by
  subst hx
  exact nI_clamp h
theorem pk_tn {n : Nat} (h : n < 2 ^ 32) : (nI n).toBitVec.toNat = n := Nat.mod_eq_of_lt h
theorem pk_and (x : Int32) {m : Int32} (k : Nat) (hm : m.toBitVec.toNat = 2 ^ k - 1) : x &&& m = nI (x.toBitVec.toNat % 2 ^ k) := by
  apply Int32.toBitVec_inj.mp
  apply BitVec.eq_of_toNat_eq
  rw [Int32.toBitVec_and, BitVec.toNat_and, hm, Nat.and_two_pow_sub_one_eq_mod]
  show _ = (BitVec.ofNat 32 _).toNat
  rw [BitVec.toNat_ofNat]
  exact (Nat.mod_eq_of_lt (Nat.lt_of_le_of_lt (Nat.mod_le _ _) x.toBitVec.isLt)).symm
theorem pk_andN {n : Nat} (h : n < 2 ^ 32) {m : Int32} (k : Nat) (hm : m.toBitVec.toNat = 2 ^ k - 1) : nI n &&& m = nI (n % 2 ^ k) := by
  rw [pk_and _ k hm, pk_tn h]
theorem pk_andE (x : Int32) {m : Int32} (k : Nat) (hm : m.toBitVec.toNat = 2 ^ k - 1) : ∃ j : Nat, j < 2 ^ k ∧ x &&& m = nI j := ⟨_, Nat.mod_lt _ (Nat.two_pow_pos k), pk_and x k hm⟩
theorem pk_andIn (x : Int32) {m : Int32} (k : Nat) (hm : m.toBitVec.toNat = 2 ^ k - 1) (hk : k ≤ 30) : vp_in (x &&& m) (2 ^ k) := by
  obtain ⟨j, hj, e⟩ := pk_andE x k hm
  rw [e]
  exact vp_in_nI hj (Nat.lt_of_le_of_lt (Nat.pow_le_pow_right (by decide) hk) (by decide))
theorem pk_shl (a s : Int32) (k : Nat) (hs : (s.toBitVec.smod 32).toNat = k) : (a <<< s).toBitVec.toNat = a.toBitVec.toNat * 2 ^ k % 2 ^ 32 := by
  show (a.toBitVec <<< (s.toBitVec.smod 32).toNat).toNat = _
  rw [hs, BitVec.toNat_shiftLeft, Nat.shiftLeft_eq]
theorem pk_shlN {n : Nat} (s : Int32) (k : Nat) (hs : (s.toBitVec.smod 32).toNat = k) (h : n * 2 ^ k < 2 ^ 32) : nI n <<< s = nI (n * 2 ^ k) := by
  apply Int32.toBitVec_inj.mp
  apply BitVec.eq_of_toNat_eq
  have hn : n < 2 ^ 32 := Nat.lt_of_le_of_lt (Nat.le_mul_of_pos_right n (Nat.two_pow_pos k)) h
  rw [pk_shl _ _ k hs, pk_tn hn, pk_tn h, Nat.mod_eq_of_lt h]
theorem pk_shr (a s : Int32) (k : Nat) (hs : (s.toBitVec.smod 32).toNat = k) : (a >>> s).toInt = a.toInt >>> k := by
  show (a.toBitVec.sshiftRight (s.toBitVec.smod 32).toNat).toInt = _
  rw [hs, BitVec.toInt_sshiftRight]
  rfl
theorem pk_shrN {n : Nat} (h : n < 2 ^ 31) (s : Int32) (k : Nat) (hs : (s.toBitVec.smod 32).toNat = k) : nI n >>> s = nI (n / 2 ^ k) := by
  apply Int32.toInt_inj.mp
  have h2 : n / 2 ^ k ≤ n := Nat.div_le_self _ _
  rw [pk_shr _ _ k hs, nI_toInt h, nI_toInt (by omega), Int.shiftRight_eq_div_pow]
  rfl
theorem pk_ushr (x s : Int32) (k : Nat) (hs : ((s.toUInt32 &&& Int32.toUInt32 31).toBitVec % 32).toNat = k) : (x.toUInt32 >>> (s.toUInt32 &&& Int32.toUInt32 31)).toInt32.toBitVec.toNat = x.toBitVec.toNat / 2 ^ k := by
  have e : (x.toUInt32 >>> (s.toUInt32 &&& Int32.toUInt32 31)).toInt32.toBitVec = x.toBitVec >>> k := by
    rw [← hs]
    exact UInt32.toBitVec_shiftRight _ _
  rw [e, BitVec.toNat_ushiftRight, Nat.shiftRight_eq_div_pow]
theorem pk_ushrN {n : Nat} (hn : n < 2 ^ 32) (s : Int32) (k : Nat) (hs : ((s.toUInt32 &&& Int32.toUInt32 31).toBitVec % 32).toNat = k) : ((nI n).toUInt32 >>> (s.toUInt32 &&& Int32.toUInt32 31)).toInt32 = nI (n / 2 ^ k) := by
  apply Int32.toBitVec_inj.mp
  apply BitVec.eq_of_toNat_eq
  rw [pk_ushr _ s k hs, pk_tn hn, pk_tn (Nat.lt_of_le_of_lt (Nat.div_le_self _ _) hn)]
theorem pk_nb (z : Int32) : narrow .byte (.int z.toInt8.toInt32) = .int z.toInt8.toInt32 := congrArg Value.int (by simp)
theorem pk_ns (z : Int32) : narrow .short (.int z.toInt16.toInt32) = .int z.toInt16.toInt32 := congrArg Value.int (by simp)
theorem pk_fb (r : Int32) : fits .byte (.int r.toInt8.toInt32) = true := by
  have ⟨a, b⟩ := lg_i2b_range r
  have h1 : (-128 : Int32).toInt = -128 := by decide
  have h2 : (127 : Int32).toInt = 127 := by decide
  simp only [fits, Bool.and_eq_true, decide_eq_true_eq, Int32.le_iff_toInt_le, h1, h2]
  omega
theorem pk_fs (r : Int32) : fits .short (.int r.toInt16.toInt32) = true := by
  have ⟨a, b⟩ := lg_i2s_range r
  have h1 : (-32768 : Int32).toInt = -32768 := by decide
  have h2 : (32767 : Int32).toInt = 32767 := by decide
  simp only [fits, Bool.and_eq_true, decide_eq_true_eq, Int32.le_iff_toInt_le, h1, h2]
  omega
theorem pk_charN {q : Nat} (hq : q < 65536) : narrow .char (.int (nI q)) = .int (nI q) ∧ fits .char (.int (nI q)) = true := by
  constructor
  · have e : (nI q).toUInt32.toUInt16.toUInt32.toInt32 = nI q := by
      apply Int32.toBitVec_inj.mp
      apply BitVec.eq_of_toNat_eq
      show (nI q).toUInt32.toUInt16.toUInt32.toNat = q % 2 ^ 32
      rw [UInt16.toNat_toUInt32, UInt32.toNat_toUInt16, show (nI q).toUInt32.toNat = q % 2 ^ 32 from rfl]
      omega
    exact congrArg Value.int e
  · have a : (0 : Int32) ≤ nI q := nI_pos' (by omega)
    have b : nI q ≤ 65535 := nI_le (b := 65535) (by omega) (by decide)
    show (decide ((0 : Int32) ≤ nI q) && decide (nI q ≤ 65535)) = true
    rw [decide_eq_true a, decide_eq_true b]
    rfl
theorem pk_char (x : Int32) : (x.toUInt32 % 65536).toInt32 = nI (x.toBitVec.toNat % 65536) := by
  apply Int32.toBitVec_inj.mp
  apply BitVec.eq_of_toNat_eq
  rw [pk_tn (by omega)]
  show (x.toUInt32 % 65536).toNat = _
  rw [UInt32.toNat_mod]
  rfl
theorem pk_nc (x : Int32) : narrow .char (.int (x.toUInt32 % 65536).toInt32) = .int (x.toUInt32 % 65536).toInt32 := by
  rw [pk_char]
  exact (pk_charN (Nat.mod_lt _ (by decide))).1
theorem pk_fc (x : Int32) : fits .char (.int (x.toUInt32 % 65536).toInt32) = true := by
  rw [pk_char]
  exact (pk_charN (Nat.mod_lt _ (by decide))).2
theorem pk_vb (z : Int32) : vp_nar .byte z.toInt8.toInt32 = z.toInt8.toInt32 := by rw [vp_nar_byte]; simp
theorem pk_vs (z : Int32) : vp_nar .short z.toInt16.toInt32 = z.toInt16.toInt32 := by rw [vp_nar_short]; simp
theorem pk_vc (z : Int32) : vp_nar .char (z.toUInt32 % 65536).toInt32 = (z.toUInt32 % 65536).toInt32 := Value.int.inj (pk_nc z)
theorem pk_lT {n : Nat} (h : n < 2 ^ 63) : (lN n).toInt = (n : Int) := lg_ofNat_toInt h
theorem pk_lLT {a b : Nat} (ha : a < 2 ^ 63) (hb : b < 2 ^ 63) : lN a < lN b ↔ a < b := by
  rw [Int64.lt_iff_toInt_lt, pk_lT ha, pk_lT hb]; omega
theorem pk_lLE {a b : Nat} (ha : a < 2 ^ 63) (hb : b < 2 ^ 63) : lN a ≤ lN b ↔ a ≤ b := by
  rw [Int64.le_iff_toInt_le, pk_lT ha, pk_lT hb]; omega
theorem pk_lEQ {a b : Nat} (ha : a < 2 ^ 63) (hb : b < 2 ^ 63) : lN a = lN b ↔ a = b := by
  rw [← Int64.toInt_inj, pk_lT ha, pk_lT hb]; omega
theorem pk_lOf {x : Int64} (h : ¬ x < 0) : ∃ k : Nat, k < 2 ^ 63 ∧ x = lN k := by
  rw [Int64.lt_iff_toInt_lt] at h
  have h0 : (0 : Int64).toInt = 0 := by decide
  have hx := Int64.toInt_lt x
  refine ⟨x.toInt.toNat, by omega, Int64.toInt_inj.mp ?_⟩
  rw [pk_lT (by omega)]
  omega
theorem pk_lDiv {a b : Nat} (ha : a < 2 ^ 63) (h0 : 0 < b) (hb : b < 2 ^ 63) : lN a / lN b = lN (a / b) := by
  apply Int64.toInt_inj.mp
  rw [lg_ldiv_nonneg (by rw [pk_lT ha]; omega) (by rw [pk_lT hb]; omega), pk_lT ha, pk_lT hb, pk_lT (Nat.lt_of_le_of_lt (Nat.div_le_self a b) ha)]
  rfl
theorem pk_lRem {a b : Nat} (ha : a < 2 ^ 63) (h0 : 0 < b) (hb : b < 2 ^ 63) : lN a - lN a / lN b * lN b = lN (a % b) := by
  rw [pk_lDiv ha h0 hb, lN_mul, lN_sub (Nat.div_mul_le_self a b)]
  exact congrArg lN (by have := Nat.div_add_mod' a b; omega)
theorem pk_loop {σ : Type} (W : Nat → Nat → σ → Prop) (I : Nat → σ → Prop) (e i0 : Nat) (s : σ) (hi : i0 ≤ e) (h0 : I i0 s) (hx : ∀ n s, I e s → W (n + 1) e s)
    (hs : ∀ n i s, i < e → I i s → (∀ s', I (i + 1) s' → W n (i + 1) s') → W (n + 1) i s) : ∃ n, W n i0 s :=
  ⟨e + 1, loop_i W I e hx hs (e + 1) i0 s hi (by omega) h0⟩
theorem pk_loopD {σ : Type} (W : Nat → Nat → σ → Prop) (I : Nat → σ → Prop) (hx : ∀ n s, I 0 s → W (n + 1) 0 s)
    (hs : ∀ n i s, I (i + 1) s → (∀ s', I i s' → W n i s') → W (n + 1) (i + 1) s) : ∀ (e : Nat) (s : σ), I e s → W (e + 1) e s := by
  intro e
  induction e with
  | zero => exact fun s h => hx 0 s h
  | succ e ih => exact fun s h => hs (e + 1) e s h (fun s' h' => ih s' h')
theorem lp1 {A1 : Type} (W : Nat → A1 → Prop) (I : A1 → Prop) (μ : A1 → Nat) (hs : ∀ (n : Nat) (a1 : A1), I a1 → (∀ (b1 : A1), I b1 → μ b1 < μ a1 → W n b1) → W (n + 1) a1) (a1 : A1) (h : I a1) : ∃ n, W n a1 :=
  loop_m (σ := A1) (fun n s => W n s) (fun s => I s) (fun s => μ s) (fun n s hI hk => hs n s hI (fun b1 h9 hm => hk b1 h9 hm)) a1 h
theorem lp2 {A1 A2 : Type} (W : Nat → A1 → A2 → Prop) (I : A1 → A2 → Prop) (μ : A1 → A2 → Nat) (hs : ∀ (n : Nat) (a1 : A1) (a2 : A2), I a1 a2 → (∀ (b1 : A1) (b2 : A2), I b1 b2 → μ b1 b2 < μ a1 a2 → W n b1 b2) → W (n + 1) a1 a2) (a1 : A1) (a2 : A2) (h : I a1 a2) : ∃ n, W n a1 a2 :=
  loop_m (σ := A1 × A2) (fun n s => W n s.1 s.2) (fun s => I s.1 s.2) (fun s => μ s.1 s.2) (fun n s hI hk => hs n s.1 s.2 hI (fun b1 b2 h9 hm => hk (b1, b2) h9 hm)) (a1, a2) h
theorem lp3 {A1 A2 A3 : Type} (W : Nat → A1 → A2 → A3 → Prop) (I : A1 → A2 → A3 → Prop) (μ : A1 → A2 → A3 → Nat) (hs : ∀ (n : Nat) (a1 : A1) (a2 : A2) (a3 : A3), I a1 a2 a3 → (∀ (b1 : A1) (b2 : A2) (b3 : A3), I b1 b2 b3 → μ b1 b2 b3 < μ a1 a2 a3 → W n b1 b2 b3) → W (n + 1) a1 a2 a3) (a1 : A1) (a2 : A2) (a3 : A3) (h : I a1 a2 a3) : ∃ n, W n a1 a2 a3 :=
  loop_m (σ := A1 × A2 × A3) (fun n s => W n s.1 s.2.1 s.2.2) (fun s => I s.1 s.2.1 s.2.2) (fun s => μ s.1 s.2.1 s.2.2) (fun n s hI hk => hs n s.1 s.2.1 s.2.2 hI (fun b1 b2 b3 h9 hm => hk (b1, b2, b3) h9 hm)) (a1, a2, a3) h
theorem lp4 {A1 A2 A3 A4 : Type} (W : Nat → A1 → A2 → A3 → A4 → Prop) (I : A1 → A2 → A3 → A4 → Prop) (μ : A1 → A2 → A3 → A4 → Nat) (hs : ∀ (n : Nat) (a1 : A1) (a2 : A2) (a3 : A3) (a4 : A4), I a1 a2 a3 a4 → (∀ (b1 : A1) (b2 : A2) (b3 : A3) (b4 : A4), I b1 b2 b3 b4 → μ b1 b2 b3 b4 < μ a1 a2 a3 a4 → W n b1 b2 b3 b4) → W (n + 1) a1 a2 a3 a4) (a1 : A1) (a2 : A2) (a3 : A3) (a4 : A4) (h : I a1 a2 a3 a4) : ∃ n, W n a1 a2 a3 a4 :=
  loop_m (σ := A1 × A2 × A3 × A4) (fun n s => W n s.1 s.2.1 s.2.2.1 s.2.2.2) (fun s => I s.1 s.2.1 s.2.2.1 s.2.2.2) (fun s => μ s.1 s.2.1 s.2.2.1 s.2.2.2) (fun n s hI hk => hs n s.1 s.2.1 s.2.2.1 s.2.2.2 hI (fun b1 b2 b3 b4 h9 hm => hk (b1, b2, b3, b4) h9 hm)) (a1, a2, a3, a4) h
theorem lp5 {A1 A2 A3 A4 A5 : Type} (W : Nat → A1 → A2 → A3 → A4 → A5 → Prop) (I : A1 → A2 → A3 → A4 → A5 → Prop) (μ : A1 → A2 → A3 → A4 → A5 → Nat) (hs : ∀ (n : Nat) (a1 : A1) (a2 : A2) (a3 : A3) (a4 : A4) (a5 : A5), I a1 a2 a3 a4 a5 → (∀ (b1 : A1) (b2 : A2) (b3 : A3) (b4 : A4) (b5 : A5), I b1 b2 b3 b4 b5 → μ b1 b2 b3 b4 b5 < μ a1 a2 a3 a4 a5 → W n b1 b2 b3 b4 b5) → W (n + 1) a1 a2 a3 a4 a5) (a1 : A1) (a2 : A2) (a3 : A3) (a4 : A4) (a5 : A5) (h : I a1 a2 a3 a4 a5) : ∃ n, W n a1 a2 a3 a4 a5 :=
  loop_m (σ := A1 × A2 × A3 × A4 × A5) (fun n s => W n s.1 s.2.1 s.2.2.1 s.2.2.2.1 s.2.2.2.2) (fun s => I s.1 s.2.1 s.2.2.1 s.2.2.2.1 s.2.2.2.2) (fun s => μ s.1 s.2.1 s.2.2.1 s.2.2.2.1 s.2.2.2.2) (fun n s hI hk => hs n s.1 s.2.1 s.2.2.1 s.2.2.2.1 s.2.2.2.2 hI (fun b1 b2 b3 b4 b5 h9 hm => hk (b1, b2, b3, b4, b5) h9 hm)) (a1, a2, a3, a4, a5) h
theorem lp6 {A1 A2 A3 A4 A5 A6 : Type} (W : Nat → A1 → A2 → A3 → A4 → A5 → A6 → Prop) (I : A1 → A2 → A3 → A4 → A5 → A6 → Prop) (μ : A1 → A2 → A3 → A4 → A5 → A6 → Nat) (hs : ∀ (n : Nat) (a1 : A1) (a2 : A2) (a3 : A3) (a4 : A4) (a5 : A5) (a6 : A6), I a1 a2 a3 a4 a5 a6 → (∀ (b1 : A1) (b2 : A2) (b3 : A3) (b4 : A4) (b5 : A5) (b6 : A6), I b1 b2 b3 b4 b5 b6 → μ b1 b2 b3 b4 b5 b6 < μ a1 a2 a3 a4 a5 a6 → W n b1 b2 b3 b4 b5 b6) → W (n + 1) a1 a2 a3 a4 a5 a6) (a1 : A1) (a2 : A2) (a3 : A3) (a4 : A4) (a5 : A5) (a6 : A6) (h : I a1 a2 a3 a4 a5 a6) : ∃ n, W n a1 a2 a3 a4 a5 a6 :=
  loop_m (σ := A1 × A2 × A3 × A4 × A5 × A6) (fun n s => W n s.1 s.2.1 s.2.2.1 s.2.2.2.1 s.2.2.2.2.1 s.2.2.2.2.2) (fun s => I s.1 s.2.1 s.2.2.1 s.2.2.2.1 s.2.2.2.2.1 s.2.2.2.2.2) (fun s => μ s.1 s.2.1 s.2.2.1 s.2.2.2.1 s.2.2.2.2.1 s.2.2.2.2.2) (fun n s hI hk => hs n s.1 s.2.1 s.2.2.1 s.2.2.2.1 s.2.2.2.2.1 s.2.2.2.2.2 hI (fun b1 b2 b3 b4 b5 b6 h9 hm => hk (b1, b2, b3, b4, b5, b6) h9 hm)) (a1, a2, a3, a4, a5, a6) h
theorem lp7 {A1 A2 A3 A4 A5 A6 A7 : Type} (W : Nat → A1 → A2 → A3 → A4 → A5 → A6 → A7 → Prop) (I : A1 → A2 → A3 → A4 → A5 → A6 → A7 → Prop) (μ : A1 → A2 → A3 → A4 → A5 → A6 → A7 → Nat) (hs : ∀ (n : Nat) (a1 : A1) (a2 : A2) (a3 : A3) (a4 : A4) (a5 : A5) (a6 : A6) (a7 : A7), I a1 a2 a3 a4 a5 a6 a7 → (∀ (b1 : A1) (b2 : A2) (b3 : A3) (b4 : A4) (b5 : A5) (b6 : A6) (b7 : A7), I b1 b2 b3 b4 b5 b6 b7 → μ b1 b2 b3 b4 b5 b6 b7 < μ a1 a2 a3 a4 a5 a6 a7 → W n b1 b2 b3 b4 b5 b6 b7) → W (n + 1) a1 a2 a3 a4 a5 a6 a7) (a1 : A1) (a2 : A2) (a3 : A3) (a4 : A4) (a5 : A5) (a6 : A6) (a7 : A7) (h : I a1 a2 a3 a4 a5 a6 a7) : ∃ n, W n a1 a2 a3 a4 a5 a6 a7 :=
  loop_m (σ := A1 × A2 × A3 × A4 × A5 × A6 × A7) (fun n s => W n s.1 s.2.1 s.2.2.1 s.2.2.2.1 s.2.2.2.2.1 s.2.2.2.2.2.1 s.2.2.2.2.2.2) (fun s => I s.1 s.2.1 s.2.2.1 s.2.2.2.1 s.2.2.2.2.1 s.2.2.2.2.2.1 s.2.2.2.2.2.2) (fun s => μ s.1 s.2.1 s.2.2.1 s.2.2.2.1 s.2.2.2.2.1 s.2.2.2.2.2.1 s.2.2.2.2.2.2) (fun n s hI hk => hs n s.1 s.2.1 s.2.2.1 s.2.2.2.1 s.2.2.2.2.1 s.2.2.2.2.2.1 s.2.2.2.2.2.2 hI (fun b1 b2 b3 b4 b5 b6 b7 h9 hm => hk (b1, b2, b3, b4, b5, b6, b7) h9 hm)) (a1, a2, a3, a4, a5, a6, a7) h
theorem lp8 {A1 A2 A3 A4 A5 A6 A7 A8 : Type} (W : Nat → A1 → A2 → A3 → A4 → A5 → A6 → A7 → A8 → Prop) (I : A1 → A2 → A3 → A4 → A5 → A6 → A7 → A8 → Prop) (μ : A1 → A2 → A3 → A4 → A5 → A6 → A7 → A8 → Nat) (hs : ∀ (n : Nat) (a1 : A1) (a2 : A2) (a3 : A3) (a4 : A4) (a5 : A5) (a6 : A6) (a7 : A7) (a8 : A8), I a1 a2 a3 a4 a5 a6 a7 a8 → (∀ (b1 : A1) (b2 : A2) (b3 : A3) (b4 : A4) (b5 : A5) (b6 : A6) (b7 : A7) (b8 : A8), I b1 b2 b3 b4 b5 b6 b7 b8 → μ b1 b2 b3 b4 b5 b6 b7 b8 < μ a1 a2 a3 a4 a5 a6 a7 a8 → W n b1 b2 b3 b4 b5 b6 b7 b8) → W (n + 1) a1 a2 a3 a4 a5 a6 a7 a8) (a1 : A1) (a2 : A2) (a3 : A3) (a4 : A4) (a5 : A5) (a6 : A6) (a7 : A7) (a8 : A8) (h : I a1 a2 a3 a4 a5 a6 a7 a8) : ∃ n, W n a1 a2 a3 a4 a5 a6 a7 a8 :=
  loop_m (σ := A1 × A2 × A3 × A4 × A5 × A6 × A7 × A8) (fun n s => W n s.1 s.2.1 s.2.2.1 s.2.2.2.1 s.2.2.2.2.1 s.2.2.2.2.2.1 s.2.2.2.2.2.2.1 s.2.2.2.2.2.2.2) (fun s => I s.1 s.2.1 s.2.2.1 s.2.2.2.1 s.2.2.2.2.1 s.2.2.2.2.2.1 s.2.2.2.2.2.2.1 s.2.2.2.2.2.2.2) (fun s => μ s.1 s.2.1 s.2.2.1 s.2.2.2.1 s.2.2.2.2.1 s.2.2.2.2.2.1 s.2.2.2.2.2.2.1 s.2.2.2.2.2.2.2) (fun n s hI hk => hs n s.1 s.2.1 s.2.2.1 s.2.2.2.1 s.2.2.2.2.1 s.2.2.2.2.2.1 s.2.2.2.2.2.2.1 s.2.2.2.2.2.2.2 hI (fun b1 b2 b3 b4 b5 b6 b7 b8 h9 hm => hk (b1, b2, b3, b4, b5, b6, b7, b8) h9 hm)) (a1, a2, a3, a4, a5, a6, a7, a8) h
theorem lp9 {A1 A2 A3 A4 A5 A6 A7 A8 A9 : Type} (W : Nat → A1 → A2 → A3 → A4 → A5 → A6 → A7 → A8 → A9 → Prop) (I : A1 → A2 → A3 → A4 → A5 → A6 → A7 → A8 → A9 → Prop) (μ : A1 → A2 → A3 → A4 → A5 → A6 → A7 → A8 → A9 → Nat) (hs : ∀ (n : Nat) (a1 : A1) (a2 : A2) (a3 : A3) (a4 : A4) (a5 : A5) (a6 : A6) (a7 : A7) (a8 : A8) (a9 : A9), I a1 a2 a3 a4 a5 a6 a7 a8 a9 → (∀ (b1 : A1) (b2 : A2) (b3 : A3) (b4 : A4) (b5 : A5) (b6 : A6) (b7 : A7) (b8 : A8) (b9 : A9), I b1 b2 b3 b4 b5 b6 b7 b8 b9 → μ b1 b2 b3 b4 b5 b6 b7 b8 b9 < μ a1 a2 a3 a4 a5 a6 a7 a8 a9 → W n b1 b2 b3 b4 b5 b6 b7 b8 b9) → W (n + 1) a1 a2 a3 a4 a5 a6 a7 a8 a9) (a1 : A1) (a2 : A2) (a3 : A3) (a4 : A4) (a5 : A5) (a6 : A6) (a7 : A7) (a8 : A8) (a9 : A9) (h : I a1 a2 a3 a4 a5 a6 a7 a8 a9) : ∃ n, W n a1 a2 a3 a4 a5 a6 a7 a8 a9 :=
  loop_m (σ := A1 × A2 × A3 × A4 × A5 × A6 × A7 × A8 × A9) (fun n s => W n s.1 s.2.1 s.2.2.1 s.2.2.2.1 s.2.2.2.2.1 s.2.2.2.2.2.1 s.2.2.2.2.2.2.1 s.2.2.2.2.2.2.2.1 s.2.2.2.2.2.2.2.2) (fun s => I s.1 s.2.1 s.2.2.1 s.2.2.2.1 s.2.2.2.2.1 s.2.2.2.2.2.1 s.2.2.2.2.2.2.1 s.2.2.2.2.2.2.2.1 s.2.2.2.2.2.2.2.2) (fun s => μ s.1 s.2.1 s.2.2.1 s.2.2.2.1 s.2.2.2.2.1 s.2.2.2.2.2.1 s.2.2.2.2.2.2.1 s.2.2.2.2.2.2.2.1 s.2.2.2.2.2.2.2.2) (fun n s hI hk => hs n s.1 s.2.1 s.2.2.1 s.2.2.2.1 s.2.2.2.2.1 s.2.2.2.2.2.1 s.2.2.2.2.2.2.1 s.2.2.2.2.2.2.2.1 s.2.2.2.2.2.2.2.2 hI (fun b1 b2 b3 b4 b5 b6 b7 b8 b9 h9 hm => hk (b1, b2, b3, b4, b5, b6, b7, b8, b9) h9 hm)) (a1, a2, a3, a4, a5, a6, a7, a8, a9) h
theorem lp10 {A1 A2 A3 A4 A5 A6 A7 A8 A9 A10 : Type} (W : Nat → A1 → A2 → A3 → A4 → A5 → A6 → A7 → A8 → A9 → A10 → Prop) (I : A1 → A2 → A3 → A4 → A5 → A6 → A7 → A8 → A9 → A10 → Prop) (μ : A1 → A2 → A3 → A4 → A5 → A6 → A7 → A8 → A9 → A10 → Nat) (hs : ∀ (n : Nat) (a1 : A1) (a2 : A2) (a3 : A3) (a4 : A4) (a5 : A5) (a6 : A6) (a7 : A7) (a8 : A8) (a9 : A9) (a10 : A10), I a1 a2 a3 a4 a5 a6 a7 a8 a9 a10 → (∀ (b1 : A1) (b2 : A2) (b3 : A3) (b4 : A4) (b5 : A5) (b6 : A6) (b7 : A7) (b8 : A8) (b9 : A9) (b10 : A10), I b1 b2 b3 b4 b5 b6 b7 b8 b9 b10 → μ b1 b2 b3 b4 b5 b6 b7 b8 b9 b10 < μ a1 a2 a3 a4 a5 a6 a7 a8 a9 a10 → W n b1 b2 b3 b4 b5 b6 b7 b8 b9 b10) → W (n + 1) a1 a2 a3 a4 a5 a6 a7 a8 a9 a10) (a1 : A1) (a2 : A2) (a3 : A3) (a4 : A4) (a5 : A5) (a6 : A6) (a7 : A7) (a8 : A8) (a9 : A9) (a10 : A10) (h : I a1 a2 a3 a4 a5 a6 a7 a8 a9 a10) : ∃ n, W n a1 a2 a3 a4 a5 a6 a7 a8 a9 a10 :=
  loop_m (σ := A1 × A2 × A3 × A4 × A5 × A6 × A7 × A8 × A9 × A10) (fun n s => W n s.1 s.2.1 s.2.2.1 s.2.2.2.1 s.2.2.2.2.1 s.2.2.2.2.2.1 s.2.2.2.2.2.2.1 s.2.2.2.2.2.2.2.1 s.2.2.2.2.2.2.2.2.1 s.2.2.2.2.2.2.2.2.2) (fun s => I s.1 s.2.1 s.2.2.1 s.2.2.2.1 s.2.2.2.2.1 s.2.2.2.2.2.1 s.2.2.2.2.2.2.1 s.2.2.2.2.2.2.2.1 s.2.2.2.2.2.2.2.2.1 s.2.2.2.2.2.2.2.2.2) (fun s => μ s.1 s.2.1 s.2.2.1 s.2.2.2.1 s.2.2.2.2.1 s.2.2.2.2.2.1 s.2.2.2.2.2.2.1 s.2.2.2.2.2.2.2.1 s.2.2.2.2.2.2.2.2.1 s.2.2.2.2.2.2.2.2.2) (fun n s hI hk => hs n s.1 s.2.1 s.2.2.1 s.2.2.2.1 s.2.2.2.2.1 s.2.2.2.2.2.1 s.2.2.2.2.2.2.1 s.2.2.2.2.2.2.2.1 s.2.2.2.2.2.2.2.2.1 s.2.2.2.2.2.2.2.2.2 hI (fun b1 b2 b3 b4 b5 b6 b7 b8 b9 b10 h9 hm => hk (b1, b2, b3, b4, b5, b6, b7, b8, b9, b10) h9 hm)) (a1, a2, a3, a4, a5, a6, a7, a8, a9, a10) h
theorem lp11 {A1 A2 A3 A4 A5 A6 A7 A8 A9 A10 A11 : Type} (W : Nat → A1 → A2 → A3 → A4 → A5 → A6 → A7 → A8 → A9 → A10 → A11 → Prop) (I : A1 → A2 → A3 → A4 → A5 → A6 → A7 → A8 → A9 → A10 → A11 → Prop) (μ : A1 → A2 → A3 → A4 → A5 → A6 → A7 → A8 → A9 → A10 → A11 → Nat) (hs : ∀ (n : Nat) (a1 : A1) (a2 : A2) (a3 : A3) (a4 : A4) (a5 : A5) (a6 : A6) (a7 : A7) (a8 : A8) (a9 : A9) (a10 : A10) (a11 : A11), I a1 a2 a3 a4 a5 a6 a7 a8 a9 a10 a11 → (∀ (b1 : A1) (b2 : A2) (b3 : A3) (b4 : A4) (b5 : A5) (b6 : A6) (b7 : A7) (b8 : A8) (b9 : A9) (b10 : A10) (b11 : A11), I b1 b2 b3 b4 b5 b6 b7 b8 b9 b10 b11 → μ b1 b2 b3 b4 b5 b6 b7 b8 b9 b10 b11 < μ a1 a2 a3 a4 a5 a6 a7 a8 a9 a10 a11 → W n b1 b2 b3 b4 b5 b6 b7 b8 b9 b10 b11) → W (n + 1) a1 a2 a3 a4 a5 a6 a7 a8 a9 a10 a11) (a1 : A1) (a2 : A2) (a3 : A3) (a4 : A4) (a5 : A5) (a6 : A6) (a7 : A7) (a8 : A8) (a9 : A9) (a10 : A10) (a11 : A11) (h : I a1 a2 a3 a4 a5 a6 a7 a8 a9 a10 a11) : ∃ n, W n a1 a2 a3 a4 a5 a6 a7 a8 a9 a10 a11 :=
  loop_m (σ := A1 × A2 × A3 × A4 × A5 × A6 × A7 × A8 × A9 × A10 × A11) (fun n s => W n s.1 s.2.1 s.2.2.1 s.2.2.2.1 s.2.2.2.2.1 s.2.2.2.2.2.1 s.2.2.2.2.2.2.1 s.2.2.2.2.2.2.2.1 s.2.2.2.2.2.2.2.2.1 s.2.2.2.2.2.2.2.2.2.1 s.2.2.2.2.2.2.2.2.2.2) (fun s => I s.1 s.2.1 s.2.2.1 s.2.2.2.1 s.2.2.2.2.1 s.2.2.2.2.2.1 s.2.2.2.2.2.2.1 s.2.2.2.2.2.2.2.1 s.2.2.2.2.2.2.2.2.1 s.2.2.2.2.2.2.2.2.2.1 s.2.2.2.2.2.2.2.2.2.2) (fun s => μ s.1 s.2.1 s.2.2.1 s.2.2.2.1 s.2.2.2.2.1 s.2.2.2.2.2.1 s.2.2.2.2.2.2.1 s.2.2.2.2.2.2.2.1 s.2.2.2.2.2.2.2.2.1 s.2.2.2.2.2.2.2.2.2.1 s.2.2.2.2.2.2.2.2.2.2) (fun n s hI hk => hs n s.1 s.2.1 s.2.2.1 s.2.2.2.1 s.2.2.2.2.1 s.2.2.2.2.2.1 s.2.2.2.2.2.2.1 s.2.2.2.2.2.2.2.1 s.2.2.2.2.2.2.2.2.1 s.2.2.2.2.2.2.2.2.2.1 s.2.2.2.2.2.2.2.2.2.2 hI (fun b1 b2 b3 b4 b5 b6 b7 b8 b9 b10 b11 h9 hm => hk (b1, b2, b3, b4, b5, b6, b7, b8, b9, b10, b11) h9 hm)) (a1, a2, a3, a4, a5, a6, a7, a8, a9, a10, a11) h
theorem lp12 {A1 A2 A3 A4 A5 A6 A7 A8 A9 A10 A11 A12 : Type} (W : Nat → A1 → A2 → A3 → A4 → A5 → A6 → A7 → A8 → A9 → A10 → A11 → A12 → Prop) (I : A1 → A2 → A3 → A4 → A5 → A6 → A7 → A8 → A9 → A10 → A11 → A12 → Prop) (μ : A1 → A2 → A3 → A4 → A5 → A6 → A7 → A8 → A9 → A10 → A11 → A12 → Nat) (hs : ∀ (n : Nat) (a1 : A1) (a2 : A2) (a3 : A3) (a4 : A4) (a5 : A5) (a6 : A6) (a7 : A7) (a8 : A8) (a9 : A9) (a10 : A10) (a11 : A11) (a12 : A12), I a1 a2 a3 a4 a5 a6 a7 a8 a9 a10 a11 a12 → (∀ (b1 : A1) (b2 : A2) (b3 : A3) (b4 : A4) (b5 : A5) (b6 : A6) (b7 : A7) (b8 : A8) (b9 : A9) (b10 : A10) (b11 : A11) (b12 : A12), I b1 b2 b3 b4 b5 b6 b7 b8 b9 b10 b11 b12 → μ b1 b2 b3 b4 b5 b6 b7 b8 b9 b10 b11 b12 < μ a1 a2 a3 a4 a5 a6 a7 a8 a9 a10 a11 a12 → W n b1 b2 b3 b4 b5 b6 b7 b8 b9 b10 b11 b12) → W (n + 1) a1 a2 a3 a4 a5 a6 a7 a8 a9 a10 a11 a12) (a1 : A1) (a2 : A2) (a3 : A3) (a4 : A4) (a5 : A5) (a6 : A6) (a7 : A7) (a8 : A8) (a9 : A9) (a10 : A10) (a11 : A11) (a12 : A12) (h : I a1 a2 a3 a4 a5 a6 a7 a8 a9 a10 a11 a12) : ∃ n, W n a1 a2 a3 a4 a5 a6 a7 a8 a9 a10 a11 a12 :=
  loop_m (σ := A1 × A2 × A3 × A4 × A5 × A6 × A7 × A8 × A9 × A10 × A11 × A12) (fun n s => W n s.1 s.2.1 s.2.2.1 s.2.2.2.1 s.2.2.2.2.1 s.2.2.2.2.2.1 s.2.2.2.2.2.2.1 s.2.2.2.2.2.2.2.1 s.2.2.2.2.2.2.2.2.1 s.2.2.2.2.2.2.2.2.2.1 s.2.2.2.2.2.2.2.2.2.2.1 s.2.2.2.2.2.2.2.2.2.2.2) (fun s => I s.1 s.2.1 s.2.2.1 s.2.2.2.1 s.2.2.2.2.1 s.2.2.2.2.2.1 s.2.2.2.2.2.2.1 s.2.2.2.2.2.2.2.1 s.2.2.2.2.2.2.2.2.1 s.2.2.2.2.2.2.2.2.2.1 s.2.2.2.2.2.2.2.2.2.2.1 s.2.2.2.2.2.2.2.2.2.2.2) (fun s => μ s.1 s.2.1 s.2.2.1 s.2.2.2.1 s.2.2.2.2.1 s.2.2.2.2.2.1 s.2.2.2.2.2.2.1 s.2.2.2.2.2.2.2.1 s.2.2.2.2.2.2.2.2.1 s.2.2.2.2.2.2.2.2.2.1 s.2.2.2.2.2.2.2.2.2.2.1 s.2.2.2.2.2.2.2.2.2.2.2) (fun n s hI hk => hs n s.1 s.2.1 s.2.2.1 s.2.2.2.1 s.2.2.2.2.1 s.2.2.2.2.2.1 s.2.2.2.2.2.2.1 s.2.2.2.2.2.2.2.1 s.2.2.2.2.2.2.2.2.1 s.2.2.2.2.2.2.2.2.2.1 s.2.2.2.2.2.2.2.2.2.2.1 s.2.2.2.2.2.2.2.2.2.2.2 hI (fun b1 b2 b3 b4 b5 b6 b7 b8 b9 b10 b11 b12 h9 hm => hk (b1, b2, b3, b4, b5, b6, b7, b8, b9, b10, b11, b12) h9 hm)) (a1, a2, a3, a4, a5, a6, a7, a8, a9, a10, a11, a12) h
theorem lp13 {A1 A2 A3 A4 A5 A6 A7 A8 A9 A10 A11 A12 A13 : Type} (W : Nat → A1 → A2 → A3 → A4 → A5 → A6 → A7 → A8 → A9 → A10 → A11 → A12 → A13 → Prop) (I : A1 → A2 → A3 → A4 → A5 → A6 → A7 → A8 → A9 → A10 → A11 → A12 → A13 → Prop) (μ : A1 → A2 → A3 → A4 → A5 → A6 → A7 → A8 → A9 → A10 → A11 → A12 → A13 → Nat) (hs : ∀ (n : Nat) (a1 : A1) (a2 : A2) (a3 : A3) (a4 : A4) (a5 : A5) (a6 : A6) (a7 : A7) (a8 : A8) (a9 : A9) (a10 : A10) (a11 : A11) (a12 : A12) (a13 : A13), I a1 a2 a3 a4 a5 a6 a7 a8 a9 a10 a11 a12 a13 → (∀ (b1 : A1) (b2 : A2) (b3 : A3) (b4 : A4) (b5 : A5) (b6 : A6) (b7 : A7) (b8 : A8) (b9 : A9) (b10 : A10) (b11 : A11) (b12 : A12) (b13 : A13), I b1 b2 b3 b4 b5 b6 b7 b8 b9 b10 b11 b12 b13 → μ b1 b2 b3 b4 b5 b6 b7 b8 b9 b10 b11 b12 b13 < μ a1 a2 a3 a4 a5 a6 a7 a8 a9 a10 a11 a12 a13 → W n b1 b2 b3 b4 b5 b6 b7 b8 b9 b10 b11 b12 b13) → W (n + 1) a1 a2 a3 a4 a5 a6 a7 a8 a9 a10 a11 a12 a13) (a1 : A1) (a2 : A2) (a3 : A3) (a4 : A4) (a5 : A5) (a6 : A6) (a7 : A7) (a8 : A8) (a9 : A9) (a10 : A10) (a11 : A11) (a12 : A12) (a13 : A13) (h : I a1 a2 a3 a4 a5 a6 a7 a8 a9 a10 a11 a12 a13) : ∃ n, W n a1 a2 a3 a4 a5 a6 a7 a8 a9 a10 a11 a12 a13 :=
  loop_m (σ := A1 × A2 × A3 × A4 × A5 × A6 × A7 × A8 × A9 × A10 × A11 × A12 × A13) (fun n s => W n s.1 s.2.1 s.2.2.1 s.2.2.2.1 s.2.2.2.2.1 s.2.2.2.2.2.1 s.2.2.2.2.2.2.1 s.2.2.2.2.2.2.2.1 s.2.2.2.2.2.2.2.2.1 s.2.2.2.2.2.2.2.2.2.1 s.2.2.2.2.2.2.2.2.2.2.1 s.2.2.2.2.2.2.2.2.2.2.2.1 s.2.2.2.2.2.2.2.2.2.2.2.2) (fun s => I s.1 s.2.1 s.2.2.1 s.2.2.2.1 s.2.2.2.2.1 s.2.2.2.2.2.1 s.2.2.2.2.2.2.1 s.2.2.2.2.2.2.2.1 s.2.2.2.2.2.2.2.2.1 s.2.2.2.2.2.2.2.2.2.1 s.2.2.2.2.2.2.2.2.2.2.1 s.2.2.2.2.2.2.2.2.2.2.2.1 s.2.2.2.2.2.2.2.2.2.2.2.2) (fun s => μ s.1 s.2.1 s.2.2.1 s.2.2.2.1 s.2.2.2.2.1 s.2.2.2.2.2.1 s.2.2.2.2.2.2.1 s.2.2.2.2.2.2.2.1 s.2.2.2.2.2.2.2.2.1 s.2.2.2.2.2.2.2.2.2.1 s.2.2.2.2.2.2.2.2.2.2.1 s.2.2.2.2.2.2.2.2.2.2.2.1 s.2.2.2.2.2.2.2.2.2.2.2.2) (fun n s hI hk => hs n s.1 s.2.1 s.2.2.1 s.2.2.2.1 s.2.2.2.2.1 s.2.2.2.2.2.1 s.2.2.2.2.2.2.1 s.2.2.2.2.2.2.2.1 s.2.2.2.2.2.2.2.2.1 s.2.2.2.2.2.2.2.2.2.1 s.2.2.2.2.2.2.2.2.2.2.1 s.2.2.2.2.2.2.2.2.2.2.2.1 s.2.2.2.2.2.2.2.2.2.2.2.2 hI (fun b1 b2 b3 b4 b5 b6 b7 b8 b9 b10 b11 b12 b13 h9 hm => hk (b1, b2, b3, b4, b5, b6, b7, b8, b9, b10, b11, b12, b13) h9 hm)) (a1, a2, a3, a4, a5, a6, a7, a8, a9, a10, a11, a12, a13) h
theorem lp14 {A1 A2 A3 A4 A5 A6 A7 A8 A9 A10 A11 A12 A13 A14 : Type} (W : Nat → A1 → A2 → A3 → A4 → A5 → A6 → A7 → A8 → A9 → A10 → A11 → A12 → A13 → A14 → Prop) (I : A1 → A2 → A3 → A4 → A5 → A6 → A7 → A8 → A9 → A10 → A11 → A12 → A13 → A14 → Prop) (μ : A1 → A2 → A3 → A4 → A5 → A6 → A7 → A8 → A9 → A10 → A11 → A12 → A13 → A14 → Nat) (hs : ∀ (n : Nat) (a1 : A1) (a2 : A2) (a3 : A3) (a4 : A4) (a5 : A5) (a6 : A6) (a7 : A7) (a8 : A8) (a9 : A9) (a10 : A10) (a11 : A11) (a12 : A12) (a13 : A13) (a14 : A14), I a1 a2 a3 a4 a5 a6 a7 a8 a9 a10 a11 a12 a13 a14 → (∀ (b1 : A1) (b2 : A2) (b3 : A3) (b4 : A4) (b5 : A5) (b6 : A6) (b7 : A7) (b8 : A8) (b9 : A9) (b10 : A10) (b11 : A11) (b12 : A12) (b13 : A13) (b14 : A14), I b1 b2 b3 b4 b5 b6 b7 b8 b9 b10 b11 b12 b13 b14 → μ b1 b2 b3 b4 b5 b6 b7 b8 b9 b10 b11 b12 b13 b14 < μ a1 a2 a3 a4 a5 a6 a7 a8 a9 a10 a11 a12 a13 a14 → W n b1 b2 b3 b4 b5 b6 b7 b8 b9 b10 b11 b12 b13 b14) → W (n + 1) a1 a2 a3 a4 a5 a6 a7 a8 a9 a10 a11 a12 a13 a14) (a1 : A1) (a2 : A2) (a3 : A3) (a4 : A4) (a5 : A5) (a6 : A6) (a7 : A7) (a8 : A8) (a9 : A9) (a10 : A10) (a11 : A11) (a12 : A12) (a13 : A13) (a14 : A14) (h : I a1 a2 a3 a4 a5 a6 a7 a8 a9 a10 a11 a12 a13 a14) : ∃ n, W n a1 a2 a3 a4 a5 a6 a7 a8 a9 a10 a11 a12 a13 a14 :=
  loop_m (σ := A1 × A2 × A3 × A4 × A5 × A6 × A7 × A8 × A9 × A10 × A11 × A12 × A13 × A14) (fun n s => W n s.1 s.2.1 s.2.2.1 s.2.2.2.1 s.2.2.2.2.1 s.2.2.2.2.2.1 s.2.2.2.2.2.2.1 s.2.2.2.2.2.2.2.1 s.2.2.2.2.2.2.2.2.1 s.2.2.2.2.2.2.2.2.2.1 s.2.2.2.2.2.2.2.2.2.2.1 s.2.2.2.2.2.2.2.2.2.2.2.1 s.2.2.2.2.2.2.2.2.2.2.2.2.1 s.2.2.2.2.2.2.2.2.2.2.2.2.2) (fun s => I s.1 s.2.1 s.2.2.1 s.2.2.2.1 s.2.2.2.2.1 s.2.2.2.2.2.1 s.2.2.2.2.2.2.1 s.2.2.2.2.2.2.2.1 s.2.2.2.2.2.2.2.2.1 s.2.2.2.2.2.2.2.2.2.1 s.2.2.2.2.2.2.2.2.2.2.1 s.2.2.2.2.2.2.2.2.2.2.2.1 s.2.2.2.2.2.2.2.2.2.2.2.2.1 s.2.2.2.2.2.2.2.2.2.2.2.2.2) (fun s => μ s.1 s.2.1 s.2.2.1 s.2.2.2.1 s.2.2.2.2.1 s.2.2.2.2.2.1 s.2.2.2.2.2.2.1 s.2.2.2.2.2.2.2.1 s.2.2.2.2.2.2.2.2.1 s.2.2.2.2.2.2.2.2.2.1 s.2.2.2.2.2.2.2.2.2.2.1 s.2.2.2.2.2.2.2.2.2.2.2.1 s.2.2.2.2.2.2.2.2.2.2.2.2.1 s.2.2.2.2.2.2.2.2.2.2.2.2.2) (fun n s hI hk => hs n s.1 s.2.1 s.2.2.1 s.2.2.2.1 s.2.2.2.2.1 s.2.2.2.2.2.1 s.2.2.2.2.2.2.1 s.2.2.2.2.2.2.2.1 s.2.2.2.2.2.2.2.2.1 s.2.2.2.2.2.2.2.2.2.1 s.2.2.2.2.2.2.2.2.2.2.1 s.2.2.2.2.2.2.2.2.2.2.2.1 s.2.2.2.2.2.2.2.2.2.2.2.2.1 s.2.2.2.2.2.2.2.2.2.2.2.2.2 hI (fun b1 b2 b3 b4 b5 b6 b7 b8 b9 b10 b11 b12 b13 b14 h9 hm => hk (b1, b2, b3, b4, b5, b6, b7, b8, b9, b10, b11, b12, b13, b14) h9 hm)) (a1, a2, a3, a4, a5, a6, a7, a8, a9, a10, a11, a12, a13, a14) h
theorem lp15 {A1 A2 A3 A4 A5 A6 A7 A8 A9 A10 A11 A12 A13 A14 A15 : Type} (W : Nat → A1 → A2 → A3 → A4 → A5 → A6 → A7 → A8 → A9 → A10 → A11 → A12 → A13 → A14 → A15 → Prop) (I : A1 → A2 → A3 → A4 → A5 → A6 → A7 → A8 → A9 → A10 → A11 → A12 → A13 → A14 → A15 → Prop) (μ : A1 → A2 → A3 → A4 → A5 → A6 → A7 → A8 → A9 → A10 → A11 → A12 → A13 → A14 → A15 → Nat) (hs : ∀ (n : Nat) (a1 : A1) (a2 : A2) (a3 : A3) (a4 : A4) (a5 : A5) (a6 : A6) (a7 : A7) (a8 : A8) (a9 : A9) (a10 : A10) (a11 : A11) (a12 : A12) (a13 : A13) (a14 : A14) (a15 : A15), I a1 a2 a3 a4 a5 a6 a7 a8 a9 a10 a11 a12 a13 a14 a15 → (∀ (b1 : A1) (b2 : A2) (b3 : A3) (b4 : A4) (b5 : A5) (b6 : A6) (b7 : A7) (b8 : A8) (b9 : A9) (b10 : A10) (b11 : A11) (b12 : A12) (b13 : A13) (b14 : A14) (b15 : A15), I b1 b2 b3 b4 b5 b6 b7 b8 b9 b10 b11 b12 b13 b14 b15 → μ b1 b2 b3 b4 b5 b6 b7 b8 b9 b10 b11 b12 b13 b14 b15 < μ a1 a2 a3 a4 a5 a6 a7 a8 a9 a10 a11 a12 a13 a14 a15 → W n b1 b2 b3 b4 b5 b6 b7 b8 b9 b10 b11 b12 b13 b14 b15) → W (n + 1) a1 a2 a3 a4 a5 a6 a7 a8 a9 a10 a11 a12 a13 a14 a15) (a1 : A1) (a2 : A2) (a3 : A3) (a4 : A4) (a5 : A5) (a6 : A6) (a7 : A7) (a8 : A8) (a9 : A9) (a10 : A10) (a11 : A11) (a12 : A12) (a13 : A13) (a14 : A14) (a15 : A15) (h : I a1 a2 a3 a4 a5 a6 a7 a8 a9 a10 a11 a12 a13 a14 a15) : ∃ n, W n a1 a2 a3 a4 a5 a6 a7 a8 a9 a10 a11 a12 a13 a14 a15 :=
  loop_m (σ := A1 × A2 × A3 × A4 × A5 × A6 × A7 × A8 × A9 × A10 × A11 × A12 × A13 × A14 × A15) (fun n s => W n s.1 s.2.1 s.2.2.1 s.2.2.2.1 s.2.2.2.2.1 s.2.2.2.2.2.1 s.2.2.2.2.2.2.1 s.2.2.2.2.2.2.2.1 s.2.2.2.2.2.2.2.2.1 s.2.2.2.2.2.2.2.2.2.1 s.2.2.2.2.2.2.2.2.2.2.1 s.2.2.2.2.2.2.2.2.2.2.2.1 s.2.2.2.2.2.2.2.2.2.2.2.2.1 s.2.2.2.2.2.2.2.2.2.2.2.2.2.1 s.2.2.2.2.2.2.2.2.2.2.2.2.2.2) (fun s => I s.1 s.2.1 s.2.2.1 s.2.2.2.1 s.2.2.2.2.1 s.2.2.2.2.2.1 s.2.2.2.2.2.2.1 s.2.2.2.2.2.2.2.1 s.2.2.2.2.2.2.2.2.1 s.2.2.2.2.2.2.2.2.2.1 s.2.2.2.2.2.2.2.2.2.2.1 s.2.2.2.2.2.2.2.2.2.2.2.1 s.2.2.2.2.2.2.2.2.2.2.2.2.1 s.2.2.2.2.2.2.2.2.2.2.2.2.2.1 s.2.2.2.2.2.2.2.2.2.2.2.2.2.2) (fun s => μ s.1 s.2.1 s.2.2.1 s.2.2.2.1 s.2.2.2.2.1 s.2.2.2.2.2.1 s.2.2.2.2.2.2.1 s.2.2.2.2.2.2.2.1 s.2.2.2.2.2.2.2.2.1 s.2.2.2.2.2.2.2.2.2.1 s.2.2.2.2.2.2.2.2.2.2.1 s.2.2.2.2.2.2.2.2.2.2.2.1 s.2.2.2.2.2.2.2.2.2.2.2.2.1 s.2.2.2.2.2.2.2.2.2.2.2.2.2.1 s.2.2.2.2.2.2.2.2.2.2.2.2.2.2) (fun n s hI hk => hs n s.1 s.2.1 s.2.2.1 s.2.2.2.1 s.2.2.2.2.1 s.2.2.2.2.2.1 s.2.2.2.2.2.2.1 s.2.2.2.2.2.2.2.1 s.2.2.2.2.2.2.2.2.1 s.2.2.2.2.2.2.2.2.2.1 s.2.2.2.2.2.2.2.2.2.2.1 s.2.2.2.2.2.2.2.2.2.2.2.1 s.2.2.2.2.2.2.2.2.2.2.2.2.1 s.2.2.2.2.2.2.2.2.2.2.2.2.2.1 s.2.2.2.2.2.2.2.2.2.2.2.2.2.2 hI (fun b1 b2 b3 b4 b5 b6 b7 b8 b9 b10 b11 b12 b13 b14 b15 h9 hm => hk (b1, b2, b3, b4, b5, b6, b7, b8, b9, b10, b11, b12, b13, b14, b15) h9 hm)) (a1, a2, a3, a4, a5, a6, a7, a8, a9, a10, a11, a12, a13, a14, a15) h
theorem lp16 {A1 A2 A3 A4 A5 A6 A7 A8 A9 A10 A11 A12 A13 A14 A15 A16 : Type} (W : Nat → A1 → A2 → A3 → A4 → A5 → A6 → A7 → A8 → A9 → A10 → A11 → A12 → A13 → A14 → A15 → A16 → Prop) (I : A1 → A2 → A3 → A4 → A5 → A6 → A7 → A8 → A9 → A10 → A11 → A12 → A13 → A14 → A15 → A16 → Prop) (μ : A1 → A2 → A3 → A4 → A5 → A6 → A7 → A8 → A9 → A10 → A11 → A12 → A13 → A14 → A15 → A16 → Nat) (hs : ∀ (n : Nat) (a1 : A1) (a2 : A2) (a3 : A3) (a4 : A4) (a5 : A5) (a6 : A6) (a7 : A7) (a8 : A8) (a9 : A9) (a10 : A10) (a11 : A11) (a12 : A12) (a13 : A13) (a14 : A14) (a15 : A15) (a16 : A16), I a1 a2 a3 a4 a5 a6 a7 a8 a9 a10 a11 a12 a13 a14 a15 a16 → (∀ (b1 : A1) (b2 : A2) (b3 : A3) (b4 : A4) (b5 : A5) (b6 : A6) (b7 : A7) (b8 : A8) (b9 : A9) (b10 : A10) (b11 : A11) (b12 : A12) (b13 : A13) (b14 : A14) (b15 : A15) (b16 : A16), I b1 b2 b3 b4 b5 b6 b7 b8 b9 b10 b11 b12 b13 b14 b15 b16 → μ b1 b2 b3 b4 b5 b6 b7 b8 b9 b10 b11 b12 b13 b14 b15 b16 < μ a1 a2 a3 a4 a5 a6 a7 a8 a9 a10 a11 a12 a13 a14 a15 a16 → W n b1 b2 b3 b4 b5 b6 b7 b8 b9 b10 b11 b12 b13 b14 b15 b16) → W (n + 1) a1 a2 a3 a4 a5 a6 a7 a8 a9 a10 a11 a12 a13 a14 a15 a16) (a1 : A1) (a2 : A2) (a3 : A3) (a4 : A4) (a5 : A5) (a6 : A6) (a7 : A7) (a8 : A8) (a9 : A9) (a10 : A10) (a11 : A11) (a12 : A12) (a13 : A13) (a14 : A14) (a15 : A15) (a16 : A16) (h : I a1 a2 a3 a4 a5 a6 a7 a8 a9 a10 a11 a12 a13 a14 a15 a16) : ∃ n, W n a1 a2 a3 a4 a5 a6 a7 a8 a9 a10 a11 a12 a13 a14 a15 a16 :=
  loop_m (σ := A1 × A2 × A3 × A4 × A5 × A6 × A7 × A8 × A9 × A10 × A11 × A12 × A13 × A14 × A15 × A16) (fun n s => W n s.1 s.2.1 s.2.2.1 s.2.2.2.1 s.2.2.2.2.1 s.2.2.2.2.2.1 s.2.2.2.2.2.2.1 s.2.2.2.2.2.2.2.1 s.2.2.2.2.2.2.2.2.1 s.2.2.2.2.2.2.2.2.2.1 s.2.2.2.2.2.2.2.2.2.2.1 s.2.2.2.2.2.2.2.2.2.2.2.1 s.2.2.2.2.2.2.2.2.2.2.2.2.1 s.2.2.2.2.2.2.2.2.2.2.2.2.2.1 s.2.2.2.2.2.2.2.2.2.2.2.2.2.2.1 s.2.2.2.2.2.2.2.2.2.2.2.2.2.2.2) (fun s => I s.1 s.2.1 s.2.2.1 s.2.2.2.1 s.2.2.2.2.1 s.2.2.2.2.2.1 s.2.2.2.2.2.2.1 s.2.2.2.2.2.2.2.1 s.2.2.2.2.2.2.2.2.1 s.2.2.2.2.2.2.2.2.2.1 s.2.2.2.2.2.2.2.2.2.2.1 s.2.2.2.2.2.2.2.2.2.2.2.1 s.2.2.2.2.2.2.2.2.2.2.2.2.1 s.2.2.2.2.2.2.2.2.2.2.2.2.2.1 s.2.2.2.2.2.2.2.2.2.2.2.2.2.2.1 s.2.2.2.2.2.2.2.2.2.2.2.2.2.2.2) (fun s => μ s.1 s.2.1 s.2.2.1 s.2.2.2.1 s.2.2.2.2.1 s.2.2.2.2.2.1 s.2.2.2.2.2.2.1 s.2.2.2.2.2.2.2.1 s.2.2.2.2.2.2.2.2.1 s.2.2.2.2.2.2.2.2.2.1 s.2.2.2.2.2.2.2.2.2.2.1 s.2.2.2.2.2.2.2.2.2.2.2.1 s.2.2.2.2.2.2.2.2.2.2.2.2.1 s.2.2.2.2.2.2.2.2.2.2.2.2.2.1 s.2.2.2.2.2.2.2.2.2.2.2.2.2.2.1 s.2.2.2.2.2.2.2.2.2.2.2.2.2.2.2) (fun n s hI hk => hs n s.1 s.2.1 s.2.2.1 s.2.2.2.1 s.2.2.2.2.1 s.2.2.2.2.2.1 s.2.2.2.2.2.2.1 s.2.2.2.2.2.2.2.1 s.2.2.2.2.2.2.2.2.1 s.2.2.2.2.2.2.2.2.2.1 s.2.2.2.2.2.2.2.2.2.2.1 s.2.2.2.2.2.2.2.2.2.2.2.1 s.2.2.2.2.2.2.2.2.2.2.2.2.1 s.2.2.2.2.2.2.2.2.2.2.2.2.2.1 s.2.2.2.2.2.2.2.2.2.2.2.2.2.2.1 s.2.2.2.2.2.2.2.2.2.2.2.2.2.2.2 hI (fun b1 b2 b3 b4 b5 b6 b7 b8 b9 b10 b11 b12 b13 b14 b15 b16 h9 hm => hk (b1, b2, b3, b4, b5, b6, b7, b8, b9, b10, b11, b12, b13, b14, b15, b16) h9 hm)) (a1, a2, a3, a4, a5, a6, a7, a8, a9, a10, a11, a12, a13, a14, a15, a16) h
theorem pk_least (P : Nat → Prop) (h : ∃ k, P k) : ∃ k, P k ∧ ∀ j, j < k → ¬ P j := by
  obtain ⟨k, hk⟩ := h
  induction k using Nat.strongRecOn with
  | ind k ih =>
    by_cases e : ∃ j, j < k ∧ P j
    · obtain ⟨j, hj, pj⟩ := e
      exact ih j hj pj
    · exact ⟨k, hk, fun j hj pj => e ⟨j, hj, pj⟩⟩
theorem rp1 {ρ A1 : Type} (W : Nat → (ρ → Prop) → A1 → Prop) (ok : A1 → Prop) (μ : A1 → Nat) (val : A1 → ρ)
    (hs : ∀ (d : Nat) (post : ρ → Prop) (a1 : A1), ok a1 → post (val a1) → (∀ (post' : ρ → Prop) (b1 : A1), ok b1 → μ b1 < μ a1 → post' (val b1) → W d post' b1) → W (d + 1) post a1) :
    ∀ (d : Nat) (post : ρ → Prop) (a1 : A1), ok a1 → μ a1 < d → post (val a1) → W d post a1 := by
  intro d
  induction d with
  | zero => intro post a1 _ h; omega
  | succ d ih =>
    intro post a1 ho hm hp
    exact hs d post a1 ho hp (fun post' b1 ho' hm' hp' => ih post' b1 ho' (by omega) hp')
theorem rp2 {ρ A1 A2 : Type} (W : Nat → (ρ → Prop) → A1 → A2 → Prop) (ok : A1 → A2 → Prop) (μ : A1 → A2 → Nat) (val : A1 → A2 → ρ)
    (hs : ∀ (d : Nat) (post : ρ → Prop) (a1 : A1) (a2 : A2), ok a1 a2 → post (val a1 a2) → (∀ (post' : ρ → Prop) (b1 : A1) (b2 : A2), ok b1 b2 → μ b1 b2 < μ a1 a2 → post' (val b1 b2) → W d post' b1 b2) → W (d + 1) post a1 a2) :
    ∀ (d : Nat) (post : ρ → Prop) (a1 : A1) (a2 : A2), ok a1 a2 → μ a1 a2 < d → post (val a1 a2) → W d post a1 a2 := by
  intro d
  induction d with
  | zero => intro post a1 a2 _ h; omega
  | succ d ih =>
    intro post a1 a2 ho hm hp
    exact hs d post a1 a2 ho hp (fun post' b1 b2 ho' hm' hp' => ih post' b1 b2 ho' (by omega) hp')
theorem rp3 {ρ A1 A2 A3 : Type} (W : Nat → (ρ → Prop) → A1 → A2 → A3 → Prop) (ok : A1 → A2 → A3 → Prop) (μ : A1 → A2 → A3 → Nat) (val : A1 → A2 → A3 → ρ)
    (hs : ∀ (d : Nat) (post : ρ → Prop) (a1 : A1) (a2 : A2) (a3 : A3), ok a1 a2 a3 → post (val a1 a2 a3) → (∀ (post' : ρ → Prop) (b1 : A1) (b2 : A2) (b3 : A3), ok b1 b2 b3 → μ b1 b2 b3 < μ a1 a2 a3 → post' (val b1 b2 b3) → W d post' b1 b2 b3) → W (d + 1) post a1 a2 a3) :
    ∀ (d : Nat) (post : ρ → Prop) (a1 : A1) (a2 : A2) (a3 : A3), ok a1 a2 a3 → μ a1 a2 a3 < d → post (val a1 a2 a3) → W d post a1 a2 a3 := by
  intro d
  induction d with
  | zero => intro post a1 a2 a3 _ h; omega
  | succ d ih =>
    intro post a1 a2 a3 ho hm hp
    exact hs d post a1 a2 a3 ho hp (fun post' b1 b2 b3 ho' hm' hp' => ih post' b1 b2 b3 ho' (by omega) hp')
theorem rp4 {ρ A1 A2 A3 A4 : Type} (W : Nat → (ρ → Prop) → A1 → A2 → A3 → A4 → Prop) (ok : A1 → A2 → A3 → A4 → Prop) (μ : A1 → A2 → A3 → A4 → Nat) (val : A1 → A2 → A3 → A4 → ρ)
    (hs : ∀ (d : Nat) (post : ρ → Prop) (a1 : A1) (a2 : A2) (a3 : A3) (a4 : A4), ok a1 a2 a3 a4 → post (val a1 a2 a3 a4) → (∀ (post' : ρ → Prop) (b1 : A1) (b2 : A2) (b3 : A3) (b4 : A4), ok b1 b2 b3 b4 → μ b1 b2 b3 b4 < μ a1 a2 a3 a4 → post' (val b1 b2 b3 b4) → W d post' b1 b2 b3 b4) → W (d + 1) post a1 a2 a3 a4) :
    ∀ (d : Nat) (post : ρ → Prop) (a1 : A1) (a2 : A2) (a3 : A3) (a4 : A4), ok a1 a2 a3 a4 → μ a1 a2 a3 a4 < d → post (val a1 a2 a3 a4) → W d post a1 a2 a3 a4 := by
  intro d
  induction d with
  | zero => intro post a1 a2 a3 a4 _ h; omega
  | succ d ih =>
    intro post a1 a2 a3 a4 ho hm hp
    exact hs d post a1 a2 a3 a4 ho hp (fun post' b1 b2 b3 b4 ho' hm' hp' => ih post' b1 b2 b3 b4 ho' (by omega) hp')
theorem rp5 {ρ A1 A2 A3 A4 A5 : Type} (W : Nat → (ρ → Prop) → A1 → A2 → A3 → A4 → A5 → Prop) (ok : A1 → A2 → A3 → A4 → A5 → Prop) (μ : A1 → A2 → A3 → A4 → A5 → Nat) (val : A1 → A2 → A3 → A4 → A5 → ρ)
    (hs : ∀ (d : Nat) (post : ρ → Prop) (a1 : A1) (a2 : A2) (a3 : A3) (a4 : A4) (a5 : A5), ok a1 a2 a3 a4 a5 → post (val a1 a2 a3 a4 a5) → (∀ (post' : ρ → Prop) (b1 : A1) (b2 : A2) (b3 : A3) (b4 : A4) (b5 : A5), ok b1 b2 b3 b4 b5 → μ b1 b2 b3 b4 b5 < μ a1 a2 a3 a4 a5 → post' (val b1 b2 b3 b4 b5) → W d post' b1 b2 b3 b4 b5) → W (d + 1) post a1 a2 a3 a4 a5) :
    ∀ (d : Nat) (post : ρ → Prop) (a1 : A1) (a2 : A2) (a3 : A3) (a4 : A4) (a5 : A5), ok a1 a2 a3 a4 a5 → μ a1 a2 a3 a4 a5 < d → post (val a1 a2 a3 a4 a5) → W d post a1 a2 a3 a4 a5 := by
  intro d
  induction d with
  | zero => intro post a1 a2 a3 a4 a5 _ h; omega
  | succ d ih =>
    intro post a1 a2 a3 a4 a5 ho hm hp
    exact hs d post a1 a2 a3 a4 a5 ho hp (fun post' b1 b2 b3 b4 b5 ho' hm' hp' => ih post' b1 b2 b3 b4 b5 ho' (by omega) hp')
theorem rp6 {ρ A1 A2 A3 A4 A5 A6 : Type} (W : Nat → (ρ → Prop) → A1 → A2 → A3 → A4 → A5 → A6 → Prop) (ok : A1 → A2 → A3 → A4 → A5 → A6 → Prop) (μ : A1 → A2 → A3 → A4 → A5 → A6 → Nat) (val : A1 → A2 → A3 → A4 → A5 → A6 → ρ)
    (hs : ∀ (d : Nat) (post : ρ → Prop) (a1 : A1) (a2 : A2) (a3 : A3) (a4 : A4) (a5 : A5) (a6 : A6), ok a1 a2 a3 a4 a5 a6 → post (val a1 a2 a3 a4 a5 a6) → (∀ (post' : ρ → Prop) (b1 : A1) (b2 : A2) (b3 : A3) (b4 : A4) (b5 : A5) (b6 : A6), ok b1 b2 b3 b4 b5 b6 → μ b1 b2 b3 b4 b5 b6 < μ a1 a2 a3 a4 a5 a6 → post' (val b1 b2 b3 b4 b5 b6) → W d post' b1 b2 b3 b4 b5 b6) → W (d + 1) post a1 a2 a3 a4 a5 a6) :
    ∀ (d : Nat) (post : ρ → Prop) (a1 : A1) (a2 : A2) (a3 : A3) (a4 : A4) (a5 : A5) (a6 : A6), ok a1 a2 a3 a4 a5 a6 → μ a1 a2 a3 a4 a5 a6 < d → post (val a1 a2 a3 a4 a5 a6) → W d post a1 a2 a3 a4 a5 a6 := by
  intro d
  induction d with
  | zero => intro post a1 a2 a3 a4 a5 a6 _ h; omega
  | succ d ih =>
    intro post a1 a2 a3 a4 a5 a6 ho hm hp
    exact hs d post a1 a2 a3 a4 a5 a6 ho hp (fun post' b1 b2 b3 b4 b5 b6 ho' hm' hp' => ih post' b1 b2 b3 b4 b5 b6 ho' (by omega) hp')
theorem rec_p {σ ρ : Type} (W : Nat → (ρ → Prop) → σ → Prop) (ok : σ → Prop) (μ : σ → Nat) (val : σ → ρ)
    (hs : ∀ d s post, ok s → post (val s) → (∀ s' post', ok s' → μ s' < μ s → post' (val s') → W d post' s') → W (d + 1) post s) :
    ∀ d s post, ok s → μ s < d → post (val s) → W d post s := by
  intro d
  induction d with
  | zero => intro s post _ h; omega
  | succ d ih =>
    intro s post ho hm hp
    exact hs d s post ho hp (fun s' post' ho' hm' hp' => ih s' post' ho' (by omega) hp')
theorem rec_q {σ ρ : Type} (W : Nat → (ρ → Prop) → σ → Prop) (ok : σ → Prop) (μ : σ → Nat) (Q : σ → ρ → Prop)
    (hs : ∀ d s post, ok s → (∀ r, Q s r → post r) → (∀ s' post', ok s' → μ s' < μ s → (∀ r, Q s' r → post' r) → W d post' s') → W (d + 1) post s) :
    ∀ d s post, ok s → μ s < d → (∀ r, Q s r → post r) → W d post s := by
  intro d
  induction d with
  | zero => intro s post _ h; omega
  | succ d ih =>
    intro s post ho hm hp
    exact hs d s post ho hp (fun s' post' ho' hm' hp' => ih s' post' ho' (by omega) hp')
def bx_sum (f : Nat → Int32) : Nat → Int32
  | 0 => 0
  | n + 1 => bx_sum f n + f n
theorem ek_u {A : Prop} {B : Nat → Prop} {k N : Nat} (hk : k < N) (h : B k) : (some k = none → A) ∧ (∀ y : Nat, some k = some y → (y < N ∧ B y)) :=
  ⟨fun z => absurd z (Option.some_ne_none k), fun _ e => (by cases e; exact ⟨hk, h⟩)⟩
theorem ek_nu {A : Prop} {B : Nat → Prop} (h : A) : ((none : Option Nat) = none → A) ∧ (∀ y : Nat, (none : Option Nat) = some y → B y) :=
  ⟨fun _ => h, fun _ e => (by cases e)⟩
theorem ek_if {c d A B : Prop} (e : c ↔ d) (f : d → A) (g : ¬ d → B) : (c → A) ∧ (¬ c → B) :=
  ⟨fun z => f (e.mp z), fun z => g (fun y => z (e.mpr y))⟩
theorem ek_v {α : Sort _} {P : α → Prop} {a b : α} (e : a = b) (h : P b) : P a := e ▸ h
theorem co_some {x : Option Nat} {A : Prop} {B : Nat → Prop} (i : Nat) (h : B i) (hx : x = some i := by rfl) : (x = none → A) ∧ (∀ y : Nat, x = some y → B y) := by
  subst hx
  exact ⟨fun e => (nomatch e), fun y e => Option.some.inj e ▸ h⟩
theorem co_none {x : Option Nat} {A : Prop} {B : Nat → Prop} (h : A) (hx : x = none := by rfl) : (x = none → A) ∧ (∀ y : Nat, x = some y → B y) := by
  subst hx
  exact ⟨fun _ => h, fun y e => (nomatch e)⟩
theorem co_any {x : Option Nat} {A : Prop} {B : Nat → Prop} (hn : x = none → A) (hs : ∀ i : Nat, x = some i → B i) : (x = none → A) ∧ (∀ y : Nat, x = some y → B y) := ⟨hn, hs⟩
theorem co_2 {P : Nat → Prop} (h0 : P 0) (h1 : P 1) {i : Nat} (hi : i < 2) : P i :=
  match i, hi with
  | 0, _ => h0
  | 1, _ => h1
theorem co_3 {P : Nat → Prop} (h0 : P 0) (h1 : P 1) (h2 : P 2) {i : Nat} (hi : i < 3) : P i :=
  match i, hi with
  | 0, _ => h0
  | 1, _ => h1
  | 2, _ => h2
theorem co_4 {P : Nat → Prop} (h0 : P 0) (h1 : P 1) (h2 : P 2) (h3 : P 3) {i : Nat} (hi : i < 4) : P i :=
  match i, hi with
  | 0, _ => h0
  | 1, _ => h1
  | 2, _ => h2
  | 3, _ => h3
theorem co_dec {N : Nat} {P : Nat → Prop} [DecidablePred P] (h : (List.range N).all (fun i => decide (P i)) = true) {i : Nat} (hi : i < N) : P i := by
  have := List.all_eq_true.mp h i (List.mem_range.mpr hi)
  exact of_decide_eq_true this
theorem co_tab {α : Type} {l : List α} {d : α} {P : α → Prop} (h : ∀ a, a ∈ l → P a) {i : Nat} (hi : i < l.length) : P (l.getD i d) := by
  rw [List.getD_eq_getElem?_getD, List.getElem?_eq_getElem hi]
  exact h _ (List.getElem_mem hi)
theorem pk_mu {x : Int32} {L : Nat} (h0 : ¬ x < 0) (h : ¬ nI L ≤ x) (hL : L < 2 ^ 31) : ∃ j : Nat, j < L ∧ x = nI j ∧ x + 1 = nI (j + 1) ∧ x.toNatClampNeg = j ∧ L - (x + 1).toNatClampNeg < L - x.toNatClampNeg := by
  obtain ⟨j, hj, rfl⟩ := nI_of h0
  have hl : j < L := Nat.not_le.mp fun q => h (nI_le q hj)
  refine ⟨j, hl, rfl, nI_1 j, nI_clamp hj, ?_⟩
  rw [nI_1, nI_clamp (by omega), nI_clamp hj]
  omega
theorem op_s {α : Type} {r : Option α} {A : Prop} {B : α → Prop} {y : α} (h : r = some y) (b : B y) : (r = none → A) ∧ ∀ z, r = some z → B z :=
  ⟨fun e => (by rw [h] at e; cases e), fun z e => (by rw [h] at e; cases e; exact b)⟩
def l_holds {α : Type} (a : Nat → Option Nat) (LP : List Nat) (p : Nat → α) (c : Nat) (b : Nat → α) : Prop :=
  ∀ j, j < c → ∃ y, a j = some y ∧ y ∈ LP ∧ p y = b j
theorem l_holds_0 {α : Type} {a : Nat → Option Nat} {LP : List Nat} {p b : Nat → α} : l_holds a LP p 0 b := fun j h => absurd h (Nat.not_lt_zero j)
theorem l_in_new (LP : List Nat) (q : Nat) : q ∈ LP ++ [q] := List.mem_append.mpr (Or.inr (List.mem_singleton.mpr rfl))
def l_sum (b : Nat → Int32) : Nat → Int32
  | 0 => 0
  | k + 1 => l_sum b k + b k
theorem sb_shr0 (x : Int32) : x >>> ((0 : Int32) &&& 31) = x := by
  rw [show ((0 : Int32) &&& 31) = 0 by decide]
  simp
theorem sb_shl0 (x : Int32) : x <<< ((0 : Int32) &&& 31) = x := by
  rw [show ((0 : Int32) &&& 31) = 0 by decide]
  simp
theorem sb_cl0 : (0 : Int32).toNatClampNeg = 0 := by decide
theorem sb_m1 {p : Nat} (h : 0 < p) : nI p + (-1) = nI (p - 1) := by
  obtain ⟨q, rfl⟩ : ∃ q, p = q + 1 := ⟨p - 1, by omega⟩
  exact pk_m1 q
def sb_b (c : Nat) : Int32 := (nI c).toInt8.toInt32
theorem sb_byte : ∀ c, c < 256 → sb_b c &&& 255 = nI c ∧ ((nI c).toUInt32 % 65536).toInt32 = nI c ∧ nI c ≤ 255 := by decide +kernel
def sb_Fit (a : Nat → Int32) : Prop := ∀ j, fits .byte (.int (a j)) = true
def sb_Lat (t : Nat → Nat) (n : Nat) (a : Nat → Int32) : Prop := ∀ j, j < n → t j < 256 ∧ a j = sb_b (t j)
theorem sb_fitB (c : Nat) : fits .byte (.int (sb_b c)) = true := pk_fb _
theorem sb_fit0 : sb_Fit (fun _ => 0) := fun _ => by
  show fits .byte (.int 0) = true
  decide
theorem sb_fitU {a : Nat → Int32} {k : Nat} {x : Int32} (h : sb_Fit a) (hx : fits .byte (.int x) = true) : sb_Fit (upd a k x) := by
  intro j
  by_cases e : j = k
  · subst e
    rw [pk_us]
    exact hx
  · rw [pk_un e]
    exact h j
def sb_cat (t : Nat → Nat) (n : Nat) (s : Nat → Nat) : Nat → Nat := fun j => if j < n then t j else s (j - n)
theorem sb_cat_lo {t s : Nat → Nat} {n j : Nat} (h : j < n) : sb_cat t n s j = t j := if_pos h
theorem sb_cat_hi {t s : Nat → Nat} {n j : Nat} : sb_cat t n s (n + j) = s j := by
  show (if n + j < n then t (n + j) else s (n + j - n)) = s j
  rw [if_neg (by omega), Nat.add_sub_cancel_left]
theorem sb_latPut {t s : Nat → Nat} {n w : Nat} {a a' : Nat → Int32} (h : sb_Lat t n a) (hk : ∀ j, j < n → a' j = a j) (hs : ∀ i, i < w → s i < 256 ∧ a' (n + i) = sb_b (s i)) : sb_Lat (sb_cat t n s) (n + w) a' := by
  intro j hj
  by_cases e : j < n
  · rw [sb_cat_lo e, hk j e]
    exact h j e
  · obtain ⟨i, rfl⟩ : ∃ i, j = n + i := ⟨j - n, by omega⟩
    rw [sb_cat_hi]
    exact hs i (by omega)
theorem sb_latKeep {t : Nat → Nat} {n : Nat} {a a' : Nat → Int32} (h : sb_Lat t n a) (hk : ∀ j, j < n → a' j = a j) : sb_Lat t n a' := fun j hj => by
  rw [hk j hj]
  exact h j hj
def sb_cap (q m : Nat) : Nat := if q ≤ m then m else if 2 * m + 2 < q then q else 2 * m + 2
def sb_Room (q m mc ms : Nat) : Prop := q ≤ m ∨ (1 ≤ mc ∧ sb_cap q m ≤ ms ∧ sb_cap q m ≤ 65536)
theorem sb_cap_ge (q m : Nat) : q ≤ sb_cap q m := by
  unfold sb_cap
  split
  · omega
  · split <;> omega
theorem sb_cap_gem (q m : Nat) : m ≤ sb_cap q m := by
  unfold sb_cap
  split
  · omega
  · split <;> omega
theorem sb_cap_le {q m mc ms : Nat} (hm : m ≤ 65536) (hr : sb_Room q m mc ms) : sb_cap q m ≤ 65536 := by
  rcases hr with h | h
  · rw [sb_cap, if_pos h]
    exact hm
  · exact h.2.2
theorem sb_at {P : Int32 → Prop} {x y : Int32} (e : x = y) (h : P y) : P x := e ▸ h
def sb_dg (w : Nat) : Nat := if w < 10 then 1 else if w < 100 then 2 else if w < 1000 then 3 else if w < 10000 then 4 else if w < 100000 then 5 else if w < 1000000 then 6 else if w < 10000000 then 7 else if w < 100000000 then 8 else if w < 1000000000 then 9 else 10
def sb_dec (v : Nat) : Nat → Nat := fun i => 48 + v / 10 ^ (sb_dg v - 1 - i) % 10
theorem sb_dg_in (w : Nat) : 1 ≤ sb_dg w ∧ sb_dg w ≤ 10 := by
  unfold sb_dg
  constructor <;> (repeat' split) <;> omega
theorem sb_dg100 {w : Nat} (h : 100 ≤ w) (hw : w < 2 ^ 31) : sb_dg w = sb_dg (w / 100) + 2 := by
  rw [sb_dg, sb_dg, if_neg (show ¬ w < 10 by omega), if_neg (show ¬ w < 100 by omega)]
  by_cases h3 : w < 1000
  · rw [if_pos h3, if_pos (show w / 100 < 10 by omega)]
  rw [if_neg h3, if_neg (show ¬ w / 100 < 10 by omega)]
  by_cases h4 : w < 10000
  · rw [if_pos h4, if_pos (show w / 100 < 100 by omega)]
  rw [if_neg h4, if_neg (show ¬ w / 100 < 100 by omega)]
  by_cases h5 : w < 100000
  · rw [if_pos h5, if_pos (show w / 100 < 1000 by omega)]
  rw [if_neg h5, if_neg (show ¬ w / 100 < 1000 by omega)]
  by_cases h6 : w < 1000000
  · rw [if_pos h6, if_pos (show w / 100 < 10000 by omega)]
  rw [if_neg h6, if_neg (show ¬ w / 100 < 10000 by omega)]
  by_cases h7 : w < 10000000
  · rw [if_pos h7, if_pos (show w / 100 < 100000 by omega)]
  rw [if_neg h7, if_neg (show ¬ w / 100 < 100000 by omega)]
  by_cases h8 : w < 100000000
  · rw [if_pos h8, if_pos (show w / 100 < 1000000 by omega)]
  rw [if_neg h8, if_neg (show ¬ w / 100 < 1000000 by omega)]
  by_cases h9 : w < 1000000000
  · rw [if_pos h9, if_pos (show w / 100 < 10000000 by omega)]
  rw [if_neg h9, if_neg (show ¬ w / 100 < 10000000 by omega)]
  rw [if_pos (show w / 100 < 100000000 by omega)]
theorem sb_negT {w : Nat} (h : w < 2 ^ 31) : (-nI w).toInt = -(w : Int) := by
  rw [Int32.toInt_neg, nI_toInt h]
  exact Int.bmod_eq_of_le (by omega) (by omega)
theorem sb_nle {a b : Nat} (ha : a < 2 ^ 31) (hb : b < 2 ^ 31) : -nI a ≤ -nI b ↔ b ≤ a := by
  rw [Int32.le_iff_toInt_le, sb_negT ha, sb_negT hb]
  omega
theorem sb_nlt {a b : Nat} (ha : a < 2 ^ 31) (hb : b < 2 ^ 31) : -nI a < -nI b ↔ b < a := by
  rw [Int32.lt_iff_toInt_lt, sb_negT ha, sb_negT hb]
  omega
theorem sb_cmp {A B : Prop} {x : Int32} (v c : Nat) (f : c ≤ v → A) (g : v < c → B) (hv : v < 2 ^ 31) (hx : x = -nI c := by rfl) (hc : c < 2 ^ 31 := by omega) : (-nI v ≤ x → A) ∧ (¬ -nI v ≤ x → B) := by
  subst hx
  rw [sb_nle hv hc]
  exact ⟨f, fun z => g (by omega)⟩
theorem sb_ndiv {w : Nat} (hw : w < 2 ^ 31) : (-nI w) / 100 = -nI (w / 100) := by
  apply Int32.toInt_inj.mp
  have h100 : (100 : Int32).toInt = 100 := by decide
  rw [Int32.toInt_div, sb_negT hw, h100, sb_negT (by omega), Int.neg_tdiv, Int.tdiv_eq_ediv_of_nonneg (by omega), Int.bmod_eq_of_le (by omega) (by omega)]
  omega
theorem sb_nrem {w : Nat} (hw : w < 2 ^ 31) : (-nI (w / 100)) * 100 - (-nI w) = nI (w % 100) := by
  have h := pk_rem (a := w) (d := 100) hw (by decide) (by decide)
  rw [pk_div hw (by decide) (by decide)] at h
  rw [← h]
  show (-nI (w / 100)) * nI 100 - (-nI w) = nI w - nI (w / 100) * nI 100
  rw [Int32.neg_mul, Int32.sub_neg, Int32.add_comm, ← Int32.sub_eq_add_neg]
end
section
section cs_base
/-! numbers -/
theorem cs_m48 (a : Nat) : nI a * 48 = nI (a * 48) := pk_mul a 48
theorem cs_m4 (a : Nat) : nI a * 4 = nI (a * 4) := pk_mul a 4
theorem cs_m5 (a : Nat) : nI a * 5 = nI (a * 5) := pk_mul a 5
theorem cs_m6 (a : Nat) : nI a * 6 = nI (a * 6) := pk_mul a 6
theorem cs_m11 (a : Nat) : nI a * 11 = nI (a * 11) := pk_mul a 11
theorem cs_p2 (a : Nat) : nI a + 2 = nI (a + 2) := nI_add a 2
theorem cs_p3 (a : Nat) : nI a + 3 = nI (a + 3) := nI_add a 3
theorem cs_p4 (a : Nat) : nI a + 4 = nI (a + 4) := nI_add a 4
theorem cs_p5 (a : Nat) : nI a + 5 = nI (a + 5) := nI_add a 5
theorem cs_p6 (a : Nat) : nI a + 6 = nI (a + 6) := nI_add a 6
theorem cs_p7 (a : Nat) : nI a + 7 = nI (a + 7) := nI_add a 7
theorem cs_p8 (a : Nat) : nI a + 8 = nI (a + 8) := nI_add a 8
theorem cs_p9 (a : Nat) : nI a + 9 = nI (a + 9) := nI_add a 9
theorem cs_p10 (a : Nat) : nI a + 10 = nI (a + 10) := nI_add a 10
theorem cs_s1 {n : Nat} (h : 1 ≤ n) : nI n - 1 = nI (n - 1) := by
  obtain ⟨q, rfl⟩ : ∃ q, n = q + 1 := ⟨n - 1, by omega⟩
  exact nI_pred q
theorem cs_cell (s p : Nat) : nI s * 48 + nI (p + 1) - 1 = nI (s * 48 + p) := by
  rw [cs_m48, nI_add]
  exact nI_pred (s * 48 + p)
theorem cs_vs (s y : Nat) : nI s * 4 + nI y = nI (s * 4 + y) := by rw [cs_m4, nI_add]
theorem cs_im {a b : Nat} (h : nI a = nI b) (ha : a < 2 ^ 31) (hb : b < 2 ^ 31) : a = b := (nI_eq ha hb).mp h
theorem cs_lit0 : (0 : Int32) = nI 0 := rfl
theorem cs_eq {a b : Nat} {x : Int32} (hx : x = nI b) (ha : a < 2 ^ 31) (hb : b < 2 ^ 31) : nI a = x ↔ a = b := by
  subst hx; exact nI_eq ha hb
theorem cs_0lt {n : Nat} (h0 : 0 < n) (h : n < 2 ^ 31) : (0 : Int32) < nI n := nI_lt (a := 0) h0 h
theorem cs_n0lt : ¬ (0 : Int32) < nI 0 := by decide
theorem cs_nm1 : ¬ (0 : Int32) ≤ -1 := by decide
theorem cs_m1lt : (-1 : Int32) < 0 := by decide
/-! stores -/
def cs_u (f : Nat → Nat) (i v : Nat) : Nat → Nat := fun j => if j = i then v else f j
theorem cs_us {f : Nat → Nat} {i v : Nat} : cs_u f i v i = v := if_pos rfl
theorem cs_un {f : Nat → Nat} {i v j : Nat} (h : j ≠ i) : cs_u f i v j = f j := if_neg h
theorem cs_ue {f : Nat → Nat} {i v : Nat} (h : f i = v) : cs_u f i v = f := by
  funext j
  by_cases hj : j = i
  · subst hj; rw [cs_us, h]
  · rw [cs_un hj]
theorem cs_uu {f : Nat → Nat} {i v : Nat} : upd (fun j => nI (f j)) i (nI v) = fun j => nI (cs_u f i v j) := by
  funext j
  by_cases hj : j = i
  · subst hj; rw [pk_us, cs_us]
  · rw [pk_un hj, cs_un hj]
def cs_fl (w : Nat) (A : Nat → Nat → Int32) : Nat → Int32 := fun i => A (i % w) (i / w)
def cs_w1 (A : Nat → Nat → Int32) (f x : Nat) (v : Int32) : Nat → Nat → Int32 := fun f' x' => if f' = f ∧ x' = x then v else A f' x'
def cs_wm (A : Nat → Nat → Int32) (x : Nat) (r : Nat → Int32) : Nat → Nat → Int32 := fun f y => if y = x then r f else A f y
def cs_pw (A : Nat → Nat → Int32) (x : Nat) (r : Nat → Int32) (a b : Nat) : Nat → Nat → Int32 := fun f y => if y = x ∧ a ≤ f ∧ f < b then r f else A f y
theorem cs_md {w x f : Nat} (h : f < w) : (x * w + f) % w = f := by
  rw [Nat.add_comm, Nat.add_mul_mod_self_right, Nat.mod_eq_of_lt h]
theorem cs_dv {w x f : Nat} (h : f < w) : (x * w + f) / w = x := by
  rw [Nat.add_comm, Nat.add_mul_div_right _ _ (by omega), Nat.div_eq_of_lt h, Nat.zero_add]
theorem cs_fr {w : Nat} {A : Nat → Nat → Int32} {x f : Nat} (h : f < w) : cs_fl w A (x * w + f) = A f x := by
  unfold cs_fl; rw [cs_md h, cs_dv h]
theorem cs_fr0 {w : Nat} {A : Nat → Nat → Int32} {x : Nat} (h : 0 < w) : cs_fl w A (x * w) = A 0 x := cs_fr (f := 0) h
theorem cs_fu {w : Nat} {A : Nat → Nat → Int32} {x f : Nat} {v : Int32} (h : f < w) : upd (cs_fl w A) (x * w + f) v = cs_fl w (cs_w1 A f x v) := by
  funext i
  by_cases hi : i = x * w + f
  · subst hi
    rw [pk_us, cs_fr h]; exact (if_pos ⟨rfl, rfl⟩).symm
  · rw [pk_un hi]
    show A (i % w) (i / w) = if i % w = f ∧ i / w = x then v else A (i % w) (i / w)
    rw [if_neg]
    rintro ⟨h1, h2⟩
    apply hi
    have h3 := Nat.div_add_mod i w
    rw [h1, h2, Nat.mul_comm] at h3
    exact h3.symm
theorem cs_fu0 {w : Nat} {A : Nat → Nat → Int32} {x : Nat} {v : Int32} (h : 0 < w) : upd (cs_fl w A) (x * w) v = cs_fl w (cs_w1 A 0 x v) := cs_fu (f := 0) h
theorem cs_fe {w : Nat} {A B : Nat → Nat → Int32} (h : 0 < w) (H : ∀ f x, f < w → A f x = B f x) : cs_fl w A = cs_fl w B := funext fun _ => H _ _ (Nat.mod_lt _ h)
theorem cs_pw0 {A : Nat → Nat → Int32} {x a : Nat} {r : Nat → Int32} : cs_pw A x r a a = A := by
  funext f y
  unfold cs_pw
  rw [if_neg (by omega)]
theorem cs_pws {A : Nat → Nat → Int32} {x a b : Nat} {r : Nat → Int32} (h : a ≤ b) : cs_w1 (cs_pw A x r a b) b x (r b) = cs_pw A x r a (b + 1) := by
  funext f y
  unfold cs_w1 cs_pw
  by_cases h1 : f = b ∧ y = x
  · rw [if_pos h1, if_pos (by omega), h1.1]
  · rw [if_neg h1]
    by_cases h2 : y = x ∧ a ≤ f ∧ f < b
    · rw [if_pos h2, if_pos (by omega)]
    · rw [if_neg h2, if_neg (by omega)]
theorem cs_pwn {A : Nat → Nat → Int32} {x a b f y : Nat} {r : Nat → Int32} (h : y ≠ x) : cs_pw A x r a b f y = A f y := if_neg (fun z => h z.1)
theorem cs_wms {A : Nat → Nat → Int32} {x f : Nat} {r : Nat → Int32} : cs_wm A x r f x = r f := if_pos rfl
theorem cs_wmn {A : Nat → Nat → Int32} {x f y : Nat} {r : Nat → Int32} (h : y ≠ x) : cs_wm A x r f y = A f y := if_neg h
theorem cs_uw {A : Nat → Nat → Int32} {x f : Nat} {r r' : Nat → Int32} {v : Int32} (h : r' f = v) : upd (cs_wm A x r f) x v = cs_wm A x r' f := by
  funext j
  by_cases hj : j = x
  · subst hj; rw [pk_us, cs_wms, h]
  · rw [pk_un hj, cs_wmn hj, cs_wmn hj]
def cs_r11 (a0 a1 a2 a3 a4 a5 a6 a7 a8 a9 a10 : Int32) : Nat → Int32
  | 0 => a0
  | 1 => a1
  | 2 => a2
  | 3 => a3
  | 4 => a4
  | 5 => a5
  | 6 => a6
  | 7 => a7
  | 8 => a8
  | 9 => a9
  | 10 => a10
  | _ => 0
def cs_r6 (a0 a1 a2 a3 a4 a5 : Int32) : Nat → Int32
  | 0 => a0
  | 1 => a1
  | 2 => a2
  | 3 => a3
  | 4 => a4
  | 5 => a5
  | _ => 0
theorem cs_c11 {P : Nat → Prop} (h0 : P 0) (h1 : P 1) (h2 : P 2) (h3 : P 3) (h4 : P 4) (h5 : P 5) (h6 : P 6) (h7 : P 7) (h8 : P 8) (h9 : P 9) (h10 : P 10) : ∀ f, f < 11 → P f := by
  intro f hf
  rcases (by omega : f = 0 ∨ f = 1 ∨ f = 2 ∨ f = 3 ∨ f = 4 ∨ f = 5 ∨ f = 6 ∨ f = 7 ∨ f = 8 ∨ f = 9 ∨ f = 10) with h | h | h | h | h | h | h | h | h | h | h <;> subst h <;> assumption
theorem cs_c5 {P : Nat → Prop} (h0 : P 0) (h1 : P 1) (h2 : P 2) (h3 : P 3) (h4 : P 4) : ∀ f, f < 5 → P f := by
  intro f hf
  rcases (by omega : f = 0 ∨ f = 1 ∨ f = 2 ∨ f = 3 ∨ f = 4) with h | h | h | h | h <;> subst h <;> assumption
theorem cs_c6 {P : Nat → Prop} (h0 : P 0) (h1 : P 1) (h2 : P 2) (h3 : P 3) (h4 : P 4) (h5 : P 5) : ∀ f, f < 6 → P f := by
  intro f hf
  rcases (by omega : f = 0 ∨ f = 1 ∨ f = 2 ∨ f = 3 ∨ f = 4 ∨ f = 5) with h | h | h | h | h | h <;> subst h <;> assumption
/-- six writes of one row that was all 0 -/
theorem cs_w6 {m : Nat → Nat → Int32} {i : Nat} {a0 a1 a2 a3 a4 a5 : Int32} (hz : ∀ f, f < 11 → m f i = 0) :
    cs_fl 11 (cs_w1 (cs_w1 (cs_w1 (cs_w1 (cs_w1 (cs_w1 m 0 i a0) 1 i a1) 2 i a2) 3 i a3) 4 i a4) 5 i a5) = cs_fl 11 (cs_wm m i (cs_r11 a0 a1 a2 a3 a4 a5 0 0 0 0 0)) := by
  refine cs_fe (by decide) fun f x hf => ?_
  by_cases hx : x = i
  · subst hx
    revert f
    refine cs_c11 ?_ ?_ ?_ ?_ ?_ ?_ ?_ ?_ ?_ ?_ ?_ <;> simp [cs_w1, cs_wm, cs_r11, hz]
  · simp [cs_w1, cs_wm, hx]
/-- the five last of a row -/
theorem cs_w5 {m : Nat → Nat → Int32} {i : Nat} {a0 a1 a2 a3 a4 a5 b6 b7 b8 b9 b10 : Int32} {r : Nat → Int32} :
    cs_fl 11 (cs_pw (cs_wm m i (cs_r11 a0 a1 a2 a3 a4 a5 b6 b7 b8 b9 b10)) i r 6 11) = cs_fl 11 (cs_wm m i (cs_r11 a0 a1 a2 a3 a4 a5 (r 6) (r 7) (r 8) (r 9) (r 10))) := by
  refine cs_fe (by decide) fun f x hf => ?_
  by_cases hx : x = i
  · subst hx
    revert f
    refine cs_c11 ?_ ?_ ?_ ?_ ?_ ?_ ?_ ?_ ?_ ?_ ?_ <;> simp [cs_pw, cs_wm, cs_r11]
  · simp [cs_pw, cs_wm, hx]
theorem cs_w11 {m : Nat → Nat → Int32} {i : Nat} {r : Nat → Int32} : cs_fl 11 (cs_pw m i r 0 11) = cs_fl 11 (cs_wm m i r) := by
  refine cs_fe (by decide) fun f x hf => ?_
  by_cases hx : x = i
  · subst hx; unfold cs_pw cs_wm; rw [if_pos ⟨rfl, Nat.zero_le _, hf⟩, if_pos rfl]
  · rw [cs_pwn hx, cs_wmn hx]
/-- five writes of an entry -/
theorem cs_w5e {E : Nat → Nat → Int32} {i : Nat} {a0 a1 a2 a3 a4 w : Int32} :
    cs_fl 5 (cs_w1 (cs_w1 (cs_w1 (cs_w1 (cs_w1 E 0 i a0) 1 i a1) 2 i a2) 3 i a3) 4 i a4) = cs_fl 5 (cs_wm E i (cs_r6 a0 a1 a2 a3 a4 w)) := by
  refine cs_fe (by decide) fun f x hf => ?_
  by_cases hx : x = i
  · subst hx
    revert f
    refine cs_c5 ?_ ?_ ?_ ?_ ?_ <;> simp [cs_w1, cs_wm, cs_r6]
  · simp [cs_w1, cs_wm, hx]
/-- a slot's kind made free, X -/
def cs_z (G : Nat → Nat → Int32) (i : Nat) : Nat → Nat → Int32
  | 0 => upd (G 0) i 0
  | f + 1 => G (f + 1)
/-- replay of a list -/
def cs_v (E : Nat → Nat → Int32) (s : Nat) (key : Int32) : Nat → Int32
  | 0 => 0
  | n + 1 => if E 3 (s * 48 + n) = key then (if E 2 (s * 48 + n) = 0 then E 4 (s * 48 + n) else cs_v E s key n + E 4 (s * 48 + n)) else cs_v E s key n
theorem cs_vS {E : Nat → Nat → Int32} {s : Nat} {key : Int32} {n : Nat} : cs_v E s key (n + 1) = if E 3 (s * 48 + n) = key then (if E 2 (s * 48 + n) = 0 then E 4 (s * 48 + n) else cs_v E s key n + E 4 (s * 48 + n)) else cs_v E s key n := rfl
theorem cs_vc {E E' : Nat → Nat → Int32} {s : Nat} {key : Int32} : ∀ n, (∀ q f, q < n → E' f (s * 48 + q) = E f (s * 48 + q)) → cs_v E' s key n = cs_v E s key n := by
  intro n
  induction n with
  | zero => intro _; rfl
  | succ n ih =>
    intro h
    rw [cs_vS, cs_vS, ih (fun q f hq => h q f (by omega)), h n 3 (by omega), h n 2 (by omega), h n 4 (by omega)]
/-! the invariants -/
def cs_lt (x : Int32) (n : Nat) : Prop := ∃ j, j < n ∧ x = nI j
def cs_J (srv : Nat) (jn : Int32) (ro : Nat → Nat) : Prop := (jn = -1 ∧ ∀ s, s < srv → ro s ≠ 3) ∨ (∃ j, j < srv ∧ jn = nI j ∧ ro j = 3 ∧ ∀ s, s < srv → ro s = 3 → s = j)
def cs_A (srv cap slt cl cfg : Nat) (jn : Int32) (c ro l k : Nat → Nat) : Prop :=
  (2 ≤ srv ∧ srv ≤ 5 ∧ 4 ≤ cap ∧ cap ≤ 48 ∧ 4 ≤ slt ∧ slt ≤ 16 ∧ 1 ≤ cl ∧ cl ≤ srv ∧ cfg ≤ 40) ∧
  (∀ i, c i < srv) ∧ (∀ s, ro s ≤ 3) ∧ (∀ s, l s ≤ cap) ∧ (∀ s, k s ≤ cap) ∧ (∀ s, ro s = 2 → l s = 0 ∧ k s = 0) ∧
  (∀ i j, i < cl → j < cl → c i = c j → i = j) ∧ (∀ i, i < cl → ro (c i) = 1 ∨ ro (c i) = 2) ∧ (∀ s, s < srv → ro s = 1 ∨ ro s = 2 → ∃ i, i < cl ∧ c i = s) ∧ cs_J srv jn ro
def cs_Ev (l : Nat → Nat) (va : Nat → Int32) (E : Nat → Nat → Int32) : Prop :=
  (∀ x, cs_lt (E 0 x) 3) ∧ (∀ x, cs_lt (E 3 x) 4) ∧ (∀ s y, s < 5 → y < 4 → va (s * 4 + y) = cs_v E s (nI y) (l s)) ∧ (∀ s p, s < 5 → p < l s → E 5 (s * 48 + p) = cs_v E s (E 3 (s * 48 + p)) p)
def cs_Cv (C : Nat → Nat → Int32) : Prop := ∀ q, cs_lt (C 3 q) 4
def cs_Gh (srv cl : Nat) (c ro l : Nat → Nat) (E : Nat → Nat → Int32) (mu : Nat) (Mc Mn : Nat → Int32) : Prop :=
  (∀ p q, p < mu → q < mu → Mc p = Mc q → Mn p = Mn q → p = q) ∧
  (∀ s, s < srv → ro s = 1 ∨ ro s = 3 → l s ≤ mu ∧ ∀ p, p < l s → E 0 (s * 48 + p) = Mc p ∧ E 1 (s * 48 + p) = Mn p) ∧
  (∀ i j, i < j → j < cl → ro (c i) = 1 → ro (c j) = 1 → l (c j) ≤ l (c i)) ∧
  (∀ j i, j < srv → ro j = 3 → i < cl → ro (c i) = 1 → l j ≤ l (c i)) ∧
  (ro (c 0) = 1 → l (c 0) = mu)
def cs_FW (cl : Nat) (c ro l : Nat → Nat) (mu : Nat) (Mc Mn : Nat → Int32) (t n : Nat) (a b : Int32) : Prop :=
  n ≤ mu ∧ a = Mc (n - 1) ∧ b = Mn (n - 1) ∧ ∃ j, 1 ≤ j ∧ j < cl ∧ c j = t ∧ ∀ i, i < j → ro (c i) = 1 → n ≤ l (c i)
def cs_ok (srv cap cfg cl : Nat) (c ro l : Nat → Nat) (mu : Nat) (Mc Mn : Nat → Int32) (g : Nat → Int32) : Prop :=
  ∃ gc, gc ≤ cfg ∧ g 1 = nI gc ∧ (
    (g 0 = 5 ∧ cs_lt (g 3) 3) ∨
    (g 0 = 1 ∧ cs_lt (g 2) 3 ∧ g 6 = g 2 ∧ g 7 = g 4 ∧ cs_lt (g 9) 4 ∧ ∃ t, t < srv ∧ g 3 = nI t ∧ (gc = cfg → t = c 0)) ∨
    (g 0 = 2 ∧ cs_lt (g 2) 3 ∧ cs_lt (g 5) 4 ∧ cs_lt (g 3) srv) ∨
    (g 0 = 3 ∧ cs_lt (g 6) 3 ∧ cs_lt (g 9) 4 ∧ ∃ t n, t < srv ∧ g 3 = nI t ∧ 1 ≤ n ∧ n ≤ cap ∧ g 4 = nI n ∧ (gc = cfg → cs_FW cl c ro l mu Mc Mn t n (g 6) (g 7))) ∨
    (g 0 = 4 ∧ cs_lt (g 3) srv ∧ ∃ n, n ≤ cap ∧ g 4 = nI n))
def cs_R (ok : (Nat → Int32) → Prop) (g h : Nat → Int32) : Prop :=
  g 0 = h 0 ∧ (g 0 = 0 → ∀ f, f < 11 → h f = 0) ∧ (g 0 ≠ 0 → ok g ∧ g 1 = h 1 ∧ g 2 = h 2 ∧ g 3 = h 3 ∧ g 4 = h 4 ∧ g 5 = h 5 ∧ (g 0 = 1 ∨ g 0 = 3 → g 6 = h 6 ∧ g 7 = h 7 ∧ g 8 = h 8 ∧ g 9 = h 9 ∧ g 10 = h 10))
def cs_Q (ok : (Nat → Int32) → Prop) (G m : Nat → Nat → Int32) : Prop := ∀ i, i < 16 → cs_R ok (fun f => G f i) (fun f => m f i)
theorem cs_Qw {ok : (Nat → Int32) → Prop} {G m : Nat → Nat → Int32} {i : Nat} {g h : Nat → Int32} (hq : cs_Q ok G m) (hr : cs_R ok g h) : cs_Q ok (cs_wm G i g) (cs_wm m i h) := by
  intro j hj
  by_cases e : j = i
  · subst e
    rw [show (fun f => cs_wm G j g f j) = g from funext fun _ => cs_wms, show (fun f => cs_wm m j h f j) = h from funext fun _ => cs_wms]
    exact hr
  · rw [show (fun f => cs_wm G i g f j) = (fun f => G f j) from funext fun _ => cs_wmn e, show (fun f => cs_wm m i h f j) = (fun f => m f j) from funext fun _ => cs_wmn e]
    exact hq j hj
theorem cs_Qz {ok : (Nat → Int32) → Prop} {G m : Nat → Nat → Int32} {i : Nat} (hq : cs_Q ok G m) : cs_Q ok (cs_z G i) (cs_wm m i (fun _ => 0)) := by
  intro j hj
  by_cases e : j = i
  · subst e
    rw [show (fun f => cs_wm m j (fun _ => 0) f j) = (fun _ => 0) from funext fun _ => cs_wms]
    have h0 : cs_z G j 0 j = 0 := pk_us
    exact ⟨h0, fun _ _ _ => rfl, fun h => absurd h0 h⟩
  · rw [show (fun f => cs_wm m i (fun _ => 0) f j) = (fun f => m f j) from funext fun _ => cs_wmn e]
    rw [show (fun f => cs_z G i f j) = (fun f => G f j) from funext fun f => by cases f with | zero => exact pk_un e | succ f => rfl]
    exact hq j hj
theorem cs_Qi {ok ok' : (Nat → Int32) → Prop} {G m : Nat → Nat → Int32} (hq : cs_Q ok G m) (h : ∀ g, ok g → ok' g) : cs_Q ok' G m := by
  intro i hi
  obtain ⟨h1, h2, h3⟩ := hq i hi
  exact ⟨h1, h2, fun z => ⟨h _ (h3 z).1, (h3 z).2⟩⟩
theorem cs_Q0 {ok : (Nat → Int32) → Prop} {G m : Nat → Nat → Int32} (hq : cs_Q ok G m) {i : Nat} (hi : i < 16) : G 0 i = m 0 i := (hq i hi).1
theorem cs_Qf {ok : (Nat → Int32) → Prop} {G m : Nat → Nat → Int32} (hq : cs_Q ok G m) {i : Nat} (hi : i < 16) (h : G 0 i = 0) : ∀ f, f < 11 → m f i = 0 := (hq i hi).2.1 h
end cs_base
end
section
section cs_snd
variable {srv cap slt cl cfg : Nat} {jn : Int32} {c ro l k : Nat → Nat} {va : Nat → Int32} {E C G m : Nat → Nat → Int32} {mu : Nat} {Mc Mn : Nat → Int32} {ok : (Nat → Int32) → Prop}
theorem cs_n1 {d n : Nat} (h : d < n) : ∃ n', n = n' + 1 := ⟨n - 1, by omega⟩
theorem cs_fs0 (hq : cs_Q ok G m) (h16 : slt ≤ 16) : ∀ d j, j + d = slt →
    (∃ i, i < slt ∧ G 0 i = 0 ∧ (∀ (post : Int32 → Prop) n, d < n → post (nI i) → wX_freeSlot_2 post (nI srv) (nI cap) (nI slt) (nI cl) (nI cfg) jn (fun ix_ => nI (c ix_)) (fun ix_ => nI (ro ix_)) (fun ix_ => nI (l ix_)) (fun ix_ => nI (k ix_)) va (E 0) (E 1) (E 2) (E 3) (E 4) (E 5) (C 0) (C 1) (C 2) (C 3) (C 4) (C 5) (G 0) (G 1) (G 2) (G 3) (G 4) (G 5) (G 6) (G 7) (G 8) (G 9) (G 10) n (nI j)) ∧ (∀ (post : Int32 → Prop) n, d < n → post (nI i) → wY_freeSlot_2 post (nI srv) (nI cap) (nI slt) (nI cfg) (nI cl) (fun ix_ => nI (c ix_)) (fun ix_ => nI (ro ix_)) (fun ix_ => nI (l ix_)) (fun ix_ => nI (k ix_)) (cs_fl 5 E) (cs_fl 6 C) (cs_fl 11 m) n (nI j))) ∨
    ((∀ (post : Int32 → Prop) n, d < n → post (-1) → wX_freeSlot_2 post (nI srv) (nI cap) (nI slt) (nI cl) (nI cfg) jn (fun ix_ => nI (c ix_)) (fun ix_ => nI (ro ix_)) (fun ix_ => nI (l ix_)) (fun ix_ => nI (k ix_)) va (E 0) (E 1) (E 2) (E 3) (E 4) (E 5) (C 0) (C 1) (C 2) (C 3) (C 4) (C 5) (G 0) (G 1) (G 2) (G 3) (G 4) (G 5) (G 6) (G 7) (G 8) (G 9) (G 10) n (nI j)) ∧ (∀ (post : Int32 → Prop) n, d < n → post (-1) → wY_freeSlot_2 post (nI srv) (nI cap) (nI slt) (nI cfg) (nI cl) (fun ix_ => nI (c ix_)) (fun ix_ => nI (ro ix_)) (fun ix_ => nI (l ix_)) (fun ix_ => nI (k ix_)) (cs_fl 5 E) (cs_fl 6 C) (cs_fl 11 m) n (nI j))) := by
  intro d
  induction d with
  | zero =>
    intro j hj
    have h : nI slt ≤ nI j := nI_le (by omega) (by omega)
    refine Or.inr ⟨fun post n hn hp => ?_, fun post n hn hp => ?_⟩
    · obtain ⟨n', rfl⟩ := cs_n1 hn
      exact br_t h hp
    · obtain ⟨n', rfl⟩ := cs_n1 hn
      exact br_t h hp
  | succ d ih =>
    intro j hj
    have h : ¬ nI slt ≤ nI j := nI_ge (by omega) (by omega)
    have ec : (nI j).toNatClampNeg = j := nI_clamp (by omega)
    have ey : (nI j * 11).toNatClampNeg = j * 11 := by rw [cs_m11, nI_clamp (by omega)]
    have vx : vp_in (nI j) 16 := vp_in_nI (by omega) (by omega)
    have vy : vp_in (nI j * 11) 176 := by rw [cs_m11]; exact vp_in_nI (by omega) (by omega)
    have em := cs_Q0 hq (i := j) (by omega)
    by_cases z : G 0 j = 0
    · refine Or.inl ⟨j, by omega, z, fun post n hn hp => ?_, fun post n hn hp => ?_⟩
      · obtain ⟨n', rfl⟩ := cs_n1 hn
        exact br_f h ⟨vx, br_t (by rw [ec]; exact z) hp⟩
      · obtain ⟨n', rfl⟩ := cs_n1 hn
        exact br_f h ⟨vy, br_t (by rw [ey, cs_fr0 (by decide), ← em]; exact z) hp⟩
    · have zx : ¬ G 0 (nI j).toNatClampNeg = 0 := by rw [ec]; exact z
      have zy : ¬ cs_fl 11 m (nI j * 11).toNatClampNeg = 0 := by rw [ey, cs_fr0 (by decide), ← em]; exact z
      rcases ih (j + 1) (by omega) with ⟨i, h1, h2, hx, hy⟩ | ⟨hx, hy⟩
      · refine Or.inl ⟨i, h1, h2, fun post n hn hp => ?_, fun post n hn hp => ?_⟩
        · obtain ⟨n', rfl⟩ := cs_n1 hn
          exact br_f h ⟨vx, br_f zx (nm_r (nI_1 j) (hx post n' (by omega) hp))⟩
        · obtain ⟨n', rfl⟩ := cs_n1 hn
          exact br_f h ⟨vy, br_f zy (nm_r (nI_1 j) (hy post n' (by omega) hp))⟩
      · refine Or.inr ⟨fun post n hn hp => ?_, fun post n hn hp => ?_⟩
        · obtain ⟨n', rfl⟩ := cs_n1 hn
          exact br_f h ⟨vx, br_f zx (nm_r (nI_1 j) (hx post n' (by omega) hp))⟩
        · obtain ⟨n', rfl⟩ := cs_n1 hn
          exact br_f h ⟨vy, br_f zy (nm_r (nI_1 j) (hy post n' (by omega) hp))⟩
theorem cs_fs (hq : cs_Q ok G m) (h16 : slt ≤ 16) :
    (∃ i, i < slt ∧ G 0 i = 0 ∧ (∀ (post : Int32 → Prop), post (nI i) → wpX_freeSlot post (nI srv, nI cap, nI slt, nI cl, nI cfg, jn, (fun ix_ => nI (c ix_)), (fun ix_ => nI (ro ix_)), (fun ix_ => nI (l ix_)), (fun ix_ => nI (k ix_)), va, (E 0), (E 1), (E 2), (E 3), (E 4), (E 5), (C 0), (C 1), (C 2), (C 3), (C 4), (C 5), (G 0), (G 1), (G 2), (G 3), (G 4), (G 5), (G 6), (G 7), (G 8), (G 9), (G 10))) ∧ (∀ (post : Int32 → Prop), post (nI i) → wpY_freeSlot post (nI srv, nI cap, nI slt, nI cfg, nI cl, (fun ix_ => nI (c ix_)), (fun ix_ => nI (ro ix_)), (fun ix_ => nI (l ix_)), (fun ix_ => nI (k ix_)), (cs_fl 5 E), (cs_fl 6 C), (cs_fl 11 m)))) ∨
    ((∀ (post : Int32 → Prop), post (-1) → wpX_freeSlot post (nI srv, nI cap, nI slt, nI cl, nI cfg, jn, (fun ix_ => nI (c ix_)), (fun ix_ => nI (ro ix_)), (fun ix_ => nI (l ix_)), (fun ix_ => nI (k ix_)), va, (E 0), (E 1), (E 2), (E 3), (E 4), (E 5), (C 0), (C 1), (C 2), (C 3), (C 4), (C 5), (G 0), (G 1), (G 2), (G 3), (G 4), (G 5), (G 6), (G 7), (G 8), (G 9), (G 10))) ∧ (∀ (post : Int32 → Prop), post (-1) → wpY_freeSlot post (nI srv, nI cap, nI slt, nI cfg, nI cl, (fun ix_ => nI (c ix_)), (fun ix_ => nI (ro ix_)), (fun ix_ => nI (l ix_)), (fun ix_ => nI (k ix_)), (cs_fl 5 E), (cs_fl 6 C), (cs_fl 11 m)))) := by
  rcases cs_fs0 (srv := srv) (cap := cap) (cl := cl) (cfg := cfg) (jn := jn) (c := c) (ro := ro) (l := l) (k := k) (va := va) (E := E) (C := C) hq h16 slt 0 (by omega) with ⟨i, h1, h2, hx, hy⟩ | ⟨hx, hy⟩
  · exact Or.inl ⟨i, h1, h2, fun post hp => ⟨slt + 1, hx post (slt + 1) (by omega) hp⟩, fun post hp => ⟨slt + 1, hy post (slt + 1) (by omega) hp⟩⟩
  · exact Or.inr ⟨fun post hp => ⟨slt + 1, hx post (slt + 1) (by omega) hp⟩, fun post hp => ⟨slt + 1, hy post (slt + 1) (by omega) hp⟩⟩
theorem cs_xload {post : SX → Prop} {i : Nat} {a0 a1 a2 a3 a4 a5 c6 c7 c8 c9 c10 b6 b7 b8 b9 b10 : Int32} (hi : i < 16)
    (h : post (nI srv, nI cap, nI slt, nI cl, nI cfg, jn, (fun ix_ => nI (c ix_)), (fun ix_ => nI (ro ix_)), (fun ix_ => nI (l ix_)), (fun ix_ => nI (k ix_)), va, (E 0), (E 1), (E 2), (E 3), (E 4), (E 5), (C 0), (C 1), (C 2), (C 3), (C 4), (C 5), ((cs_wm G i (cs_r11 a0 a1 a2 a3 a4 a5 b6 b7 b8 b9 b10)) 0), ((cs_wm G i (cs_r11 a0 a1 a2 a3 a4 a5 b6 b7 b8 b9 b10)) 1), ((cs_wm G i (cs_r11 a0 a1 a2 a3 a4 a5 b6 b7 b8 b9 b10)) 2), ((cs_wm G i (cs_r11 a0 a1 a2 a3 a4 a5 b6 b7 b8 b9 b10)) 3), ((cs_wm G i (cs_r11 a0 a1 a2 a3 a4 a5 b6 b7 b8 b9 b10)) 4), ((cs_wm G i (cs_r11 a0 a1 a2 a3 a4 a5 b6 b7 b8 b9 b10)) 5), ((cs_wm G i (cs_r11 a0 a1 a2 a3 a4 a5 b6 b7 b8 b9 b10)) 6), ((cs_wm G i (cs_r11 a0 a1 a2 a3 a4 a5 b6 b7 b8 b9 b10)) 7), ((cs_wm G i (cs_r11 a0 a1 a2 a3 a4 a5 b6 b7 b8 b9 b10)) 8), ((cs_wm G i (cs_r11 a0 a1 a2 a3 a4 a5 b6 b7 b8 b9 b10)) 9), ((cs_wm G i (cs_r11 a0 a1 a2 a3 a4 a5 b6 b7 b8 b9 b10)) 10))) :
    wpX_load post (nI srv, nI cap, nI slt, nI cl, nI cfg, jn, (fun ix_ => nI (c ix_)), (fun ix_ => nI (ro ix_)), (fun ix_ => nI (l ix_)), (fun ix_ => nI (k ix_)), va, (E 0), (E 1), (E 2), (E 3), (E 4), (E 5), (C 0), (C 1), (C 2), (C 3), (C 4), (C 5), ((cs_wm G i (cs_r11 a0 a1 a2 a3 a4 a5 c6 c7 c8 c9 c10)) 0), ((cs_wm G i (cs_r11 a0 a1 a2 a3 a4 a5 c6 c7 c8 c9 c10)) 1), ((cs_wm G i (cs_r11 a0 a1 a2 a3 a4 a5 c6 c7 c8 c9 c10)) 2), ((cs_wm G i (cs_r11 a0 a1 a2 a3 a4 a5 c6 c7 c8 c9 c10)) 3), ((cs_wm G i (cs_r11 a0 a1 a2 a3 a4 a5 c6 c7 c8 c9 c10)) 4), ((cs_wm G i (cs_r11 a0 a1 a2 a3 a4 a5 c6 c7 c8 c9 c10)) 5), ((cs_wm G i (cs_r11 a0 a1 a2 a3 a4 a5 c6 c7 c8 c9 c10)) 6), ((cs_wm G i (cs_r11 a0 a1 a2 a3 a4 a5 c6 c7 c8 c9 c10)) 7), ((cs_wm G i (cs_r11 a0 a1 a2 a3 a4 a5 c6 c7 c8 c9 c10)) 8), ((cs_wm G i (cs_r11 a0 a1 a2 a3 a4 a5 c6 c7 c8 c9 c10)) 9), ((cs_wm G i (cs_r11 a0 a1 a2 a3 a4 a5 c6 c7 c8 c9 c10)) 10)) (nI i) b6 b7 b8 b9 b10 := by
  have hv : vp_in (nI i) 16 := vp_in_nI hi (by omega)
  unfold wpX_load
  try dsimp only
  rw [nI_clamp (n := i) (by omega)]
  exact ⟨hv, nm_r (e' := cs_wm G i (cs_r11 a0 a1 a2 a3 a4 a5 b6 b7 b8 b9 b10) 6) (cs_uw rfl) ⟨hv, nm_r (e' := cs_wm G i (cs_r11 a0 a1 a2 a3 a4 a5 b6 b7 b8 b9 b10) 7) (cs_uw rfl) ⟨hv, nm_r (e' := cs_wm G i (cs_r11 a0 a1 a2 a3 a4 a5 b6 b7 b8 b9 b10) 8) (cs_uw rfl) ⟨hv, nm_r (e' := cs_wm G i (cs_r11 a0 a1 a2 a3 a4 a5 b6 b7 b8 b9 b10) 9) (cs_uw rfl) ⟨hv, nm_r (e' := cs_wm G i (cs_r11 a0 a1 a2 a3 a4 a5 b6 b7 b8 b9 b10) 10) (cs_uw rfl) h⟩⟩⟩⟩⟩
theorem cs_xpost {post : Int32 → SX → Prop} {i : Nat} {kd fr to nu vl : Int32} (hi : i < 16)
    (hf : ∀ p : Int32 → Prop, p (nI i) → wpX_freeSlot p (nI srv, nI cap, nI slt, nI cl, nI cfg, jn, (fun ix_ => nI (c ix_)), (fun ix_ => nI (ro ix_)), (fun ix_ => nI (l ix_)), (fun ix_ => nI (k ix_)), va, (E 0), (E 1), (E 2), (E 3), (E 4), (E 5), (C 0), (C 1), (C 2), (C 3), (C 4), (C 5), (G 0), (G 1), (G 2), (G 3), (G 4), (G 5), (G 6), (G 7), (G 8), (G 9), (G 10)))
    (h : post (nI i) (nI srv, nI cap, nI slt, nI cl, nI cfg, jn, (fun ix_ => nI (c ix_)), (fun ix_ => nI (ro ix_)), (fun ix_ => nI (l ix_)), (fun ix_ => nI (k ix_)), va, (E 0), (E 1), (E 2), (E 3), (E 4), (E 5), (C 0), (C 1), (C 2), (C 3), (C 4), (C 5), ((cs_wm G i (cs_r11 kd (nI cfg) fr to nu vl 0 0 0 0 0)) 0), ((cs_wm G i (cs_r11 kd (nI cfg) fr to nu vl 0 0 0 0 0)) 1), ((cs_wm G i (cs_r11 kd (nI cfg) fr to nu vl 0 0 0 0 0)) 2), ((cs_wm G i (cs_r11 kd (nI cfg) fr to nu vl 0 0 0 0 0)) 3), ((cs_wm G i (cs_r11 kd (nI cfg) fr to nu vl 0 0 0 0 0)) 4), ((cs_wm G i (cs_r11 kd (nI cfg) fr to nu vl 0 0 0 0 0)) 5), ((cs_wm G i (cs_r11 kd (nI cfg) fr to nu vl 0 0 0 0 0)) 6), ((cs_wm G i (cs_r11 kd (nI cfg) fr to nu vl 0 0 0 0 0)) 7), ((cs_wm G i (cs_r11 kd (nI cfg) fr to nu vl 0 0 0 0 0)) 8), ((cs_wm G i (cs_r11 kd (nI cfg) fr to nu vl 0 0 0 0 0)) 9), ((cs_wm G i (cs_r11 kd (nI cfg) fr to nu vl 0 0 0 0 0)) 10))) :
    wpX_post post (nI srv, nI cap, nI slt, nI cl, nI cfg, jn, (fun ix_ => nI (c ix_)), (fun ix_ => nI (ro ix_)), (fun ix_ => nI (l ix_)), (fun ix_ => nI (k ix_)), va, (E 0), (E 1), (E 2), (E 3), (E 4), (E 5), (C 0), (C 1), (C 2), (C 3), (C 4), (C 5), (G 0), (G 1), (G 2), (G 3), (G 4), (G 5), (G 6), (G 7), (G 8), (G 9), (G 10)) kd fr to nu vl := by
  have hv : vp_in (nI i) 16 := vp_in_nI hi (by omega)
  unfold wpX_post
  refine hf _ (br_t (nI_pos' (by omega)) ?_)
  try dsimp only
  rw [nI_clamp (n := i) (by omega)]
  refine ⟨hv, nm_e ⟨hv, nm_e ⟨hv, nm_e ⟨hv, nm_e ⟨hv, nm_e ⟨hv, nm_e ?_⟩⟩⟩⟩⟩⟩
  unfold wpX_load
  try dsimp only
  rw [nI_clamp (n := i) (by omega)]
  exact ⟨hv, nm_e ⟨hv, nm_e ⟨hv, nm_e ⟨hv, nm_e ⟨hv, nm_e h⟩⟩⟩⟩⟩
theorem cs_ysend {post : Int32 → SY → Prop} {i : Nat} {kd fr to nu vl : Int32} (hi : i < 16)
    (hf : ∀ p : Int32 → Prop, p (nI i) → wpY_freeSlot p (nI srv, nI cap, nI slt, nI cfg, nI cl, (fun ix_ => nI (c ix_)), (fun ix_ => nI (ro ix_)), (fun ix_ => nI (l ix_)), (fun ix_ => nI (k ix_)), (cs_fl 5 E), (cs_fl 6 C), (cs_fl 11 m))) (hz : ∀ f, f < 11 → m f i = 0)
    (h : post (nI i) (nI srv, nI cap, nI slt, nI cfg, nI cl, (fun ix_ => nI (c ix_)), (fun ix_ => nI (ro ix_)), (fun ix_ => nI (l ix_)), (fun ix_ => nI (k ix_)), (cs_fl 5 E), (cs_fl 6 C), (cs_fl 11 (cs_wm m i (cs_r11 kd (nI cfg) fr to nu vl 0 0 0 0 0))))) :
    wpY_send post (nI srv, nI cap, nI slt, nI cfg, nI cl, (fun ix_ => nI (c ix_)), (fun ix_ => nI (ro ix_)), (fun ix_ => nI (l ix_)), (fun ix_ => nI (k ix_)), (cs_fl 5 E), (cs_fl 6 C), (cs_fl 11 m)) kd fr to nu vl := by
  unfold wpY_send
  refine hf _ (br_t (nI_pos' (by omega)) (nm_r (cs_m11 i) ?_))
  try dsimp only
  rw [nI_1, cs_p2, cs_p3, cs_p4, cs_p5, nI_clamp (n := i * 11) (by omega), nI_clamp (n := i * 11 + 1) (by omega), nI_clamp (n := i * 11 + 2) (by omega), nI_clamp (n := i * 11 + 3) (by omega), nI_clamp (n := i * 11 + 4) (by omega), nI_clamp (n := i * 11 + 5) (by omega)]
  exact ⟨vp_in_nI (by omega) (by omega), nm_r (cs_fu0 (by decide)) ⟨vp_in_nI (by omega) (by omega), nm_r (cs_fu (by decide)) ⟨vp_in_nI (by omega) (by omega), nm_r (cs_fu (by decide)) ⟨vp_in_nI (by omega) (by omega), nm_r (cs_fu (by decide)) ⟨vp_in_nI (by omega) (by omega), nm_r (cs_fu (by decide)) ⟨vp_in_nI (by omega) (by omega), nm_r ((cs_fu (by decide)).trans (cs_w6 hz)) h⟩⟩⟩⟩⟩⟩
/-- one message without an update, both sides -/
theorem cs_send (hq : cs_Q ok G m) (h16 : slt ≤ 16) (kd fr to nu vl : Int32) :
    (∃ i, i < 16 ∧ (∀ (post : Int32 → SX → Prop), post (nI i) (nI srv, nI cap, nI slt, nI cl, nI cfg, jn, (fun ix_ => nI (c ix_)), (fun ix_ => nI (ro ix_)), (fun ix_ => nI (l ix_)), (fun ix_ => nI (k ix_)), va, (E 0), (E 1), (E 2), (E 3), (E 4), (E 5), (C 0), (C 1), (C 2), (C 3), (C 4), (C 5), ((cs_wm G i (cs_r11 kd (nI cfg) fr to nu vl 0 0 0 0 0)) 0), ((cs_wm G i (cs_r11 kd (nI cfg) fr to nu vl 0 0 0 0 0)) 1), ((cs_wm G i (cs_r11 kd (nI cfg) fr to nu vl 0 0 0 0 0)) 2), ((cs_wm G i (cs_r11 kd (nI cfg) fr to nu vl 0 0 0 0 0)) 3), ((cs_wm G i (cs_r11 kd (nI cfg) fr to nu vl 0 0 0 0 0)) 4), ((cs_wm G i (cs_r11 kd (nI cfg) fr to nu vl 0 0 0 0 0)) 5), ((cs_wm G i (cs_r11 kd (nI cfg) fr to nu vl 0 0 0 0 0)) 6), ((cs_wm G i (cs_r11 kd (nI cfg) fr to nu vl 0 0 0 0 0)) 7), ((cs_wm G i (cs_r11 kd (nI cfg) fr to nu vl 0 0 0 0 0)) 8), ((cs_wm G i (cs_r11 kd (nI cfg) fr to nu vl 0 0 0 0 0)) 9), ((cs_wm G i (cs_r11 kd (nI cfg) fr to nu vl 0 0 0 0 0)) 10)) → wpX_post post (nI srv, nI cap, nI slt, nI cl, nI cfg, jn, (fun ix_ => nI (c ix_)), (fun ix_ => nI (ro ix_)), (fun ix_ => nI (l ix_)), (fun ix_ => nI (k ix_)), va, (E 0), (E 1), (E 2), (E 3), (E 4), (E 5), (C 0), (C 1), (C 2), (C 3), (C 4), (C 5), (G 0), (G 1), (G 2), (G 3), (G 4), (G 5), (G 6), (G 7), (G 8), (G 9), (G 10)) kd fr to nu vl) ∧
      (∀ (post : Int32 → SY → Prop), post (nI i) (nI srv, nI cap, nI slt, nI cfg, nI cl, (fun ix_ => nI (c ix_)), (fun ix_ => nI (ro ix_)), (fun ix_ => nI (l ix_)), (fun ix_ => nI (k ix_)), (cs_fl 5 E), (cs_fl 6 C), (cs_fl 11 (cs_wm m i (cs_r11 kd (nI cfg) fr to nu vl 0 0 0 0 0)))) → wpY_send post (nI srv, nI cap, nI slt, nI cfg, nI cl, (fun ix_ => nI (c ix_)), (fun ix_ => nI (ro ix_)), (fun ix_ => nI (l ix_)), (fun ix_ => nI (k ix_)), (cs_fl 5 E), (cs_fl 6 C), (cs_fl 11 m)) kd fr to nu vl)) ∨
    ((∀ (post : Int32 → SX → Prop), post (-1) (nI srv, nI cap, nI slt, nI cl, nI cfg, jn, (fun ix_ => nI (c ix_)), (fun ix_ => nI (ro ix_)), (fun ix_ => nI (l ix_)), (fun ix_ => nI (k ix_)), va, (E 0), (E 1), (E 2), (E 3), (E 4), (E 5), (C 0), (C 1), (C 2), (C 3), (C 4), (C 5), (G 0), (G 1), (G 2), (G 3), (G 4), (G 5), (G 6), (G 7), (G 8), (G 9), (G 10)) → wpX_post post (nI srv, nI cap, nI slt, nI cl, nI cfg, jn, (fun ix_ => nI (c ix_)), (fun ix_ => nI (ro ix_)), (fun ix_ => nI (l ix_)), (fun ix_ => nI (k ix_)), va, (E 0), (E 1), (E 2), (E 3), (E 4), (E 5), (C 0), (C 1), (C 2), (C 3), (C 4), (C 5), (G 0), (G 1), (G 2), (G 3), (G 4), (G 5), (G 6), (G 7), (G 8), (G 9), (G 10)) kd fr to nu vl) ∧ (∀ (post : Int32 → SY → Prop), post (-1) (nI srv, nI cap, nI slt, nI cfg, nI cl, (fun ix_ => nI (c ix_)), (fun ix_ => nI (ro ix_)), (fun ix_ => nI (l ix_)), (fun ix_ => nI (k ix_)), (cs_fl 5 E), (cs_fl 6 C), (cs_fl 11 m)) → wpY_send post (nI srv, nI cap, nI slt, nI cfg, nI cl, (fun ix_ => nI (c ix_)), (fun ix_ => nI (ro ix_)), (fun ix_ => nI (l ix_)), (fun ix_ => nI (k ix_)), (cs_fl 5 E), (cs_fl 6 C), (cs_fl 11 m)) kd fr to nu vl)) := by
  rcases cs_fs (srv := srv) (cap := cap) (cl := cl) (cfg := cfg) (jn := jn) (c := c) (ro := ro) (l := l) (k := k) (va := va) (E := E) (C := C) hq h16 with ⟨i, h1, h2, hx, hy⟩ | ⟨hx, hy⟩
  · exact Or.inl ⟨i, by omega, fun post hp => cs_xpost (by omega) hx hp, fun post hp => cs_ysend (by omega) hy (cs_Qf hq (by omega) h2) hp⟩
  · refine Or.inr ⟨fun post hp => ?_, fun post hp => ?_⟩
    · unfold wpX_post
      exact hx _ (br_f cs_nm1 hp)
    · unfold wpY_send
      exact hy _ (br_f cs_nm1 hp)
theorem cs_pl0 (h5 : cl ≤ 5) (hc : ∀ i, c i < 5) {s : Nat} (hs : s < 5) : ∀ d j, j + d = cl →
    (∃ i, i < cl ∧ c i = s ∧ (∀ (post : Int32 → Prop) n, d < n → post (nI i) → wX_placeOf_2 post (nI s) (nI srv) (nI cap) (nI slt) (nI cl) (nI cfg) jn (fun ix_ => nI (c ix_)) (fun ix_ => nI (ro ix_)) (fun ix_ => nI (l ix_)) (fun ix_ => nI (k ix_)) va (E 0) (E 1) (E 2) (E 3) (E 4) (E 5) (C 0) (C 1) (C 2) (C 3) (C 4) (C 5) (G 0) (G 1) (G 2) (G 3) (G 4) (G 5) (G 6) (G 7) (G 8) (G 9) (G 10) n (nI j)) ∧ (∀ (post : Int32 → Prop) n, d < n → post (nI i) → wY_placeOf_2 post (nI s) (nI srv) (nI cap) (nI slt) (nI cfg) (nI cl) (fun ix_ => nI (c ix_)) (fun ix_ => nI (ro ix_)) (fun ix_ => nI (l ix_)) (fun ix_ => nI (k ix_)) (cs_fl 5 E) (cs_fl 6 C) (cs_fl 11 m) n (nI j))) ∨
    ((∀ i, j ≤ i → i < cl → c i ≠ s) ∧ (∀ (post : Int32 → Prop) n, d < n → post (-1) → wX_placeOf_2 post (nI s) (nI srv) (nI cap) (nI slt) (nI cl) (nI cfg) jn (fun ix_ => nI (c ix_)) (fun ix_ => nI (ro ix_)) (fun ix_ => nI (l ix_)) (fun ix_ => nI (k ix_)) va (E 0) (E 1) (E 2) (E 3) (E 4) (E 5) (C 0) (C 1) (C 2) (C 3) (C 4) (C 5) (G 0) (G 1) (G 2) (G 3) (G 4) (G 5) (G 6) (G 7) (G 8) (G 9) (G 10) n (nI j)) ∧ (∀ (post : Int32 → Prop) n, d < n → post (-1) → wY_placeOf_2 post (nI s) (nI srv) (nI cap) (nI slt) (nI cfg) (nI cl) (fun ix_ => nI (c ix_)) (fun ix_ => nI (ro ix_)) (fun ix_ => nI (l ix_)) (fun ix_ => nI (k ix_)) (cs_fl 5 E) (cs_fl 6 C) (cs_fl 11 m) n (nI j))) := by
  intro d
  induction d with
  | zero =>
    intro j hj
    have h : nI cl ≤ nI j := nI_le (by omega) (by omega)
    refine Or.inr ⟨fun i h1 h2 => by omega, fun post n hn hp => ?_, fun post n hn hp => ?_⟩
    · obtain ⟨n', rfl⟩ := cs_n1 hn
      exact br_t h hp
    · obtain ⟨n', rfl⟩ := cs_n1 hn
      exact br_t h hp
  | succ d ih =>
    intro j hj
    have h : ¬ nI cl ≤ nI j := nI_ge (by omega) (by omega)
    have ec : (nI j).toNatClampNeg = j := nI_clamp (by omega)
    have vx : vp_in (nI j) 5 := vp_in_nI (by omega) (by omega)
    have hcj := hc j
    by_cases z : c j = s
    · have zx : nI (c (nI j).toNatClampNeg) = nI s := by rw [ec, z]
      refine Or.inl ⟨j, by omega, z, fun post n hn hp => ?_, fun post n hn hp => ?_⟩
      · obtain ⟨n', rfl⟩ := cs_n1 hn
        exact br_f h ⟨vx, br_t zx hp⟩
      · obtain ⟨n', rfl⟩ := cs_n1 hn
        exact br_f h ⟨vx, br_t zx hp⟩
    · have zx : ¬ nI (c (nI j).toNatClampNeg) = nI s := by
        rw [ec]; exact fun e => z (cs_im e (by omega) (by omega))
      rcases ih (j + 1) (by omega) with ⟨i, h1, h2, hx, hy⟩ | ⟨h0, hx, hy⟩
      · refine Or.inl ⟨i, h1, h2, fun post n hn hp => ?_, fun post n hn hp => ?_⟩
        · obtain ⟨n', rfl⟩ := cs_n1 hn
          exact br_f h ⟨vx, br_f zx (nm_r (nI_1 j) (hx post n' (by omega) hp))⟩
        · obtain ⟨n', rfl⟩ := cs_n1 hn
          exact br_f h ⟨vx, br_f zx (nm_r (nI_1 j) (hy post n' (by omega) hp))⟩
      · refine Or.inr ⟨fun i hi hi2 => ?_, fun post n hn hp => ?_, fun post n hn hp => ?_⟩
        · by_cases e : i = j
          · rw [e]; exact z
          · exact h0 i (by omega) hi2
        · obtain ⟨n', rfl⟩ := cs_n1 hn
          exact br_f h ⟨vx, br_f zx (nm_r (nI_1 j) (hx post n' (by omega) hp))⟩
        · obtain ⟨n', rfl⟩ := cs_n1 hn
          exact br_f h ⟨vx, br_f zx (nm_r (nI_1 j) (hy post n' (by omega) hp))⟩
theorem cs_pl (h5 : cl ≤ 5) (hc : ∀ i, c i < 5) {s : Nat} (hs : s < 5) :
    (∃ i, i < cl ∧ c i = s ∧ (∀ (post : Int32 → Prop), post (nI i) → wpX_placeOf post (nI srv, nI cap, nI slt, nI cl, nI cfg, jn, (fun ix_ => nI (c ix_)), (fun ix_ => nI (ro ix_)), (fun ix_ => nI (l ix_)), (fun ix_ => nI (k ix_)), va, (E 0), (E 1), (E 2), (E 3), (E 4), (E 5), (C 0), (C 1), (C 2), (C 3), (C 4), (C 5), (G 0), (G 1), (G 2), (G 3), (G 4), (G 5), (G 6), (G 7), (G 8), (G 9), (G 10)) (nI s)) ∧ (∀ (post : Int32 → Prop), post (nI i) → wpY_placeOf post (nI srv, nI cap, nI slt, nI cfg, nI cl, (fun ix_ => nI (c ix_)), (fun ix_ => nI (ro ix_)), (fun ix_ => nI (l ix_)), (fun ix_ => nI (k ix_)), (cs_fl 5 E), (cs_fl 6 C), (cs_fl 11 m)) (nI s))) ∨
    ((∀ i, i < cl → c i ≠ s) ∧ (∀ (post : Int32 → Prop), post (-1) → wpX_placeOf post (nI srv, nI cap, nI slt, nI cl, nI cfg, jn, (fun ix_ => nI (c ix_)), (fun ix_ => nI (ro ix_)), (fun ix_ => nI (l ix_)), (fun ix_ => nI (k ix_)), va, (E 0), (E 1), (E 2), (E 3), (E 4), (E 5), (C 0), (C 1), (C 2), (C 3), (C 4), (C 5), (G 0), (G 1), (G 2), (G 3), (G 4), (G 5), (G 6), (G 7), (G 8), (G 9), (G 10)) (nI s)) ∧ (∀ (post : Int32 → Prop), post (-1) → wpY_placeOf post (nI srv, nI cap, nI slt, nI cfg, nI cl, (fun ix_ => nI (c ix_)), (fun ix_ => nI (ro ix_)), (fun ix_ => nI (l ix_)), (fun ix_ => nI (k ix_)), (cs_fl 5 E), (cs_fl 6 C), (cs_fl 11 m)) (nI s))) := by
  rcases cs_pl0 (srv := srv) (cap := cap) (slt := slt) (cfg := cfg) (jn := jn) (ro := ro) (l := l) (k := k) (va := va) (E := E) (C := C) (G := G) (m := m) h5 hc hs cl 0 (by omega) with ⟨i, h1, h2, hx, hy⟩ | ⟨h0, hx, hy⟩
  · exact Or.inl ⟨i, h1, h2, fun post hp => ⟨cl + 1, hx post (cl + 1) (by omega) hp⟩, fun post hp => ⟨cl + 1, hy post (cl + 1) (by omega) hp⟩⟩
  · exact Or.inr ⟨fun i hi => h0 i (by omega) hi, fun post hp => ⟨cl + 1, hx post (cl + 1) (by omega) hp⟩, fun post hp => ⟨cl + 1, hy post (cl + 1) (by omega) hp⟩⟩
end cs_snd
end
section
section cs_msg
variable {srv cap slt cl cfg : Nat} {jn : Int32} {c ro l k : Nat → Nat} {va : Nat → Int32} {E C G m : Nat → Nat → Int32} {mu : Nat} {Mc Mn : Nat → Int32} {ok : (Nat → Int32) → Prop}
theorem cs_Rs {g : Nat → Int32} (h0 : g 0 ≠ 0) (hok : ok g) : cs_R ok g g := ⟨rfl, fun z => absurd z h0, fun _ => ⟨hok, rfl, rfl, rfl, rfl, rfl, fun _ => ⟨rfl, rfl, rfl, rfl, rfl⟩⟩⟩
theorem cs_xcell {post : Int32 → Prop} {u : SX} {s p : Nat} (h : post (nI (s * 48 + p))) : wpX_cell post u (nI s) (nI (p + 1)) := by
  have h' : post (nI s * 48 + nI (p + 1) - 1) := by rw [cs_cell]; exact h
  exact h'
/-- the ACK -/
theorem cs_ack (hA : cs_A srv cap slt cl cfg jn c ro l k) (hq : cs_Q (cs_ok srv cap cfg cl c ro l mu Mc Mn) G m) {s n : Nat} (hs : s < srv) (hn : n ≤ cap) :
    ∃ r G' m', cs_Q (cs_ok srv cap cfg cl c ro l mu Mc Mn) G' m' ∧ (∀ post : Int32 → SX → Prop, post r (nI srv, nI cap, nI slt, nI cl, nI cfg, jn, (fun ix_ => nI (c ix_)), (fun ix_ => nI (ro ix_)), (fun ix_ => nI (l ix_)), (fun ix_ => nI (k ix_)), va, (E 0), (E 1), (E 2), (E 3), (E 4), (E 5), (C 0), (C 1), (C 2), (C 3), (C 4), (C 5), (G' 0), (G' 1), (G' 2), (G' 3), (G' 4), (G' 5), (G' 6), (G' 7), (G' 8), (G' 9), (G' 10)) → wpX_sendAck post (nI srv, nI cap, nI slt, nI cl, nI cfg, jn, (fun ix_ => nI (c ix_)), (fun ix_ => nI (ro ix_)), (fun ix_ => nI (l ix_)), (fun ix_ => nI (k ix_)), va, (E 0), (E 1), (E 2), (E 3), (E 4), (E 5), (C 0), (C 1), (C 2), (C 3), (C 4), (C 5), (G 0), (G 1), (G 2), (G 3), (G 4), (G 5), (G 6), (G 7), (G 8), (G 9), (G 10)) (nI s) (nI n)) ∧ (∀ post : Int32 → SY → Prop, post r (nI srv, nI cap, nI slt, nI cfg, nI cl, (fun ix_ => nI (c ix_)), (fun ix_ => nI (ro ix_)), (fun ix_ => nI (l ix_)), (fun ix_ => nI (k ix_)), (cs_fl 5 E), (cs_fl 6 C), (cs_fl 11 m')) → wpY_sendAck post (nI srv, nI cap, nI slt, nI cfg, nI cl, (fun ix_ => nI (c ix_)), (fun ix_ => nI (ro ix_)), (fun ix_ => nI (l ix_)), (fun ix_ => nI (k ix_)), (cs_fl 5 E), (cs_fl 6 C), (cs_fl 11 m)) (nI s) (nI n)) := by
  obtain ⟨⟨b1, b2, b3, b4, b5, b6, b7, b8, b9⟩, hc, _⟩ := hA
  rcases cs_pl (srv := srv) (cap := cap) (slt := slt) (cl := cl) (cfg := cfg) (jn := jn) (c := c) (ro := ro) (l := l) (k := k) (va := va) (E := E) (C := C) (G := G) (m := m) (by omega) (fun i => by have := hc i; omega) (by omega : s < 5) with ⟨i, h1, h2, hx, hy⟩ | ⟨h0, hx, hy⟩
  · cases i with
    | zero =>
      refine ⟨0, G, m, hq, fun post hp => ?_, fun post hp => ?_⟩
      · unfold wpX_sendAck
        exact hx _ (br_f (by decide) hp)
      · unfold wpY_sendAck
        exact hy _ (br_f (by decide) hp)
    | succ i =>
      have x1 : (0 : Int32) < nI (i + 1) := cs_0lt (by omega) (by omega)
      have y1 : (1 : Int32) ≤ nI (i + 1) := nI_le (a := 1) (by omega) (by omega)
      have v1 : vp_in (nI i) 5 := vp_in_nI (by omega) (by omega)
      have ec : (nI i).toNatClampNeg = i := nI_clamp (by omega)
      rcases cs_send (srv := srv) (cap := cap) (slt := slt) (cl := cl) (cfg := cfg) (jn := jn) (c := c) (ro := ro) (l := l) (k := k) (va := va) (E := E) (C := C) (G := G) (m := m) hq b6 4 (nI s) (nI (c i)) (nI n) 0 with ⟨x, hx16, sx, sy⟩ | ⟨sx, sy⟩
      · refine ⟨1, _, _, cs_Qw (i := x) hq (cs_Rs (g := cs_r11 4 (nI cfg) (nI s) (nI (c i)) (nI n) 0 0 0 0 0 0) (by show (4 : Int32) ≠ 0; decide) ⟨cfg, Nat.le_refl _, rfl, Or.inr (Or.inr (Or.inr (Or.inr ⟨rfl, ⟨c i, hc i, rfl⟩, n, hn, rfl⟩)))⟩), fun post hp => ?_, fun post hp => ?_⟩
        · unfold wpX_sendAck
          refine hx _ (br_t x1 ?_)
          rw [nI_pred i, ec]
          exact ⟨v1, sx _ (br_t (nI_pos' (by omega)) hp)⟩
        · unfold wpY_sendAck
          refine hy _ (br_t y1 ?_)
          rw [nI_pred i, ec]
          exact ⟨v1, sy _ (br_t (nI_pos' (by omega)) hp)⟩
      · refine ⟨0, G, m, hq, fun post hp => ?_, fun post hp => ?_⟩
        · unfold wpX_sendAck
          refine hx _ (br_t x1 ?_)
          rw [nI_pred i, ec]
          exact ⟨v1, sx _ (br_f cs_nm1 hp)⟩
        · unfold wpY_sendAck
          refine hy _ (br_t y1 ?_)
          rw [nI_pred i, ec]
          exact ⟨v1, sy _ (br_f cs_nm1 hp)⟩
  · refine ⟨0, G, m, hq, fun post hp => ?_, fun post hp => ?_⟩
    · unfold wpX_sendAck
      exact hx _ (br_f (by decide) hp)
    · unfold wpY_sendAck
      exact hy _ (br_f (by decide) hp)
theorem cs_yfl {post : Int32 → SY → Prop} {i s p : Nat} {r : Nat → Int32} (hi : i < 16) (hs : s < 5) (hp : p < 48) (hr : ∀ f, f < 5 → r (6 + f) = E f (s * 48 + p)) (h : post 1 (nI srv, nI cap, nI slt, nI cfg, nI cl, (fun ix_ => nI (c ix_)), (fun ix_ => nI (ro ix_)), (fun ix_ => nI (l ix_)), (fun ix_ => nI (k ix_)), (cs_fl 5 E), (cs_fl 6 C), (cs_fl 11 (cs_pw m i r 6 11)))) :
    ∀ d j, j + d = 5 → ∀ n, d < n → wY_sendForward_50 post (nI s) (nI (p + 1)) (nI i) (nI srv) (nI cap) (nI slt) (nI cfg) (nI cl) n (nI j) (fun ix_ => nI (c ix_)) (fun ix_ => nI (ro ix_)) (fun ix_ => nI (l ix_)) (fun ix_ => nI (k ix_)) (cs_fl 5 E) (cs_fl 6 C) (cs_fl 11 (cs_pw m i r 6 (6 + j))) := by
  intro d
  induction d with
  | zero =>
    intro j hj n hn
    obtain ⟨n', rfl⟩ := cs_n1 hn
    obtain rfl : j = 5 := by omega
    exact br_t (nI_le (a := 5) (b := 5) (by omega) (by omega)) h
  | succ d ih =>
    intro j hj n hn
    obtain ⟨n', rfl⟩ := cs_n1 hn
    refine br_f (nI_ge (a := j) (b := 5) (by omega) (by omega)) ?_
    rw [cs_cell, cs_m5, nI_add, cs_m11, cs_p6, nI_add, nI_clamp (n := (s * 48 + p) * 5 + j) (by omega), nI_clamp (n := i * 11 + 6 + j) (by omega), cs_fr (by omega), Nat.add_assoc (i * 11) 6 j]
    refine ⟨vp_in_nI (by omega) (by omega), vp_in_nI (by omega) (by omega), nm_r (e' := cs_fl 11 (cs_pw m i r 6 (6 + (j + 1)))) ?_ (nm_r (nI_1 j) (ih (j + 1) (by omega) n' (by omega)))⟩
    rw [cs_fu (by omega), ← hr j (by omega), cs_pws (by omega)]
    rfl
/-- the FORWARD -/
theorem cs_fwd (hA : cs_A srv cap slt cl cfg jn c ro l k) (hE : cs_Ev l va E) (hG : cs_Gh srv cl c ro l E mu Mc Mn) (hq : cs_Q (cs_ok srv cap cfg cl c ro l mu Mc Mn) G m) {s p : Nat} (hs : s < srv) (hr1 : ro s = 1) (hp : p < l s) :
    ∃ r G' m', cs_Q (cs_ok srv cap cfg cl c ro l mu Mc Mn) G' m' ∧ (∀ post : Int32 → SX → Prop, post r (nI srv, nI cap, nI slt, nI cl, nI cfg, jn, (fun ix_ => nI (c ix_)), (fun ix_ => nI (ro ix_)), (fun ix_ => nI (l ix_)), (fun ix_ => nI (k ix_)), va, (E 0), (E 1), (E 2), (E 3), (E 4), (E 5), (C 0), (C 1), (C 2), (C 3), (C 4), (C 5), (G' 0), (G' 1), (G' 2), (G' 3), (G' 4), (G' 5), (G' 6), (G' 7), (G' 8), (G' 9), (G' 10)) → wpX_sendForward post (nI srv, nI cap, nI slt, nI cl, nI cfg, jn, (fun ix_ => nI (c ix_)), (fun ix_ => nI (ro ix_)), (fun ix_ => nI (l ix_)), (fun ix_ => nI (k ix_)), va, (E 0), (E 1), (E 2), (E 3), (E 4), (E 5), (C 0), (C 1), (C 2), (C 3), (C 4), (C 5), (G 0), (G 1), (G 2), (G 3), (G 4), (G 5), (G 6), (G 7), (G 8), (G 9), (G 10)) (nI s) (nI (p + 1))) ∧ (∀ post : Int32 → SY → Prop, post r (nI srv, nI cap, nI slt, nI cfg, nI cl, (fun ix_ => nI (c ix_)), (fun ix_ => nI (ro ix_)), (fun ix_ => nI (l ix_)), (fun ix_ => nI (k ix_)), (cs_fl 5 E), (cs_fl 6 C), (cs_fl 11 m')) → wpY_sendForward post (nI srv, nI cap, nI slt, nI cfg, nI cl, (fun ix_ => nI (c ix_)), (fun ix_ => nI (ro ix_)), (fun ix_ => nI (l ix_)), (fun ix_ => nI (k ix_)), (cs_fl 5 E), (cs_fl 6 C), (cs_fl 11 m)) (nI s) (nI (p + 1))) := by
  obtain ⟨⟨b1, b2, b3, b4, b5, b6, b7, b8, b9⟩, hc, hro, hl, _⟩ := hA
  have hls := hl s
  rcases cs_pl (srv := srv) (cap := cap) (slt := slt) (cl := cl) (cfg := cfg) (jn := jn) (c := c) (ro := ro) (l := l) (k := k) (va := va) (E := E) (C := C) (G := G) (m := m) (by omega) (fun i => by have := hc i; omega) (by omega : s < 5) with ⟨i, h1, h2, hx, hy⟩ | ⟨h0, hx, hy⟩
  · by_cases hi : i + 1 < cl
    · have v1 : vp_in (nI (i + 1)) 5 := vp_in_nI (by omega) (by omega)
      have v2 : vp_in (nI (s * 48 + p)) 240 := vp_in_nI (by omega) (by omega)
      have ec : (nI (i + 1)).toNatClampNeg = i + 1 := nI_clamp (by omega)
      have ee : (nI (s * 48 + p)).toNatClampNeg = s * 48 + p := nI_clamp (by omega)
      have x0 : ¬ nI i < 0 := nI_pos (by omega)
      have x1 : nI (i + 1) < nI cl := nI_lt hi (by omega)
      rcases cs_send (srv := srv) (cap := cap) (slt := slt) (cl := cl) (cfg := cfg) (jn := jn) (c := c) (ro := ro) (l := l) (k := k) (va := va) (E := E) (C := C) (G := G) (m := m) hq b6 3 (nI s) (nI (c (i + 1))) (nI (p + 1)) 0 with ⟨x, hx16, sx, sy⟩ | ⟨sx, sy⟩
      · refine ⟨1, cs_wm G x (cs_r11 3 (nI cfg) (nI s) (nI (c (i + 1))) (nI (p + 1)) 0 (E 0 (s * 48 + p)) (E 1 (s * 48 + p)) (E 2 (s * 48 + p)) (E 3 (s * 48 + p)) (E 4 (s * 48 + p))), cs_wm m x (cs_r11 3 (nI cfg) (nI s) (nI (c (i + 1))) (nI (p + 1)) 0 (E 0 (s * 48 + p)) (E 1 (s * 48 + p)) (E 2 (s * 48 + p)) (E 3 (s * 48 + p)) (E 4 (s * 48 + p))), cs_Qw (i := x) hq (cs_Rs (g := cs_r11 3 (nI cfg) (nI s) (nI (c (i + 1))) (nI (p + 1)) 0 (E 0 (s * 48 + p)) (E 1 (s * 48 + p)) (E 2 (s * 48 + p)) (E 3 (s * 48 + p)) (E 4 (s * 48 + p))) (by show (3 : Int32) ≠ 0; decide) ⟨cfg, Nat.le_refl _, rfl, Or.inr (Or.inr (Or.inr (Or.inl ⟨rfl, hE.1 _, hE.2.1 _, c (i + 1), p + 1, hc _, rfl, by omega, by omega, rfl, fun _ => ?_⟩)))⟩), fun post hp => ?_, fun post hp => ?_⟩
        · obtain ⟨g1, g2, g3, g4, g5⟩ := hG
          obtain ⟨g6, g7⟩ := g2 s hs (Or.inl hr1)
          refine ⟨by omega, (g7 p hp).1, (g7 p hp).2, i + 1, by omega, hi, rfl, fun i' hi' hr' => ?_⟩
          by_cases e : i' = i
          · rw [e, h2]; omega
          · have g8 := g3 i' i (by omega) h1 hr' (by rw [h2]; exact hr1)
            rw [h2] at g8
            omega
        · unfold wpX_sendForward
          refine hx _ (br_f x0 ?_)
          rw [nI_1, ec]
          refine br_t x1 ⟨v1, sx _ (br_t (nI_pos' (by omega)) (cs_xcell ?_))⟩
          rw [ee]
          exact ⟨v2, v2, v2, v2, v2, cs_xload hx16 hp⟩
        · unfold wpY_sendForward
          refine hy _ (br_f x0 ?_)
          rw [nI_1, ec]
          refine br_t x1 ⟨v1, sy _ (br_t (nI_pos' (by omega)) ⟨6, ?_⟩)⟩
          have e5 := cs_w5 (m := m) (i := x) (a0 := 3) (a1 := nI cfg) (a2 := nI s) (a3 := nI (c (i + 1))) (a4 := nI (p + 1)) (a5 := 0) (b6 := 0) (b7 := 0) (b8 := 0) (b9 := 0) (b10 := 0) (r := fun f => E (f - 6) (s * 48 + p))
          have hp' : post 1 (nI srv, nI cap, nI slt, nI cfg, nI cl, (fun ix_ => nI (c ix_)), (fun ix_ => nI (ro ix_)), (fun ix_ => nI (l ix_)), (fun ix_ => nI (k ix_)), (cs_fl 5 E), (cs_fl 6 C), (cs_fl 11 (cs_pw (cs_wm m x (cs_r11 3 (nI cfg) (nI s) (nI (c (i + 1))) (nI (p + 1)) 0 0 0 0 0 0)) x (fun f => E (f - 6) (s * 48 + p)) 6 11))) := by rw [e5]; exact hp
          have h9 := cs_yfl (r := fun f => E (f - 6) (s * 48 + p)) (p := p) (s := s) hx16 (by omega) (by omega) (fun f _ => by show E (6 + f - 6) _ = _; rw [Nat.add_sub_cancel_left]) hp' 5 0 (by omega) 6 (by omega)
          rw [cs_pw0] at h9
          exact h9
      · refine ⟨0, G, m, hq, fun post hp => ?_, fun post hp => ?_⟩
        · unfold wpX_sendForward
          refine hx _ (br_f x0 ?_)
          rw [nI_1, ec]
          exact br_t x1 ⟨v1, sx _ (br_f cs_nm1 hp)⟩
        · unfold wpY_sendForward
          refine hy _ (br_f x0 ?_)
          rw [nI_1, ec]
          exact br_t x1 ⟨v1, sy _ (br_f cs_nm1 hp)⟩
    · have x0 : ¬ nI i < 0 := nI_pos (by omega)
      have x1 : ¬ nI i + 1 < nI cl := by rw [nI_1]; exact nI_nlt (by omega) (by omega)
      refine ⟨0, G, m, hq, fun post hp => ?_, fun post hp => ?_⟩
      · unfold wpX_sendForward
        exact hx _ (br_f x0 (br_f x1 hp))
      · unfold wpY_sendForward
        exact hy _ (br_f x0 (br_f x1 hp))
  · refine ⟨0, G, m, hq, fun post hp => ?_, fun post hp => ?_⟩
    · unfold wpX_sendForward
      exact hx _ (br_t cs_m1lt hp)
    · unfold wpY_sendForward
      exact hy _ (br_t cs_m1lt hp)
theorem cs_yv0 {post : Int32 → Prop} {s N : Nat} {key : Int32} (hs : s < 5) (hN : N ≤ 48) (h : post (cs_v E s key N)) :
    ∀ d i, i + d = N → ∀ n, d < n → wY_valueAfter_6 post (nI s) key (nI N) (nI srv) (nI cap) (nI slt) (nI cfg) (nI cl) (fun ix_ => nI (c ix_)) (fun ix_ => nI (ro ix_)) (fun ix_ => nI (l ix_)) (fun ix_ => nI (k ix_)) (cs_fl 5 E) (cs_fl 6 C) (cs_fl 11 m) n (cs_v E s key i) (nI i) := by
  intro d
  induction d with
  | zero =>
    intro i hi n hn
    obtain ⟨n', rfl⟩ := cs_n1 hn
    obtain rfl : i = N := by omega
    exact br_t (nI_le (by omega) (by omega)) h
  | succ d ih =>
    intro i hi n hn
    obtain ⟨n', rfl⟩ := cs_n1 hn
    refine br_f (nI_ge (by omega) (by omega)) (nm_r (e' := nI ((s * 48 + i) * 5)) (by rw [cs_m48, nI_add, cs_m5]) ?_)
    rw [cs_p2, cs_p3, cs_p4, nI_clamp (n := (s * 48 + i) * 5 + 2) (by omega), nI_clamp (n := (s * 48 + i) * 5 + 3) (by omega), nI_clamp (n := (s * 48 + i) * 5 + 4) (by omega), cs_fr (by decide), cs_fr (by decide), cs_fr (by decide)]
    have h9 := ih (i + 1) (by omega) n' (by omega)
    rw [cs_vS] at h9
    refine ⟨vp_in_nI (by omega) (by omega), br_c (fun h3 => ⟨vp_in_nI (by omega) (by omega), br_c (fun h2 => ⟨vp_in_nI (by omega) (by omega), nm_e (nm_r (nI_1 i) ?_)⟩) (fun h2 => ⟨vp_in_nI (by omega) (by omega), nm_e (nm_r (nI_1 i) ?_)⟩)⟩) (fun h3 => nm_r (nI_1 i) ?_)⟩
    · rw [if_pos h3, if_pos h2] at h9; exact h9
    · rw [if_pos h3, if_neg h2] at h9; exact h9
    · rw [if_neg h3] at h9; exact h9
theorem cs_yval {post : Int32 → Prop} {s N : Nat} {key : Int32} (hs : s < 5) (hN : N ≤ 48) (h : post (cs_v E s key N)) : wpY_valueAfter post (nI srv, nI cap, nI slt, nI cfg, nI cl, (fun ix_ => nI (c ix_)), (fun ix_ => nI (ro ix_)), (fun ix_ => nI (l ix_)), (fun ix_ => nI (k ix_)), (cs_fl 5 E), (cs_fl 6 C), (cs_fl 11 m)) (nI s) key (nI N) :=
  ⟨N + 1, cs_yv0 hs hN h N 0 (by omega) (N + 1) (by omega)⟩
theorem cs_yres {post : Int32 → Prop} {s p : Nat} (hs : s < 5) (hp : p < 48) (h : post (cs_v E s (E 3 (s * 48 + p)) p)) : wpY_result post (nI srv, nI cap, nI slt, nI cfg, nI cl, (fun ix_ => nI (c ix_)), (fun ix_ => nI (ro ix_)), (fun ix_ => nI (l ix_)), (fun ix_ => nI (k ix_)), (cs_fl 5 E), (cs_fl 6 C), (cs_fl 11 m)) (nI s) (nI (p + 1)) := by
  unfold wpY_result
  try dsimp only
  rw [cs_cell, cs_m5, cs_p3, nI_clamp (n := (s * 48 + p) * 5 + 3) (by omega), cs_fr (by decide), nI_pred p]
  exact ⟨vp_in_nI (by omega) (by omega), cs_yval hs (by omega) h⟩
/-- the REPLY to the client of an update -/
theorem cs_rep (hA : cs_A srv cap slt cl cfg jn c ro l k) (hE : cs_Ev l va E) (hq : cs_Q (cs_ok srv cap cfg cl c ro l mu Mc Mn) G m) {s p : Nat} (hs : s < srv) (hp : p < l s) :
    ∃ G' m', cs_Q (cs_ok srv cap cfg cl c ro l mu Mc Mn) G' m' ∧ (∀ post : SX → Prop, post (nI srv, nI cap, nI slt, nI cl, nI cfg, jn, (fun ix_ => nI (c ix_)), (fun ix_ => nI (ro ix_)), (fun ix_ => nI (l ix_)), (fun ix_ => nI (k ix_)), va, (E 0), (E 1), (E 2), (E 3), (E 4), (E 5), (C 0), (C 1), (C 2), (C 3), (C 4), (C 5), (G' 0), (G' 1), (G' 2), (G' 3), (G' 4), (G' 5), (G' 6), (G' 7), (G' 8), (G' 9), (G' 10)) → wpX_sendReply post (nI srv, nI cap, nI slt, nI cl, nI cfg, jn, (fun ix_ => nI (c ix_)), (fun ix_ => nI (ro ix_)), (fun ix_ => nI (l ix_)), (fun ix_ => nI (k ix_)), va, (E 0), (E 1), (E 2), (E 3), (E 4), (E 5), (C 0), (C 1), (C 2), (C 3), (C 4), (C 5), (G 0), (G 1), (G 2), (G 3), (G 4), (G 5), (G 6), (G 7), (G 8), (G 9), (G 10)) (nI s) (nI (p + 1))) ∧ (∀ post : SY → Prop, post (nI srv, nI cap, nI slt, nI cfg, nI cl, (fun ix_ => nI (c ix_)), (fun ix_ => nI (ro ix_)), (fun ix_ => nI (l ix_)), (fun ix_ => nI (k ix_)), (cs_fl 5 E), (cs_fl 6 C), (cs_fl 11 m')) → wpY_sendReply post (nI srv, nI cap, nI slt, nI cfg, nI cl, (fun ix_ => nI (c ix_)), (fun ix_ => nI (ro ix_)), (fun ix_ => nI (l ix_)), (fun ix_ => nI (k ix_)), (cs_fl 5 E), (cs_fl 6 C), (cs_fl 11 m)) (nI s) (nI (p + 1))) := by
  obtain ⟨⟨b1, b2, b3, b4, b5, b6, b7, b8, b9⟩, hc, hro, hl, _⟩ := hA
  have hls := hl s
  have v2 : vp_in (nI (s * 48 + p)) 240 := vp_in_nI (by omega) (by omega)
  have ee : (nI (s * 48 + p)).toNatClampNeg = s * 48 + p := nI_clamp (by omega)
  have e5 := hE.2.2.2 s p (by omega) hp
  have yy : ∀ (post : SY → Prop) (r : Int32) (m' : Nat → Nat → Int32), (∀ p' : Int32 → SY → Prop, p' r (nI srv, nI cap, nI slt, nI cfg, nI cl, (fun ix_ => nI (c ix_)), (fun ix_ => nI (ro ix_)), (fun ix_ => nI (l ix_)), (fun ix_ => nI (k ix_)), (cs_fl 5 E), (cs_fl 6 C), (cs_fl 11 m')) → wpY_send p' (nI srv, nI cap, nI slt, nI cfg, nI cl, (fun ix_ => nI (c ix_)), (fun ix_ => nI (ro ix_)), (fun ix_ => nI (l ix_)), (fun ix_ => nI (k ix_)), (cs_fl 5 E), (cs_fl 6 C), (cs_fl 11 m)) 5 (nI s) (E 0 (s * 48 + p)) (E 1 (s * 48 + p)) (cs_v E s (E 3 (s * 48 + p)) p)) → post (nI srv, nI cap, nI slt, nI cfg, nI cl, (fun ix_ => nI (c ix_)), (fun ix_ => nI (ro ix_)), (fun ix_ => nI (l ix_)), (fun ix_ => nI (k ix_)), (cs_fl 5 E), (cs_fl 6 C), (cs_fl 11 m')) → wpY_sendReply post (nI srv, nI cap, nI slt, nI cfg, nI cl, (fun ix_ => nI (c ix_)), (fun ix_ => nI (ro ix_)), (fun ix_ => nI (l ix_)), (fun ix_ => nI (k ix_)), (cs_fl 5 E), (cs_fl 6 C), (cs_fl 11 m)) (nI s) (nI (p + 1)) := by
    intro post r m' sy hp'
    unfold wpY_sendReply
    refine nm_r (e' := nI ((s * 48 + p) * 5)) (by rw [cs_cell, cs_m5]) (cs_yres (by omega) (by omega) ?_)
    rw [nI_1, nI_clamp (n := (s * 48 + p) * 5) (by omega), nI_clamp (n := (s * 48 + p) * 5 + 1) (by omega), cs_fr0 (by decide), cs_fr (by decide)]
    exact ⟨vp_in_nI (by omega) (by omega), vp_in_nI (by omega) (by omega), sy _ hp'⟩
  have xx : ∀ (post : SX → Prop) (r : Int32) (G' : Nat → Nat → Int32), (∀ p' : Int32 → SX → Prop, p' r (nI srv, nI cap, nI slt, nI cl, nI cfg, jn, (fun ix_ => nI (c ix_)), (fun ix_ => nI (ro ix_)), (fun ix_ => nI (l ix_)), (fun ix_ => nI (k ix_)), va, (E 0), (E 1), (E 2), (E 3), (E 4), (E 5), (C 0), (C 1), (C 2), (C 3), (C 4), (C 5), (G' 0), (G' 1), (G' 2), (G' 3), (G' 4), (G' 5), (G' 6), (G' 7), (G' 8), (G' 9), (G' 10)) → wpX_post p' (nI srv, nI cap, nI slt, nI cl, nI cfg, jn, (fun ix_ => nI (c ix_)), (fun ix_ => nI (ro ix_)), (fun ix_ => nI (l ix_)), (fun ix_ => nI (k ix_)), va, (E 0), (E 1), (E 2), (E 3), (E 4), (E 5), (C 0), (C 1), (C 2), (C 3), (C 4), (C 5), (G 0), (G 1), (G 2), (G 3), (G 4), (G 5), (G 6), (G 7), (G 8), (G 9), (G 10)) 5 (nI s) (E 0 (s * 48 + p)) (E 1 (s * 48 + p)) (cs_v E s (E 3 (s * 48 + p)) p)) → post (nI srv, nI cap, nI slt, nI cl, nI cfg, jn, (fun ix_ => nI (c ix_)), (fun ix_ => nI (ro ix_)), (fun ix_ => nI (l ix_)), (fun ix_ => nI (k ix_)), va, (E 0), (E 1), (E 2), (E 3), (E 4), (E 5), (C 0), (C 1), (C 2), (C 3), (C 4), (C 5), (G' 0), (G' 1), (G' 2), (G' 3), (G' 4), (G' 5), (G' 6), (G' 7), (G' 8), (G' 9), (G' 10)) → wpX_sendReply post (nI srv, nI cap, nI slt, nI cl, nI cfg, jn, (fun ix_ => nI (c ix_)), (fun ix_ => nI (ro ix_)), (fun ix_ => nI (l ix_)), (fun ix_ => nI (k ix_)), va, (E 0), (E 1), (E 2), (E 3), (E 4), (E 5), (C 0), (C 1), (C 2), (C 3), (C 4), (C 5), (G 0), (G 1), (G 2), (G 3), (G 4), (G 5), (G 6), (G 7), (G 8), (G 9), (G 10)) (nI s) (nI (p + 1)) := by
    intro post r G' sx hp'
    unfold wpX_sendReply
    refine cs_xcell ?_
    rw [ee, e5]
    exact ⟨v2, v2, v2, sx _ hp'⟩
  rcases cs_send (srv := srv) (cap := cap) (slt := slt) (cl := cl) (cfg := cfg) (jn := jn) (c := c) (ro := ro) (l := l) (k := k) (va := va) (E := E) (C := C) (G := G) (m := m) hq b6 5 (nI s) (E 0 (s * 48 + p)) (E 1 (s * 48 + p)) (cs_v E s (E 3 (s * 48 + p)) p) with ⟨x, hx16, sx, sy⟩ | ⟨sx, sy⟩
  · exact ⟨_, _, cs_Qw (i := x) hq (cs_Rs (g := cs_r11 5 (nI cfg) (nI s) (E 0 (s * 48 + p)) (E 1 (s * 48 + p)) (cs_v E s (E 3 (s * 48 + p)) p) 0 0 0 0 0) (by show (5 : Int32) ≠ 0; decide) ⟨cfg, Nat.le_refl _, rfl, Or.inl ⟨rfl, hE.1 _⟩⟩), fun post hp' => xx post _ _ sx hp', fun post hp' => yy post _ _ sy hp'⟩
  · exact ⟨G, m, hq, fun post hp' => xx post _ G sx hp', fun post hp' => yy post _ m sy hp'⟩
end cs_msg
end
section
section cs_rel
variable {srv cap slt cl cfg : Nat} {jn : Int32} {c ro l k : Nat → Nat} {va : Nat → Int32} {E C G m : Nat → Nat → Int32} {mu : Nat} {Mc Mn : Nat → Int32}
def cs_I (srv cap slt cl cfg : Nat) (jn : Int32) (c ro l k : Nat → Nat) (va : Nat → Int32) (E C G m : Nat → Nat → Int32) (mu : Nat) (Mc Mn : Nat → Int32) : Prop :=
  cs_A srv cap slt cl cfg jn c ro l k ∧ cs_Ev l va E ∧ cs_Cv C ∧ cs_Gh srv cl c ro l E mu Mc Mn ∧ cs_Q (cs_ok srv cap cfg cl c ro l mu Mc Mn) G m
def cs_Re (u : SX) (v : SY) : Prop := ∃ (srv cap slt cl cfg : Nat) (jn : Int32) (c ro l k : Nat → Nat) (va : Nat → Int32) (E C G m : Nat → Nat → Int32) (mu : Nat) (Mc Mn : Nat → Int32), cs_I srv cap slt cl cfg jn c ro l k va E C G m mu Mc Mn ∧ u = (nI srv, nI cap, nI slt, nI cl, nI cfg, jn, (fun ix_ => nI (c ix_)), (fun ix_ => nI (ro ix_)), (fun ix_ => nI (l ix_)), (fun ix_ => nI (k ix_)), va, (E 0), (E 1), (E 2), (E 3), (E 4), (E 5), (C 0), (C 1), (C 2), (C 3), (C 4), (C 5), (G 0), (G 1), (G 2), (G 3), (G 4), (G 5), (G 6), (G 7), (G 8), (G 9), (G 10)) ∧ v = (nI srv, nI cap, nI slt, nI cfg, nI cl, (fun ix_ => nI (c ix_)), (fun ix_ => nI (ro ix_)), (fun ix_ => nI (l ix_)), (fun ix_ => nI (k ix_)), (cs_fl 5 E), (cs_fl 6 C), (cs_fl 11 m))
theorem cs_in (h : cs_I srv cap slt cl cfg jn c ro l k va E C G m mu Mc Mn) : cs_Re (nI srv, nI cap, nI slt, nI cl, nI cfg, jn, (fun ix_ => nI (c ix_)), (fun ix_ => nI (ro ix_)), (fun ix_ => nI (l ix_)), (fun ix_ => nI (k ix_)), va, (E 0), (E 1), (E 2), (E 3), (E 4), (E 5), (C 0), (C 1), (C 2), (C 3), (C 4), (C 5), (G 0), (G 1), (G 2), (G 3), (G 4), (G 5), (G 6), (G 7), (G 8), (G 9), (G 10)) (nI srv, nI cap, nI slt, nI cfg, nI cl, (fun ix_ => nI (c ix_)), (fun ix_ => nI (ro ix_)), (fun ix_ => nI (l ix_)), (fun ix_ => nI (k ix_)), (cs_fl 5 E), (cs_fl 6 C), (cs_fl 11 m)) := ⟨srv, cap, slt, cl, cfg, jn, c, ro, l, k, va, E, C, G, m, mu, Mc, Mn, h, rfl, rfl⟩
theorem cs_el {P : SX → SY → Prop} (h : ∀ (srv cap slt cl cfg : Nat) (jn : Int32) (c ro l k : Nat → Nat) (va : Nat → Int32) (E C G m : Nat → Nat → Int32) (mu : Nat) (Mc Mn : Nat → Int32), cs_I srv cap slt cl cfg jn c ro l k va E C G m mu Mc Mn → P (nI srv, nI cap, nI slt, nI cl, nI cfg, jn, (fun ix_ => nI (c ix_)), (fun ix_ => nI (ro ix_)), (fun ix_ => nI (l ix_)), (fun ix_ => nI (k ix_)), va, (E 0), (E 1), (E 2), (E 3), (E 4), (E 5), (C 0), (C 1), (C 2), (C 3), (C 4), (C 5), (G 0), (G 1), (G 2), (G 3), (G 4), (G 5), (G 6), (G 7), (G 8), (G 9), (G 10)) (nI srv, nI cap, nI slt, nI cfg, nI cl, (fun ix_ => nI (c ix_)), (fun ix_ => nI (ro ix_)), (fun ix_ => nI (l ix_)), (fun ix_ => nI (k ix_)), (cs_fl 5 E), (cs_fl 6 C), (cs_fl 11 m))) {u : SX} {v : SY} (R : cs_Re u v) : P u v := by
  obtain ⟨srv, cap, slt, cl, cfg, jn, c, ro, l, k, va, E, C, G, m, mu, Mc, Mn, hI, hu, hv⟩ := R
  rw [hu, hv]
  exact h srv cap slt cl cfg jn c ro l k va E C G m mu Mc Mn hI
/-- one outcome for both -/
def cs_O (WX : (Int32 → SX → Prop) → Prop) (WY : (Int32 → SY → Prop) → Prop) : Prop := ∃ r u v, cs_Re u v ∧ (∀ post : Int32 → SX → Prop, post r u → WX post) ∧ (∀ post : Int32 → SY → Prop, post r v → WY post)
def cs_O1 (WX : (Int32 → Prop) → Prop) (WY : (Int32 → Prop) → Prop) : Prop := ∃ r, (∀ post : Int32 → Prop, post r → WX post) ∧ (∀ post : Int32 → Prop, post r → WY post)
def i_Rel (k : Nat) (u : SX) (v : SY) : Prop := cs_Re u v
theorem i_up {k : Nat} {u : SX} {v : SY} (h : i_Rel k u v) : i_Rel (k + 5) u v := h
theorem cs_fin {n : Nat} {WX : (Int32 → SX → Prop) → Prop} {WY : (Int32 → SY → Prop) → Prop} (h : cs_O WX WY) : WX (fun r u' => WY (fun r' v' => r' = r ∧ i_Rel n u' v')) := by
  obtain ⟨r, u, v, R, hx, hy⟩ := h
  exact hx _ (hy _ ⟨rfl, R⟩)
theorem cs_fin1 {n : Nat} {u : SX} {v : SY} {WX : (Int32 → Prop) → Prop} {WY : (Int32 → Prop) → Prop} (I : cs_Re u v) (h : cs_O1 WX WY) : WX (fun r => WY (fun r' => r' = r ∧ i_Rel n u v)) := by
  obtain ⟨r, hx, hy⟩ := h
  exact hx _ (hy _ ⟨rfl, I⟩)
/-- an answer alone -/
theorem cs_o {r : Int32} {WX : (Int32 → SX → Prop) → Prop} {WY : (Int32 → SY → Prop) → Prop} (h : cs_I srv cap slt cl cfg jn c ro l k va E C G m mu Mc Mn) (hx : ∀ post : Int32 → SX → Prop, post r (nI srv, nI cap, nI slt, nI cl, nI cfg, jn, (fun ix_ => nI (c ix_)), (fun ix_ => nI (ro ix_)), (fun ix_ => nI (l ix_)), (fun ix_ => nI (k ix_)), va, (E 0), (E 1), (E 2), (E 3), (E 4), (E 5), (C 0), (C 1), (C 2), (C 3), (C 4), (C 5), (G 0), (G 1), (G 2), (G 3), (G 4), (G 5), (G 6), (G 7), (G 8), (G 9), (G 10)) → WX post) (hy : ∀ post : Int32 → SY → Prop, post r (nI srv, nI cap, nI slt, nI cfg, nI cl, (fun ix_ => nI (c ix_)), (fun ix_ => nI (ro ix_)), (fun ix_ => nI (l ix_)), (fun ix_ => nI (k ix_)), (cs_fl 5 E), (cs_fl 6 C), (cs_fl 11 m)) → WY post) : cs_O WX WY := ⟨r, _, _, cs_in h, hx, hy⟩
end cs_rel
end
section
section cs_cli
variable {srv cap slt cl cfg : Nat} {jn : Int32} {c ro l k : Nat → Nat} {va : Nat → Int32} {E C G m : Nat → Nat → Int32} {mu : Nat} {Mc Mn : Nat → Int32} {ok : (Nat → Int32) → Prop}
theorem cs_yll {post : Int32 → SY → Prop} {i q : Nat} {r : Nat → Int32} (hi : i < 16) (hq : q < 3) (hr : ∀ f, 1 ≤ f → f < 5 → r (6 + f) = C f q) (h : post 1 (nI srv, nI cap, nI slt, nI cfg, nI cl, (fun ix_ => nI (c ix_)), (fun ix_ => nI (ro ix_)), (fun ix_ => nI (l ix_)), (fun ix_ => nI (k ix_)), (cs_fl 5 E), (cs_fl 6 C), (cs_fl 11 (cs_pw m i r 6 11)))) :
    ∀ d j, j + d = 5 → 1 ≤ j → ∀ n, d < n → wY_sendLatest_123 post (nI (q * 6)) (nI i) (nI srv) (nI cap) (nI slt) (nI cfg) (nI cl) n (nI j) (fun ix_ => nI (c ix_)) (fun ix_ => nI (ro ix_)) (fun ix_ => nI (l ix_)) (fun ix_ => nI (k ix_)) (cs_fl 5 E) (cs_fl 6 C) (cs_fl 11 (cs_pw m i r 6 (6 + j))) := by
  intro d
  induction d with
  | zero =>
    intro j hj _ n hn
    obtain ⟨n', rfl⟩ := cs_n1 hn
    obtain rfl : j = 5 := by omega
    exact br_t (nI_le (a := 5) (b := 5) (by omega) (by omega)) h
  | succ d ih =>
    intro j hj hj1 n hn
    obtain ⟨n', rfl⟩ := cs_n1 hn
    refine br_f (nI_ge (a := j) (b := 5) (by omega) (by omega)) ?_
    rw [nI_add, cs_m11, cs_p6, nI_add, nI_clamp (n := q * 6 + j) (by omega), nI_clamp (n := i * 11 + 6 + j) (by omega), cs_fr (by omega), Nat.add_assoc (i * 11) 6 j]
    refine ⟨vp_in_nI (by omega) (by omega), vp_in_nI (by omega) (by omega), nm_r (e' := cs_fl 11 (cs_pw m i r 6 (6 + (j + 1)))) ?_ (nm_r (nI_1 j) (ih (j + 1) (by omega) (by omega) n' (by omega)))⟩
    rw [cs_fu (by omega), ← hr j hj1 (by omega), cs_pws (by omega)]
    rfl
theorem cs_y76 {post : Int32 → SY → Prop} {x q : Nat} {kd to vl : Int32} (hx : x < 16) (hq : q < 3)
    (sy : ∀ p : Int32 → SY → Prop, p (nI x) (nI srv, nI cap, nI slt, nI cfg, nI cl, (fun ix_ => nI (c ix_)), (fun ix_ => nI (ro ix_)), (fun ix_ => nI (l ix_)), (fun ix_ => nI (k ix_)), (cs_fl 5 E), (cs_fl 6 C), (cs_fl 11 (cs_wm m x (cs_r11 kd (nI cfg) (nI q) to (C 1 q) vl 0 0 0 0 0)))) → wpY_send p (nI srv, nI cap, nI slt, nI cfg, nI cl, (fun ix_ => nI (c ix_)), (fun ix_ => nI (ro ix_)), (fun ix_ => nI (l ix_)), (fun ix_ => nI (k ix_)), (cs_fl 5 E), (cs_fl 6 C), (cs_fl 11 m)) kd (nI q) to (C 1 q) vl)
    (h : post 1 (nI srv, nI cap, nI slt, nI cfg, nI cl, (fun ix_ => nI (c ix_)), (fun ix_ => nI (ro ix_)), (fun ix_ => nI (l ix_)), (fun ix_ => nI (k ix_)), (cs_fl 5 E), (cs_fl 6 C), (cs_fl 11 (cs_wm m x (cs_r11 kd (nI cfg) (nI q) to (C 1 q) vl (nI q) (C 1 q) (C 2 q) (C 3 q) (C 4 q)))))) : wY_sendLatest_76 post (nI q) (nI (q * 6)) kd to vl (nI srv) (nI cap) (nI slt) (nI cfg) (nI cl) (fun ix_ => nI (c ix_)) (fun ix_ => nI (ro ix_)) (fun ix_ => nI (l ix_)) (fun ix_ => nI (k ix_)) (cs_fl 5 E) (cs_fl 6 C) (cs_fl 11 m) := by
  unfold wY_sendLatest_76
  rw [nI_1, nI_clamp (n := q * 6 + 1) (by omega), cs_fr (by decide)]
  refine ⟨vp_in_nI (by omega) (by omega), sy _ (br_t (nI_pos' (by omega)) ?_)⟩
  rw [cs_m11, cs_p6, nI_clamp (n := x * 11 + 6) (by omega)]
  have e5 := cs_w5 (m := m) (i := x) (a0 := kd) (a1 := nI cfg) (a2 := nI q) (a3 := to) (a4 := C 1 q) (a5 := vl) (b6 := 0) (b7 := 0) (b8 := 0) (b9 := 0) (b10 := 0) (r := cs_r11 0 0 0 0 0 0 (nI q) (C 1 q) (C 2 q) (C 3 q) (C 4 q))
  have h' : post 1 (nI srv, nI cap, nI slt, nI cfg, nI cl, (fun ix_ => nI (c ix_)), (fun ix_ => nI (ro ix_)), (fun ix_ => nI (l ix_)), (fun ix_ => nI (k ix_)), (cs_fl 5 E), (cs_fl 6 C), (cs_fl 11 (cs_pw (cs_wm m x (cs_r11 kd (nI cfg) (nI q) to (C 1 q) vl 0 0 0 0 0)) x (cs_r11 0 0 0 0 0 0 (nI q) (C 1 q) (C 2 q) (C 3 q) (C 4 q)) 6 11))) := by rw [e5]; exact h
  refine ⟨vp_in_nI (by omega) (by omega), nm_r (e' := cs_fl 11 (cs_pw (cs_wm m x (cs_r11 kd (nI cfg) (nI q) to (C 1 q) vl 0 0 0 0 0)) x (cs_r11 0 0 0 0 0 0 (nI q) (C 1 q) (C 2 q) (C 3 q) (C 4 q)) 6 7)) ?_ ⟨5, cs_yll hx hq ?_ h' 4 1 (by omega) (by omega) 5 (by omega)⟩⟩
  · rw [cs_fu (by decide)]
    have e := cs_pws (A := cs_wm m x (cs_r11 kd (nI cfg) (nI q) to (C 1 q) vl 0 0 0 0 0)) (x := x) (a := 6) (b := 6) (r := cs_r11 0 0 0 0 0 0 (nI q) (C 1 q) (C 2 q) (C 3 q) (C 4 q)) (by omega)
    rw [cs_pw0] at e
    exact congrArg (cs_fl 11) e
  · intro f h1 h5
    rcases (by omega : f = 1 ∨ f = 2 ∨ f = 3 ∨ f = 4) with e | e | e | e <;> subst e <;> rfl
theorem cs_y760 {post : Int32 → SY → Prop} {q : Nat} {kd to vl : Int32} (hq : q < 3)
    (sy : ∀ p : Int32 → SY → Prop, p (-1) (nI srv, nI cap, nI slt, nI cfg, nI cl, (fun ix_ => nI (c ix_)), (fun ix_ => nI (ro ix_)), (fun ix_ => nI (l ix_)), (fun ix_ => nI (k ix_)), (cs_fl 5 E), (cs_fl 6 C), (cs_fl 11 m)) → wpY_send p (nI srv, nI cap, nI slt, nI cfg, nI cl, (fun ix_ => nI (c ix_)), (fun ix_ => nI (ro ix_)), (fun ix_ => nI (l ix_)), (fun ix_ => nI (k ix_)), (cs_fl 5 E), (cs_fl 6 C), (cs_fl 11 m)) kd (nI q) to (C 1 q) vl)
    (h : post 0 (nI srv, nI cap, nI slt, nI cfg, nI cl, (fun ix_ => nI (c ix_)), (fun ix_ => nI (ro ix_)), (fun ix_ => nI (l ix_)), (fun ix_ => nI (k ix_)), (cs_fl 5 E), (cs_fl 6 C), (cs_fl 11 m))) : wY_sendLatest_76 post (nI q) (nI (q * 6)) kd to vl (nI srv) (nI cap) (nI slt) (nI cfg) (nI cl) (fun ix_ => nI (c ix_)) (fun ix_ => nI (ro ix_)) (fun ix_ => nI (l ix_)) (fun ix_ => nI (k ix_)) (cs_fl 5 E) (cs_fl 6 C) (cs_fl 11 m) := by
  unfold wY_sendLatest_76
  rw [nI_1, nI_clamp (n := q * 6 + 1) (by omega), cs_fr (by decide)]
  exact ⟨vp_in_nI (by omega) (by omega), sy _ (br_f cs_nm1 h)⟩
/-- Y's way to the join -/
theorem cs_ylq {post : Int32 → SY → Prop} {q : Nat} (hq : q < 3) (h1 : 1 ≤ cl) (h5 : cl ≤ 5) (h2 : C 2 q = 2)
    (h : wY_sendLatest_76 post (nI q) (nI (q * 6)) 2 (nI (c (cl - 1))) (C 3 q) (nI srv) (nI cap) (nI slt) (nI cfg) (nI cl) (fun ix_ => nI (c ix_)) (fun ix_ => nI (ro ix_)) (fun ix_ => nI (l ix_)) (fun ix_ => nI (k ix_)) (cs_fl 5 E) (cs_fl 6 C) (cs_fl 11 m)) : wpY_sendLatest post (nI srv, nI cap, nI slt, nI cfg, nI cl, (fun ix_ => nI (c ix_)), (fun ix_ => nI (ro ix_)), (fun ix_ => nI (l ix_)), (fun ix_ => nI (k ix_)), (cs_fl 5 E), (cs_fl 6 C), (cs_fl 11 m)) (nI q) := by
  unfold wpY_sendLatest
  refine nm_r (cs_m6 q) ?_
  try dsimp only
  rw [cs_p2, nI_clamp (n := q * 6 + 2) (by omega), cs_fr (by decide)]
  refine ⟨vp_in_nI (by omega) (by omega), br_t h2 ?_⟩
  unfold wY_sendLatest_22
  refine br_f (by decide) ?_
  unfold wY_sendLatest_32
  rw [cs_s1 h1, nI_clamp (n := cl - 1) (by omega)]
  refine br_f (by decide) ⟨vp_in_nI (by omega) (by omega), ?_⟩
  unfold wY_sendLatest_58
  rw [cs_p3, nI_clamp (n := q * 6 + 3) (by omega), cs_fr (by decide)]
  exact br_f (by decide) ⟨vp_in_nI (by omega) (by omega), h⟩
theorem cs_ylr {post : Int32 → SY → Prop} {q : Nat} (hq : q < 3) (h2 : ¬ C 2 q = 2)
    (h : wY_sendLatest_76 post (nI q) (nI (q * 6)) 1 (nI (c 0)) 0 (nI srv) (nI cap) (nI slt) (nI cfg) (nI cl) (fun ix_ => nI (c ix_)) (fun ix_ => nI (ro ix_)) (fun ix_ => nI (l ix_)) (fun ix_ => nI (k ix_)) (cs_fl 5 E) (cs_fl 6 C) (cs_fl 11 m)) : wpY_sendLatest post (nI srv, nI cap, nI slt, nI cfg, nI cl, (fun ix_ => nI (c ix_)), (fun ix_ => nI (ro ix_)), (fun ix_ => nI (l ix_)), (fun ix_ => nI (k ix_)), (cs_fl 5 E), (cs_fl 6 C), (cs_fl 11 m)) (nI q) := by
  unfold wpY_sendLatest
  refine nm_r (cs_m6 q) ?_
  try dsimp only
  rw [cs_p2, nI_clamp (n := q * 6 + 2) (by omega), cs_fr (by decide)]
  refine ⟨vp_in_nI (by omega) (by omega), br_f h2 ?_⟩
  unfold wY_sendLatest_22
  refine br_t rfl ?_
  unfold wY_sendLatest_32
  refine br_t rfl ?_
  unfold wY_sendLatest_58
  exact br_t rfl h
/-- a client's latest request -/
theorem cs_lat (hA : cs_A srv cap slt cl cfg jn c ro l k) (hC : cs_Cv C) (hq : cs_Q (cs_ok srv cap cfg cl c ro l mu Mc Mn) G m) {q : Nat} (hq3 : q < 3) :
    ∃ r G' m', cs_Q (cs_ok srv cap cfg cl c ro l mu Mc Mn) G' m' ∧ (∀ post : Int32 → SX → Prop, post r (nI srv, nI cap, nI slt, nI cl, nI cfg, jn, (fun ix_ => nI (c ix_)), (fun ix_ => nI (ro ix_)), (fun ix_ => nI (l ix_)), (fun ix_ => nI (k ix_)), va, (E 0), (E 1), (E 2), (E 3), (E 4), (E 5), (C 0), (C 1), (C 2), (C 3), (C 4), (C 5), (G' 0), (G' 1), (G' 2), (G' 3), (G' 4), (G' 5), (G' 6), (G' 7), (G' 8), (G' 9), (G' 10)) → wpX_sendLatest post (nI srv, nI cap, nI slt, nI cl, nI cfg, jn, (fun ix_ => nI (c ix_)), (fun ix_ => nI (ro ix_)), (fun ix_ => nI (l ix_)), (fun ix_ => nI (k ix_)), va, (E 0), (E 1), (E 2), (E 3), (E 4), (E 5), (C 0), (C 1), (C 2), (C 3), (C 4), (C 5), (G 0), (G 1), (G 2), (G 3), (G 4), (G 5), (G 6), (G 7), (G 8), (G 9), (G 10)) (nI q)) ∧ (∀ post : Int32 → SY → Prop, post r (nI srv, nI cap, nI slt, nI cfg, nI cl, (fun ix_ => nI (c ix_)), (fun ix_ => nI (ro ix_)), (fun ix_ => nI (l ix_)), (fun ix_ => nI (k ix_)), (cs_fl 5 E), (cs_fl 6 C), (cs_fl 11 m')) → wpY_sendLatest post (nI srv, nI cap, nI slt, nI cfg, nI cl, (fun ix_ => nI (c ix_)), (fun ix_ => nI (ro ix_)), (fun ix_ => nI (l ix_)), (fun ix_ => nI (k ix_)), (cs_fl 5 E), (cs_fl 6 C), (cs_fl 11 m)) (nI q)) := by
  obtain ⟨⟨b1, b2, b3, b4, b5, b6, b7, b8, b9⟩, hc, _⟩ := hA
  have v3 : vp_in (nI q) 3 := vp_in_nI hq3 (by omega)
  have ec : (nI q).toNatClampNeg = q := nI_clamp (by omega)
  by_cases h2 : C 2 q = 2
  · have v5 : vp_in (nI (cl - 1)) 5 := vp_in_nI (by omega) (by omega)
    rcases cs_send (srv := srv) (cap := cap) (slt := slt) (cl := cl) (cfg := cfg) (jn := jn) (c := c) (ro := ro) (l := l) (k := k) (va := va) (E := E) (C := C) (G := G) (m := m) hq b6 2 (nI q) (nI (c (cl - 1))) (C 1 q) (C 3 q) with ⟨x, hx16, sx, sy⟩ | ⟨sx, sy⟩
    · refine ⟨1, cs_wm G x (cs_r11 2 (nI cfg) (nI q) (nI (c (cl - 1))) (C 1 q) (C 3 q) 0 0 0 0 0), cs_wm m x (cs_r11 2 (nI cfg) (nI q) (nI (c (cl - 1))) (C 1 q) (C 3 q) (nI q) (C 1 q) (C 2 q) (C 3 q) (C 4 q)), cs_Qw (i := x) hq ⟨rfl, fun z => absurd z (by show ¬ (2 : Int32) = 0; decide), fun _ => ⟨⟨cfg, Nat.le_refl _, rfl, Or.inr (Or.inr (Or.inl ⟨rfl, ⟨q, hq3, rfl⟩, hC q, ⟨c (cl - 1), hc _, rfl⟩⟩))⟩, rfl, rfl, rfl, rfl, rfl, fun z => absurd z (by show ¬ ((2 : Int32) = 1 ∨ (2 : Int32) = 3); decide)⟩⟩, fun post hp => ?_, fun post hp => ?_⟩
      · unfold wpX_sendLatest
        try dsimp only
        rw [ec, cs_s1 b7, nI_clamp (n := cl - 1) (by omega)]
        exact ⟨v3, nm_e ⟨v3, nm_e ⟨v3, nm_e (br_t h2 ⟨v5, sx _ (br_t (nI_pos' (by omega)) hp)⟩)⟩⟩⟩
      · exact cs_ylq hq3 b7 (by omega) h2 (cs_y76 hx16 hq3 sy hp)
    · refine ⟨0, G, m, hq, fun post hp => ?_, fun post hp => ?_⟩
      · unfold wpX_sendLatest
        try dsimp only
        rw [ec, cs_s1 b7, nI_clamp (n := cl - 1) (by omega)]
        exact ⟨v3, nm_e ⟨v3, nm_e ⟨v3, nm_e (br_t h2 ⟨v5, sx _ (br_f cs_nm1 hp)⟩)⟩⟩⟩
      · exact cs_ylq hq3 b7 (by omega) h2 (cs_y760 hq3 sy hp)
  · rcases cs_send (srv := srv) (cap := cap) (slt := slt) (cl := cl) (cfg := cfg) (jn := jn) (c := c) (ro := ro) (l := l) (k := k) (va := va) (E := E) (C := C) (G := G) (m := m) hq b6 1 (nI q) (nI (c 0)) (C 1 q) 0 with ⟨x, hx16, sx, sy⟩ | ⟨sx, sy⟩
    · refine ⟨1, _, _, cs_Qw (i := x) hq (cs_Rs (g := cs_r11 1 (nI cfg) (nI q) (nI (c 0)) (C 1 q) 0 (nI q) (C 1 q) (C 2 q) (C 3 q) (C 4 q)) (by show (1 : Int32) ≠ 0; decide) ⟨cfg, Nat.le_refl _, rfl, Or.inr (Or.inl ⟨rfl, ⟨q, hq3, rfl⟩, rfl, rfl, hC q, c 0, hc _, rfl, fun _ => rfl⟩)⟩), fun post hp => ?_, fun post hp => ?_⟩
      · unfold wpX_sendLatest
        try dsimp only
        rw [ec]
        exact ⟨v3, nm_e ⟨v3, nm_e ⟨v3, nm_e (br_f h2 (sx _ (br_t (nI_pos' (by omega)) ⟨v3, cs_xload hx16 hp⟩)))⟩⟩⟩
      · exact cs_ylr hq3 h2 (cs_y76 hx16 hq3 sy hp)
    · refine ⟨0, G, m, hq, fun post hp => ?_, fun post hp => ?_⟩
      · unfold wpX_sendLatest
        try dsimp only
        rw [ec]
        exact ⟨v3, nm_e ⟨v3, nm_e ⟨v3, nm_e (br_f h2 (sx _ (br_f cs_nm1 hp)))⟩⟩⟩
      · exact cs_ylr hq3 h2 (cs_y760 hq3 sy hp)
theorem cs_w6c {C : Nat → Nat → Int32} {i : Nat} {a0 a1 a2 a3 a4 a5 : Int32} :
    cs_fl 6 (cs_w1 (cs_w1 (cs_w1 (cs_w1 (cs_w1 (cs_w1 C 0 i a0) 1 i a1) 2 i a2) 3 i a3) 4 i a4) 5 i a5) = cs_fl 6 (cs_wm C i (cs_r6 a0 a1 a2 a3 a4 a5)) := by
  refine cs_fe (by decide) fun f x hf => ?_
  by_cases hx : x = i
  · subst hx
    revert f
    refine cs_c6 ?_ ?_ ?_ ?_ ?_ ?_ <;> simp [cs_w1, cs_wm, cs_r6]
  · simp [cs_w1, cs_wm, hx]
theorem cs_xbeg {post : Int32 → SX → Prop} {q : Nat} {op key ar r : Int32} {G' : Nat → Nat → Int32} (hq3 : q < 3) (h0 : ¬ C 0 q = 1) (h1 : C 1 q < 100)
    (sx : ∀ p : Int32 → SX → Prop, p r (nI srv, nI cap, nI slt, nI cl, nI cfg, jn, (fun ix_ => nI (c ix_)), (fun ix_ => nI (ro ix_)), (fun ix_ => nI (l ix_)), (fun ix_ => nI (k ix_)), va, (E 0), (E 1), (E 2), (E 3), (E 4), (E 5), ((cs_wm C q (cs_r6 1 (C 1 q + 1) op key ar 0)) 0), ((cs_wm C q (cs_r6 1 (C 1 q + 1) op key ar 0)) 1), ((cs_wm C q (cs_r6 1 (C 1 q + 1) op key ar 0)) 2), ((cs_wm C q (cs_r6 1 (C 1 q + 1) op key ar 0)) 3), ((cs_wm C q (cs_r6 1 (C 1 q + 1) op key ar 0)) 4), ((cs_wm C q (cs_r6 1 (C 1 q + 1) op key ar 0)) 5), (G' 0), (G' 1), (G' 2), (G' 3), (G' 4), (G' 5), (G' 6), (G' 7), (G' 8), (G' 9), (G' 10)) → wpX_sendLatest p (nI srv, nI cap, nI slt, nI cl, nI cfg, jn, (fun ix_ => nI (c ix_)), (fun ix_ => nI (ro ix_)), (fun ix_ => nI (l ix_)), (fun ix_ => nI (k ix_)), va, (E 0), (E 1), (E 2), (E 3), (E 4), (E 5), ((cs_wm C q (cs_r6 1 (C 1 q + 1) op key ar 0)) 0), ((cs_wm C q (cs_r6 1 (C 1 q + 1) op key ar 0)) 1), ((cs_wm C q (cs_r6 1 (C 1 q + 1) op key ar 0)) 2), ((cs_wm C q (cs_r6 1 (C 1 q + 1) op key ar 0)) 3), ((cs_wm C q (cs_r6 1 (C 1 q + 1) op key ar 0)) 4), ((cs_wm C q (cs_r6 1 (C 1 q + 1) op key ar 0)) 5), (G 0), (G 1), (G 2), (G 3), (G 4), (G 5), (G 6), (G 7), (G 8), (G 9), (G 10)) (nI q))
    (h : post (C 1 q + 1) (nI srv, nI cap, nI slt, nI cl, nI cfg, jn, (fun ix_ => nI (c ix_)), (fun ix_ => nI (ro ix_)), (fun ix_ => nI (l ix_)), (fun ix_ => nI (k ix_)), va, (E 0), (E 1), (E 2), (E 3), (E 4), (E 5), ((cs_wm C q (cs_r6 1 (C 1 q + 1) op key ar 0)) 0), ((cs_wm C q (cs_r6 1 (C 1 q + 1) op key ar 0)) 1), ((cs_wm C q (cs_r6 1 (C 1 q + 1) op key ar 0)) 2), ((cs_wm C q (cs_r6 1 (C 1 q + 1) op key ar 0)) 3), ((cs_wm C q (cs_r6 1 (C 1 q + 1) op key ar 0)) 4), ((cs_wm C q (cs_r6 1 (C 1 q + 1) op key ar 0)) 5), (G' 0), (G' 1), (G' 2), (G' 3), (G' 4), (G' 5), (G' 6), (G' 7), (G' 8), (G' 9), (G' 10))) : wpX_begin post (nI srv, nI cap, nI slt, nI cl, nI cfg, jn, (fun ix_ => nI (c ix_)), (fun ix_ => nI (ro ix_)), (fun ix_ => nI (l ix_)), (fun ix_ => nI (k ix_)), va, (E 0), (E 1), (E 2), (E 3), (E 4), (E 5), (C 0), (C 1), (C 2), (C 3), (C 4), (C 5), (G 0), (G 1), (G 2), (G 3), (G 4), (G 5), (G 6), (G 7), (G 8), (G 9), (G 10)) (nI q) op key ar := by
  have v3 : vp_in (nI q) 3 := vp_in_nI hq3 (by omega)
  have ec : (nI q).toNatClampNeg = q := nI_clamp (by omega)
  have e1 : cs_wm C q (cs_r6 1 (C 1 q + 1) op key ar 0) 1 q = C 1 q + 1 := cs_wms
  have h' : post (cs_wm C q (cs_r6 1 (C 1 q + 1) op key ar 0) 1 q) (nI srv, nI cap, nI slt, nI cl, nI cfg, jn, (fun ix_ => nI (c ix_)), (fun ix_ => nI (ro ix_)), (fun ix_ => nI (l ix_)), (fun ix_ => nI (k ix_)), va, (E 0), (E 1), (E 2), (E 3), (E 4), (E 5), ((cs_wm C q (cs_r6 1 (C 1 q + 1) op key ar 0)) 0), ((cs_wm C q (cs_r6 1 (C 1 q + 1) op key ar 0)) 1), ((cs_wm C q (cs_r6 1 (C 1 q + 1) op key ar 0)) 2), ((cs_wm C q (cs_r6 1 (C 1 q + 1) op key ar 0)) 3), ((cs_wm C q (cs_r6 1 (C 1 q + 1) op key ar 0)) 4), ((cs_wm C q (cs_r6 1 (C 1 q + 1) op key ar 0)) 5), (G' 0), (G' 1), (G' 2), (G' 3), (G' 4), (G' 5), (G' 6), (G' 7), (G' 8), (G' 9), (G' 10)) := by rw [e1]; exact h
  unfold wpX_begin
  try dsimp only
  rw [ec]
  exact ⟨v3, br_f h0 ⟨v3, br_t h1 ⟨v3, v3, nm_r (e' := cs_wm C q (cs_r6 1 (C 1 q + 1) op key ar 0) 1) rfl ⟨v3, nm_r (e' := cs_wm C q (cs_r6 1 (C 1 q + 1) op key ar 0) 2) rfl ⟨v3, nm_r (e' := cs_wm C q (cs_r6 1 (C 1 q + 1) op key ar 0) 3) rfl ⟨v3, nm_r (e' := cs_wm C q (cs_r6 1 (C 1 q + 1) op key ar 0) 4) rfl ⟨v3, nm_r (e' := cs_wm C q (cs_r6 1 (C 1 q + 1) op key ar 0) 5) rfl ⟨v3, nm_r (e' := cs_wm C q (cs_r6 1 (C 1 q + 1) op key ar 0) 0) rfl (sx _ ⟨v3, h'⟩)⟩⟩⟩⟩⟩⟩⟩⟩
theorem cs_ybeg {post : Int32 → SY → Prop} {q : Nat} {op key ar r : Int32} {m' : Nat → Nat → Int32} (hq3 : q < 3) (h0 : ¬ C 0 q = 1) (h1 : C 1 q < 100)
    (sy : ∀ p : Int32 → SY → Prop, p r (nI srv, nI cap, nI slt, nI cfg, nI cl, (fun ix_ => nI (c ix_)), (fun ix_ => nI (ro ix_)), (fun ix_ => nI (l ix_)), (fun ix_ => nI (k ix_)), (cs_fl 5 E), (cs_fl 6 (cs_wm C q (cs_r6 1 (C 1 q + 1) op key ar 0))), (cs_fl 11 m')) → wpY_sendLatest p (nI srv, nI cap, nI slt, nI cfg, nI cl, (fun ix_ => nI (c ix_)), (fun ix_ => nI (ro ix_)), (fun ix_ => nI (l ix_)), (fun ix_ => nI (k ix_)), (cs_fl 5 E), (cs_fl 6 (cs_wm C q (cs_r6 1 (C 1 q + 1) op key ar 0))), (cs_fl 11 m)) (nI q))
    (h : post (C 1 q + 1) (nI srv, nI cap, nI slt, nI cfg, nI cl, (fun ix_ => nI (c ix_)), (fun ix_ => nI (ro ix_)), (fun ix_ => nI (l ix_)), (fun ix_ => nI (k ix_)), (cs_fl 5 E), (cs_fl 6 (cs_wm C q (cs_r6 1 (C 1 q + 1) op key ar 0))), (cs_fl 11 m'))) : wpY_begin post (nI srv, nI cap, nI slt, nI cfg, nI cl, (fun ix_ => nI (c ix_)), (fun ix_ => nI (ro ix_)), (fun ix_ => nI (l ix_)), (fun ix_ => nI (k ix_)), (cs_fl 5 E), (cs_fl 6 C), (cs_fl 11 m)) (nI q) op key ar := by
  have e1 : cs_wm C q (cs_r6 1 (C 1 q + 1) op key ar 0) 1 q = C 1 q + 1 := cs_wms
  have e2 : cs_w1 C 0 q 1 1 q = C 1 q := if_neg (by omega)
  unfold wpY_begin
  refine nm_r (cs_m6 q) ?_
  try dsimp only
  rw [nI_1, cs_p2, cs_p3, cs_p4, cs_p5, nI_clamp (n := q * 6) (by omega), nI_clamp (n := q * 6 + 1) (by omega), nI_clamp (n := q * 6 + 2) (by omega), nI_clamp (n := q * 6 + 3) (by omega), nI_clamp (n := q * 6 + 4) (by omega), nI_clamp (n := q * 6 + 5) (by omega), cs_fr0 (by decide), cs_fr (by decide)]
  refine ⟨vp_in_nI (by omega) (by omega), br_f h0 ⟨vp_in_nI (by omega) (by omega), br_t h1 ⟨vp_in_nI (by omega) (by omega), nm_r (cs_fu0 (by decide)) ⟨vp_in_nI (by omega) (by omega), vp_in_nI (by omega) (by omega), ?_⟩⟩⟩⟩
  rw [cs_fr (by decide), e2]
  refine nm_r (cs_fu (by decide)) ⟨vp_in_nI (by omega) (by omega), nm_r (cs_fu (by decide)) ⟨vp_in_nI (by omega) (by omega), nm_r (cs_fu (by decide)) ⟨vp_in_nI (by omega) (by omega), nm_r (cs_fu (by decide)) ⟨vp_in_nI (by omega) (by omega), nm_r ((cs_fu (by decide)).trans cs_w6c) (sy _ ?_)⟩⟩⟩⟩
  try dsimp only
  rw [cs_fr (by decide), e1]
  exact ⟨vp_in_nI (by omega) (by omega), h⟩
/-- the common part of write and read -/
theorem cs_begin (hI : cs_I srv cap slt cl cfg jn c ro l k va E C G m mu Mc Mn) {q y : Nat} (hq3 : q < 3) (hy : y < 4) (op ar : Int32) :
    cs_O (fun post => wpX_begin post (nI srv, nI cap, nI slt, nI cl, nI cfg, jn, (fun ix_ => nI (c ix_)), (fun ix_ => nI (ro ix_)), (fun ix_ => nI (l ix_)), (fun ix_ => nI (k ix_)), va, (E 0), (E 1), (E 2), (E 3), (E 4), (E 5), (C 0), (C 1), (C 2), (C 3), (C 4), (C 5), (G 0), (G 1), (G 2), (G 3), (G 4), (G 5), (G 6), (G 7), (G 8), (G 9), (G 10)) (nI q) op (nI y) ar) (fun post => wpY_begin post (nI srv, nI cap, nI slt, nI cfg, nI cl, (fun ix_ => nI (c ix_)), (fun ix_ => nI (ro ix_)), (fun ix_ => nI (l ix_)), (fun ix_ => nI (k ix_)), (cs_fl 5 E), (cs_fl 6 C), (cs_fl 11 m)) (nI q) op (nI y) ar) := by
  have hI' := hI
  obtain ⟨hA, hE, hC, hG, hq⟩ := hI'
  have v3 : vp_in (nI q) 3 := vp_in_nI hq3 (by omega)
  have ec : (nI q).toNatClampNeg = q := nI_clamp (by omega)
  by_cases h0 : C 0 q = 1
  · refine cs_o (r := -2) hI (fun post hp => ?_) (fun post hp => ?_)
    · unfold wpX_begin
      try dsimp only
      rw [ec]
      exact ⟨v3, br_t h0 hp⟩
    · unfold wpY_begin
      refine nm_r (cs_m6 q) ?_
      try dsimp only
      rw [nI_clamp (n := q * 6) (by omega), cs_fr0 (by decide)]
      exact ⟨vp_in_nI (by omega) (by omega), br_t h0 hp⟩
  · by_cases h1 : C 1 q < 100
    · have hC' : cs_Cv (cs_wm C q (cs_r6 1 (C 1 q + 1) op (nI y) ar 0)) := by
        intro j
        by_cases e : j = q
        · subst e; rw [cs_wms]; exact ⟨y, hy, rfl⟩
        · rw [cs_wmn e]; exact hC j
      obtain ⟨r, G', m', hq', sx, sy⟩ := cs_lat (srv := srv) (cap := cap) (slt := slt) (cl := cl) (cfg := cfg) (jn := jn) (c := c) (ro := ro) (l := l) (k := k) (va := va) (E := E) (C := (cs_wm C q (cs_r6 1 (C 1 q + 1) op (nI y) ar 0))) (G := G) (m := m) hA hC' hq hq3
      exact ⟨C 1 q + 1, _, _, cs_in ⟨hA, hE, hC', hG, hq'⟩, fun post hp => cs_xbeg hq3 h0 h1 sx hp, fun post hp => cs_ybeg hq3 h0 h1 sy hp⟩
    · refine cs_o (r := -3) hI (fun post hp => ?_) (fun post hp => ?_)
      · unfold wpX_begin
        try dsimp only
        rw [ec]
        exact ⟨v3, br_f h0 ⟨v3, br_f h1 hp⟩⟩
      · unfold wpY_begin
        refine nm_r (cs_m6 q) ?_
        try dsimp only
        rw [nI_1, nI_clamp (n := q * 6) (by omega), nI_clamp (n := q * 6 + 1) (by omega), cs_fr0 (by decide), cs_fr (by decide)]
        exact ⟨vp_in_nI (by omega) (by omega), br_f h0 ⟨vp_in_nI (by omega) (by omega), br_f h1 hp⟩⟩
end cs_cli
end
section
section cs_app
variable {srv cap slt cl cfg : Nat} {jn : Int32} {c ro l k : Nat → Nat} {va : Nat → Int32} {E C G m : Nat → Nat → Int32} {mu : Nat} {Mc Mn : Nat → Int32} {ok : (Nat → Int32) → Prop}
theorem cs_xapp {post : SX → Prop} {s y : Nat} {a b op ar : Int32} (hs : s < 5) (hl : l s < cap) (hcap : cap ≤ 48) (hy : y < 4)
    (h : post (nI srv, nI cap, nI slt, nI cl, nI cfg, jn, (fun ix_ => nI (c ix_)), (fun ix_ => nI (ro ix_)), (fun ix_ => nI ((cs_u l s (l s + 1)) ix_)), (fun ix_ => nI (k ix_)), (upd va (s * 4 + y) (if op = 0 then ar else va (s * 4 + y) + ar)), ((cs_wm E (s * 48 + l s) (cs_r6 a b op (nI y) ar (va (s * 4 + y)))) 0), ((cs_wm E (s * 48 + l s) (cs_r6 a b op (nI y) ar (va (s * 4 + y)))) 1), ((cs_wm E (s * 48 + l s) (cs_r6 a b op (nI y) ar (va (s * 4 + y)))) 2), ((cs_wm E (s * 48 + l s) (cs_r6 a b op (nI y) ar (va (s * 4 + y)))) 3), ((cs_wm E (s * 48 + l s) (cs_r6 a b op (nI y) ar (va (s * 4 + y)))) 4), ((cs_wm E (s * 48 + l s) (cs_r6 a b op (nI y) ar (va (s * 4 + y)))) 5), (C 0), (C 1), (C 2), (C 3), (C 4), (C 5), (G 0), (G 1), (G 2), (G 3), (G 4), (G 5), (G 6), (G 7), (G 8), (G 9), (G 10))) :
    wpX_append post (nI srv, nI cap, nI slt, nI cl, nI cfg, jn, (fun ix_ => nI (c ix_)), (fun ix_ => nI (ro ix_)), (fun ix_ => nI (l ix_)), (fun ix_ => nI (k ix_)), va, (E 0), (E 1), (E 2), (E 3), (E 4), (E 5), (C 0), (C 1), (C 2), (C 3), (C 4), (C 5), (G 0), (G 1), (G 2), (G 3), (G 4), (G 5), (G 6), (G 7), (G 8), (G 9), (G 10)) (nI s) a b op (nI y) ar := by
  have v5 : vp_in (nI s) 5 := vp_in_nI hs (by omega)
  have v20 : vp_in (nI (s * 4 + y)) 20 := vp_in_nI (by omega) (by omega)
  have v : vp_in (nI (s * 48 + l s)) 240 := vp_in_nI (by omega) (by omega)
  have ec : (nI s).toNatClampNeg = s := nI_clamp (by omega)
  unfold wpX_append
  try dsimp only
  rw [ec]
  refine ⟨v5, nm_r (nI_1 (l s)) (br_t (nI_le (by omega) (by omega)) (cs_xcell ?_))⟩
  refine nm_r (cs_vs s y) ?_
  rw [nI_clamp (n := s * 48 + l s) (by omega), nI_clamp (n := s * 4 + y) (by omega)]
  refine ⟨v, nm_r (e' := cs_wm E (s * 48 + l s) (cs_r6 a b op (nI y) ar (va (s * 4 + y))) 0) rfl ⟨v, nm_r (e' := cs_wm E (s * 48 + l s) (cs_r6 a b op (nI y) ar (va (s * 4 + y))) 1) rfl ⟨v, nm_r (e' := cs_wm E (s * 48 + l s) (cs_r6 a b op (nI y) ar (va (s * 4 + y))) 2) rfl ⟨v, nm_r (e' := cs_wm E (s * 48 + l s) (cs_r6 a b op (nI y) ar (va (s * 4 + y))) 3) rfl ⟨v, nm_r (e' := cs_wm E (s * 48 + l s) (cs_r6 a b op (nI y) ar (va (s * 4 + y))) 4) rfl ⟨v20, v, nm_r (e' := cs_wm E (s * 48 + l s) (cs_r6 a b op (nI y) ar (va (s * 4 + y))) 5) rfl ?_⟩⟩⟩⟩⟩⟩
  by_cases h0 : op = 0
  · rw [if_pos h0] at h
    exact br_t h0 ⟨v20, nm_e ⟨v5, nm_r cs_uu h⟩⟩
  · rw [if_neg h0] at h
    exact br_f h0 ⟨v20, v20, nm_e ⟨v5, nm_r cs_uu h⟩⟩
theorem cs_yapp {post : SY → Prop} {s : Nat} {a b op key ar w : Int32} (hs : s < 5) (hl : l s < 48)
    (h : post (nI srv, nI cap, nI slt, nI cfg, nI cl, (fun ix_ => nI (c ix_)), (fun ix_ => nI (ro ix_)), (fun ix_ => nI ((cs_u l s (l s + 1)) ix_)), (fun ix_ => nI (k ix_)), (cs_fl 5 (cs_wm E (s * 48 + l s) (cs_r6 a b op key ar w))), (cs_fl 6 C), (cs_fl 11 m))) :
    wpY_append post (nI srv, nI cap, nI slt, nI cfg, nI cl, (fun ix_ => nI (c ix_)), (fun ix_ => nI (ro ix_)), (fun ix_ => nI (l ix_)), (fun ix_ => nI (k ix_)), (cs_fl 5 E), (cs_fl 6 C), (cs_fl 11 m)) (nI s) a b op key ar := by
  have v5 : vp_in (nI s) 5 := vp_in_nI hs (by omega)
  have ec : (nI s).toNatClampNeg = s := nI_clamp (by omega)
  unfold wpY_append
  try dsimp only
  rw [ec]
  refine ⟨v5, br_t (nI_lt (b := 48) hl (by omega)) ⟨v5, nm_r (e' := nI ((s * 48 + l s) * 5)) (by rw [cs_m48, nI_add, cs_m5]) ?_⟩⟩
  rw [nI_1 ((s * 48 + l s) * 5), nI_1 (l s), cs_p2, cs_p3, cs_p4, nI_clamp (n := (s * 48 + l s) * 5) (by omega), nI_clamp (n := (s * 48 + l s) * 5 + 1) (by omega), nI_clamp (n := (s * 48 + l s) * 5 + 2) (by omega), nI_clamp (n := (s * 48 + l s) * 5 + 3) (by omega), nI_clamp (n := (s * 48 + l s) * 5 + 4) (by omega)]
  exact ⟨vp_in_nI (by omega) (by omega), nm_r (cs_fu0 (by decide)) ⟨vp_in_nI (by omega) (by omega), nm_r (cs_fu (by decide)) ⟨vp_in_nI (by omega) (by omega), nm_r (cs_fu (by decide)) ⟨vp_in_nI (by omega) (by omega), nm_r (cs_fu (by decide)) ⟨vp_in_nI (by omega) (by omega), nm_r ((cs_fu (by decide)).trans cs_w5e) ⟨v5, v5, nm_r cs_uu h⟩⟩⟩⟩⟩⟩
theorem cs_Eva {s y : Nat} {a b op ar : Int32} (hE : cs_Ev l va E) (hs : s < 5) (hl : l s < 48) (hL : ∀ s, l s ≤ 48) (ha : cs_lt a 3) (hy : y < 4) :
    cs_Ev (cs_u l s (l s + 1)) (upd va (s * 4 + y) (if op = 0 then ar else va (s * 4 + y) + ar)) (cs_wm E (s * 48 + l s) (cs_r6 a b op (nI y) ar (va (s * 4 + y)))) := by
  obtain ⟨h1, h2, h3, h4⟩ := hE
  have e0 : cs_wm E (s * 48 + l s) (cs_r6 a b op (nI y) ar (va (s * 4 + y))) 0 (s * 48 + l s) = a := cs_wms
  have e2 : cs_wm E (s * 48 + l s) (cs_r6 a b op (nI y) ar (va (s * 4 + y))) 2 (s * 48 + l s) = op := cs_wms
  have e3 : cs_wm E (s * 48 + l s) (cs_r6 a b op (nI y) ar (va (s * 4 + y))) 3 (s * 48 + l s) = nI y := cs_wms
  have e4 : cs_wm E (s * 48 + l s) (cs_r6 a b op (nI y) ar (va (s * 4 + y))) 4 (s * 48 + l s) = ar := cs_wms
  have e5 : cs_wm E (s * 48 + l s) (cs_r6 a b op (nI y) ar (va (s * 4 + y))) 5 (s * 48 + l s) = va (s * 4 + y) := cs_wms
  have en : ∀ f x, x ≠ s * 48 + l s → cs_wm E (s * 48 + l s) (cs_r6 a b op (nI y) ar (va (s * 4 + y))) f x = E f x := fun f x h => cs_wmn h
  generalize cs_wm E (s * 48 + l s) (cs_r6 a b op (nI y) ar (va (s * 4 + y))) = E' at e0 e2 e3 e4 e5 en
  have hv : ∀ s' key n, (s' = s → n ≤ l s) → n ≤ 48 → cs_v E' s' key n = cs_v E s' key n := by
    intro s' key n hn h48
    refine cs_vc n (fun q f hq => en f _ ?_)
    by_cases e : s' = s
    · have := hn e; subst e; omega
    · omega
  refine ⟨fun x => ?_, fun x => ?_, fun s' y' hs' hy' => ?_, fun s' p hs' hp => ?_⟩
  · by_cases e : x = s * 48 + l s
    · rw [e, e0]; exact ha
    · rw [en _ _ e]; exact h1 x
  · by_cases e : x = s * 48 + l s
    · rw [e, e3]; exact ⟨y, hy, rfl⟩
    · rw [en _ _ e]; exact h2 x
  · have h3s := h3 s y hs hy
    by_cases e : s' = s
    · subst e
      rw [cs_us, cs_vS, e2, e3, e4, hv s' (nI y') (l s') (fun _ => Nat.le_refl _) (by omega)]
      by_cases ey : y' = y
      · subst ey
        rw [pk_us, if_pos rfl, h3s]
      · rw [pk_un (by omega), if_neg (fun z => ey (cs_im z (by omega) (by omega)).symm)]
        exact h3 s' y' hs' hy'
    · rw [cs_un e, pk_un (by omega), hv s' (nI y') (l s') (fun z => absurd z e) (hL s')]
      exact h3 s' y' hs' hy'
  · by_cases e : s' = s
    · subst e
      rw [cs_us] at hp
      by_cases ep : p = l s'
      · subst ep
        rw [e5, e3, hv s' (nI y) (l s') (fun _ => Nat.le_refl _) (by omega)]
        exact h3 s' y hs' hy
      · rw [en 5 _ (by omega), en 3 _ (by omega), hv s' _ p (fun _ => by omega) (by omega)]
        exact h4 s' p hs' (by omega)
    · rw [cs_un e] at hp
      have h48 := hL s'
      rw [en 5 _ (by omega), en 3 _ (by omega), hv s' _ p (fun z => absurd z e) (by omega)]
      exact h4 s' p hs' hp
/-! Y's clear -/
theorem cs_yc0 {post : SY → Prop} {i : Nat} (hi : i < 16) (h : post (nI srv, nI cap, nI slt, nI cfg, nI cl, (fun ix_ => nI (c ix_)), (fun ix_ => nI (ro ix_)), (fun ix_ => nI (l ix_)), (fun ix_ => nI (k ix_)), (cs_fl 5 E), (cs_fl 6 C), (cs_fl 11 (cs_wm m i (fun _ => 0))))) :
    ∀ d j, j + d = 11 → ∀ n, d < n → wY_clear_2 post (nI i) (nI srv) (nI cap) (nI slt) (nI cfg) (nI cl) n (nI j) (fun ix_ => nI (c ix_)) (fun ix_ => nI (ro ix_)) (fun ix_ => nI (l ix_)) (fun ix_ => nI (k ix_)) (cs_fl 5 E) (cs_fl 6 C) (cs_fl 11 (cs_pw m i (fun _ => 0) 0 j)) := by
  intro d
  induction d with
  | zero =>
    intro j hj n hn
    obtain ⟨n', rfl⟩ := cs_n1 hn
    obtain rfl : j = 11 := by omega
    refine br_t (nI_le (a := 11) (b := 11) (by omega) (by omega)) ?_
    rw [cs_w11]
    exact h
  | succ d ih =>
    intro j hj n hn
    obtain ⟨n', rfl⟩ := cs_n1 hn
    refine br_f (nI_ge (a := j) (b := 11) (by omega) (by omega)) ?_
    rw [cs_m11, nI_add, nI_clamp (n := i * 11 + j) (by omega)]
    refine ⟨vp_in_nI (by omega) (by omega), nm_r (e' := cs_fl 11 (cs_pw m i (fun _ => 0) 0 (j + 1))) ?_ (nm_r (nI_1 j) (ih (j + 1) (by omega) n' (by omega)))⟩
    rw [cs_fu (by omega)]
    exact congrArg (cs_fl 11) (cs_pws (r := fun _ => 0) (Nat.zero_le j))
theorem cs_yclr {post : SY → Prop} {i : Nat} (hi : i < 16) (h : post (nI srv, nI cap, nI slt, nI cfg, nI cl, (fun ix_ => nI (c ix_)), (fun ix_ => nI (ro ix_)), (fun ix_ => nI (l ix_)), (fun ix_ => nI (k ix_)), (cs_fl 5 E), (cs_fl 6 C), (cs_fl 11 (cs_wm m i (fun _ => 0))))) : wpY_clear post (nI srv, nI cap, nI slt, nI cfg, nI cl, (fun ix_ => nI (c ix_)), (fun ix_ => nI (ro ix_)), (fun ix_ => nI (l ix_)), (fun ix_ => nI (k ix_)), (cs_fl 5 E), (cs_fl 6 C), (cs_fl 11 m)) (nI i) := by
  have h9 := cs_yc0 hi h 11 0 (by omega) 12 (by omega)
  rw [cs_pw0] at h9
  exact ⟨12, h9⟩
end cs_app
end
section
section cs_req
variable {srv cap slt cl cfg : Nat} {jn : Int32} {c ro l k : Nat → Nat} {va : Nat → Int32} {E C G m : Nat → Nat → Int32} {mu : Nat} {Mc Mn : Nat → Int32} {ok : (Nat → Int32) → Prop}
def cs_TF (E : Nat → Nat → Int32) (s : Nat) (a b : Int32) (ks p : Nat) (sn : Int32) (e st : Nat) : Prop :=
  (sn = 0 ∨ sn = 1) ∧ (sn = 0 → ∀ q, q < p → ¬ (E 0 (s * 48 + q) = a ∧ ¬ E 1 (s * 48 + q) < b)) ∧
  (e = 0 ∨ (sn = 1 ∧ 1 ≤ e ∧ e ≤ p ∧ E 0 (s * 48 + (e - 1)) = a ∧ E 1 (s * 48 + (e - 1)) = b)) ∧ st = (if e ≤ ks then e else 0)
theorem cs_y64 {post : Int32 → SY → Prop} {J : Int32 → Int32 → Int32 → Prop} {s p st : Nat} {a b x4 x6 : Int32} (hs : s < 5) (hp : p < 48) (hk : k s ≤ 48)
    (hn : ¬ (E 0 (s * 48 + p) = a ∧ E 1 (s * 48 + p) = b) → J x4 (nI st) (nI (p + 1 + 1)))
    (hy : E 0 (s * 48 + p) = a → E 1 (s * 48 + p) = b → J x4 (nI (if p + 1 ≤ k s then p + 1 else st)) (nI (p + 1 + 1))) :
    wY_testRequest_64 post J (nI s) a b x4 (nI st) x6 (nI (p + 1)) (nI ((s * 48 + p) * 5)) (nI srv) (nI cap) (nI slt) (nI cfg) (nI cl) (fun ix_ => nI (c ix_)) (fun ix_ => nI (ro ix_)) (fun ix_ => nI (l ix_)) (fun ix_ => nI (k ix_)) (cs_fl 5 E) (cs_fl 6 C) (cs_fl 11 m) := by
  have v5 : vp_in (nI s) 5 := vp_in_nI hs (by omega)
  have ec : (nI s).toNatClampNeg = s := nI_clamp (by omega)
  unfold wY_testRequest_64
  try dsimp only
  rw [ec, nI_1 ((s * 48 + p) * 5), nI_clamp (n := (s * 48 + p) * 5) (by omega), nI_clamp (n := (s * 48 + p) * 5 + 1) (by omega), cs_fr0 (by decide), cs_fr (by decide)]
  refine ⟨vp_in_nI (by omega) (by omega), br_c (fun h0 => ⟨vp_in_nI (by omega) (by omega), br_c (fun h1 => ⟨v5, ?_⟩) (fun h1 => nm_r (nI_1 (p + 1)) (hn (fun z => h1 z.2)))⟩) (fun h0 => nm_r (nI_1 (p + 1)) (hn fun z => h0 z.1))⟩
  have h9 := hy h0 h1
  refine pk_lt (k s) (p + 1) (fun h => nm_r (nI_1 (p + 1)) ?_) (fun h => nm_r (nI_1 (p + 1)) ?_)
  · rw [if_neg (by omega)] at h9; exact h9
  · rw [if_pos h] at h9; exact h9
theorem cs_ltne {x y : Int32} (h : x < y) : ¬ x = y := by
  intro e
  have h1 := Int32.lt_iff_toInt_lt.mp h
  rw [e] at h1
  omega
theorem cs_tr0 {s : Nat} {a b : Int32} (hs : s < 5) (hL : l s ≤ 48) (hk : k s ≤ 48)
    (hu : ∀ p q, p < l s → q < l s → E 0 (s * 48 + p) = E 0 (s * 48 + q) → E 1 (s * 48 + p) = E 1 (s * 48 + q) → p = q) :
    ∀ d p sn e st, p + d = l s → cs_TF E s a b (k s) p sn e st → ∃ sn' e' st', cs_TF E s a b (k s) (l s) sn' e' st' ∧
      (∀ (post : Int32 → SX → Prop) x4 x5 x6 n, d < n → (∀ n', wX_takeRequest_17 post (nI s) a b x4 x5 x6 (nI (l s)) (nI srv) (nI cap) (nI slt) (nI cl) (nI cfg) jn (fun ix_ => nI (c ix_)) (fun ix_ => nI (ro ix_)) (fun ix_ => nI (l ix_)) (fun ix_ => nI (k ix_)) va (E 0) (E 1) (E 2) (E 3) (E 4) (E 5) (C 0) (C 1) (C 2) (C 3) (C 4) (C 5) (G 0) (G 1) (G 2) (G 3) (G 4) (G 5) (G 6) (G 7) (G 8) (G 9) (G 10) (n' + 1) sn' (nI e') (nI (l s + 1))) → wX_takeRequest_17 post (nI s) a b x4 x5 x6 (nI (l s)) (nI srv) (nI cap) (nI slt) (nI cl) (nI cfg) jn (fun ix_ => nI (c ix_)) (fun ix_ => nI (ro ix_)) (fun ix_ => nI (l ix_)) (fun ix_ => nI (k ix_)) va (E 0) (E 1) (E 2) (E 3) (E 4) (E 5) (C 0) (C 1) (C 2) (C 3) (C 4) (C 5) (G 0) (G 1) (G 2) (G 3) (G 4) (G 5) (G 6) (G 7) (G 8) (G 9) (G 10) n sn (nI e) (nI (p + 1))) ∧
      (∀ (post : Int32 → SY → Prop) n, d < n → (∀ n', wY_testRequest_17 post (nI s) a b (nI (l s)) (nI srv) (nI cap) (nI slt) (nI cfg) (nI cl) (fun ix_ => nI (c ix_)) (fun ix_ => nI (ro ix_)) (fun ix_ => nI (l ix_)) (fun ix_ => nI (k ix_)) (cs_fl 5 E) (cs_fl 6 C) (cs_fl 11 m) (n' + 1) sn' (nI st') (nI (l s + 1))) → wY_testRequest_17 post (nI s) a b (nI (l s)) (nI srv) (nI cap) (nI slt) (nI cfg) (nI cl) (fun ix_ => nI (c ix_)) (fun ix_ => nI (ro ix_)) (fun ix_ => nI (l ix_)) (fun ix_ => nI (k ix_)) (cs_fl 5 E) (cs_fl 6 C) (cs_fl 11 m) n sn (nI st) (nI (p + 1))) := by
  intro d
  induction d with
  | zero =>
    intro p sn e st hp hT
    obtain rfl : p = l s := by omega
    refine ⟨sn, e, st, hT, fun post x4 x5 x6 n hn h => ?_, fun post n hn h => ?_⟩
    · obtain ⟨n', rfl⟩ := cs_n1 hn
      exact h n'
    · obtain ⟨n', rfl⟩ := cs_n1 hn
      exact h n'
  | succ d ih =>
    intro p sn e st hp hT
    have v : vp_in (nI (s * 48 + p)) 240 := vp_in_nI (by omega) (by omega)
    have ee : (nI (s * 48 + p)).toNatClampNeg = s * 48 + p := nI_clamp (by omega)
    have w0 : vp_in (nI ((s * 48 + p) * 5)) 1200 := vp_in_nI (by omega) (by omega)
    have w1 : vp_in (nI ((s * 48 + p) * 5 + 1)) 1200 := vp_in_nI (by omega) (by omega)
    have hlt : ¬ nI (l s) < nI (p + 1) := nI_nlt (by omega) (by omega)
    obtain ⟨t1, t2, t3, t4⟩ := hT
    -- Y's body up to the join
    have yb : ∀ (post : Int32 → SY → Prop) (n' : Nat) (sn2 : Int32), (E 0 (s * 48 + p) = a → ¬ E 1 (s * 48 + p) < b → sn2 = 1) → (¬ (E 0 (s * 48 + p) = a ∧ ¬ E 1 (s * 48 + p) < b) → sn2 = sn) →
        wY_testRequest_64 post (wY_testRequest_17 post (nI s) a b (nI (l s)) (nI srv) (nI cap) (nI slt) (nI cfg) (nI cl) (fun ix_ => nI (c ix_)) (fun ix_ => nI (ro ix_)) (fun ix_ => nI (l ix_)) (fun ix_ => nI (k ix_)) (cs_fl 5 E) (cs_fl 6 C) (cs_fl 11 m) n') (nI s) a b sn2 (nI st) (nI (l s)) (nI (p + 1)) (nI ((s * 48 + p) * 5)) (nI srv) (nI cap) (nI slt) (nI cfg) (nI cl) (fun ix_ => nI (c ix_)) (fun ix_ => nI (ro ix_)) (fun ix_ => nI (l ix_)) (fun ix_ => nI (k ix_)) (cs_fl 5 E) (cs_fl 6 C) (cs_fl 11 m) →
        wY_testRequest_17 post (nI s) a b (nI (l s)) (nI srv) (nI cap) (nI slt) (nI cfg) (nI cl) (fun ix_ => nI (c ix_)) (fun ix_ => nI (ro ix_)) (fun ix_ => nI (l ix_)) (fun ix_ => nI (k ix_)) (cs_fl 5 E) (cs_fl 6 C) (cs_fl 11 m) (n' + 1) sn (nI st) (nI (p + 1)) := by
      intro post n' sn2 h1 h2 h
      refine br_f hlt (nm_r (e' := nI ((s * 48 + p) * 5)) (by rw [cs_cell, cs_m5]) ?_)
      rw [nI_1 ((s * 48 + p) * 5), nI_clamp (n := (s * 48 + p) * 5) (by omega), nI_clamp (n := (s * 48 + p) * 5 + 1) (by omega), cs_fr0 (by decide), cs_fr (by decide)]
      refine ⟨w0, br_c (fun h0 => ⟨w1, br_c (fun h3 => ?_) (fun h3 => ?_)⟩) (fun h0 => ?_)⟩
      · rw [h2 (fun z => z.2 h3)] at h; exact h
      · rw [h1 h0 h3] at h; exact h
      · rw [h2 (fun z => h0 z.1)] at h; exact h
    by_cases h0 : E 0 (s * 48 + p) = a
    · by_cases h1 : E 1 (s * 48 + p) < b
      · have hne := cs_ltne h1
        obtain ⟨sn', e', st', hF, hX, hY⟩ := ih (p + 1) sn e st (by omega) ⟨t1, fun z q hq => by
          by_cases eq : q = p
          · rw [eq]; exact fun z => z.2 h1
          · exact t2 z q (by omega), t3.imp id (fun z => ⟨z.1, z.2.1, by omega, z.2.2.2⟩), t4⟩
        refine ⟨sn', e', st', hF, fun post x4 x5 x6 n hn h => ?_, fun post n hn h => ?_⟩
        · obtain ⟨n', rfl⟩ := cs_n1 hn
          refine br_f hlt (cs_xcell ?_)
          rw [ee]
          exact ⟨v, br_t h0 ⟨v, br_t h1 (nm_r (nI_1 (p + 1)) (hX post x4 x5 x6 n' (by omega) h))⟩⟩
        · obtain ⟨n', rfl⟩ := cs_n1 hn
          exact yb post n' sn (fun _ z => absurd h1 z) (fun _ => rfl) (cs_y64 hs (by omega) hk (fun _ => hY post n' (by omega) h) (fun _ z => absurd z hne))
      · by_cases h2 : E 1 (s * 48 + p) = b
        · have he : e = 0 := by
            rcases t3 with z | ⟨_, z1, z2, z3, z4⟩
            · exact z
            · have := hu p (e - 1) (by omega) (by omega) (by rw [z3, h0]) (by rw [z4, h2])
              omega
          obtain ⟨sn', e', st', hF, hX, hY⟩ := ih (p + 1) 1 (p + 1) (if p + 1 ≤ k s then p + 1 else st) (by omega) ⟨Or.inr rfl, fun z => absurd z (by decide), Or.inr ⟨rfl, by omega, by omega, by rw [Nat.add_sub_cancel]; exact h0, by rw [Nat.add_sub_cancel]; exact h2⟩, by
            rw [t4, he, if_pos (Nat.zero_le _)]⟩
          refine ⟨sn', e', st', hF, fun post x4 x5 x6 n hn h => ?_, fun post n hn h => ?_⟩
          · obtain ⟨n', rfl⟩ := cs_n1 hn
            refine br_f hlt (cs_xcell ?_)
            rw [ee]
            exact ⟨v, br_t h0 ⟨v, br_f h1 ⟨v, br_t h2 (nm_r (nI_1 (p + 1)) (hX post x4 x5 x6 n' (by omega) h))⟩⟩⟩
          · obtain ⟨n', rfl⟩ := cs_n1 hn
            exact yb post n' 1 (fun _ _ => rfl) (fun z => absurd ⟨h0, h1⟩ z) (cs_y64 hs (by omega) hk (fun z => absurd ⟨h0, h2⟩ z) (fun _ _ => hY post n' (by omega) h))
        · obtain ⟨sn', e', st', hF, hX, hY⟩ := ih (p + 1) 1 e st (by omega) ⟨Or.inr rfl, fun z => absurd z (by decide), t3.imp id (fun z => ⟨rfl, z.2.1, by omega, z.2.2.2⟩), t4⟩
          refine ⟨sn', e', st', hF, fun post x4 x5 x6 n hn h => ?_, fun post n hn h => ?_⟩
          · obtain ⟨n', rfl⟩ := cs_n1 hn
            refine br_f hlt (cs_xcell ?_)
            rw [ee]
            exact ⟨v, br_t h0 ⟨v, br_f h1 ⟨v, br_f h2 (nm_r (nI_1 (p + 1)) (hX post x4 x5 x6 n' (by omega) h))⟩⟩⟩
          · obtain ⟨n', rfl⟩ := cs_n1 hn
            exact yb post n' 1 (fun _ _ => rfl) (fun z => absurd ⟨h0, h1⟩ z) (cs_y64 hs (by omega) hk (fun _ => hY post n' (by omega) h) (fun _ z => absurd z h2))
    · obtain ⟨sn', e', st', hF, hX, hY⟩ := ih (p + 1) sn e st (by omega) ⟨t1, fun z q hq => by
        by_cases eq : q = p
        · rw [eq]; exact fun z => h0 z.1
        · exact t2 z q (by omega), t3.imp id (fun z => ⟨z.1, z.2.1, by omega, z.2.2.2⟩), t4⟩
      refine ⟨sn', e', st', hF, fun post x4 x5 x6 n hn h => ?_, fun post n hn h => ?_⟩
      · obtain ⟨n', rfl⟩ := cs_n1 hn
        refine br_f hlt (cs_xcell ?_)
        rw [ee]
        exact ⟨v, br_f h0 (nm_r (nI_1 (p + 1)) (hX post x4 x5 x6 n' (by omega) h))⟩
      · obtain ⟨n', rfl⟩ := cs_n1 hn
        exact yb post n' sn (fun z => absurd z h0) (fun _ => rfl) (cs_y64 hs (by omega) hk (fun _ => hY post n' (by omega) h) (fun z => absurd z h0))
theorem cs_xtail {post : Int32 → Prop} {s : Nat} (h1 : 1 ≤ cl) (h5 : cl ≤ 5) (hc : ∀ i, c i < 5) (hs : s < 5) (ht : c (cl - 1) = s → post 1) (hf : c (cl - 1) ≠ s → post 0) : wpX_isTail post (nI srv, nI cap, nI slt, nI cl, nI cfg, jn, (fun ix_ => nI (c ix_)), (fun ix_ => nI (ro ix_)), (fun ix_ => nI (l ix_)), (fun ix_ => nI (k ix_)), va, (E 0), (E 1), (E 2), (E 3), (E 4), (E 5), (C 0), (C 1), (C 2), (C 3), (C 4), (C 5), (G 0), (G 1), (G 2), (G 3), (G 4), (G 5), (G 6), (G 7), (G 8), (G 9), (G 10)) (nI s) := by
  have hcc := hc (cl - 1)
  unfold wpX_isTail
  try dsimp only
  rw [cs_s1 h1, nI_clamp (n := cl - 1) (by omega)]
  exact ⟨vp_in_nI (by omega) (by omega), pk_eq (c (cl - 1)) s ht hf⟩
theorem cs_ytail {post : Int32 → Prop} (h1 : 1 ≤ cl) (h5 : cl ≤ 5) (h : post (nI (c (cl - 1)))) : wpY_tail post (nI srv, nI cap, nI slt, nI cfg, nI cl, (fun ix_ => nI (c ix_)), (fun ix_ => nI (ro ix_)), (fun ix_ => nI (l ix_)), (fun ix_ => nI (k ix_)), (cs_fl 5 E), (cs_fl 6 C), (cs_fl 11 m)) := by
  unfold wpY_tail
  try dsimp only
  rw [cs_s1 h1, nI_clamp (n := cl - 1) (by omega)]
  exact ⟨vp_in_nI (by omega) (by omega), h⟩
theorem cs_treq (hA : cs_A srv cap slt cl cfg jn c ro l k) (hE : cs_Ev l va E) (hG : cs_Gh srv cl c ro l E mu Mc Mn) (hq : cs_Q (cs_ok srv cap cfg cl c ro l mu Mc Mn) G m) {s y : Nat} {a b op ar : Int32} (hs : s < srv) (hr1 : ro s = 1) (hy : y < 4) :
    (∃ r G' m', r ≠ 1 ∧ cs_Q (cs_ok srv cap cfg cl c ro l mu Mc Mn) G' m' ∧ (∀ post : Int32 → SX → Prop, post r (nI srv, nI cap, nI slt, nI cl, nI cfg, jn, (fun ix_ => nI (c ix_)), (fun ix_ => nI (ro ix_)), (fun ix_ => nI (l ix_)), (fun ix_ => nI (k ix_)), va, (E 0), (E 1), (E 2), (E 3), (E 4), (E 5), (C 0), (C 1), (C 2), (C 3), (C 4), (C 5), (G' 0), (G' 1), (G' 2), (G' 3), (G' 4), (G' 5), (G' 6), (G' 7), (G' 8), (G' 9), (G' 10)) → wpX_takeRequest post (nI srv, nI cap, nI slt, nI cl, nI cfg, jn, (fun ix_ => nI (c ix_)), (fun ix_ => nI (ro ix_)), (fun ix_ => nI (l ix_)), (fun ix_ => nI (k ix_)), va, (E 0), (E 1), (E 2), (E 3), (E 4), (E 5), (C 0), (C 1), (C 2), (C 3), (C 4), (C 5), (G 0), (G 1), (G 2), (G 3), (G 4), (G 5), (G 6), (G 7), (G 8), (G 9), (G 10)) (nI s) a b op (nI y) ar) ∧ (∀ post : Int32 → SY → Prop, post r (nI srv, nI cap, nI slt, nI cfg, nI cl, (fun ix_ => nI (c ix_)), (fun ix_ => nI (ro ix_)), (fun ix_ => nI (l ix_)), (fun ix_ => nI (k ix_)), (cs_fl 5 E), (cs_fl 6 C), (cs_fl 11 m')) → wpY_testRequest post (nI srv, nI cap, nI slt, nI cfg, nI cl, (fun ix_ => nI (c ix_)), (fun ix_ => nI (ro ix_)), (fun ix_ => nI (l ix_)), (fun ix_ => nI (k ix_)), (cs_fl 5 E), (cs_fl 6 C), (cs_fl 11 m)) (nI s) a b)) ∨
    (l s < cap ∧ (∀ q, q < l s → ¬ (E 0 (s * 48 + q) = a ∧ ¬ E 1 (s * 48 + q) < b)) ∧ (∀ post : Int32 → SY → Prop, post 1 (nI srv, nI cap, nI slt, nI cfg, nI cl, (fun ix_ => nI (c ix_)), (fun ix_ => nI (ro ix_)), (fun ix_ => nI (l ix_)), (fun ix_ => nI (k ix_)), (cs_fl 5 E), (cs_fl 6 C), (cs_fl 11 m)) → wpY_testRequest post (nI srv, nI cap, nI slt, nI cfg, nI cl, (fun ix_ => nI (c ix_)), (fun ix_ => nI (ro ix_)), (fun ix_ => nI (l ix_)), (fun ix_ => nI (k ix_)), (cs_fl 5 E), (cs_fl 6 C), (cs_fl 11 m)) (nI s) a b) ∧
      (c (cl - 1) = s → ∀ (post : Int32 → SX → Prop) (G' : Nat → Nat → Int32),
        (∀ p : SX → Prop, p (nI srv, nI cap, nI slt, nI cl, nI cfg, jn, (fun ix_ => nI (c ix_)), (fun ix_ => nI (ro ix_)), (fun ix_ => nI ((cs_u l s (l s + 1)) ix_)), (fun ix_ => nI ((cs_u k s (l s + 1)) ix_)), (upd va (s * 4 + y) (if op = 0 then ar else va (s * 4 + y) + ar)), ((cs_wm E (s * 48 + l s) (cs_r6 a b op (nI y) ar (va (s * 4 + y)))) 0), ((cs_wm E (s * 48 + l s) (cs_r6 a b op (nI y) ar (va (s * 4 + y)))) 1), ((cs_wm E (s * 48 + l s) (cs_r6 a b op (nI y) ar (va (s * 4 + y)))) 2), ((cs_wm E (s * 48 + l s) (cs_r6 a b op (nI y) ar (va (s * 4 + y)))) 3), ((cs_wm E (s * 48 + l s) (cs_r6 a b op (nI y) ar (va (s * 4 + y)))) 4), ((cs_wm E (s * 48 + l s) (cs_r6 a b op (nI y) ar (va (s * 4 + y)))) 5), (C 0), (C 1), (C 2), (C 3), (C 4), (C 5), (G' 0), (G' 1), (G' 2), (G' 3), (G' 4), (G' 5), (G' 6), (G' 7), (G' 8), (G' 9), (G' 10)) →
          wpX_sendReply p (nI srv, nI cap, nI slt, nI cl, nI cfg, jn, (fun ix_ => nI (c ix_)), (fun ix_ => nI (ro ix_)), (fun ix_ => nI ((cs_u l s (l s + 1)) ix_)), (fun ix_ => nI ((cs_u k s (l s + 1)) ix_)), (upd va (s * 4 + y) (if op = 0 then ar else va (s * 4 + y) + ar)), ((cs_wm E (s * 48 + l s) (cs_r6 a b op (nI y) ar (va (s * 4 + y)))) 0), ((cs_wm E (s * 48 + l s) (cs_r6 a b op (nI y) ar (va (s * 4 + y)))) 1), ((cs_wm E (s * 48 + l s) (cs_r6 a b op (nI y) ar (va (s * 4 + y)))) 2), ((cs_wm E (s * 48 + l s) (cs_r6 a b op (nI y) ar (va (s * 4 + y)))) 3), ((cs_wm E (s * 48 + l s) (cs_r6 a b op (nI y) ar (va (s * 4 + y)))) 4), ((cs_wm E (s * 48 + l s) (cs_r6 a b op (nI y) ar (va (s * 4 + y)))) 5), (C 0), (C 1), (C 2), (C 3), (C 4), (C 5), (G 0), (G 1), (G 2), (G 3), (G 4), (G 5), (G 6), (G 7), (G 8), (G 9), (G 10)) (nI s) (nI (l s + 1))) →
        post 1 (nI srv, nI cap, nI slt, nI cl, nI cfg, jn, (fun ix_ => nI (c ix_)), (fun ix_ => nI (ro ix_)), (fun ix_ => nI ((cs_u l s (l s + 1)) ix_)), (fun ix_ => nI ((cs_u k s (l s + 1)) ix_)), (upd va (s * 4 + y) (if op = 0 then ar else va (s * 4 + y) + ar)), ((cs_wm E (s * 48 + l s) (cs_r6 a b op (nI y) ar (va (s * 4 + y)))) 0), ((cs_wm E (s * 48 + l s) (cs_r6 a b op (nI y) ar (va (s * 4 + y)))) 1), ((cs_wm E (s * 48 + l s) (cs_r6 a b op (nI y) ar (va (s * 4 + y)))) 2), ((cs_wm E (s * 48 + l s) (cs_r6 a b op (nI y) ar (va (s * 4 + y)))) 3), ((cs_wm E (s * 48 + l s) (cs_r6 a b op (nI y) ar (va (s * 4 + y)))) 4), ((cs_wm E (s * 48 + l s) (cs_r6 a b op (nI y) ar (va (s * 4 + y)))) 5), (C 0), (C 1), (C 2), (C 3), (C 4), (C 5), (G' 0), (G' 1), (G' 2), (G' 3), (G' 4), (G' 5), (G' 6), (G' 7), (G' 8), (G' 9), (G' 10)) → wpX_takeRequest post (nI srv, nI cap, nI slt, nI cl, nI cfg, jn, (fun ix_ => nI (c ix_)), (fun ix_ => nI (ro ix_)), (fun ix_ => nI (l ix_)), (fun ix_ => nI (k ix_)), va, (E 0), (E 1), (E 2), (E 3), (E 4), (E 5), (C 0), (C 1), (C 2), (C 3), (C 4), (C 5), (G 0), (G 1), (G 2), (G 3), (G 4), (G 5), (G 6), (G 7), (G 8), (G 9), (G 10)) (nI s) a b op (nI y) ar) ∧
      (c (cl - 1) ≠ s → ∀ (post : Int32 → SX → Prop) (r : Int32) (G' : Nat → Nat → Int32),
        (∀ p : Int32 → SX → Prop, p r (nI srv, nI cap, nI slt, nI cl, nI cfg, jn, (fun ix_ => nI (c ix_)), (fun ix_ => nI (ro ix_)), (fun ix_ => nI ((cs_u l s (l s + 1)) ix_)), (fun ix_ => nI (k ix_)), (upd va (s * 4 + y) (if op = 0 then ar else va (s * 4 + y) + ar)), ((cs_wm E (s * 48 + l s) (cs_r6 a b op (nI y) ar (va (s * 4 + y)))) 0), ((cs_wm E (s * 48 + l s) (cs_r6 a b op (nI y) ar (va (s * 4 + y)))) 1), ((cs_wm E (s * 48 + l s) (cs_r6 a b op (nI y) ar (va (s * 4 + y)))) 2), ((cs_wm E (s * 48 + l s) (cs_r6 a b op (nI y) ar (va (s * 4 + y)))) 3), ((cs_wm E (s * 48 + l s) (cs_r6 a b op (nI y) ar (va (s * 4 + y)))) 4), ((cs_wm E (s * 48 + l s) (cs_r6 a b op (nI y) ar (va (s * 4 + y)))) 5), (C 0), (C 1), (C 2), (C 3), (C 4), (C 5), (G' 0), (G' 1), (G' 2), (G' 3), (G' 4), (G' 5), (G' 6), (G' 7), (G' 8), (G' 9), (G' 10)) →
          wpX_sendForward p (nI srv, nI cap, nI slt, nI cl, nI cfg, jn, (fun ix_ => nI (c ix_)), (fun ix_ => nI (ro ix_)), (fun ix_ => nI ((cs_u l s (l s + 1)) ix_)), (fun ix_ => nI (k ix_)), (upd va (s * 4 + y) (if op = 0 then ar else va (s * 4 + y) + ar)), ((cs_wm E (s * 48 + l s) (cs_r6 a b op (nI y) ar (va (s * 4 + y)))) 0), ((cs_wm E (s * 48 + l s) (cs_r6 a b op (nI y) ar (va (s * 4 + y)))) 1), ((cs_wm E (s * 48 + l s) (cs_r6 a b op (nI y) ar (va (s * 4 + y)))) 2), ((cs_wm E (s * 48 + l s) (cs_r6 a b op (nI y) ar (va (s * 4 + y)))) 3), ((cs_wm E (s * 48 + l s) (cs_r6 a b op (nI y) ar (va (s * 4 + y)))) 4), ((cs_wm E (s * 48 + l s) (cs_r6 a b op (nI y) ar (va (s * 4 + y)))) 5), (C 0), (C 1), (C 2), (C 3), (C 4), (C 5), (G 0), (G 1), (G 2), (G 3), (G 4), (G 5), (G 6), (G 7), (G 8), (G 9), (G 10)) (nI s) (nI (l s + 1))) →
        post 1 (nI srv, nI cap, nI slt, nI cl, nI cfg, jn, (fun ix_ => nI (c ix_)), (fun ix_ => nI (ro ix_)), (fun ix_ => nI ((cs_u l s (l s + 1)) ix_)), (fun ix_ => nI (k ix_)), (upd va (s * 4 + y) (if op = 0 then ar else va (s * 4 + y) + ar)), ((cs_wm E (s * 48 + l s) (cs_r6 a b op (nI y) ar (va (s * 4 + y)))) 0), ((cs_wm E (s * 48 + l s) (cs_r6 a b op (nI y) ar (va (s * 4 + y)))) 1), ((cs_wm E (s * 48 + l s) (cs_r6 a b op (nI y) ar (va (s * 4 + y)))) 2), ((cs_wm E (s * 48 + l s) (cs_r6 a b op (nI y) ar (va (s * 4 + y)))) 3), ((cs_wm E (s * 48 + l s) (cs_r6 a b op (nI y) ar (va (s * 4 + y)))) 4), ((cs_wm E (s * 48 + l s) (cs_r6 a b op (nI y) ar (va (s * 4 + y)))) 5), (C 0), (C 1), (C 2), (C 3), (C 4), (C 5), (G' 0), (G' 1), (G' 2), (G' 3), (G' 4), (G' 5), (G' 6), (G' 7), (G' 8), (G' 9), (G' 10)) → wpX_takeRequest post (nI srv, nI cap, nI slt, nI cl, nI cfg, jn, (fun ix_ => nI (c ix_)), (fun ix_ => nI (ro ix_)), (fun ix_ => nI (l ix_)), (fun ix_ => nI (k ix_)), va, (E 0), (E 1), (E 2), (E 3), (E 4), (E 5), (C 0), (C 1), (C 2), (C 3), (C 4), (C 5), (G 0), (G 1), (G 2), (G 3), (G 4), (G 5), (G 6), (G 7), (G 8), (G 9), (G 10)) (nI s) a b op (nI y) ar)) := by
  have hA' := hA
  obtain ⟨⟨b1, b2, b3, b4, b5, b6, b7, b8, b9⟩, hc, hro, hl, hk, _⟩ := hA'
  have hls := hl s
  have hks := hk s
  have v5 : vp_in (nI s) 5 := vp_in_nI (by omega) (by omega)
  have ec : (nI s).toNatClampNeg = s := nI_clamp (by omega)
  have hu : ∀ p q, p < l s → q < l s → E 0 (s * 48 + p) = E 0 (s * 48 + q) → E 1 (s * 48 + p) = E 1 (s * 48 + q) → p = q := by
    intro p q hp hq e0 e1
    obtain ⟨g1, g2, _⟩ := hG
    obtain ⟨g3, g4⟩ := g2 s hs (Or.inl hr1)
    rw [(g4 p hp).1, (g4 q hq).1] at e0
    rw [(g4 p hp).2, (g4 q hq).2] at e1
    exact g1 p q (by omega) (by omega) e0 e1
  obtain ⟨sn, e, st, ⟨t1, t2, t3, t4⟩, hX, hY⟩ := cs_tr0 (srv := srv) (cap := cap) (slt := slt) (cl := cl) (cfg := cfg) (jn := jn) (c := c) (ro := ro) (l := l) (k := k) (va := va) (E := E) (C := C) (G := G) (m := m) (s := s) (a := a) (b := b) (by omega) (by omega) (by omega) hu (l s) 0 0 0 0 (by omega) ⟨Or.inl rfl, fun _ q hq => absurd hq (by omega), Or.inl rfl, (if_pos (Nat.zero_le _)).symm⟩
  have xin : ∀ post : Int32 → SX → Prop, (∀ n', wX_takeRequest_17 post (nI s) a b op (nI y) ar (nI (l s)) (nI srv) (nI cap) (nI slt) (nI cl) (nI cfg) jn (fun ix_ => nI (c ix_)) (fun ix_ => nI (ro ix_)) (fun ix_ => nI (l ix_)) (fun ix_ => nI (k ix_)) va (E 0) (E 1) (E 2) (E 3) (E 4) (E 5) (C 0) (C 1) (C 2) (C 3) (C 4) (C 5) (G 0) (G 1) (G 2) (G 3) (G 4) (G 5) (G 6) (G 7) (G 8) (G 9) (G 10) (n' + 1) sn (nI e) (nI (l s + 1))) → wpX_takeRequest post (nI srv, nI cap, nI slt, nI cl, nI cfg, jn, (fun ix_ => nI (c ix_)), (fun ix_ => nI (ro ix_)), (fun ix_ => nI (l ix_)), (fun ix_ => nI (k ix_)), va, (E 0), (E 1), (E 2), (E 3), (E 4), (E 5), (C 0), (C 1), (C 2), (C 3), (C 4), (C 5), (G 0), (G 1), (G 2), (G 3), (G 4), (G 5), (G 6), (G 7), (G 8), (G 9), (G 10)) (nI s) a b op (nI y) ar := by
    intro post h
    unfold wpX_takeRequest
    try dsimp only
    rw [ec]
    exact ⟨v5, nm_e ⟨l s + 1, hX post op (nI y) ar (l s + 1) (by omega) h⟩⟩
  have yin : ∀ post : Int32 → SY → Prop, (∀ n', wY_testRequest_17 post (nI s) a b (nI (l s)) (nI srv) (nI cap) (nI slt) (nI cfg) (nI cl) (fun ix_ => nI (c ix_)) (fun ix_ => nI (ro ix_)) (fun ix_ => nI (l ix_)) (fun ix_ => nI (k ix_)) (cs_fl 5 E) (cs_fl 6 C) (cs_fl 11 m) (n' + 1) sn (nI st) (nI (l s + 1))) → wpY_testRequest post (nI srv, nI cap, nI slt, nI cfg, nI cl, (fun ix_ => nI (c ix_)), (fun ix_ => nI (ro ix_)), (fun ix_ => nI (l ix_)), (fun ix_ => nI (k ix_)), (cs_fl 5 E), (cs_fl 6 C), (cs_fl 11 m)) (nI s) a b := by
    intro post h
    unfold wpY_testRequest
    try dsimp only
    rw [ec]
    exact ⟨v5, nm_e ⟨l s + 1, hY post (l s + 1) (by omega) h⟩⟩
  have hend : nI (l s) < nI (l s + 1) := nI_lt (by omega) (by omega)
  rcases t1 with hsn | hsn
  · -- not seen
    subst hsn
    have he : e = 0 := t3.elim id (fun z => absurd z.1 (by decide))
    subst he
    have hst : st = 0 := by rw [t4, if_pos (Nat.zero_le _)]
    subst hst
    have y121 : ∀ (post : Int32 → SY → Prop) , wY_testRequest_121 post (nI s) 0 (nI srv) (nI cap) (nI slt) (nI cfg) (nI cl) (fun ix_ => nI (c ix_)) (fun ix_ => nI (ro ix_)) (fun ix_ => nI (l ix_)) (fun ix_ => nI (k ix_)) (cs_fl 5 E) (cs_fl 6 C) (cs_fl 11 m) → wpY_testRequest post (nI srv, nI cap, nI slt, nI cfg, nI cl, (fun ix_ => nI (c ix_)), (fun ix_ => nI (ro ix_)), (fun ix_ => nI (l ix_)), (fun ix_ => nI (k ix_)), (cs_fl 5 E), (cs_fl 6 C), (cs_fl 11 m)) (nI s) a b :=
      fun post h => yin post (fun n' => br_t hend (br_t (by decide) h))
    by_cases hcap : l s < cap
    · have hcx : nI (l s) < nI cap := nI_lt hcap (by omega)
      by_cases hw : nI (l s) - nI (k s) < 4
      · refine Or.inr ⟨hcap, fun q hq => t2 rfl q hq, fun post hp => y121 post ?_, fun htl post G' hr h => xin post (fun n' => ?_), fun htl post r G' hr h => xin post (fun n' => ?_)⟩
        · unfold wY_testRequest_121
          rw [ec]
          exact br_t rfl ⟨v5, br_t hcx ⟨v5, v5, br_t hw hp⟩⟩
        · refine br_t hend (br_t rfl (br_t hcx ?_))
          rw [ec]
          refine ⟨v5, br_t hw (cs_xapp (by omega) hcap b4 hy (cs_xtail b7 (by omega) (fun i => by have := hc i; omega) (by omega) (fun _ => br_f (by decide) ?_) (fun z => absurd htl z)))⟩
          try dsimp only
          rw [cs_us, nI_1]
          exact ⟨v5, v5, nm_r cs_uu (hr _ h)⟩
        · refine br_t hend (br_t rfl (br_t hcx ?_))
          rw [ec]
          refine ⟨v5, br_t hw (cs_xapp (by omega) hcap b4 hy (cs_xtail b7 (by omega) (fun i => by have := hc i; omega) (by omega) (fun z => absurd z htl) (fun _ => br_t rfl ?_)))⟩
          rw [nI_1]
          exact hr _ h
      · refine Or.inl ⟨6, G, m, by decide, hq, fun post hp => xin post (fun n' => ?_), fun post hp => y121 post ?_⟩
        · refine br_t hend (br_t rfl (br_t hcx ?_))
          rw [ec]
          exact ⟨v5, br_f hw hp⟩
        · unfold wY_testRequest_121
          rw [ec]
          exact br_t rfl ⟨v5, br_t hcx ⟨v5, v5, br_f hw hp⟩⟩
    · have hcx : ¬ nI (l s) < nI cap := nI_nlt (by omega) (by omega)
      refine Or.inl ⟨7, G, m, by decide, hq, fun post hp => xin post (fun n' => br_t hend (br_t rfl (br_f hcx hp))), fun post hp => y121 post ?_⟩
      unfold wY_testRequest_121
      rw [ec]
      exact br_t rfl ⟨v5, br_f hcx hp⟩
  · -- seen
    subst hsn
    by_cases he : e = 0 ∨ k s < e
    · have hst : st = 0 := by
        rw [t4]
        by_cases z : e ≤ k s
        · rw [if_pos z]; omega
        · rw [if_neg z]
      subst hst
      refine Or.inl ⟨2, G, m, by decide, hq, fun post hp => xin post (fun n' => ?_), fun post hp => yin post (fun n' => br_t hend (br_t (by decide) ?_))⟩
      · refine br_t hend (br_f (by decide) ?_)
        have hle : e ≤ l s := t3.elim (fun z => by omega) (fun z => z.2.2.1)
        refine pk_le e 0 (fun _ => hp) (fun z => ?_)
        rw [ec]
        exact ⟨v5, br_t (nI_lt (by omega) (by omega)) hp⟩
      · unfold wY_testRequest_121
        exact br_f (by decide) hp
    · have hle : 1 ≤ e ∧ e ≤ l s := t3.elim (fun z => by omega) (fun z => ⟨z.2.1, z.2.2.1⟩)
      have hst : st = e := by rw [t4, if_pos (by omega)]
      subst hst
      obtain ⟨e', rfl⟩ : ∃ e', st = e' + 1 := ⟨st - 1, by omega⟩
      obtain ⟨G', m', hq', rx, ry⟩ := cs_rep (srv := srv) (cap := cap) (slt := slt) (cl := cl) (cfg := cfg) (jn := jn) (c := c) (ro := ro) (l := l) (k := k) (va := va) (E := E) (C := C) (G := G) (m := m) hA hE hq hs (p := e') (by omega)
      have z0 : ¬ nI (e' + 1) ≤ 0 := nI_nle (by omega) (by omega)
      refine Or.inl ⟨2, G', m', by decide, hq', fun post hp => xin post (fun n' => ?_), fun post hp => yin post (fun n' => br_t hend (br_f z0 (ry _ ?_)))⟩
      · refine br_t hend (br_f (by decide) (br_f z0 ?_))
        rw [ec]
        exact ⟨v5, br_f (nI_nlt (by omega) (by omega)) (rx _ hp)⟩
      · show wY_testRequest_121 post (nI s) 1 _ _ _ _ _ _ _ _ _ _ _ _
        unfold wY_testRequest_121
        exact br_f (by decide) hp
end cs_req
end
section
section cs_inv
variable {srv cap slt cl cfg : Nat} {jn : Int32} {c ro l k : Nat → Nat} {va : Nat → Int32} {E C G m : Nat → Nat → Int32} {mu : Nat} {Mc Mn : Nat → Int32}
theorem cs_Al (hA : cs_A srv cap slt cl cfg jn c ro l k) {s n : Nat} (hs : ro s ≠ 2) (hn : n ≤ cap) : cs_A srv cap slt cl cfg jn c ro (cs_u l s n) k := by
  obtain ⟨hb, hc, hro, hl, hk, h2, hd, hch, hin, hj⟩ := hA
  refine ⟨hb, hc, hro, fun x => ?_, hk, fun x hx => ?_, hd, hch, hin, hj⟩
  · by_cases e : x = s
    · rw [e, cs_us]; exact hn
    · rw [cs_un e]; exact hl x
  · have e : x ≠ s := fun e => hs (by rw [← e]; exact hx)
    rw [cs_un e]; exact h2 x hx
theorem cs_Ak (hA : cs_A srv cap slt cl cfg jn c ro l k) {s n : Nat} (hs : ro s ≠ 2) (hn : n ≤ cap) : cs_A srv cap slt cl cfg jn c ro l (cs_u k s n) := by
  obtain ⟨hb, hc, hro, hl, hk, h2, hd, hch, hin, hj⟩ := hA
  refine ⟨hb, hc, hro, hl, fun x => ?_, fun x hx => ?_, hd, hch, hin, hj⟩
  · by_cases e : x = s
    · rw [e, cs_us]; exact hn
    · rw [cs_un e]; exact hk x
  · have e : x ≠ s := fun e => hs (by rw [← e]; exact hx)
    rw [cs_un e]; exact h2 x hx
theorem cs_uge {f : Nat → Nat} {s x : Nat} : f x ≤ cs_u f s (f s + 1) x := by
  by_cases e : x = s
  · rw [e, cs_us]; omega
  · rw [cs_un e]; omega
theorem cs_okm {ro' l' : Nat → Nat} {mu' : Nat} {Mc' Mn' : Nat → Int32} (h : ∀ t n a b, 1 ≤ n → cs_FW cl c ro l mu Mc Mn t n a b → cs_FW cl c ro' l' mu' Mc' Mn' t n a b) (g : Nat → Int32) (hg : cs_ok srv cap cfg cl c ro l mu Mc Mn g) : cs_ok srv cap cfg cl c ro' l' mu' Mc' Mn' g := by
  obtain ⟨gc, h1, h2, h3⟩ := hg
  refine ⟨gc, h1, h2, ?_⟩
  rcases h3 with h3 | h3 | h3 | h3 | h3
  · exact Or.inl h3
  · exact Or.inr (Or.inl h3)
  · exact Or.inr (Or.inr (Or.inl h3))
  · obtain ⟨a1, a2, a3, t, n, a4, a5, a6, a7, a8, a9⟩ := h3
    exact Or.inr (Or.inr (Or.inr (Or.inl ⟨a1, a2, a3, t, n, a4, a5, a6, a7, a8, fun z => h t n _ _ a6 (a9 z)⟩)))
  · exact Or.inr (Or.inr (Or.inr (Or.inr h3)))
theorem cs_okc {cl' : Nat} {c' ro' l' : Nat → Nat} {mu' : Nat} {Mc' Mn' : Nat → Int32} (g : Nat → Int32) (hg : cs_ok srv cap cfg cl c ro l mu Mc Mn g) : cs_ok srv cap (cfg + 1) cl' c' ro' l' mu' Mc' Mn' g := by
  obtain ⟨gc, h1, h2, h3⟩ := hg
  refine ⟨gc, by omega, h2, ?_⟩
  rcases h3 with h3 | h3 | h3 | h3 | h3
  · exact Or.inl h3
  · obtain ⟨a1, a2, a3, a4, a5, t, a6, a7, a8⟩ := h3
    exact Or.inr (Or.inl ⟨a1, a2, a3, a4, a5, t, a6, a7, fun z => by omega⟩)
  · exact Or.inr (Or.inr (Or.inl h3))
  · obtain ⟨a1, a2, a3, t, n, a4, a5, a6, a7, a8, a9⟩ := h3
    exact Or.inr (Or.inr (Or.inr (Or.inl ⟨a1, a2, a3, t, n, a4, a5, a6, a7, a8, fun z => by omega⟩)))
  · exact Or.inr (Or.inr (Or.inr (Or.inr h3)))
/-- a new update at the head -/
theorem cs_GhR (hA : cs_A srv cap slt cl cfg jn c ro l k) (hG : cs_Gh srv cl c ro l E mu Mc Mn) {s : Nat} {a b op y ar w : Int32} (hs : s = c 0) (hr1 : ro s = 1) (hl : l s < cap)
    (hns : ∀ q, q < l s → ¬ (E 0 (s * 48 + q) = a ∧ ¬ E 1 (s * 48 + q) < b)) :
    cs_Gh srv cl c ro (cs_u l s (l s + 1)) (cs_wm E (s * 48 + l s) (cs_r6 a b op y ar w)) (mu + 1) (upd Mc mu a) (upd Mn mu b) := by
  obtain ⟨⟨b1, b2, b3, b4, b5, b6, b7, b8, b9⟩, hc, hro, hL, hk, h2, hd, hch, hin, hj⟩ := hA
  obtain ⟨g1, g2, g3, g4, g5⟩ := hG
  have hmu : l s = mu := by rw [hs]; exact g5 (by rw [← hs]; exact hr1)
  have hss : s < srv := by rw [hs]; exact hc 0
  obtain ⟨g6, g7⟩ := g2 s hss (Or.inl hr1)
  have hnew : ∀ q, q < mu → Mc q = a → Mn q = b → False := by
    intro q hq e1 e2
    obtain ⟨x1, x2⟩ := g7 q (by omega)
    exact hns q (by omega) ⟨by rw [x1, e1], fun z => cs_ltne z (by rw [x2, e2])⟩
  have e0 : cs_wm E (s * 48 + l s) (cs_r6 a b op y ar w) 0 (s * 48 + l s) = a := cs_wms
  have e1 : cs_wm E (s * 48 + l s) (cs_r6 a b op y ar w) 1 (s * 48 + l s) = b := cs_wms
  refine ⟨fun p q hp hq h1 h2 => ?_, fun x hx hrx => ?_, fun i j hij hjc hi1 hj1 => ?_, fun j i hj hj3 hi hi1 => ?_, fun _ => ?_⟩
  · by_cases ep : p = mu
    · by_cases eq : q = mu
      · omega
      · rw [ep, pk_us, pk_un eq] at h1 h2
        exact (hnew q (by omega) h1.symm h2.symm).elim
    · by_cases eq : q = mu
      · rw [eq, pk_us, pk_un ep] at h1 h2
        exact (hnew p (by omega) h1 h2).elim
      · rw [pk_un ep, pk_un eq] at h1 h2
        exact g1 p q (by omega) (by omega) h1 h2
  · by_cases e : x = s
    · subst e
      rw [cs_us]
      refine ⟨by omega, fun p hp => ?_⟩
      by_cases ep : p = l x
      · subst ep
        rw [e0, e1, hmu, pk_us, pk_us]
        exact ⟨rfl, rfl⟩
      · rw [cs_wmn (by omega), cs_wmn (by omega), pk_un (by omega), pk_un (by omega)]
        exact g7 p (by omega)
    · rw [cs_un e]
      obtain ⟨g8, g9⟩ := g2 x hx hrx
      have hLx := hL x
      refine ⟨by omega, fun p hp => ?_⟩
      rw [cs_wmn (by omega), cs_wmn (by omega), pk_un (by omega), pk_un (by omega)]
      exact g9 p hp
  · have e : c j ≠ s := fun z => by
      have := hd j 0 hjc (by omega) (by rw [z, hs])
      omega
    rw [cs_un e]
    exact Nat.le_trans (g3 i j hij hjc hi1 hj1) cs_uge
  · have e : j ≠ s := fun z => by rw [z, hr1] at hj3; omega
    rw [cs_un e]
    exact Nat.le_trans (g4 j i hj hj3 hi hi1) cs_uge
  · rw [← hs, cs_us, hmu]
theorem cs_okR {s : Nat} {a b : Int32} (g : Nat → Int32) (hg : cs_ok srv cap cfg cl c ro l mu Mc Mn g) : cs_ok srv cap cfg cl c ro (cs_u l s (l s + 1)) (mu + 1) (upd Mc mu a) (upd Mn mu b) g := by
  refine cs_okm (fun t n x y hn h => ?_) g hg
  obtain ⟨h1, h2, h3, j, h4, h5, h6, h7⟩ := h
  exact ⟨by omega, by rw [pk_un (by omega)]; exact h2, by rw [pk_un (by omega)]; exact h3, j, h4, h5, h6, fun i hi hi1 => Nat.le_trans (h7 i hi hi1) cs_uge⟩
/-- a forwarded update -/
theorem cs_GhF (hA : cs_A srv cap slt cl cfg jn c ro l k) (hG : cs_Gh srv cl c ro l E mu Mc Mn) {s : Nat} {a b op y ar w : Int32} (hr1 : ro s = 1) (hl : l s < cap)
    (hF : cs_FW cl c ro l mu Mc Mn s (l s + 1) a b) :
    cs_Gh srv cl c ro (cs_u l s (l s + 1)) (cs_wm E (s * 48 + l s) (cs_r6 a b op y ar w)) mu Mc Mn := by
  obtain ⟨⟨b1, b2, b3, b4, b5, b6, b7, b8, b9⟩, hc, hro, hL, hk, h2, hd, hch, hin, hj⟩ := hA
  obtain ⟨g1, g2, g3, g4, g5⟩ := hG
  obtain ⟨f1, f2, f3, j0, f4, f5, f6, f7⟩ := hF
  rw [Nat.add_sub_cancel] at f2 f3
  have e0 : cs_wm E (s * 48 + l s) (cs_r6 a b op y ar w) 0 (s * 48 + l s) = a := cs_wms
  have e1 : cs_wm E (s * 48 + l s) (cs_r6 a b op y ar w) 1 (s * 48 + l s) = b := cs_wms
  refine ⟨g1, fun x hx hrx => ?_, fun i j hij hjc hi1 hj1 => ?_, fun j i hj hj3 hi hi1 => ?_, fun h0 => ?_⟩
  · by_cases e : x = s
    · subst e
      rw [cs_us]
      refine ⟨f1, fun p hp => ?_⟩
      by_cases ep : p = l x
      · subst ep
        rw [e0, e1]
        exact ⟨f2, f3⟩
      · rw [cs_wmn (by omega), cs_wmn (by omega)]
        exact (g2 x hx hrx).2 p (by omega)
    · rw [cs_un e]
      obtain ⟨g8, g9⟩ := g2 x hx hrx
      have hLx := hL x
      refine ⟨by omega, fun p hp => ?_⟩
      rw [cs_wmn (by omega), cs_wmn (by omega)]
      exact g9 p hp
  · by_cases e : c j = s
    · have ej : j = j0 := hd j j0 hjc f5 (by rw [e, f6])
      rw [e, cs_us]
      exact Nat.le_trans (f7 i (by omega) hi1) cs_uge
    · rw [cs_un e]
      exact Nat.le_trans (g3 i j hij hjc hi1 hj1) cs_uge
  · have e : j ≠ s := fun z => by rw [z, hr1] at hj3; omega
    rw [cs_un e]
    exact Nat.le_trans (g4 j i hj hj3 hi hi1) cs_uge
  · have e : c 0 ≠ s := fun z => by
      have := hd 0 j0 (by omega) f5 (by rw [z, f6])
      omega
    rw [cs_un e]
    exact g5 h0
theorem cs_okF {s : Nat} (g : Nat → Int32) (hg : cs_ok srv cap cfg cl c ro l mu Mc Mn g) : cs_ok srv cap cfg cl c ro (cs_u l s (l s + 1)) mu Mc Mn g := by
  refine cs_okm (fun t n x y hn h => ?_) g hg
  obtain ⟨h1, h2, h3, j, h4, h5, h6, h7⟩ := h
  exact ⟨h1, h2, h3, j, h4, h5, h6, fun i hi hi1 => Nat.le_trans (h7 i hi hi1) cs_uge⟩
end cs_inv
end
section
section cs_hx
variable {srv cap slt cl cfg : Nat} {jn : Int32} {c ro l k : Nat → Nat} {va : Nat → Int32} {E C G m : Nat → Nat → Int32} {l' k' : Nat → Nat} {va' : Nat → Int32} {E' C' G' : Nat → Nat → Int32}
theorem cs_xh5 {post : Int32 → SX → Prop} {r : Int32} {i : Nat} {g0 g1 g2 g3 g4 g5 g6 g7 g8 g9 g10 : Int32} (hi : i < 16) (h0 : G 0 i = g0) (h1 : G 1 i = g1) (h2 : G 2 i = g2) (h3 : G 3 i = g3) (h4 : G 4 i = g4) (h5 : G 5 i = g5) (h6 : G 6 i = g6) (h7 : G 7 i = g7) (h8 : G 8 i = g8) (h9 : G 9 i = g9) (h10 : G 10 i = g10) (hk : g0 = 5)
    (hx : ∀ p : Int32 → SX → Prop, p r (nI srv, nI cap, nI slt, nI cl, nI cfg, jn, (fun ix_ => nI (c ix_)), (fun ix_ => nI (ro ix_)), (fun ix_ => nI (l ix_)), (fun ix_ => nI (k ix_)), va, (E 0), (E 1), (E 2), (E 3), (E 4), (E 5), (C' 0), (C' 1), (C' 2), (C' 3), (C' 4), (C' 5), (G' 0), (G' 1), (G' 2), (G' 3), (G' 4), (G' 5), (G' 6), (G' 7), (G' 8), (G' 9), (G' 10)) → wpX_takeReply p (nI srv, nI cap, nI slt, nI cl, nI cfg, jn, (fun ix_ => nI (c ix_)), (fun ix_ => nI (ro ix_)), (fun ix_ => nI (l ix_)), (fun ix_ => nI (k ix_)), va, (E 0), (E 1), (E 2), (E 3), (E 4), (E 5), (C 0), (C 1), (C 2), (C 3), (C 4), (C 5), ((cs_z G i) 0), ((cs_z G i) 1), ((cs_z G i) 2), ((cs_z G i) 3), ((cs_z G i) 4), ((cs_z G i) 5), ((cs_z G i) 6), ((cs_z G i) 7), ((cs_z G i) 8), ((cs_z G i) 9), ((cs_z G i) 10)) g3 g4 g5) (h : post r (nI srv, nI cap, nI slt, nI cl, nI cfg, jn, (fun ix_ => nI (c ix_)), (fun ix_ => nI (ro ix_)), (fun ix_ => nI (l ix_)), (fun ix_ => nI (k ix_)), va, (E 0), (E 1), (E 2), (E 3), (E 4), (E 5), (C' 0), (C' 1), (C' 2), (C' 3), (C' 4), (C' 5), (G' 0), (G' 1), (G' 2), (G' 3), (G' 4), (G' 5), (G' 6), (G' 7), (G' 8), (G' 9), (G' 10))) : wpX_handle post (nI srv, nI cap, nI slt, nI cl, nI cfg, jn, (fun ix_ => nI (c ix_)), (fun ix_ => nI (ro ix_)), (fun ix_ => nI (l ix_)), (fun ix_ => nI (k ix_)), va, (E 0), (E 1), (E 2), (E 3), (E 4), (E 5), (C 0), (C 1), (C 2), (C 3), (C 4), (C 5), (G 0), (G 1), (G 2), (G 3), (G 4), (G 5), (G 6), (G 7), (G 8), (G 9), (G 10)) (nI i) := by
  have v : vp_in (nI i) 16 := vp_in_nI hi (by omega)
  unfold wpX_handle
  try dsimp only
  rw [nI_clamp (n := i) (by omega)]
  refine ⟨v, nm_r h0 ⟨v, nm_r h2 ⟨v, nm_r h3 ⟨v, nm_r h4 ⟨v, nm_r h5 ⟨v, nm_r h8 ⟨v, nm_r h9 ⟨v, nm_r h10 ⟨v, nm_r (e' := cs_z G i 0) rfl ?_⟩⟩⟩⟩⟩⟩⟩⟩⟩
  exact br_t hk (hx _ h)
theorem cs_xhS {post : Int32 → SX → Prop} {i : Nat} {g0 g1 g2 g3 g4 g5 g6 g7 g8 g9 g10 : Int32} (hi : i < 16) (h0 : G 0 i = g0) (h1 : G 1 i = g1) (h2 : G 2 i = g2) (h3 : G 3 i = g3) (h4 : G 4 i = g4) (h5 : G 5 i = g5) (h6 : G 6 i = g6) (h7 : G 7 i = g7) (h8 : G 8 i = g8) (h9 : G 9 i = g9) (h10 : G 10 i = g10) (hk : ¬ g0 = 5) (hc : ¬ g1 = nI cfg)
    (h : post 4 (nI srv, nI cap, nI slt, nI cl, nI cfg, jn, (fun ix_ => nI (c ix_)), (fun ix_ => nI (ro ix_)), (fun ix_ => nI (l ix_)), (fun ix_ => nI (k ix_)), va, (E 0), (E 1), (E 2), (E 3), (E 4), (E 5), (C 0), (C 1), (C 2), (C 3), (C 4), (C 5), ((cs_z G i) 0), ((cs_z G i) 1), ((cs_z G i) 2), ((cs_z G i) 3), ((cs_z G i) 4), ((cs_z G i) 5), ((cs_z G i) 6), ((cs_z G i) 7), ((cs_z G i) 8), ((cs_z G i) 9), ((cs_z G i) 10))) : wpX_handle post (nI srv, nI cap, nI slt, nI cl, nI cfg, jn, (fun ix_ => nI (c ix_)), (fun ix_ => nI (ro ix_)), (fun ix_ => nI (l ix_)), (fun ix_ => nI (k ix_)), va, (E 0), (E 1), (E 2), (E 3), (E 4), (E 5), (C 0), (C 1), (C 2), (C 3), (C 4), (C 5), (G 0), (G 1), (G 2), (G 3), (G 4), (G 5), (G 6), (G 7), (G 8), (G 9), (G 10)) (nI i) := by
  have v : vp_in (nI i) 16 := vp_in_nI hi (by omega)
  unfold wpX_handle
  try dsimp only
  rw [nI_clamp (n := i) (by omega)]
  refine ⟨v, nm_r h0 ⟨v, nm_r h2 ⟨v, nm_r h3 ⟨v, nm_r h4 ⟨v, nm_r h5 ⟨v, nm_r h8 ⟨v, nm_r h9 ⟨v, nm_r h10 ⟨v, nm_r (e' := cs_z G i 0) rfl ?_⟩⟩⟩⟩⟩⟩⟩⟩⟩
  rw [h1]
  exact br_f hk ⟨v, br_f hc h⟩
theorem cs_xhD {post : Int32 → SX → Prop} {t : Nat} {i : Nat} {g0 g1 g2 g3 g4 g5 g6 g7 g8 g9 g10 : Int32} (hi : i < 16) (h0 : G 0 i = g0) (h1 : G 1 i = g1) (h2 : G 2 i = g2) (h3 : G 3 i = g3) (h4 : G 4 i = g4) (h5 : G 5 i = g5) (h6 : G 6 i = g6) (h7 : G 7 i = g7) (h8 : G 8 i = g8) (h9 : G 9 i = g9) (h10 : G 10 i = g10) (hk : ¬ g0 = 5) (hc : g1 = nI cfg) (ht : g3 = nI t) (ht5 : t < 5) (hro : ro t = 2)
    (h : post 5 (nI srv, nI cap, nI slt, nI cl, nI cfg, jn, (fun ix_ => nI (c ix_)), (fun ix_ => nI (ro ix_)), (fun ix_ => nI (l ix_)), (fun ix_ => nI (k ix_)), va, (E 0), (E 1), (E 2), (E 3), (E 4), (E 5), (C 0), (C 1), (C 2), (C 3), (C 4), (C 5), ((cs_z G i) 0), ((cs_z G i) 1), ((cs_z G i) 2), ((cs_z G i) 3), ((cs_z G i) 4), ((cs_z G i) 5), ((cs_z G i) 6), ((cs_z G i) 7), ((cs_z G i) 8), ((cs_z G i) 9), ((cs_z G i) 10))) : wpX_handle post (nI srv, nI cap, nI slt, nI cl, nI cfg, jn, (fun ix_ => nI (c ix_)), (fun ix_ => nI (ro ix_)), (fun ix_ => nI (l ix_)), (fun ix_ => nI (k ix_)), va, (E 0), (E 1), (E 2), (E 3), (E 4), (E 5), (C 0), (C 1), (C 2), (C 3), (C 4), (C 5), (G 0), (G 1), (G 2), (G 3), (G 4), (G 5), (G 6), (G 7), (G 8), (G 9), (G 10)) (nI i) := by
  subst ht
  have v : vp_in (nI i) 16 := vp_in_nI hi (by omega)
  unfold wpX_handle
  try dsimp only
  rw [nI_clamp (n := i) (by omega)]
  refine ⟨v, nm_r h0 ⟨v, nm_r h2 ⟨v, nm_r h3 ⟨v, nm_r h4 ⟨v, nm_r h5 ⟨v, nm_r h8 ⟨v, nm_r h9 ⟨v, nm_r h10 ⟨v, nm_r (e' := cs_z G i 0) rfl ?_⟩⟩⟩⟩⟩⟩⟩⟩⟩
  rw [h1, nI_clamp (n := t) (by omega), hro]
  exact br_f hk ⟨v, br_t hc ⟨vp_in_nI ht5 (by omega), br_t rfl h⟩⟩
theorem cs_nro {x : Nat} (h : x ≤ 3) (h2 : x ≠ 2) : ¬ nI x = 2 := fun z => h2 (cs_im (b := 2) z (by omega) (by omega))
theorem cs_xh1 {post : Int32 → SX → Prop} {t : Nat} {r : Int32} {i : Nat} {g0 g1 g2 g3 g4 g5 g6 g7 g8 g9 g10 : Int32} (hi : i < 16) (h0 : G 0 i = g0) (h1 : G 1 i = g1) (h2 : G 2 i = g2) (h3 : G 3 i = g3) (h4 : G 4 i = g4) (h5 : G 5 i = g5) (h6 : G 6 i = g6) (h7 : G 7 i = g7) (h8 : G 8 i = g8) (h9 : G 9 i = g9) (h10 : G 10 i = g10) (hk : g0 = 1) (hc : g1 = nI cfg) (ht : g3 = nI t) (ht5 : t < 5) (hr3 : ro t ≤ 3) (hro : ro t ≠ 2)
    (hx : ∀ p : Int32 → SX → Prop, p r (nI srv, nI cap, nI slt, nI cl, nI cfg, jn, (fun ix_ => nI (c ix_)), (fun ix_ => nI (ro ix_)), (fun ix_ => nI (l' ix_)), (fun ix_ => nI (k' ix_)), va', (E' 0), (E' 1), (E' 2), (E' 3), (E' 4), (E' 5), (C 0), (C 1), (C 2), (C 3), (C 4), (C 5), (G' 0), (G' 1), (G' 2), (G' 3), (G' 4), (G' 5), (G' 6), (G' 7), (G' 8), (G' 9), (G' 10)) → wpX_takeRequest p (nI srv, nI cap, nI slt, nI cl, nI cfg, jn, (fun ix_ => nI (c ix_)), (fun ix_ => nI (ro ix_)), (fun ix_ => nI (l ix_)), (fun ix_ => nI (k ix_)), va, (E 0), (E 1), (E 2), (E 3), (E 4), (E 5), (C 0), (C 1), (C 2), (C 3), (C 4), (C 5), ((cs_z G i) 0), ((cs_z G i) 1), ((cs_z G i) 2), ((cs_z G i) 3), ((cs_z G i) 4), ((cs_z G i) 5), ((cs_z G i) 6), ((cs_z G i) 7), ((cs_z G i) 8), ((cs_z G i) 9), ((cs_z G i) 10)) (nI t) g2 g4 g8 g9 g10)
    (h : post r (nI srv, nI cap, nI slt, nI cl, nI cfg, jn, (fun ix_ => nI (c ix_)), (fun ix_ => nI (ro ix_)), (fun ix_ => nI (l' ix_)), (fun ix_ => nI (k' ix_)), va', (E' 0), (E' 1), (E' 2), (E' 3), (E' 4), (E' 5), (C 0), (C 1), (C 2), (C 3), (C 4), (C 5), (G' 0), (G' 1), (G' 2), (G' 3), (G' 4), (G' 5), (G' 6), (G' 7), (G' 8), (G' 9), (G' 10))) : wpX_handle post (nI srv, nI cap, nI slt, nI cl, nI cfg, jn, (fun ix_ => nI (c ix_)), (fun ix_ => nI (ro ix_)), (fun ix_ => nI (l ix_)), (fun ix_ => nI (k ix_)), va, (E 0), (E 1), (E 2), (E 3), (E 4), (E 5), (C 0), (C 1), (C 2), (C 3), (C 4), (C 5), (G 0), (G 1), (G 2), (G 3), (G 4), (G 5), (G 6), (G 7), (G 8), (G 9), (G 10)) (nI i) := by
  subst ht hk
  have v : vp_in (nI i) 16 := vp_in_nI hi (by omega)
  unfold wpX_handle
  try dsimp only
  rw [nI_clamp (n := i) (by omega)]
  refine ⟨v, nm_r h0 ⟨v, nm_r h2 ⟨v, nm_r h3 ⟨v, nm_r h4 ⟨v, nm_r h5 ⟨v, nm_r h8 ⟨v, nm_r h9 ⟨v, nm_r h10 ⟨v, nm_r (e' := cs_z G i 0) rfl ?_⟩⟩⟩⟩⟩⟩⟩⟩⟩
  rw [h1, nI_clamp (n := t) (by omega)]
  exact br_f (by decide) ⟨v, br_t hc ⟨vp_in_nI ht5 (by omega), br_f (cs_nro hr3 hro) (br_t rfl (hx _ h))⟩⟩
theorem cs_xh2 {post : Int32 → SX → Prop} {t : Nat} {r : Int32} {i : Nat} {g0 g1 g2 g3 g4 g5 g6 g7 g8 g9 g10 : Int32} (hi : i < 16) (h0 : G 0 i = g0) (h1 : G 1 i = g1) (h2 : G 2 i = g2) (h3 : G 3 i = g3) (h4 : G 4 i = g4) (h5 : G 5 i = g5) (h6 : G 6 i = g6) (h7 : G 7 i = g7) (h8 : G 8 i = g8) (h9 : G 9 i = g9) (h10 : G 10 i = g10) (hk : g0 = 2) (hc : g1 = nI cfg) (ht : g3 = nI t) (ht5 : t < 5) (hr3 : ro t ≤ 3) (hro : ro t ≠ 2)
    (hx : ∀ p : Int32 → SX → Prop, p r (nI srv, nI cap, nI slt, nI cl, nI cfg, jn, (fun ix_ => nI (c ix_)), (fun ix_ => nI (ro ix_)), (fun ix_ => nI (l ix_)), (fun ix_ => nI (k ix_)), va, (E 0), (E 1), (E 2), (E 3), (E 4), (E 5), (C 0), (C 1), (C 2), (C 3), (C 4), (C 5), (G' 0), (G' 1), (G' 2), (G' 3), (G' 4), (G' 5), (G' 6), (G' 7), (G' 8), (G' 9), (G' 10)) → wpX_takeQuery p (nI srv, nI cap, nI slt, nI cl, nI cfg, jn, (fun ix_ => nI (c ix_)), (fun ix_ => nI (ro ix_)), (fun ix_ => nI (l ix_)), (fun ix_ => nI (k ix_)), va, (E 0), (E 1), (E 2), (E 3), (E 4), (E 5), (C 0), (C 1), (C 2), (C 3), (C 4), (C 5), ((cs_z G i) 0), ((cs_z G i) 1), ((cs_z G i) 2), ((cs_z G i) 3), ((cs_z G i) 4), ((cs_z G i) 5), ((cs_z G i) 6), ((cs_z G i) 7), ((cs_z G i) 8), ((cs_z G i) 9), ((cs_z G i) 10)) (nI t) g2 g4 g5)
    (h : post r (nI srv, nI cap, nI slt, nI cl, nI cfg, jn, (fun ix_ => nI (c ix_)), (fun ix_ => nI (ro ix_)), (fun ix_ => nI (l ix_)), (fun ix_ => nI (k ix_)), va, (E 0), (E 1), (E 2), (E 3), (E 4), (E 5), (C 0), (C 1), (C 2), (C 3), (C 4), (C 5), (G' 0), (G' 1), (G' 2), (G' 3), (G' 4), (G' 5), (G' 6), (G' 7), (G' 8), (G' 9), (G' 10))) : wpX_handle post (nI srv, nI cap, nI slt, nI cl, nI cfg, jn, (fun ix_ => nI (c ix_)), (fun ix_ => nI (ro ix_)), (fun ix_ => nI (l ix_)), (fun ix_ => nI (k ix_)), va, (E 0), (E 1), (E 2), (E 3), (E 4), (E 5), (C 0), (C 1), (C 2), (C 3), (C 4), (C 5), (G 0), (G 1), (G 2), (G 3), (G 4), (G 5), (G 6), (G 7), (G 8), (G 9), (G 10)) (nI i) := by
  subst ht hk
  have v : vp_in (nI i) 16 := vp_in_nI hi (by omega)
  unfold wpX_handle
  try dsimp only
  rw [nI_clamp (n := i) (by omega)]
  refine ⟨v, nm_r h0 ⟨v, nm_r h2 ⟨v, nm_r h3 ⟨v, nm_r h4 ⟨v, nm_r h5 ⟨v, nm_r h8 ⟨v, nm_r h9 ⟨v, nm_r h10 ⟨v, nm_r (e' := cs_z G i 0) rfl ?_⟩⟩⟩⟩⟩⟩⟩⟩⟩
  rw [h1, nI_clamp (n := t) (by omega)]
  exact br_f (by decide) ⟨v, br_t hc ⟨vp_in_nI ht5 (by omega), br_f (cs_nro hr3 hro) (br_f (by decide) (br_t rfl (hx _ h)))⟩⟩
theorem cs_xh3 {post : Int32 → SX → Prop} {t : Nat} {r : Int32} {i : Nat} {g0 g1 g2 g3 g4 g5 g6 g7 g8 g9 g10 : Int32} (hi : i < 16) (h0 : G 0 i = g0) (h1 : G 1 i = g1) (h2 : G 2 i = g2) (h3 : G 3 i = g3) (h4 : G 4 i = g4) (h5 : G 5 i = g5) (h6 : G 6 i = g6) (h7 : G 7 i = g7) (h8 : G 8 i = g8) (h9 : G 9 i = g9) (h10 : G 10 i = g10) (hk : g0 = 3) (hc : g1 = nI cfg) (ht : g3 = nI t) (ht5 : t < 5) (hr3 : ro t ≤ 3) (hro : ro t ≠ 2)
    (hx : ∀ p : Int32 → SX → Prop, p r (nI srv, nI cap, nI slt, nI cl, nI cfg, jn, (fun ix_ => nI (c ix_)), (fun ix_ => nI (ro ix_)), (fun ix_ => nI (l' ix_)), (fun ix_ => nI (k' ix_)), va', (E' 0), (E' 1), (E' 2), (E' 3), (E' 4), (E' 5), (C 0), (C 1), (C 2), (C 3), (C 4), (C 5), (G' 0), (G' 1), (G' 2), (G' 3), (G' 4), (G' 5), (G' 6), (G' 7), (G' 8), (G' 9), (G' 10)) → wpX_takeForward p (nI srv, nI cap, nI slt, nI cl, nI cfg, jn, (fun ix_ => nI (c ix_)), (fun ix_ => nI (ro ix_)), (fun ix_ => nI (l ix_)), (fun ix_ => nI (k ix_)), va, (E 0), (E 1), (E 2), (E 3), (E 4), (E 5), (C 0), (C 1), (C 2), (C 3), (C 4), (C 5), ((cs_z G i) 0), ((cs_z G i) 1), ((cs_z G i) 2), ((cs_z G i) 3), ((cs_z G i) 4), ((cs_z G i) 5), ((cs_z G i) 6), ((cs_z G i) 7), ((cs_z G i) 8), ((cs_z G i) 9), ((cs_z G i) 10)) (nI t) g4 g6 g7 g8 g9 g10)
    (h : post r (nI srv, nI cap, nI slt, nI cl, nI cfg, jn, (fun ix_ => nI (c ix_)), (fun ix_ => nI (ro ix_)), (fun ix_ => nI (l' ix_)), (fun ix_ => nI (k' ix_)), va', (E' 0), (E' 1), (E' 2), (E' 3), (E' 4), (E' 5), (C 0), (C 1), (C 2), (C 3), (C 4), (C 5), (G' 0), (G' 1), (G' 2), (G' 3), (G' 4), (G' 5), (G' 6), (G' 7), (G' 8), (G' 9), (G' 10))) : wpX_handle post (nI srv, nI cap, nI slt, nI cl, nI cfg, jn, (fun ix_ => nI (c ix_)), (fun ix_ => nI (ro ix_)), (fun ix_ => nI (l ix_)), (fun ix_ => nI (k ix_)), va, (E 0), (E 1), (E 2), (E 3), (E 4), (E 5), (C 0), (C 1), (C 2), (C 3), (C 4), (C 5), (G 0), (G 1), (G 2), (G 3), (G 4), (G 5), (G 6), (G 7), (G 8), (G 9), (G 10)) (nI i) := by
  subst ht hk
  have v : vp_in (nI i) 16 := vp_in_nI hi (by omega)
  unfold wpX_handle
  try dsimp only
  rw [nI_clamp (n := i) (by omega)]
  refine ⟨v, nm_r h0 ⟨v, nm_r h2 ⟨v, nm_r h3 ⟨v, nm_r h4 ⟨v, nm_r h5 ⟨v, nm_r h8 ⟨v, nm_r h9 ⟨v, nm_r h10 ⟨v, nm_r (e' := cs_z G i 0) rfl ?_⟩⟩⟩⟩⟩⟩⟩⟩⟩
  rw [h1, h6, h7, nI_clamp (n := t) (by omega)]
  exact br_f (by decide) ⟨v, br_t hc ⟨vp_in_nI ht5 (by omega), br_f (cs_nro hr3 hro) (br_f (by decide) (br_f (by decide) (br_t rfl ⟨v, v, hx _ h⟩)))⟩⟩
theorem cs_xh4 {post : Int32 → SX → Prop} {t : Nat} {r : Int32} {i : Nat} {g0 g1 g2 g3 g4 g5 g6 g7 g8 g9 g10 : Int32} (hi : i < 16) (h0 : G 0 i = g0) (h1 : G 1 i = g1) (h2 : G 2 i = g2) (h3 : G 3 i = g3) (h4 : G 4 i = g4) (h5 : G 5 i = g5) (h6 : G 6 i = g6) (h7 : G 7 i = g7) (h8 : G 8 i = g8) (h9 : G 9 i = g9) (h10 : G 10 i = g10) (hk : g0 = 4) (hc : g1 = nI cfg) (ht : g3 = nI t) (ht5 : t < 5) (hr3 : ro t ≤ 3) (hro : ro t ≠ 2)
    (hx : ∀ p : Int32 → SX → Prop, p r (nI srv, nI cap, nI slt, nI cl, nI cfg, jn, (fun ix_ => nI (c ix_)), (fun ix_ => nI (ro ix_)), (fun ix_ => nI (l ix_)), (fun ix_ => nI (k' ix_)), va, (E 0), (E 1), (E 2), (E 3), (E 4), (E 5), (C 0), (C 1), (C 2), (C 3), (C 4), (C 5), (G' 0), (G' 1), (G' 2), (G' 3), (G' 4), (G' 5), (G' 6), (G' 7), (G' 8), (G' 9), (G' 10)) → wpX_takeAck p (nI srv, nI cap, nI slt, nI cl, nI cfg, jn, (fun ix_ => nI (c ix_)), (fun ix_ => nI (ro ix_)), (fun ix_ => nI (l ix_)), (fun ix_ => nI (k ix_)), va, (E 0), (E 1), (E 2), (E 3), (E 4), (E 5), (C 0), (C 1), (C 2), (C 3), (C 4), (C 5), ((cs_z G i) 0), ((cs_z G i) 1), ((cs_z G i) 2), ((cs_z G i) 3), ((cs_z G i) 4), ((cs_z G i) 5), ((cs_z G i) 6), ((cs_z G i) 7), ((cs_z G i) 8), ((cs_z G i) 9), ((cs_z G i) 10)) (nI t) g4)
    (h : post r (nI srv, nI cap, nI slt, nI cl, nI cfg, jn, (fun ix_ => nI (c ix_)), (fun ix_ => nI (ro ix_)), (fun ix_ => nI (l ix_)), (fun ix_ => nI (k' ix_)), va, (E 0), (E 1), (E 2), (E 3), (E 4), (E 5), (C 0), (C 1), (C 2), (C 3), (C 4), (C 5), (G' 0), (G' 1), (G' 2), (G' 3), (G' 4), (G' 5), (G' 6), (G' 7), (G' 8), (G' 9), (G' 10))) : wpX_handle post (nI srv, nI cap, nI slt, nI cl, nI cfg, jn, (fun ix_ => nI (c ix_)), (fun ix_ => nI (ro ix_)), (fun ix_ => nI (l ix_)), (fun ix_ => nI (k ix_)), va, (E 0), (E 1), (E 2), (E 3), (E 4), (E 5), (C 0), (C 1), (C 2), (C 3), (C 4), (C 5), (G 0), (G 1), (G 2), (G 3), (G 4), (G 5), (G 6), (G 7), (G 8), (G 9), (G 10)) (nI i) := by
  subst ht hk
  have v : vp_in (nI i) 16 := vp_in_nI hi (by omega)
  unfold wpX_handle
  try dsimp only
  rw [nI_clamp (n := i) (by omega)]
  refine ⟨v, nm_r h0 ⟨v, nm_r h2 ⟨v, nm_r h3 ⟨v, nm_r h4 ⟨v, nm_r h5 ⟨v, nm_r h8 ⟨v, nm_r h9 ⟨v, nm_r h10 ⟨v, nm_r (e' := cs_z G i 0) rfl ?_⟩⟩⟩⟩⟩⟩⟩⟩⟩
  rw [h1, nI_clamp (n := t) (by omega)]
  exact br_f (by decide) ⟨v, br_t hc ⟨vp_in_nI ht5 (by omega), br_f (cs_nro hr3 hro) (br_f (by decide) (br_f (by decide) (br_f (by decide) (hx _ h))))⟩⟩
/-! the takers of X -/
def cs_c2 (C : Nat → Nat → Int32) (q : Nat) (x : Int32) : Nat → Nat → Int32
  | 0 => upd (C 0) q 2
  | 1 => C 1
  | 2 => C 2
  | 3 => C 3
  | 4 => C 4
  | 5 => upd (C 5) q x
  | f + 6 => C (f + 6)
theorem cs_xrp1 {post : Int32 → SX → Prop} {q : Nat} {b x : Int32} (hq : q < 3) (h0 : C 0 q = 1) (h1 : C 1 q = b) (h : post 1 (nI srv, nI cap, nI slt, nI cl, nI cfg, jn, (fun ix_ => nI (c ix_)), (fun ix_ => nI (ro ix_)), (fun ix_ => nI (l ix_)), (fun ix_ => nI (k ix_)), va, (E 0), (E 1), (E 2), (E 3), (E 4), (E 5), ((cs_c2 C q x) 0), ((cs_c2 C q x) 1), ((cs_c2 C q x) 2), ((cs_c2 C q x) 3), ((cs_c2 C q x) 4), ((cs_c2 C q x) 5), (G 0), (G 1), (G 2), (G 3), (G 4), (G 5), (G 6), (G 7), (G 8), (G 9), (G 10))) : wpX_takeReply post (nI srv, nI cap, nI slt, nI cl, nI cfg, jn, (fun ix_ => nI (c ix_)), (fun ix_ => nI (ro ix_)), (fun ix_ => nI (l ix_)), (fun ix_ => nI (k ix_)), va, (E 0), (E 1), (E 2), (E 3), (E 4), (E 5), (C 0), (C 1), (C 2), (C 3), (C 4), (C 5), (G 0), (G 1), (G 2), (G 3), (G 4), (G 5), (G 6), (G 7), (G 8), (G 9), (G 10)) (nI q) b x := by
  have v : vp_in (nI q) 3 := vp_in_nI hq (by omega)
  unfold wpX_takeReply
  try dsimp only
  rw [nI_clamp (n := q) (by omega)]
  exact ⟨v, br_t h0 ⟨v, br_t h1 ⟨v, nm_r (e' := cs_c2 C q x 0) rfl ⟨v, nm_r (e' := cs_c2 C q x 5) rfl h⟩⟩⟩⟩
theorem cs_xrp2 {post : Int32 → SX → Prop} {q : Nat} {b x : Int32} (hq : q < 3) (h0 : ¬ (C 0 q = 1 ∧ C 1 q = b)) (h : post 2 (nI srv, nI cap, nI slt, nI cl, nI cfg, jn, (fun ix_ => nI (c ix_)), (fun ix_ => nI (ro ix_)), (fun ix_ => nI (l ix_)), (fun ix_ => nI (k ix_)), va, (E 0), (E 1), (E 2), (E 3), (E 4), (E 5), (C 0), (C 1), (C 2), (C 3), (C 4), (C 5), (G 0), (G 1), (G 2), (G 3), (G 4), (G 5), (G 6), (G 7), (G 8), (G 9), (G 10))) : wpX_takeReply post (nI srv, nI cap, nI slt, nI cl, nI cfg, jn, (fun ix_ => nI (c ix_)), (fun ix_ => nI (ro ix_)), (fun ix_ => nI (l ix_)), (fun ix_ => nI (k ix_)), va, (E 0), (E 1), (E 2), (E 3), (E 4), (E 5), (C 0), (C 1), (C 2), (C 3), (C 4), (C 5), (G 0), (G 1), (G 2), (G 3), (G 4), (G 5), (G 6), (G 7), (G 8), (G 9), (G 10)) (nI q) b x := by
  have v : vp_in (nI q) 3 := vp_in_nI hq (by omega)
  unfold wpX_takeReply
  try dsimp only
  rw [nI_clamp (n := q) (by omega)]
  exact ⟨v, br_c (fun z => ⟨v, br_f (fun z2 => h0 ⟨z, z2⟩) h⟩) (fun _ => h)⟩
theorem cs_xtq {post : Int32 → SX → Prop} {t y : Nat} {a b r : Int32} (ht : t < 5) (hy : y < 4)
    (hx : ∀ p : Int32 → SX → Prop, p r (nI srv, nI cap, nI slt, nI cl, nI cfg, jn, (fun ix_ => nI (c ix_)), (fun ix_ => nI (ro ix_)), (fun ix_ => nI (l ix_)), (fun ix_ => nI (k ix_)), va, (E 0), (E 1), (E 2), (E 3), (E 4), (E 5), (C 0), (C 1), (C 2), (C 3), (C 4), (C 5), (G' 0), (G' 1), (G' 2), (G' 3), (G' 4), (G' 5), (G' 6), (G' 7), (G' 8), (G' 9), (G' 10)) → wpX_post p (nI srv, nI cap, nI slt, nI cl, nI cfg, jn, (fun ix_ => nI (c ix_)), (fun ix_ => nI (ro ix_)), (fun ix_ => nI (l ix_)), (fun ix_ => nI (k ix_)), va, (E 0), (E 1), (E 2), (E 3), (E 4), (E 5), (C 0), (C 1), (C 2), (C 3), (C 4), (C 5), (G 0), (G 1), (G 2), (G 3), (G 4), (G 5), (G 6), (G 7), (G 8), (G 9), (G 10)) 5 (nI t) a b (va (t * 4 + y))) (h : post 1 (nI srv, nI cap, nI slt, nI cl, nI cfg, jn, (fun ix_ => nI (c ix_)), (fun ix_ => nI (ro ix_)), (fun ix_ => nI (l ix_)), (fun ix_ => nI (k ix_)), va, (E 0), (E 1), (E 2), (E 3), (E 4), (E 5), (C 0), (C 1), (C 2), (C 3), (C 4), (C 5), (G' 0), (G' 1), (G' 2), (G' 3), (G' 4), (G' 5), (G' 6), (G' 7), (G' 8), (G' 9), (G' 10))) : wpX_takeQuery post (nI srv, nI cap, nI slt, nI cl, nI cfg, jn, (fun ix_ => nI (c ix_)), (fun ix_ => nI (ro ix_)), (fun ix_ => nI (l ix_)), (fun ix_ => nI (k ix_)), va, (E 0), (E 1), (E 2), (E 3), (E 4), (E 5), (C 0), (C 1), (C 2), (C 3), (C 4), (C 5), (G 0), (G 1), (G 2), (G 3), (G 4), (G 5), (G 6), (G 7), (G 8), (G 9), (G 10)) (nI t) a b (nI y) := by
  unfold wpX_takeQuery
  try dsimp only
  rw [cs_vs, nI_clamp (n := t * 4 + y) (by omega)]
  exact ⟨vp_in_nI (by omega) (by omega), hx _ h⟩
theorem cs_xta1 {post : Int32 → SX → Prop} {t n : Nat} {r : Int32} (ht : t < 5) (hn : n ≤ 48) (hk : k t < n)
    (hx : ∀ p : Int32 → SX → Prop, p r (nI srv, nI cap, nI slt, nI cl, nI cfg, jn, (fun ix_ => nI (c ix_)), (fun ix_ => nI (ro ix_)), (fun ix_ => nI (l ix_)), (fun ix_ => nI ((cs_u k t n) ix_)), va, (E 0), (E 1), (E 2), (E 3), (E 4), (E 5), (C 0), (C 1), (C 2), (C 3), (C 4), (C 5), (G' 0), (G' 1), (G' 2), (G' 3), (G' 4), (G' 5), (G' 6), (G' 7), (G' 8), (G' 9), (G' 10)) → wpX_sendAck p (nI srv, nI cap, nI slt, nI cl, nI cfg, jn, (fun ix_ => nI (c ix_)), (fun ix_ => nI (ro ix_)), (fun ix_ => nI (l ix_)), (fun ix_ => nI ((cs_u k t n) ix_)), va, (E 0), (E 1), (E 2), (E 3), (E 4), (E 5), (C 0), (C 1), (C 2), (C 3), (C 4), (C 5), (G 0), (G 1), (G 2), (G 3), (G 4), (G 5), (G 6), (G 7), (G 8), (G 9), (G 10)) (nI t) (nI n)) (h : post 1 (nI srv, nI cap, nI slt, nI cl, nI cfg, jn, (fun ix_ => nI (c ix_)), (fun ix_ => nI (ro ix_)), (fun ix_ => nI (l ix_)), (fun ix_ => nI ((cs_u k t n) ix_)), va, (E 0), (E 1), (E 2), (E 3), (E 4), (E 5), (C 0), (C 1), (C 2), (C 3), (C 4), (C 5), (G' 0), (G' 1), (G' 2), (G' 3), (G' 4), (G' 5), (G' 6), (G' 7), (G' 8), (G' 9), (G' 10))) : wpX_takeAck post (nI srv, nI cap, nI slt, nI cl, nI cfg, jn, (fun ix_ => nI (c ix_)), (fun ix_ => nI (ro ix_)), (fun ix_ => nI (l ix_)), (fun ix_ => nI (k ix_)), va, (E 0), (E 1), (E 2), (E 3), (E 4), (E 5), (C 0), (C 1), (C 2), (C 3), (C 4), (C 5), (G 0), (G 1), (G 2), (G 3), (G 4), (G 5), (G 6), (G 7), (G 8), (G 9), (G 10)) (nI t) (nI n) := by
  have v : vp_in (nI t) 5 := vp_in_nI ht (by omega)
  unfold wpX_takeAck
  try dsimp only
  rw [nI_clamp (n := t) (by omega)]
  exact ⟨v, br_t (nI_lt hk (by omega)) ⟨v, nm_r cs_uu (hx _ h)⟩⟩
theorem cs_xta2 {post : Int32 → SX → Prop} {t n : Nat} (ht : t < 5) (hn : n ≤ k t) (hk : k t ≤ 48) (h : post 2 (nI srv, nI cap, nI slt, nI cl, nI cfg, jn, (fun ix_ => nI (c ix_)), (fun ix_ => nI (ro ix_)), (fun ix_ => nI (l ix_)), (fun ix_ => nI (k ix_)), va, (E 0), (E 1), (E 2), (E 3), (E 4), (E 5), (C 0), (C 1), (C 2), (C 3), (C 4), (C 5), (G 0), (G 1), (G 2), (G 3), (G 4), (G 5), (G 6), (G 7), (G 8), (G 9), (G 10))) : wpX_takeAck post (nI srv, nI cap, nI slt, nI cl, nI cfg, jn, (fun ix_ => nI (c ix_)), (fun ix_ => nI (ro ix_)), (fun ix_ => nI (l ix_)), (fun ix_ => nI (k ix_)), va, (E 0), (E 1), (E 2), (E 3), (E 4), (E 5), (C 0), (C 1), (C 2), (C 3), (C 4), (C 5), (G 0), (G 1), (G 2), (G 3), (G 4), (G 5), (G 6), (G 7), (G 8), (G 9), (G 10)) (nI t) (nI n) := by
  have v : vp_in (nI t) 5 := vp_in_nI ht (by omega)
  unfold wpX_takeAck
  try dsimp only
  rw [nI_clamp (n := t) (by omega)]
  exact ⟨v, br_f (nI_nlt hn (by omega)) h⟩
theorem cs_xtfD {post : Int32 → SX → Prop} {t n : Nat} {a b op y ar r : Int32} (ht : t < 5) (hl : l t ≤ 48) (hn : n ≤ l t)
    (hx : ∀ p : Int32 → SX → Prop, p r (nI srv, nI cap, nI slt, nI cl, nI cfg, jn, (fun ix_ => nI (c ix_)), (fun ix_ => nI (ro ix_)), (fun ix_ => nI (l ix_)), (fun ix_ => nI (k ix_)), va, (E 0), (E 1), (E 2), (E 3), (E 4), (E 5), (C 0), (C 1), (C 2), (C 3), (C 4), (C 5), (G' 0), (G' 1), (G' 2), (G' 3), (G' 4), (G' 5), (G' 6), (G' 7), (G' 8), (G' 9), (G' 10)) → wpX_sendAck p (nI srv, nI cap, nI slt, nI cl, nI cfg, jn, (fun ix_ => nI (c ix_)), (fun ix_ => nI (ro ix_)), (fun ix_ => nI (l ix_)), (fun ix_ => nI (k ix_)), va, (E 0), (E 1), (E 2), (E 3), (E 4), (E 5), (C 0), (C 1), (C 2), (C 3), (C 4), (C 5), (G 0), (G 1), (G 2), (G 3), (G 4), (G 5), (G 6), (G 7), (G 8), (G 9), (G 10)) (nI t) (nI (k t))) (h : post 2 (nI srv, nI cap, nI slt, nI cl, nI cfg, jn, (fun ix_ => nI (c ix_)), (fun ix_ => nI (ro ix_)), (fun ix_ => nI (l ix_)), (fun ix_ => nI (k ix_)), va, (E 0), (E 1), (E 2), (E 3), (E 4), (E 5), (C 0), (C 1), (C 2), (C 3), (C 4), (C 5), (G' 0), (G' 1), (G' 2), (G' 3), (G' 4), (G' 5), (G' 6), (G' 7), (G' 8), (G' 9), (G' 10))) : wpX_takeForward post (nI srv, nI cap, nI slt, nI cl, nI cfg, jn, (fun ix_ => nI (c ix_)), (fun ix_ => nI (ro ix_)), (fun ix_ => nI (l ix_)), (fun ix_ => nI (k ix_)), va, (E 0), (E 1), (E 2), (E 3), (E 4), (E 5), (C 0), (C 1), (C 2), (C 3), (C 4), (C 5), (G 0), (G 1), (G 2), (G 3), (G 4), (G 5), (G 6), (G 7), (G 8), (G 9), (G 10)) (nI t) (nI n) a b op y ar := by
  have v : vp_in (nI t) 5 := vp_in_nI ht (by omega)
  unfold wpX_takeForward
  try dsimp only
  rw [nI_clamp (n := t) (by omega)]
  exact ⟨v, nm_e (br_f (nI_nlt hn (by omega)) ⟨v, hx _ h⟩)⟩
theorem cs_xtfG {post : Int32 → SX → Prop} {t n : Nat} {a b op y ar : Int32} (ht : t < 5) (hl : l t ≤ 48) (hn : l t + 1 < n) (hn48 : n ≤ 48)
    (h : post 3 (nI srv, nI cap, nI slt, nI cl, nI cfg, jn, (fun ix_ => nI (c ix_)), (fun ix_ => nI (ro ix_)), (fun ix_ => nI (l ix_)), (fun ix_ => nI (k ix_)), va, (E 0), (E 1), (E 2), (E 3), (E 4), (E 5), (C 0), (C 1), (C 2), (C 3), (C 4), (C 5), (G 0), (G 1), (G 2), (G 3), (G 4), (G 5), (G 6), (G 7), (G 8), (G 9), (G 10))) : wpX_takeForward post (nI srv, nI cap, nI slt, nI cl, nI cfg, jn, (fun ix_ => nI (c ix_)), (fun ix_ => nI (ro ix_)), (fun ix_ => nI (l ix_)), (fun ix_ => nI (k ix_)), va, (E 0), (E 1), (E 2), (E 3), (E 4), (E 5), (C 0), (C 1), (C 2), (C 3), (C 4), (C 5), (G 0), (G 1), (G 2), (G 3), (G 4), (G 5), (G 6), (G 7), (G 8), (G 9), (G 10)) (nI t) (nI n) a b op y ar := by
  have v : vp_in (nI t) 5 := vp_in_nI ht (by omega)
  unfold wpX_takeForward
  try dsimp only
  rw [nI_clamp (n := t) (by omega)]
  exact ⟨v, nm_e (br_t (nI_lt (by omega) (by omega)) (br_t (by rw [nI_1]; exact nI_lt hn (by omega)) h))⟩
theorem cs_xtfT {post : Int32 → SX → Prop} {t y : Nat} {a b op ar r : Int32} {G'' : Nat → Nat → Int32} (ht : t < 5) (hl : l t < cap) (hcap : cap ≤ 48) (hy : y < 4) (b7 : 1 ≤ cl) (b8 : cl ≤ 5) (hc : ∀ i, c i < 5) (htl : c (cl - 1) = t)
    (hr : ∀ p : SX → Prop, p (nI srv, nI cap, nI slt, nI cl, nI cfg, jn, (fun ix_ => nI (c ix_)), (fun ix_ => nI (ro ix_)), (fun ix_ => nI ((cs_u l t (l t + 1)) ix_)), (fun ix_ => nI ((cs_u k t (l t + 1)) ix_)), (upd va (t * 4 + y) (if op = 0 then ar else va (t * 4 + y) + ar)), ((cs_wm E (t * 48 + l t) (cs_r6 a b op (nI y) ar (va (t * 4 + y)))) 0), ((cs_wm E (t * 48 + l t) (cs_r6 a b op (nI y) ar (va (t * 4 + y)))) 1), ((cs_wm E (t * 48 + l t) (cs_r6 a b op (nI y) ar (va (t * 4 + y)))) 2), ((cs_wm E (t * 48 + l t) (cs_r6 a b op (nI y) ar (va (t * 4 + y)))) 3), ((cs_wm E (t * 48 + l t) (cs_r6 a b op (nI y) ar (va (t * 4 + y)))) 4), ((cs_wm E (t * 48 + l t) (cs_r6 a b op (nI y) ar (va (t * 4 + y)))) 5), (C 0), (C 1), (C 2), (C 3), (C 4), (C 5), (G' 0), (G' 1), (G' 2), (G' 3), (G' 4), (G' 5), (G' 6), (G' 7), (G' 8), (G' 9), (G' 10)) → wpX_sendReply p (nI srv, nI cap, nI slt, nI cl, nI cfg, jn, (fun ix_ => nI (c ix_)), (fun ix_ => nI (ro ix_)), (fun ix_ => nI ((cs_u l t (l t + 1)) ix_)), (fun ix_ => nI ((cs_u k t (l t + 1)) ix_)), (upd va (t * 4 + y) (if op = 0 then ar else va (t * 4 + y) + ar)), ((cs_wm E (t * 48 + l t) (cs_r6 a b op (nI y) ar (va (t * 4 + y)))) 0), ((cs_wm E (t * 48 + l t) (cs_r6 a b op (nI y) ar (va (t * 4 + y)))) 1), ((cs_wm E (t * 48 + l t) (cs_r6 a b op (nI y) ar (va (t * 4 + y)))) 2), ((cs_wm E (t * 48 + l t) (cs_r6 a b op (nI y) ar (va (t * 4 + y)))) 3), ((cs_wm E (t * 48 + l t) (cs_r6 a b op (nI y) ar (va (t * 4 + y)))) 4), ((cs_wm E (t * 48 + l t) (cs_r6 a b op (nI y) ar (va (t * 4 + y)))) 5), (C 0), (C 1), (C 2), (C 3), (C 4), (C 5), (G 0), (G 1), (G 2), (G 3), (G 4), (G 5), (G 6), (G 7), (G 8), (G 9), (G 10)) (nI t) (nI (l t + 1)))
    (ha : ∀ p : Int32 → SX → Prop, p r (nI srv, nI cap, nI slt, nI cl, nI cfg, jn, (fun ix_ => nI (c ix_)), (fun ix_ => nI (ro ix_)), (fun ix_ => nI ((cs_u l t (l t + 1)) ix_)), (fun ix_ => nI ((cs_u k t (l t + 1)) ix_)), (upd va (t * 4 + y) (if op = 0 then ar else va (t * 4 + y) + ar)), ((cs_wm E (t * 48 + l t) (cs_r6 a b op (nI y) ar (va (t * 4 + y)))) 0), ((cs_wm E (t * 48 + l t) (cs_r6 a b op (nI y) ar (va (t * 4 + y)))) 1), ((cs_wm E (t * 48 + l t) (cs_r6 a b op (nI y) ar (va (t * 4 + y)))) 2), ((cs_wm E (t * 48 + l t) (cs_r6 a b op (nI y) ar (va (t * 4 + y)))) 3), ((cs_wm E (t * 48 + l t) (cs_r6 a b op (nI y) ar (va (t * 4 + y)))) 4), ((cs_wm E (t * 48 + l t) (cs_r6 a b op (nI y) ar (va (t * 4 + y)))) 5), (C 0), (C 1), (C 2), (C 3), (C 4), (C 5), (G'' 0), (G'' 1), (G'' 2), (G'' 3), (G'' 4), (G'' 5), (G'' 6), (G'' 7), (G'' 8), (G'' 9), (G'' 10)) → wpX_sendAck p (nI srv, nI cap, nI slt, nI cl, nI cfg, jn, (fun ix_ => nI (c ix_)), (fun ix_ => nI (ro ix_)), (fun ix_ => nI ((cs_u l t (l t + 1)) ix_)), (fun ix_ => nI ((cs_u k t (l t + 1)) ix_)), (upd va (t * 4 + y) (if op = 0 then ar else va (t * 4 + y) + ar)), ((cs_wm E (t * 48 + l t) (cs_r6 a b op (nI y) ar (va (t * 4 + y)))) 0), ((cs_wm E (t * 48 + l t) (cs_r6 a b op (nI y) ar (va (t * 4 + y)))) 1), ((cs_wm E (t * 48 + l t) (cs_r6 a b op (nI y) ar (va (t * 4 + y)))) 2), ((cs_wm E (t * 48 + l t) (cs_r6 a b op (nI y) ar (va (t * 4 + y)))) 3), ((cs_wm E (t * 48 + l t) (cs_r6 a b op (nI y) ar (va (t * 4 + y)))) 4), ((cs_wm E (t * 48 + l t) (cs_r6 a b op (nI y) ar (va (t * 4 + y)))) 5), (C 0), (C 1), (C 2), (C 3), (C 4), (C 5), (G' 0), (G' 1), (G' 2), (G' 3), (G' 4), (G' 5), (G' 6), (G' 7), (G' 8), (G' 9), (G' 10)) (nI t) (nI (l t + 1)))
    (h : post 1 (nI srv, nI cap, nI slt, nI cl, nI cfg, jn, (fun ix_ => nI (c ix_)), (fun ix_ => nI (ro ix_)), (fun ix_ => nI ((cs_u l t (l t + 1)) ix_)), (fun ix_ => nI ((cs_u k t (l t + 1)) ix_)), (upd va (t * 4 + y) (if op = 0 then ar else va (t * 4 + y) + ar)), ((cs_wm E (t * 48 + l t) (cs_r6 a b op (nI y) ar (va (t * 4 + y)))) 0), ((cs_wm E (t * 48 + l t) (cs_r6 a b op (nI y) ar (va (t * 4 + y)))) 1), ((cs_wm E (t * 48 + l t) (cs_r6 a b op (nI y) ar (va (t * 4 + y)))) 2), ((cs_wm E (t * 48 + l t) (cs_r6 a b op (nI y) ar (va (t * 4 + y)))) 3), ((cs_wm E (t * 48 + l t) (cs_r6 a b op (nI y) ar (va (t * 4 + y)))) 4), ((cs_wm E (t * 48 + l t) (cs_r6 a b op (nI y) ar (va (t * 4 + y)))) 5), (C 0), (C 1), (C 2), (C 3), (C 4), (C 5), (G'' 0), (G'' 1), (G'' 2), (G'' 3), (G'' 4), (G'' 5), (G'' 6), (G'' 7), (G'' 8), (G'' 9), (G'' 10))) : wpX_takeForward post (nI srv, nI cap, nI slt, nI cl, nI cfg, jn, (fun ix_ => nI (c ix_)), (fun ix_ => nI (ro ix_)), (fun ix_ => nI (l ix_)), (fun ix_ => nI (k ix_)), va, (E 0), (E 1), (E 2), (E 3), (E 4), (E 5), (C 0), (C 1), (C 2), (C 3), (C 4), (C 5), (G 0), (G 1), (G 2), (G 3), (G 4), (G 5), (G 6), (G 7), (G 8), (G 9), (G 10)) (nI t) (nI (l t + 1)) a b op (nI y) ar := by
  have v : vp_in (nI t) 5 := vp_in_nI ht (by omega)
  have ec : (nI t).toNatClampNeg = t := nI_clamp (by omega)
  unfold wpX_takeForward
  try dsimp only
  rw [ec]
  refine ⟨v, nm_e (br_t (nI_lt (by omega) (by omega)) (br_f (by rw [nI_1]; exact nI_nlt (by omega) (by omega)) (br_t (nI_lt hl (by omega)) (cs_xapp ht hl hcap hy ?_))))⟩
  try dsimp only
  refine cs_xtail b7 b8 hc ht (fun _ => br_f (by decide) ?_) (fun z => absurd htl z)
  try dsimp only
  rw [cs_us]
  refine ⟨v, v, nm_r cs_uu (hr _ ?_)⟩
  try dsimp only
  rw [cs_us]
  exact ⟨v, ha _ h⟩
theorem cs_xtfM {post : Int32 → SX → Prop} {t y : Nat} {a b op ar r : Int32} (ht : t < 5) (hl : l t < cap) (hcap : cap ≤ 48) (hy : y < 4) (b7 : 1 ≤ cl) (b8 : cl ≤ 5) (hc : ∀ i, c i < 5) (htl : c (cl - 1) ≠ t)
    (hf : ∀ p : Int32 → SX → Prop, p r (nI srv, nI cap, nI slt, nI cl, nI cfg, jn, (fun ix_ => nI (c ix_)), (fun ix_ => nI (ro ix_)), (fun ix_ => nI ((cs_u l t (l t + 1)) ix_)), (fun ix_ => nI (k ix_)), (upd va (t * 4 + y) (if op = 0 then ar else va (t * 4 + y) + ar)), ((cs_wm E (t * 48 + l t) (cs_r6 a b op (nI y) ar (va (t * 4 + y)))) 0), ((cs_wm E (t * 48 + l t) (cs_r6 a b op (nI y) ar (va (t * 4 + y)))) 1), ((cs_wm E (t * 48 + l t) (cs_r6 a b op (nI y) ar (va (t * 4 + y)))) 2), ((cs_wm E (t * 48 + l t) (cs_r6 a b op (nI y) ar (va (t * 4 + y)))) 3), ((cs_wm E (t * 48 + l t) (cs_r6 a b op (nI y) ar (va (t * 4 + y)))) 4), ((cs_wm E (t * 48 + l t) (cs_r6 a b op (nI y) ar (va (t * 4 + y)))) 5), (C 0), (C 1), (C 2), (C 3), (C 4), (C 5), (G' 0), (G' 1), (G' 2), (G' 3), (G' 4), (G' 5), (G' 6), (G' 7), (G' 8), (G' 9), (G' 10)) → wpX_sendForward p (nI srv, nI cap, nI slt, nI cl, nI cfg, jn, (fun ix_ => nI (c ix_)), (fun ix_ => nI (ro ix_)), (fun ix_ => nI ((cs_u l t (l t + 1)) ix_)), (fun ix_ => nI (k ix_)), (upd va (t * 4 + y) (if op = 0 then ar else va (t * 4 + y) + ar)), ((cs_wm E (t * 48 + l t) (cs_r6 a b op (nI y) ar (va (t * 4 + y)))) 0), ((cs_wm E (t * 48 + l t) (cs_r6 a b op (nI y) ar (va (t * 4 + y)))) 1), ((cs_wm E (t * 48 + l t) (cs_r6 a b op (nI y) ar (va (t * 4 + y)))) 2), ((cs_wm E (t * 48 + l t) (cs_r6 a b op (nI y) ar (va (t * 4 + y)))) 3), ((cs_wm E (t * 48 + l t) (cs_r6 a b op (nI y) ar (va (t * 4 + y)))) 4), ((cs_wm E (t * 48 + l t) (cs_r6 a b op (nI y) ar (va (t * 4 + y)))) 5), (C 0), (C 1), (C 2), (C 3), (C 4), (C 5), (G 0), (G 1), (G 2), (G 3), (G 4), (G 5), (G 6), (G 7), (G 8), (G 9), (G 10)) (nI t) (nI (l t + 1)))
    (h : post 1 (nI srv, nI cap, nI slt, nI cl, nI cfg, jn, (fun ix_ => nI (c ix_)), (fun ix_ => nI (ro ix_)), (fun ix_ => nI ((cs_u l t (l t + 1)) ix_)), (fun ix_ => nI (k ix_)), (upd va (t * 4 + y) (if op = 0 then ar else va (t * 4 + y) + ar)), ((cs_wm E (t * 48 + l t) (cs_r6 a b op (nI y) ar (va (t * 4 + y)))) 0), ((cs_wm E (t * 48 + l t) (cs_r6 a b op (nI y) ar (va (t * 4 + y)))) 1), ((cs_wm E (t * 48 + l t) (cs_r6 a b op (nI y) ar (va (t * 4 + y)))) 2), ((cs_wm E (t * 48 + l t) (cs_r6 a b op (nI y) ar (va (t * 4 + y)))) 3), ((cs_wm E (t * 48 + l t) (cs_r6 a b op (nI y) ar (va (t * 4 + y)))) 4), ((cs_wm E (t * 48 + l t) (cs_r6 a b op (nI y) ar (va (t * 4 + y)))) 5), (C 0), (C 1), (C 2), (C 3), (C 4), (C 5), (G' 0), (G' 1), (G' 2), (G' 3), (G' 4), (G' 5), (G' 6), (G' 7), (G' 8), (G' 9), (G' 10))) : wpX_takeForward post (nI srv, nI cap, nI slt, nI cl, nI cfg, jn, (fun ix_ => nI (c ix_)), (fun ix_ => nI (ro ix_)), (fun ix_ => nI (l ix_)), (fun ix_ => nI (k ix_)), va, (E 0), (E 1), (E 2), (E 3), (E 4), (E 5), (C 0), (C 1), (C 2), (C 3), (C 4), (C 5), (G 0), (G 1), (G 2), (G 3), (G 4), (G 5), (G 6), (G 7), (G 8), (G 9), (G 10)) (nI t) (nI (l t + 1)) a b op (nI y) ar := by
  have v : vp_in (nI t) 5 := vp_in_nI ht (by omega)
  have ec : (nI t).toNatClampNeg = t := nI_clamp (by omega)
  unfold wpX_takeForward
  try dsimp only
  rw [ec]
  refine ⟨v, nm_e (br_t (nI_lt (by omega) (by omega)) (br_f (by rw [nI_1]; exact nI_nlt (by omega) (by omega)) (br_t (nI_lt hl (by omega)) (cs_xapp ht hl hcap hy ?_))))⟩
  try dsimp only
  exact cs_xtail b7 b8 hc ht (fun z => absurd z htl) (fun _ => br_t rfl (hf _ h))
end cs_hx
end
section
section cs_hy
variable {srv cap slt cl cfg : Nat} {jn : Int32} {c ro l k : Nat → Nat} {va : Nat → Int32} {E C G m m' m'' : Nat → Nat → Int32}
theorem cs_yc2 {C : Nat → Nat → Int32} {q : Nat} {x : Int32} : cs_fl 6 (cs_w1 (cs_w1 C 0 q 2) 5 q x) = cs_fl 6 (cs_c2 C q x) := by
  refine cs_fe (by decide) fun f y hf => ?_
  by_cases hx : y = q
  · subst hx
    revert f
    refine cs_c6 ?_ ?_ ?_ ?_ ?_ ?_ <;> simp [cs_w1, cs_c2, upd]
  · revert f
    refine cs_c6 ?_ ?_ ?_ ?_ ?_ ?_ <;> simp [cs_w1, cs_c2, upd, hx]
theorem cs_yh51 {post : Int32 → SY → Prop} {q : Nat} {i : Nat} {g0 g1 g2 g3 g4 g5 g6 g7 g8 g9 g10 : Int32} (hi : i < 16) (h0 : m 0 i = g0) (h1 : m 1 i = g1) (h2 : m 2 i = g2) (h3 : m 3 i = g3) (h4 : m 4 i = g4) (h5 : m 5 i = g5) (h6 : m 6 i = g6) (h7 : m 7 i = g7) (h8 : m 8 i = g8) (h9 : m 9 i = g9) (h10 : m 10 i = g10) (hk : g0 = 5) (hq : g3 = nI q) (hq3 : q < 3) (hc0 : C 0 q = 1) (hc1 : C 1 q = g4)
    (h : post 1 (nI srv, nI cap, nI slt, nI cfg, nI cl, (fun ix_ => nI (c ix_)), (fun ix_ => nI (ro ix_)), (fun ix_ => nI (l ix_)), (fun ix_ => nI (k ix_)), (cs_fl 5 E), (cs_fl 6 (cs_c2 C q g5)), (cs_fl 11 (cs_wm m i (fun _ => 0))))) : wpY_handle post (nI srv, nI cap, nI slt, nI cfg, nI cl, (fun ix_ => nI (c ix_)), (fun ix_ => nI (ro ix_)), (fun ix_ => nI (l ix_)), (fun ix_ => nI (k ix_)), (cs_fl 5 E), (cs_fl 6 C), (cs_fl 11 m)) (nI i) := by
  subst hk hq
  have v : ∀ f, f < 11 → vp_in (nI (i * 11 + f)) 176 := fun f hf => vp_in_nI (by omega) (by omega)
  unfold wpY_handle
  refine nm_r (cs_m11 i) ?_
  try dsimp only
  rw [nI_1, cs_p2, cs_p3, cs_p4, cs_p5, cs_p6, cs_p7, cs_p8, cs_p9, cs_p10, nI_clamp (n := i * 11) (by omega), nI_clamp (n := i * 11 + 1) (by omega), nI_clamp (n := i * 11 + 2) (by omega), nI_clamp (n := i * 11 + 3) (by omega), nI_clamp (n := i * 11 + 4) (by omega), nI_clamp (n := i * 11 + 5) (by omega), nI_clamp (n := i * 11 + 6) (by omega), nI_clamp (n := i * 11 + 7) (by omega), nI_clamp (n := i * 11 + 8) (by omega), nI_clamp (n := i * 11 + 9) (by omega), nI_clamp (n := i * 11 + 10) (by omega), cs_fr0 (by decide), cs_fr (f := 1) (by decide), cs_fr (f := 2) (by decide), cs_fr (f := 3) (by decide), cs_fr (f := 4) (by decide), cs_fr (f := 5) (by decide), cs_fr (f := 6) (by decide), cs_fr (f := 7) (by decide), cs_fr (f := 8) (by decide), cs_fr (f := 9) (by decide), cs_fr (f := 10) (by decide)]
  refine ⟨v 0 (by omega), nm_r h0 ⟨v 1 (by omega), nm_r h1 ⟨v 2 (by omega), nm_r h2 ⟨v 3 (by omega), nm_r h3 ⟨v 4 (by omega), nm_r h4 ⟨v 5 (by omega), nm_r h5 ⟨v 6 (by omega), nm_r h6 ⟨v 7 (by omega), nm_r h7 ⟨v 8 (by omega), nm_r h8 ⟨v 9 (by omega), nm_r h9 ⟨v 10 (by omega), nm_r h10 (cs_yclr hi ?_)⟩⟩⟩⟩⟩⟩⟩⟩⟩⟩⟩
  refine br_t rfl ?_
  rw [cs_m6, nI_1 (q * 6), cs_p5 (q * 6), nI_clamp (n := q * 6) (by omega), nI_clamp (n := q * 6 + 1) (by omega), nI_clamp (n := q * 6 + 5) (by omega)]
  try dsimp only
  rw [cs_fr0 (by decide), cs_fr (by decide)]
  exact ⟨vp_in_nI (by omega) (by omega), br_t hc0 ⟨vp_in_nI (by omega) (by omega), br_t hc1 ⟨vp_in_nI (by omega) (by omega), nm_r (cs_fu0 (by decide)) ⟨vp_in_nI (by omega) (by omega), nm_r ((cs_fu (by decide)).trans cs_yc2) h⟩⟩⟩⟩
theorem cs_yh52 {post : Int32 → SY → Prop} {q : Nat} {i : Nat} {g0 g1 g2 g3 g4 g5 g6 g7 g8 g9 g10 : Int32} (hi : i < 16) (h0 : m 0 i = g0) (h1 : m 1 i = g1) (h2 : m 2 i = g2) (h3 : m 3 i = g3) (h4 : m 4 i = g4) (h5 : m 5 i = g5) (h6 : m 6 i = g6) (h7 : m 7 i = g7) (h8 : m 8 i = g8) (h9 : m 9 i = g9) (h10 : m 10 i = g10) (hk : g0 = 5) (hq : g3 = nI q) (hq3 : q < 3) (hc0 : ¬ (C 0 q = 1 ∧ C 1 q = g4))
    (h : post 2 (nI srv, nI cap, nI slt, nI cfg, nI cl, (fun ix_ => nI (c ix_)), (fun ix_ => nI (ro ix_)), (fun ix_ => nI (l ix_)), (fun ix_ => nI (k ix_)), (cs_fl 5 E), (cs_fl 6 C), (cs_fl 11 (cs_wm m i (fun _ => 0))))) : wpY_handle post (nI srv, nI cap, nI slt, nI cfg, nI cl, (fun ix_ => nI (c ix_)), (fun ix_ => nI (ro ix_)), (fun ix_ => nI (l ix_)), (fun ix_ => nI (k ix_)), (cs_fl 5 E), (cs_fl 6 C), (cs_fl 11 m)) (nI i) := by
  subst hk hq
  have v : ∀ f, f < 11 → vp_in (nI (i * 11 + f)) 176 := fun f hf => vp_in_nI (by omega) (by omega)
  unfold wpY_handle
  refine nm_r (cs_m11 i) ?_
  try dsimp only
  rw [nI_1, cs_p2, cs_p3, cs_p4, cs_p5, cs_p6, cs_p7, cs_p8, cs_p9, cs_p10, nI_clamp (n := i * 11) (by omega), nI_clamp (n := i * 11 + 1) (by omega), nI_clamp (n := i * 11 + 2) (by omega), nI_clamp (n := i * 11 + 3) (by omega), nI_clamp (n := i * 11 + 4) (by omega), nI_clamp (n := i * 11 + 5) (by omega), nI_clamp (n := i * 11 + 6) (by omega), nI_clamp (n := i * 11 + 7) (by omega), nI_clamp (n := i * 11 + 8) (by omega), nI_clamp (n := i * 11 + 9) (by omega), nI_clamp (n := i * 11 + 10) (by omega), cs_fr0 (by decide), cs_fr (f := 1) (by decide), cs_fr (f := 2) (by decide), cs_fr (f := 3) (by decide), cs_fr (f := 4) (by decide), cs_fr (f := 5) (by decide), cs_fr (f := 6) (by decide), cs_fr (f := 7) (by decide), cs_fr (f := 8) (by decide), cs_fr (f := 9) (by decide), cs_fr (f := 10) (by decide)]
  refine ⟨v 0 (by omega), nm_r h0 ⟨v 1 (by omega), nm_r h1 ⟨v 2 (by omega), nm_r h2 ⟨v 3 (by omega), nm_r h3 ⟨v 4 (by omega), nm_r h4 ⟨v 5 (by omega), nm_r h5 ⟨v 6 (by omega), nm_r h6 ⟨v 7 (by omega), nm_r h7 ⟨v 8 (by omega), nm_r h8 ⟨v 9 (by omega), nm_r h9 ⟨v 10 (by omega), nm_r h10 (cs_yclr hi ?_)⟩⟩⟩⟩⟩⟩⟩⟩⟩⟩⟩
  refine br_t rfl ?_
  rw [cs_m6, nI_1 (q * 6), nI_clamp (n := q * 6) (by omega), nI_clamp (n := q * 6 + 1) (by omega)]
  try dsimp only
  rw [cs_fr0 (by decide), cs_fr (by decide)]
  exact ⟨vp_in_nI (by omega) (by omega), br_c (fun z => ⟨vp_in_nI (by omega) (by omega), br_f (fun z2 => hc0 ⟨z, z2⟩) h⟩) (fun _ => h)⟩
theorem cs_yhS {post : Int32 → SY → Prop} {i : Nat} {g0 g1 g2 g3 g4 g5 g6 g7 g8 g9 g10 : Int32} (hi : i < 16) (h0 : m 0 i = g0) (h1 : m 1 i = g1) (h2 : m 2 i = g2) (h3 : m 3 i = g3) (h4 : m 4 i = g4) (h5 : m 5 i = g5) (h6 : m 6 i = g6) (h7 : m 7 i = g7) (h8 : m 8 i = g8) (h9 : m 9 i = g9) (h10 : m 10 i = g10) (hk : ¬ g0 = 5) (hc : ¬ g1 = nI cfg)
    (h : post 4 (nI srv, nI cap, nI slt, nI cfg, nI cl, (fun ix_ => nI (c ix_)), (fun ix_ => nI (ro ix_)), (fun ix_ => nI (l ix_)), (fun ix_ => nI (k ix_)), (cs_fl 5 E), (cs_fl 6 C), (cs_fl 11 (cs_wm m i (fun _ => 0))))) : wpY_handle post (nI srv, nI cap, nI slt, nI cfg, nI cl, (fun ix_ => nI (c ix_)), (fun ix_ => nI (ro ix_)), (fun ix_ => nI (l ix_)), (fun ix_ => nI (k ix_)), (cs_fl 5 E), (cs_fl 6 C), (cs_fl 11 m)) (nI i) := by
  have v : ∀ f, f < 11 → vp_in (nI (i * 11 + f)) 176 := fun f hf => vp_in_nI (by omega) (by omega)
  unfold wpY_handle
  refine nm_r (cs_m11 i) ?_
  try dsimp only
  rw [nI_1, cs_p2, cs_p3, cs_p4, cs_p5, cs_p6, cs_p7, cs_p8, cs_p9, cs_p10, nI_clamp (n := i * 11) (by omega), nI_clamp (n := i * 11 + 1) (by omega), nI_clamp (n := i * 11 + 2) (by omega), nI_clamp (n := i * 11 + 3) (by omega), nI_clamp (n := i * 11 + 4) (by omega), nI_clamp (n := i * 11 + 5) (by omega), nI_clamp (n := i * 11 + 6) (by omega), nI_clamp (n := i * 11 + 7) (by omega), nI_clamp (n := i * 11 + 8) (by omega), nI_clamp (n := i * 11 + 9) (by omega), nI_clamp (n := i * 11 + 10) (by omega), cs_fr0 (by decide), cs_fr (f := 1) (by decide), cs_fr (f := 2) (by decide), cs_fr (f := 3) (by decide), cs_fr (f := 4) (by decide), cs_fr (f := 5) (by decide), cs_fr (f := 6) (by decide), cs_fr (f := 7) (by decide), cs_fr (f := 8) (by decide), cs_fr (f := 9) (by decide), cs_fr (f := 10) (by decide)]
  refine ⟨v 0 (by omega), nm_r h0 ⟨v 1 (by omega), nm_r h1 ⟨v 2 (by omega), nm_r h2 ⟨v 3 (by omega), nm_r h3 ⟨v 4 (by omega), nm_r h4 ⟨v 5 (by omega), nm_r h5 ⟨v 6 (by omega), nm_r h6 ⟨v 7 (by omega), nm_r h7 ⟨v 8 (by omega), nm_r h8 ⟨v 9 (by omega), nm_r h9 ⟨v 10 (by omega), nm_r h10 (cs_yclr hi ?_)⟩⟩⟩⟩⟩⟩⟩⟩⟩⟩⟩
  exact br_f hk (br_f hc h)
theorem cs_yhD {post : Int32 → SY → Prop} {t : Nat} {i : Nat} {g0 g1 g2 g3 g4 g5 g6 g7 g8 g9 g10 : Int32} (hi : i < 16) (h0 : m 0 i = g0) (h1 : m 1 i = g1) (h2 : m 2 i = g2) (h3 : m 3 i = g3) (h4 : m 4 i = g4) (h5 : m 5 i = g5) (h6 : m 6 i = g6) (h7 : m 7 i = g7) (h8 : m 8 i = g8) (h9 : m 9 i = g9) (h10 : m 10 i = g10) (hk : ¬ g0 = 5) (hc : g1 = nI cfg) (ht : g3 = nI t) (ht5 : t < 5) (hro : ro t = 2)
    (h : post 5 (nI srv, nI cap, nI slt, nI cfg, nI cl, (fun ix_ => nI (c ix_)), (fun ix_ => nI (ro ix_)), (fun ix_ => nI (l ix_)), (fun ix_ => nI (k ix_)), (cs_fl 5 E), (cs_fl 6 C), (cs_fl 11 (cs_wm m i (fun _ => 0))))) : wpY_handle post (nI srv, nI cap, nI slt, nI cfg, nI cl, (fun ix_ => nI (c ix_)), (fun ix_ => nI (ro ix_)), (fun ix_ => nI (l ix_)), (fun ix_ => nI (k ix_)), (cs_fl 5 E), (cs_fl 6 C), (cs_fl 11 m)) (nI i) := by
  subst ht
  have v : ∀ f, f < 11 → vp_in (nI (i * 11 + f)) 176 := fun f hf => vp_in_nI (by omega) (by omega)
  unfold wpY_handle
  refine nm_r (cs_m11 i) ?_
  try dsimp only
  rw [nI_1, cs_p2, cs_p3, cs_p4, cs_p5, cs_p6, cs_p7, cs_p8, cs_p9, cs_p10, nI_clamp (n := i * 11) (by omega), nI_clamp (n := i * 11 + 1) (by omega), nI_clamp (n := i * 11 + 2) (by omega), nI_clamp (n := i * 11 + 3) (by omega), nI_clamp (n := i * 11 + 4) (by omega), nI_clamp (n := i * 11 + 5) (by omega), nI_clamp (n := i * 11 + 6) (by omega), nI_clamp (n := i * 11 + 7) (by omega), nI_clamp (n := i * 11 + 8) (by omega), nI_clamp (n := i * 11 + 9) (by omega), nI_clamp (n := i * 11 + 10) (by omega), cs_fr0 (by decide), cs_fr (f := 1) (by decide), cs_fr (f := 2) (by decide), cs_fr (f := 3) (by decide), cs_fr (f := 4) (by decide), cs_fr (f := 5) (by decide), cs_fr (f := 6) (by decide), cs_fr (f := 7) (by decide), cs_fr (f := 8) (by decide), cs_fr (f := 9) (by decide), cs_fr (f := 10) (by decide)]
  refine ⟨v 0 (by omega), nm_r h0 ⟨v 1 (by omega), nm_r h1 ⟨v 2 (by omega), nm_r h2 ⟨v 3 (by omega), nm_r h3 ⟨v 4 (by omega), nm_r h4 ⟨v 5 (by omega), nm_r h5 ⟨v 6 (by omega), nm_r h6 ⟨v 7 (by omega), nm_r h7 ⟨v 8 (by omega), nm_r h8 ⟨v 9 (by omega), nm_r h9 ⟨v 10 (by omega), nm_r h10 (cs_yclr hi ?_)⟩⟩⟩⟩⟩⟩⟩⟩⟩⟩⟩
  refine br_f hk (br_t hc ⟨vp_in_nI ht5 (by omega), br_t ?_ h⟩)
  show nI (ro (nI t).toNatClampNeg) = 2
  rw [nI_clamp (n := t) (by omega), hro]
  rfl
theorem cs_nro' {ro : Nat → Nat} {t : Nat} (ht : t < 5) (h : ro t ≤ 3) (h2 : ro t ≠ 2) : ¬ nI (ro (nI t).toNatClampNeg) = 2 := by
  rw [nI_clamp (n := t) (by omega)]; exact cs_nro h h2
theorem cs_yh1A {post : Int32 → SY → Prop} {t : Nat} {r : Int32} {i : Nat} {g0 g1 g2 g3 g4 g5 g6 g7 g8 g9 g10 : Int32} (hi : i < 16) (h0 : m 0 i = g0) (h1 : m 1 i = g1) (h2 : m 2 i = g2) (h3 : m 3 i = g3) (h4 : m 4 i = g4) (h5 : m 5 i = g5) (h6 : m 6 i = g6) (h7 : m 7 i = g7) (h8 : m 8 i = g8) (h9 : m 9 i = g9) (h10 : m 10 i = g10) (hk : g0 = 1) (hc : g1 = nI cfg) (ht : g3 = nI t) (ht5 : t < 5) (hr3 : ro t ≤ 3) (hro : ro t ≠ 2) (hr : r ≠ 1)
    (hy : ∀ p : Int32 → SY → Prop, p r (nI srv, nI cap, nI slt, nI cfg, nI cl, (fun ix_ => nI (c ix_)), (fun ix_ => nI (ro ix_)), (fun ix_ => nI (l ix_)), (fun ix_ => nI (k ix_)), (cs_fl 5 E), (cs_fl 6 C), (cs_fl 11 m')) → wpY_testRequest p (nI srv, nI cap, nI slt, nI cfg, nI cl, (fun ix_ => nI (c ix_)), (fun ix_ => nI (ro ix_)), (fun ix_ => nI (l ix_)), (fun ix_ => nI (k ix_)), (cs_fl 5 E), (cs_fl 6 C), (cs_fl 11 (cs_wm m i (fun _ => 0)))) (nI t) g6 g7)
    (h : post r (nI srv, nI cap, nI slt, nI cfg, nI cl, (fun ix_ => nI (c ix_)), (fun ix_ => nI (ro ix_)), (fun ix_ => nI (l ix_)), (fun ix_ => nI (k ix_)), (cs_fl 5 E), (cs_fl 6 C), (cs_fl 11 m'))) : wpY_handle post (nI srv, nI cap, nI slt, nI cfg, nI cl, (fun ix_ => nI (c ix_)), (fun ix_ => nI (ro ix_)), (fun ix_ => nI (l ix_)), (fun ix_ => nI (k ix_)), (cs_fl 5 E), (cs_fl 6 C), (cs_fl 11 m)) (nI i) := by
  subst ht hk
  have v : ∀ f, f < 11 → vp_in (nI (i * 11 + f)) 176 := fun f hf => vp_in_nI (by omega) (by omega)
  unfold wpY_handle
  refine nm_r (cs_m11 i) ?_
  try dsimp only
  rw [nI_1, cs_p2, cs_p3, cs_p4, cs_p5, cs_p6, cs_p7, cs_p8, cs_p9, cs_p10, nI_clamp (n := i * 11) (by omega), nI_clamp (n := i * 11 + 1) (by omega), nI_clamp (n := i * 11 + 2) (by omega), nI_clamp (n := i * 11 + 3) (by omega), nI_clamp (n := i * 11 + 4) (by omega), nI_clamp (n := i * 11 + 5) (by omega), nI_clamp (n := i * 11 + 6) (by omega), nI_clamp (n := i * 11 + 7) (by omega), nI_clamp (n := i * 11 + 8) (by omega), nI_clamp (n := i * 11 + 9) (by omega), nI_clamp (n := i * 11 + 10) (by omega), cs_fr0 (by decide), cs_fr (f := 1) (by decide), cs_fr (f := 2) (by decide), cs_fr (f := 3) (by decide), cs_fr (f := 4) (by decide), cs_fr (f := 5) (by decide), cs_fr (f := 6) (by decide), cs_fr (f := 7) (by decide), cs_fr (f := 8) (by decide), cs_fr (f := 9) (by decide), cs_fr (f := 10) (by decide)]
  refine ⟨v 0 (by omega), nm_r h0 ⟨v 1 (by omega), nm_r h1 ⟨v 2 (by omega), nm_r h2 ⟨v 3 (by omega), nm_r h3 ⟨v 4 (by omega), nm_r h4 ⟨v 5 (by omega), nm_r h5 ⟨v 6 (by omega), nm_r h6 ⟨v 7 (by omega), nm_r h7 ⟨v 8 (by omega), nm_r h8 ⟨v 9 (by omega), nm_r h9 ⟨v 10 (by omega), nm_r h10 (cs_yclr hi ?_)⟩⟩⟩⟩⟩⟩⟩⟩⟩⟩⟩
  exact br_f (by decide) (br_t hc ⟨vp_in_nI ht5 (by omega), br_f (cs_nro' ht5 hr3 hro) (br_t rfl (hy _ (br_f hr h)))⟩)
theorem cs_yh1T {post : Int32 → SY → Prop} {t : Nat} {w : Int32} {i : Nat} {g0 g1 g2 g3 g4 g5 g6 g7 g8 g9 g10 : Int32} (hi : i < 16) (h0 : m 0 i = g0) (h1 : m 1 i = g1) (h2 : m 2 i = g2) (h3 : m 3 i = g3) (h4 : m 4 i = g4) (h5 : m 5 i = g5) (h6 : m 6 i = g6) (h7 : m 7 i = g7) (h8 : m 8 i = g8) (h9 : m 9 i = g9) (h10 : m 10 i = g10) (hk : g0 = 1) (hc : g1 = nI cfg) (ht : g3 = nI t) (ht5 : t < 5) (hr3 : ro t ≤ 3) (hro : ro t ≠ 2) (hl : l t < 48) (b7 : 1 ≤ cl) (b8 : cl ≤ 5) (htl : c (cl - 1) = t)
    (hy : ∀ p : Int32 → SY → Prop, p 1 (nI srv, nI cap, nI slt, nI cfg, nI cl, (fun ix_ => nI (c ix_)), (fun ix_ => nI (ro ix_)), (fun ix_ => nI (l ix_)), (fun ix_ => nI (k ix_)), (cs_fl 5 E), (cs_fl 6 C), (cs_fl 11 (cs_wm m i (fun _ => 0)))) → wpY_testRequest p (nI srv, nI cap, nI slt, nI cfg, nI cl, (fun ix_ => nI (c ix_)), (fun ix_ => nI (ro ix_)), (fun ix_ => nI (l ix_)), (fun ix_ => nI (k ix_)), (cs_fl 5 E), (cs_fl 6 C), (cs_fl 11 (cs_wm m i (fun _ => 0)))) (nI t) g6 g7)
    (hr : ∀ p : SY → Prop, p (nI srv, nI cap, nI slt, nI cfg, nI cl, (fun ix_ => nI (c ix_)), (fun ix_ => nI (ro ix_)), (fun ix_ => nI ((cs_u l t (l t + 1)) ix_)), (fun ix_ => nI ((cs_u k t (l t + 1)) ix_)), (cs_fl 5 (cs_wm E (t * 48 + l t) (cs_r6 g6 g7 g8 g9 g10 w))), (cs_fl 6 C), (cs_fl 11 m')) → wpY_sendReply p (nI srv, nI cap, nI slt, nI cfg, nI cl, (fun ix_ => nI (c ix_)), (fun ix_ => nI (ro ix_)), (fun ix_ => nI ((cs_u l t (l t + 1)) ix_)), (fun ix_ => nI ((cs_u k t (l t + 1)) ix_)), (cs_fl 5 (cs_wm E (t * 48 + l t) (cs_r6 g6 g7 g8 g9 g10 w))), (cs_fl 6 C), (cs_fl 11 (cs_wm m i (fun _ => 0)))) (nI t) (nI (l t + 1)))
    (h : post 1 (nI srv, nI cap, nI slt, nI cfg, nI cl, (fun ix_ => nI (c ix_)), (fun ix_ => nI (ro ix_)), (fun ix_ => nI ((cs_u l t (l t + 1)) ix_)), (fun ix_ => nI ((cs_u k t (l t + 1)) ix_)), (cs_fl 5 (cs_wm E (t * 48 + l t) (cs_r6 g6 g7 g8 g9 g10 w))), (cs_fl 6 C), (cs_fl 11 m'))) : wpY_handle post (nI srv, nI cap, nI slt, nI cfg, nI cl, (fun ix_ => nI (c ix_)), (fun ix_ => nI (ro ix_)), (fun ix_ => nI (l ix_)), (fun ix_ => nI (k ix_)), (cs_fl 5 E), (cs_fl 6 C), (cs_fl 11 m)) (nI i) := by
  subst ht hk
  have v5 : vp_in (nI t) 5 := vp_in_nI ht5 (by omega)
  have ec : (nI t).toNatClampNeg = t := nI_clamp (by omega)
  have v : ∀ f, f < 11 → vp_in (nI (i * 11 + f)) 176 := fun f hf => vp_in_nI (by omega) (by omega)
  unfold wpY_handle
  refine nm_r (cs_m11 i) ?_
  try dsimp only
  rw [nI_1, cs_p2, cs_p3, cs_p4, cs_p5, cs_p6, cs_p7, cs_p8, cs_p9, cs_p10, nI_clamp (n := i * 11) (by omega), nI_clamp (n := i * 11 + 1) (by omega), nI_clamp (n := i * 11 + 2) (by omega), nI_clamp (n := i * 11 + 3) (by omega), nI_clamp (n := i * 11 + 4) (by omega), nI_clamp (n := i * 11 + 5) (by omega), nI_clamp (n := i * 11 + 6) (by omega), nI_clamp (n := i * 11 + 7) (by omega), nI_clamp (n := i * 11 + 8) (by omega), nI_clamp (n := i * 11 + 9) (by omega), nI_clamp (n := i * 11 + 10) (by omega), cs_fr0 (by decide), cs_fr (f := 1) (by decide), cs_fr (f := 2) (by decide), cs_fr (f := 3) (by decide), cs_fr (f := 4) (by decide), cs_fr (f := 5) (by decide), cs_fr (f := 6) (by decide), cs_fr (f := 7) (by decide), cs_fr (f := 8) (by decide), cs_fr (f := 9) (by decide), cs_fr (f := 10) (by decide)]
  refine ⟨v 0 (by omega), nm_r h0 ⟨v 1 (by omega), nm_r h1 ⟨v 2 (by omega), nm_r h2 ⟨v 3 (by omega), nm_r h3 ⟨v 4 (by omega), nm_r h4 ⟨v 5 (by omega), nm_r h5 ⟨v 6 (by omega), nm_r h6 ⟨v 7 (by omega), nm_r h7 ⟨v 8 (by omega), nm_r h8 ⟨v 9 (by omega), nm_r h9 ⟨v 10 (by omega), nm_r h10 (cs_yclr hi ?_)⟩⟩⟩⟩⟩⟩⟩⟩⟩⟩⟩
  refine br_f (by decide) (br_t hc ⟨v5, br_f (cs_nro' ht5 hr3 hro) (br_t rfl (hy _ (br_t rfl ?_)))⟩)
  try dsimp only
  refine cs_yapp (w := w) ht5 hl ?_
  try dsimp only
  refine cs_ytail b7 b8 (br_t (by rw [htl]) ?_)
  try dsimp only
  rw [ec, cs_us]
  exact ⟨v5, v5, nm_r cs_uu ⟨v5, hr _ h⟩⟩
theorem cs_yh1M {post : Int32 → SY → Prop} {t : Nat} {r w : Int32} {i : Nat} {g0 g1 g2 g3 g4 g5 g6 g7 g8 g9 g10 : Int32} (hi : i < 16) (h0 : m 0 i = g0) (h1 : m 1 i = g1) (h2 : m 2 i = g2) (h3 : m 3 i = g3) (h4 : m 4 i = g4) (h5 : m 5 i = g5) (h6 : m 6 i = g6) (h7 : m 7 i = g7) (h8 : m 8 i = g8) (h9 : m 9 i = g9) (h10 : m 10 i = g10) (hk : g0 = 1) (hc : g1 = nI cfg) (ht : g3 = nI t) (ht5 : t < 5) (hr3 : ro t ≤ 3) (hro : ro t ≠ 2) (hl : l t < 48) (b7 : 1 ≤ cl) (b8 : cl ≤ 5) (hcl : ∀ i, c i < 5) (htl : c (cl - 1) ≠ t)
    (hy : ∀ p : Int32 → SY → Prop, p 1 (nI srv, nI cap, nI slt, nI cfg, nI cl, (fun ix_ => nI (c ix_)), (fun ix_ => nI (ro ix_)), (fun ix_ => nI (l ix_)), (fun ix_ => nI (k ix_)), (cs_fl 5 E), (cs_fl 6 C), (cs_fl 11 (cs_wm m i (fun _ => 0)))) → wpY_testRequest p (nI srv, nI cap, nI slt, nI cfg, nI cl, (fun ix_ => nI (c ix_)), (fun ix_ => nI (ro ix_)), (fun ix_ => nI (l ix_)), (fun ix_ => nI (k ix_)), (cs_fl 5 E), (cs_fl 6 C), (cs_fl 11 (cs_wm m i (fun _ => 0)))) (nI t) g6 g7)
    (hf : ∀ p : Int32 → SY → Prop, p r (nI srv, nI cap, nI slt, nI cfg, nI cl, (fun ix_ => nI (c ix_)), (fun ix_ => nI (ro ix_)), (fun ix_ => nI ((cs_u l t (l t + 1)) ix_)), (fun ix_ => nI (k ix_)), (cs_fl 5 (cs_wm E (t * 48 + l t) (cs_r6 g6 g7 g8 g9 g10 w))), (cs_fl 6 C), (cs_fl 11 m')) → wpY_sendForward p (nI srv, nI cap, nI slt, nI cfg, nI cl, (fun ix_ => nI (c ix_)), (fun ix_ => nI (ro ix_)), (fun ix_ => nI ((cs_u l t (l t + 1)) ix_)), (fun ix_ => nI (k ix_)), (cs_fl 5 (cs_wm E (t * 48 + l t) (cs_r6 g6 g7 g8 g9 g10 w))), (cs_fl 6 C), (cs_fl 11 (cs_wm m i (fun _ => 0)))) (nI t) (nI (l t + 1)))
    (h : post 1 (nI srv, nI cap, nI slt, nI cfg, nI cl, (fun ix_ => nI (c ix_)), (fun ix_ => nI (ro ix_)), (fun ix_ => nI ((cs_u l t (l t + 1)) ix_)), (fun ix_ => nI (k ix_)), (cs_fl 5 (cs_wm E (t * 48 + l t) (cs_r6 g6 g7 g8 g9 g10 w))), (cs_fl 6 C), (cs_fl 11 m'))) : wpY_handle post (nI srv, nI cap, nI slt, nI cfg, nI cl, (fun ix_ => nI (c ix_)), (fun ix_ => nI (ro ix_)), (fun ix_ => nI (l ix_)), (fun ix_ => nI (k ix_)), (cs_fl 5 E), (cs_fl 6 C), (cs_fl 11 m)) (nI i) := by
  subst ht hk
  have v5 : vp_in (nI t) 5 := vp_in_nI ht5 (by omega)
  have ec : (nI t).toNatClampNeg = t := nI_clamp (by omega)
  have hne : ¬ nI t = nI (c (cl - 1)) := fun z => htl (by have := hcl (cl - 1); exact (cs_im z (by omega) (by omega)).symm)
  have v : ∀ f, f < 11 → vp_in (nI (i * 11 + f)) 176 := fun f hf => vp_in_nI (by omega) (by omega)
  unfold wpY_handle
  refine nm_r (cs_m11 i) ?_
  try dsimp only
  rw [nI_1, cs_p2, cs_p3, cs_p4, cs_p5, cs_p6, cs_p7, cs_p8, cs_p9, cs_p10, nI_clamp (n := i * 11) (by omega), nI_clamp (n := i * 11 + 1) (by omega), nI_clamp (n := i * 11 + 2) (by omega), nI_clamp (n := i * 11 + 3) (by omega), nI_clamp (n := i * 11 + 4) (by omega), nI_clamp (n := i * 11 + 5) (by omega), nI_clamp (n := i * 11 + 6) (by omega), nI_clamp (n := i * 11 + 7) (by omega), nI_clamp (n := i * 11 + 8) (by omega), nI_clamp (n := i * 11 + 9) (by omega), nI_clamp (n := i * 11 + 10) (by omega), cs_fr0 (by decide), cs_fr (f := 1) (by decide), cs_fr (f := 2) (by decide), cs_fr (f := 3) (by decide), cs_fr (f := 4) (by decide), cs_fr (f := 5) (by decide), cs_fr (f := 6) (by decide), cs_fr (f := 7) (by decide), cs_fr (f := 8) (by decide), cs_fr (f := 9) (by decide), cs_fr (f := 10) (by decide)]
  refine ⟨v 0 (by omega), nm_r h0 ⟨v 1 (by omega), nm_r h1 ⟨v 2 (by omega), nm_r h2 ⟨v 3 (by omega), nm_r h3 ⟨v 4 (by omega), nm_r h4 ⟨v 5 (by omega), nm_r h5 ⟨v 6 (by omega), nm_r h6 ⟨v 7 (by omega), nm_r h7 ⟨v 8 (by omega), nm_r h8 ⟨v 9 (by omega), nm_r h9 ⟨v 10 (by omega), nm_r h10 (cs_yclr hi ?_)⟩⟩⟩⟩⟩⟩⟩⟩⟩⟩⟩
  refine br_f (by decide) (br_t hc ⟨v5, br_f (cs_nro' ht5 hr3 hro) (br_t rfl (hy _ (br_t rfl ?_)))⟩)
  try dsimp only
  refine cs_yapp (w := w) ht5 hl ?_
  try dsimp only
  refine cs_ytail b7 b8 (br_f hne ?_)
  try dsimp only
  rw [ec, cs_us]
  exact ⟨v5, hf _ h⟩
theorem cs_yh2 {post : Int32 → SY → Prop} {t : Nat} {r : Int32} {i : Nat} {g0 g1 g2 g3 g4 g5 g6 g7 g8 g9 g10 : Int32} (hi : i < 16) (h0 : m 0 i = g0) (h1 : m 1 i = g1) (h2 : m 2 i = g2) (h3 : m 3 i = g3) (h4 : m 4 i = g4) (h5 : m 5 i = g5) (h6 : m 6 i = g6) (h7 : m 7 i = g7) (h8 : m 8 i = g8) (h9 : m 9 i = g9) (h10 : m 10 i = g10) (hk : g0 = 2) (hc : g1 = nI cfg) (ht : g3 = nI t) (ht5 : t < 5) (hr3 : ro t ≤ 3) (hro : ro t ≠ 2) (hl : l t ≤ 48)
    (hs : ∀ p : Int32 → SY → Prop, p r (nI srv, nI cap, nI slt, nI cfg, nI cl, (fun ix_ => nI (c ix_)), (fun ix_ => nI (ro ix_)), (fun ix_ => nI (l ix_)), (fun ix_ => nI (k ix_)), (cs_fl 5 E), (cs_fl 6 C), (cs_fl 11 m')) → wpY_send p (nI srv, nI cap, nI slt, nI cfg, nI cl, (fun ix_ => nI (c ix_)), (fun ix_ => nI (ro ix_)), (fun ix_ => nI (l ix_)), (fun ix_ => nI (k ix_)), (cs_fl 5 E), (cs_fl 6 C), (cs_fl 11 (cs_wm m i (fun _ => 0)))) 5 (nI t) g2 g4 (cs_v E t g5 (l t)))
    (h : post 1 (nI srv, nI cap, nI slt, nI cfg, nI cl, (fun ix_ => nI (c ix_)), (fun ix_ => nI (ro ix_)), (fun ix_ => nI (l ix_)), (fun ix_ => nI (k ix_)), (cs_fl 5 E), (cs_fl 6 C), (cs_fl 11 m'))) : wpY_handle post (nI srv, nI cap, nI slt, nI cfg, nI cl, (fun ix_ => nI (c ix_)), (fun ix_ => nI (ro ix_)), (fun ix_ => nI (l ix_)), (fun ix_ => nI (k ix_)), (cs_fl 5 E), (cs_fl 6 C), (cs_fl 11 m)) (nI i) := by
  subst ht hk
  have v5 : vp_in (nI t) 5 := vp_in_nI ht5 (by omega)
  have ec : (nI t).toNatClampNeg = t := nI_clamp (by omega)
  have v : ∀ f, f < 11 → vp_in (nI (i * 11 + f)) 176 := fun f hf => vp_in_nI (by omega) (by omega)
  unfold wpY_handle
  refine nm_r (cs_m11 i) ?_
  try dsimp only
  rw [nI_1, cs_p2, cs_p3, cs_p4, cs_p5, cs_p6, cs_p7, cs_p8, cs_p9, cs_p10, nI_clamp (n := i * 11) (by omega), nI_clamp (n := i * 11 + 1) (by omega), nI_clamp (n := i * 11 + 2) (by omega), nI_clamp (n := i * 11 + 3) (by omega), nI_clamp (n := i * 11 + 4) (by omega), nI_clamp (n := i * 11 + 5) (by omega), nI_clamp (n := i * 11 + 6) (by omega), nI_clamp (n := i * 11 + 7) (by omega), nI_clamp (n := i * 11 + 8) (by omega), nI_clamp (n := i * 11 + 9) (by omega), nI_clamp (n := i * 11 + 10) (by omega), cs_fr0 (by decide), cs_fr (f := 1) (by decide), cs_fr (f := 2) (by decide), cs_fr (f := 3) (by decide), cs_fr (f := 4) (by decide), cs_fr (f := 5) (by decide), cs_fr (f := 6) (by decide), cs_fr (f := 7) (by decide), cs_fr (f := 8) (by decide), cs_fr (f := 9) (by decide), cs_fr (f := 10) (by decide)]
  refine ⟨v 0 (by omega), nm_r h0 ⟨v 1 (by omega), nm_r h1 ⟨v 2 (by omega), nm_r h2 ⟨v 3 (by omega), nm_r h3 ⟨v 4 (by omega), nm_r h4 ⟨v 5 (by omega), nm_r h5 ⟨v 6 (by omega), nm_r h6 ⟨v 7 (by omega), nm_r h7 ⟨v 8 (by omega), nm_r h8 ⟨v 9 (by omega), nm_r h9 ⟨v 10 (by omega), nm_r h10 (cs_yclr hi ?_)⟩⟩⟩⟩⟩⟩⟩⟩⟩⟩⟩
  refine br_f (by decide) (br_t hc ⟨v5, br_f (cs_nro' ht5 hr3 hro) (br_f (by decide) (br_t rfl ?_))⟩)
  try dsimp only
  rw [ec]
  exact ⟨v5, cs_yval ht5 hl (hs _ h)⟩
theorem cs_yh3D {post : Int32 → SY → Prop} {t n : Nat} {r : Int32} {i : Nat} {g0 g1 g2 g3 g4 g5 g6 g7 g8 g9 g10 : Int32} (hi : i < 16) (h0 : m 0 i = g0) (h1 : m 1 i = g1) (h2 : m 2 i = g2) (h3 : m 3 i = g3) (h4 : m 4 i = g4) (h5 : m 5 i = g5) (h6 : m 6 i = g6) (h7 : m 7 i = g7) (h8 : m 8 i = g8) (h9 : m 9 i = g9) (h10 : m 10 i = g10) (hk : g0 = 3) (hc : g1 = nI cfg) (ht : g3 = nI t) (ht5 : t < 5) (hr3 : ro t ≤ 3) (hro : ro t ≠ 2) (hn : g4 = nI n) (hl : l t ≤ 48) (hnl : n ≤ l t)
    (ha : ∀ p : Int32 → SY → Prop, p r (nI srv, nI cap, nI slt, nI cfg, nI cl, (fun ix_ => nI (c ix_)), (fun ix_ => nI (ro ix_)), (fun ix_ => nI (l ix_)), (fun ix_ => nI (k ix_)), (cs_fl 5 E), (cs_fl 6 C), (cs_fl 11 m')) → wpY_sendAck p (nI srv, nI cap, nI slt, nI cfg, nI cl, (fun ix_ => nI (c ix_)), (fun ix_ => nI (ro ix_)), (fun ix_ => nI (l ix_)), (fun ix_ => nI (k ix_)), (cs_fl 5 E), (cs_fl 6 C), (cs_fl 11 (cs_wm m i (fun _ => 0)))) (nI t) (nI (k t)))
    (h : post 2 (nI srv, nI cap, nI slt, nI cfg, nI cl, (fun ix_ => nI (c ix_)), (fun ix_ => nI (ro ix_)), (fun ix_ => nI (l ix_)), (fun ix_ => nI (k ix_)), (cs_fl 5 E), (cs_fl 6 C), (cs_fl 11 m'))) : wpY_handle post (nI srv, nI cap, nI slt, nI cfg, nI cl, (fun ix_ => nI (c ix_)), (fun ix_ => nI (ro ix_)), (fun ix_ => nI (l ix_)), (fun ix_ => nI (k ix_)), (cs_fl 5 E), (cs_fl 6 C), (cs_fl 11 m)) (nI i) := by
  subst ht hk hn
  have v5 : vp_in (nI t) 5 := vp_in_nI ht5 (by omega)
  have ec : (nI t).toNatClampNeg = t := nI_clamp (by omega)
  have v : ∀ f, f < 11 → vp_in (nI (i * 11 + f)) 176 := fun f hf => vp_in_nI (by omega) (by omega)
  unfold wpY_handle
  refine nm_r (cs_m11 i) ?_
  try dsimp only
  rw [nI_1, cs_p2, cs_p3, cs_p4, cs_p5, cs_p6, cs_p7, cs_p8, cs_p9, cs_p10, nI_clamp (n := i * 11) (by omega), nI_clamp (n := i * 11 + 1) (by omega), nI_clamp (n := i * 11 + 2) (by omega), nI_clamp (n := i * 11 + 3) (by omega), nI_clamp (n := i * 11 + 4) (by omega), nI_clamp (n := i * 11 + 5) (by omega), nI_clamp (n := i * 11 + 6) (by omega), nI_clamp (n := i * 11 + 7) (by omega), nI_clamp (n := i * 11 + 8) (by omega), nI_clamp (n := i * 11 + 9) (by omega), nI_clamp (n := i * 11 + 10) (by omega), cs_fr0 (by decide), cs_fr (f := 1) (by decide), cs_fr (f := 2) (by decide), cs_fr (f := 3) (by decide), cs_fr (f := 4) (by decide), cs_fr (f := 5) (by decide), cs_fr (f := 6) (by decide), cs_fr (f := 7) (by decide), cs_fr (f := 8) (by decide), cs_fr (f := 9) (by decide), cs_fr (f := 10) (by decide)]
  refine ⟨v 0 (by omega), nm_r h0 ⟨v 1 (by omega), nm_r h1 ⟨v 2 (by omega), nm_r h2 ⟨v 3 (by omega), nm_r h3 ⟨v 4 (by omega), nm_r h4 ⟨v 5 (by omega), nm_r h5 ⟨v 6 (by omega), nm_r h6 ⟨v 7 (by omega), nm_r h7 ⟨v 8 (by omega), nm_r h8 ⟨v 9 (by omega), nm_r h9 ⟨v 10 (by omega), nm_r h10 (cs_yclr hi ?_)⟩⟩⟩⟩⟩⟩⟩⟩⟩⟩⟩
  refine br_f (by decide) (br_t hc ⟨v5, br_f (cs_nro' ht5 hr3 hro) (br_f (by decide) (br_f (by decide) (br_t rfl ?_)))⟩)
  try dsimp only
  rw [ec]
  exact ⟨v5, br_f (nI_nlt hnl (by omega)) ⟨v5, ha _ h⟩⟩
theorem cs_yh3G {post : Int32 → SY → Prop} {t n : Nat} {i : Nat} {g0 g1 g2 g3 g4 g5 g6 g7 g8 g9 g10 : Int32} (hi : i < 16) (h0 : m 0 i = g0) (h1 : m 1 i = g1) (h2 : m 2 i = g2) (h3 : m 3 i = g3) (h4 : m 4 i = g4) (h5 : m 5 i = g5) (h6 : m 6 i = g6) (h7 : m 7 i = g7) (h8 : m 8 i = g8) (h9 : m 9 i = g9) (h10 : m 10 i = g10) (hk : g0 = 3) (hc : g1 = nI cfg) (ht : g3 = nI t) (ht5 : t < 5) (hr3 : ro t ≤ 3) (hro : ro t ≠ 2) (hn : g4 = nI n) (hnl : l t + 1 < n) (hn48 : n ≤ 48)
    (h : post 3 (nI srv, nI cap, nI slt, nI cfg, nI cl, (fun ix_ => nI (c ix_)), (fun ix_ => nI (ro ix_)), (fun ix_ => nI (l ix_)), (fun ix_ => nI (k ix_)), (cs_fl 5 E), (cs_fl 6 C), (cs_fl 11 (cs_wm m i (fun _ => 0))))) : wpY_handle post (nI srv, nI cap, nI slt, nI cfg, nI cl, (fun ix_ => nI (c ix_)), (fun ix_ => nI (ro ix_)), (fun ix_ => nI (l ix_)), (fun ix_ => nI (k ix_)), (cs_fl 5 E), (cs_fl 6 C), (cs_fl 11 m)) (nI i) := by
  subst ht hk hn
  have v5 : vp_in (nI t) 5 := vp_in_nI ht5 (by omega)
  have ec : (nI t).toNatClampNeg = t := nI_clamp (by omega)
  have v : ∀ f, f < 11 → vp_in (nI (i * 11 + f)) 176 := fun f hf => vp_in_nI (by omega) (by omega)
  unfold wpY_handle
  refine nm_r (cs_m11 i) ?_
  try dsimp only
  rw [nI_1, cs_p2, cs_p3, cs_p4, cs_p5, cs_p6, cs_p7, cs_p8, cs_p9, cs_p10, nI_clamp (n := i * 11) (by omega), nI_clamp (n := i * 11 + 1) (by omega), nI_clamp (n := i * 11 + 2) (by omega), nI_clamp (n := i * 11 + 3) (by omega), nI_clamp (n := i * 11 + 4) (by omega), nI_clamp (n := i * 11 + 5) (by omega), nI_clamp (n := i * 11 + 6) (by omega), nI_clamp (n := i * 11 + 7) (by omega), nI_clamp (n := i * 11 + 8) (by omega), nI_clamp (n := i * 11 + 9) (by omega), nI_clamp (n := i * 11 + 10) (by omega), cs_fr0 (by decide), cs_fr (f := 1) (by decide), cs_fr (f := 2) (by decide), cs_fr (f := 3) (by decide), cs_fr (f := 4) (by decide), cs_fr (f := 5) (by decide), cs_fr (f := 6) (by decide), cs_fr (f := 7) (by decide), cs_fr (f := 8) (by decide), cs_fr (f := 9) (by decide), cs_fr (f := 10) (by decide)]
  refine ⟨v 0 (by omega), nm_r h0 ⟨v 1 (by omega), nm_r h1 ⟨v 2 (by omega), nm_r h2 ⟨v 3 (by omega), nm_r h3 ⟨v 4 (by omega), nm_r h4 ⟨v 5 (by omega), nm_r h5 ⟨v 6 (by omega), nm_r h6 ⟨v 7 (by omega), nm_r h7 ⟨v 8 (by omega), nm_r h8 ⟨v 9 (by omega), nm_r h9 ⟨v 10 (by omega), nm_r h10 (cs_yclr hi ?_)⟩⟩⟩⟩⟩⟩⟩⟩⟩⟩⟩
  refine br_f (by decide) (br_t hc ⟨v5, br_f (cs_nro' ht5 hr3 hro) (br_f (by decide) (br_f (by decide) (br_t rfl ?_)))⟩)
  try dsimp only
  rw [ec, nI_1]
  exact ⟨v5, br_t (nI_lt (by omega) (by omega)) ⟨v5, br_f (nI_ge hnl (by omega)) h⟩⟩
theorem cs_yh3T {post : Int32 → SY → Prop} {t : Nat} {r w : Int32} {i : Nat} {g0 g1 g2 g3 g4 g5 g6 g7 g8 g9 g10 : Int32} (hi : i < 16) (h0 : m 0 i = g0) (h1 : m 1 i = g1) (h2 : m 2 i = g2) (h3 : m 3 i = g3) (h4 : m 4 i = g4) (h5 : m 5 i = g5) (h6 : m 6 i = g6) (h7 : m 7 i = g7) (h8 : m 8 i = g8) (h9 : m 9 i = g9) (h10 : m 10 i = g10) (hk : g0 = 3) (hc : g1 = nI cfg) (ht : g3 = nI t) (ht5 : t < 5) (hr3 : ro t ≤ 3) (hro : ro t ≠ 2) (hn : g4 = nI (l t + 1)) (hl : l t < 48) (b7 : 1 ≤ cl) (b8 : cl ≤ 5) (htl : c (cl - 1) = t)
    (hr : ∀ p : SY → Prop, p (nI srv, nI cap, nI slt, nI cfg, nI cl, (fun ix_ => nI (c ix_)), (fun ix_ => nI (ro ix_)), (fun ix_ => nI ((cs_u l t (l t + 1)) ix_)), (fun ix_ => nI ((cs_u k t (l t + 1)) ix_)), (cs_fl 5 (cs_wm E (t * 48 + l t) (cs_r6 g6 g7 g8 g9 g10 w))), (cs_fl 6 C), (cs_fl 11 m')) → wpY_sendReply p (nI srv, nI cap, nI slt, nI cfg, nI cl, (fun ix_ => nI (c ix_)), (fun ix_ => nI (ro ix_)), (fun ix_ => nI ((cs_u l t (l t + 1)) ix_)), (fun ix_ => nI ((cs_u k t (l t + 1)) ix_)), (cs_fl 5 (cs_wm E (t * 48 + l t) (cs_r6 g6 g7 g8 g9 g10 w))), (cs_fl 6 C), (cs_fl 11 (cs_wm m i (fun _ => 0)))) (nI t) (nI (l t + 1)))
    (ha : ∀ p : Int32 → SY → Prop, p r (nI srv, nI cap, nI slt, nI cfg, nI cl, (fun ix_ => nI (c ix_)), (fun ix_ => nI (ro ix_)), (fun ix_ => nI ((cs_u l t (l t + 1)) ix_)), (fun ix_ => nI ((cs_u k t (l t + 1)) ix_)), (cs_fl 5 (cs_wm E (t * 48 + l t) (cs_r6 g6 g7 g8 g9 g10 w))), (cs_fl 6 C), (cs_fl 11 m'')) → wpY_sendAck p (nI srv, nI cap, nI slt, nI cfg, nI cl, (fun ix_ => nI (c ix_)), (fun ix_ => nI (ro ix_)), (fun ix_ => nI ((cs_u l t (l t + 1)) ix_)), (fun ix_ => nI ((cs_u k t (l t + 1)) ix_)), (cs_fl 5 (cs_wm E (t * 48 + l t) (cs_r6 g6 g7 g8 g9 g10 w))), (cs_fl 6 C), (cs_fl 11 m')) (nI t) (nI (l t + 1)))
    (h : post 1 (nI srv, nI cap, nI slt, nI cfg, nI cl, (fun ix_ => nI (c ix_)), (fun ix_ => nI (ro ix_)), (fun ix_ => nI ((cs_u l t (l t + 1)) ix_)), (fun ix_ => nI ((cs_u k t (l t + 1)) ix_)), (cs_fl 5 (cs_wm E (t * 48 + l t) (cs_r6 g6 g7 g8 g9 g10 w))), (cs_fl 6 C), (cs_fl 11 m''))) : wpY_handle post (nI srv, nI cap, nI slt, nI cfg, nI cl, (fun ix_ => nI (c ix_)), (fun ix_ => nI (ro ix_)), (fun ix_ => nI (l ix_)), (fun ix_ => nI (k ix_)), (cs_fl 5 E), (cs_fl 6 C), (cs_fl 11 m)) (nI i) := by
  subst ht hk hn
  have v5 : vp_in (nI t) 5 := vp_in_nI ht5 (by omega)
  have ec : (nI t).toNatClampNeg = t := nI_clamp (by omega)
  have v : ∀ f, f < 11 → vp_in (nI (i * 11 + f)) 176 := fun f hf => vp_in_nI (by omega) (by omega)
  unfold wpY_handle
  refine nm_r (cs_m11 i) ?_
  try dsimp only
  rw [nI_1, cs_p2, cs_p3, cs_p4, cs_p5, cs_p6, cs_p7, cs_p8, cs_p9, cs_p10, nI_clamp (n := i * 11) (by omega), nI_clamp (n := i * 11 + 1) (by omega), nI_clamp (n := i * 11 + 2) (by omega), nI_clamp (n := i * 11 + 3) (by omega), nI_clamp (n := i * 11 + 4) (by omega), nI_clamp (n := i * 11 + 5) (by omega), nI_clamp (n := i * 11 + 6) (by omega), nI_clamp (n := i * 11 + 7) (by omega), nI_clamp (n := i * 11 + 8) (by omega), nI_clamp (n := i * 11 + 9) (by omega), nI_clamp (n := i * 11 + 10) (by omega), cs_fr0 (by decide), cs_fr (f := 1) (by decide), cs_fr (f := 2) (by decide), cs_fr (f := 3) (by decide), cs_fr (f := 4) (by decide), cs_fr (f := 5) (by decide), cs_fr (f := 6) (by decide), cs_fr (f := 7) (by decide), cs_fr (f := 8) (by decide), cs_fr (f := 9) (by decide), cs_fr (f := 10) (by decide)]
  refine ⟨v 0 (by omega), nm_r h0 ⟨v 1 (by omega), nm_r h1 ⟨v 2 (by omega), nm_r h2 ⟨v 3 (by omega), nm_r h3 ⟨v 4 (by omega), nm_r h4 ⟨v 5 (by omega), nm_r h5 ⟨v 6 (by omega), nm_r h6 ⟨v 7 (by omega), nm_r h7 ⟨v 8 (by omega), nm_r h8 ⟨v 9 (by omega), nm_r h9 ⟨v 10 (by omega), nm_r h10 (cs_yclr hi ?_)⟩⟩⟩⟩⟩⟩⟩⟩⟩⟩⟩
  refine br_f (by decide) (br_t hc ⟨v5, br_f (cs_nro' ht5 hr3 hro) (br_f (by decide) (br_f (by decide) (br_t rfl ?_)))⟩)
  try dsimp only
  rw [ec, nI_1]
  refine ⟨v5, br_t (nI_lt (by omega) (by omega)) ⟨v5, br_t (nI_le (by omega) (by omega)) (cs_yapp (w := w) ht5 hl ?_)⟩⟩
  try dsimp only
  refine cs_ytail b7 b8 (br_t (by rw [htl]) ?_)
  try dsimp only
  rw [cs_us]
  refine ⟨v5, v5, nm_r cs_uu ⟨v5, hr _ ?_⟩⟩
  try dsimp only
  rw [cs_us]
  exact ⟨v5, ha _ h⟩
theorem cs_yh3M {post : Int32 → SY → Prop} {t : Nat} {r w : Int32} {i : Nat} {g0 g1 g2 g3 g4 g5 g6 g7 g8 g9 g10 : Int32} (hi : i < 16) (h0 : m 0 i = g0) (h1 : m 1 i = g1) (h2 : m 2 i = g2) (h3 : m 3 i = g3) (h4 : m 4 i = g4) (h5 : m 5 i = g5) (h6 : m 6 i = g6) (h7 : m 7 i = g7) (h8 : m 8 i = g8) (h9 : m 9 i = g9) (h10 : m 10 i = g10) (hk : g0 = 3) (hc : g1 = nI cfg) (ht : g3 = nI t) (ht5 : t < 5) (hr3 : ro t ≤ 3) (hro : ro t ≠ 2) (hn : g4 = nI (l t + 1)) (hl : l t < 48) (b7 : 1 ≤ cl) (b8 : cl ≤ 5) (hcl : ∀ i, c i < 5) (htl : c (cl - 1) ≠ t)
    (hf : ∀ p : Int32 → SY → Prop, p r (nI srv, nI cap, nI slt, nI cfg, nI cl, (fun ix_ => nI (c ix_)), (fun ix_ => nI (ro ix_)), (fun ix_ => nI ((cs_u l t (l t + 1)) ix_)), (fun ix_ => nI (k ix_)), (cs_fl 5 (cs_wm E (t * 48 + l t) (cs_r6 g6 g7 g8 g9 g10 w))), (cs_fl 6 C), (cs_fl 11 m')) → wpY_sendForward p (nI srv, nI cap, nI slt, nI cfg, nI cl, (fun ix_ => nI (c ix_)), (fun ix_ => nI (ro ix_)), (fun ix_ => nI ((cs_u l t (l t + 1)) ix_)), (fun ix_ => nI (k ix_)), (cs_fl 5 (cs_wm E (t * 48 + l t) (cs_r6 g6 g7 g8 g9 g10 w))), (cs_fl 6 C), (cs_fl 11 (cs_wm m i (fun _ => 0)))) (nI t) (nI (l t + 1)))
    (h : post 1 (nI srv, nI cap, nI slt, nI cfg, nI cl, (fun ix_ => nI (c ix_)), (fun ix_ => nI (ro ix_)), (fun ix_ => nI ((cs_u l t (l t + 1)) ix_)), (fun ix_ => nI (k ix_)), (cs_fl 5 (cs_wm E (t * 48 + l t) (cs_r6 g6 g7 g8 g9 g10 w))), (cs_fl 6 C), (cs_fl 11 m'))) : wpY_handle post (nI srv, nI cap, nI slt, nI cfg, nI cl, (fun ix_ => nI (c ix_)), (fun ix_ => nI (ro ix_)), (fun ix_ => nI (l ix_)), (fun ix_ => nI (k ix_)), (cs_fl 5 E), (cs_fl 6 C), (cs_fl 11 m)) (nI i) := by
  subst ht hk hn
  have v5 : vp_in (nI t) 5 := vp_in_nI ht5 (by omega)
  have ec : (nI t).toNatClampNeg = t := nI_clamp (by omega)
  have hne : ¬ nI t = nI (c (cl - 1)) := fun z => htl (by have := hcl (cl - 1); exact (cs_im z (by omega) (by omega)).symm)
  have v : ∀ f, f < 11 → vp_in (nI (i * 11 + f)) 176 := fun f hf => vp_in_nI (by omega) (by omega)
  unfold wpY_handle
  refine nm_r (cs_m11 i) ?_
  try dsimp only
  rw [nI_1, cs_p2, cs_p3, cs_p4, cs_p5, cs_p6, cs_p7, cs_p8, cs_p9, cs_p10, nI_clamp (n := i * 11) (by omega), nI_clamp (n := i * 11 + 1) (by omega), nI_clamp (n := i * 11 + 2) (by omega), nI_clamp (n := i * 11 + 3) (by omega), nI_clamp (n := i * 11 + 4) (by omega), nI_clamp (n := i * 11 + 5) (by omega), nI_clamp (n := i * 11 + 6) (by omega), nI_clamp (n := i * 11 + 7) (by omega), nI_clamp (n := i * 11 + 8) (by omega), nI_clamp (n := i * 11 + 9) (by omega), nI_clamp (n := i * 11 + 10) (by omega), cs_fr0 (by decide), cs_fr (f := 1) (by decide), cs_fr (f := 2) (by decide), cs_fr (f := 3) (by decide), cs_fr (f := 4) (by decide), cs_fr (f := 5) (by decide), cs_fr (f := 6) (by decide), cs_fr (f := 7) (by decide), cs_fr (f := 8) (by decide), cs_fr (f := 9) (by decide), cs_fr (f := 10) (by decide)]
  refine ⟨v 0 (by omega), nm_r h0 ⟨v 1 (by omega), nm_r h1 ⟨v 2 (by omega), nm_r h2 ⟨v 3 (by omega), nm_r h3 ⟨v 4 (by omega), nm_r h4 ⟨v 5 (by omega), nm_r h5 ⟨v 6 (by omega), nm_r h6 ⟨v 7 (by omega), nm_r h7 ⟨v 8 (by omega), nm_r h8 ⟨v 9 (by omega), nm_r h9 ⟨v 10 (by omega), nm_r h10 (cs_yclr hi ?_)⟩⟩⟩⟩⟩⟩⟩⟩⟩⟩⟩
  refine br_f (by decide) (br_t hc ⟨v5, br_f (cs_nro' ht5 hr3 hro) (br_f (by decide) (br_f (by decide) (br_t rfl ?_)))⟩)
  try dsimp only
  rw [ec, nI_1]
  refine ⟨v5, br_t (nI_lt (by omega) (by omega)) ⟨v5, br_t (nI_le (by omega) (by omega)) (cs_yapp (w := w) ht5 hl ?_)⟩⟩
  try dsimp only
  exact cs_ytail b7 b8 (br_f hne (hf _ h))
theorem cs_yh41 {post : Int32 → SY → Prop} {t n : Nat} {r : Int32} {i : Nat} {g0 g1 g2 g3 g4 g5 g6 g7 g8 g9 g10 : Int32} (hi : i < 16) (h0 : m 0 i = g0) (h1 : m 1 i = g1) (h2 : m 2 i = g2) (h3 : m 3 i = g3) (h4 : m 4 i = g4) (h5 : m 5 i = g5) (h6 : m 6 i = g6) (h7 : m 7 i = g7) (h8 : m 8 i = g8) (h9 : m 9 i = g9) (h10 : m 10 i = g10) (hk : g0 = 4) (hc : g1 = nI cfg) (ht : g3 = nI t) (ht5 : t < 5) (hr3 : ro t ≤ 3) (hro : ro t ≠ 2) (hn : g4 = nI n) (hn48 : n ≤ 48) (hkn : k t < n)
    (ha : ∀ p : Int32 → SY → Prop, p r (nI srv, nI cap, nI slt, nI cfg, nI cl, (fun ix_ => nI (c ix_)), (fun ix_ => nI (ro ix_)), (fun ix_ => nI (l ix_)), (fun ix_ => nI ((cs_u k t n) ix_)), (cs_fl 5 E), (cs_fl 6 C), (cs_fl 11 m')) → wpY_sendAck p (nI srv, nI cap, nI slt, nI cfg, nI cl, (fun ix_ => nI (c ix_)), (fun ix_ => nI (ro ix_)), (fun ix_ => nI (l ix_)), (fun ix_ => nI ((cs_u k t n) ix_)), (cs_fl 5 E), (cs_fl 6 C), (cs_fl 11 (cs_wm m i (fun _ => 0)))) (nI t) (nI n))
    (h : post 1 (nI srv, nI cap, nI slt, nI cfg, nI cl, (fun ix_ => nI (c ix_)), (fun ix_ => nI (ro ix_)), (fun ix_ => nI (l ix_)), (fun ix_ => nI ((cs_u k t n) ix_)), (cs_fl 5 E), (cs_fl 6 C), (cs_fl 11 m'))) : wpY_handle post (nI srv, nI cap, nI slt, nI cfg, nI cl, (fun ix_ => nI (c ix_)), (fun ix_ => nI (ro ix_)), (fun ix_ => nI (l ix_)), (fun ix_ => nI (k ix_)), (cs_fl 5 E), (cs_fl 6 C), (cs_fl 11 m)) (nI i) := by
  subst ht hk hn
  have v5 : vp_in (nI t) 5 := vp_in_nI ht5 (by omega)
  have ec : (nI t).toNatClampNeg = t := nI_clamp (by omega)
  have v : ∀ f, f < 11 → vp_in (nI (i * 11 + f)) 176 := fun f hf => vp_in_nI (by omega) (by omega)
  unfold wpY_handle
  refine nm_r (cs_m11 i) ?_
  try dsimp only
  rw [nI_1, cs_p2, cs_p3, cs_p4, cs_p5, cs_p6, cs_p7, cs_p8, cs_p9, cs_p10, nI_clamp (n := i * 11) (by omega), nI_clamp (n := i * 11 + 1) (by omega), nI_clamp (n := i * 11 + 2) (by omega), nI_clamp (n := i * 11 + 3) (by omega), nI_clamp (n := i * 11 + 4) (by omega), nI_clamp (n := i * 11 + 5) (by omega), nI_clamp (n := i * 11 + 6) (by omega), nI_clamp (n := i * 11 + 7) (by omega), nI_clamp (n := i * 11 + 8) (by omega), nI_clamp (n := i * 11 + 9) (by omega), nI_clamp (n := i * 11 + 10) (by omega), cs_fr0 (by decide), cs_fr (f := 1) (by decide), cs_fr (f := 2) (by decide), cs_fr (f := 3) (by decide), cs_fr (f := 4) (by decide), cs_fr (f := 5) (by decide), cs_fr (f := 6) (by decide), cs_fr (f := 7) (by decide), cs_fr (f := 8) (by decide), cs_fr (f := 9) (by decide), cs_fr (f := 10) (by decide)]
  refine ⟨v 0 (by omega), nm_r h0 ⟨v 1 (by omega), nm_r h1 ⟨v 2 (by omega), nm_r h2 ⟨v 3 (by omega), nm_r h3 ⟨v 4 (by omega), nm_r h4 ⟨v 5 (by omega), nm_r h5 ⟨v 6 (by omega), nm_r h6 ⟨v 7 (by omega), nm_r h7 ⟨v 8 (by omega), nm_r h8 ⟨v 9 (by omega), nm_r h9 ⟨v 10 (by omega), nm_r h10 (cs_yclr hi ?_)⟩⟩⟩⟩⟩⟩⟩⟩⟩⟩⟩
  refine br_f (by decide) (br_t hc ⟨v5, br_f (cs_nro' ht5 hr3 hro) (br_f (by decide) (br_f (by decide) (br_f (by decide) ?_)))⟩)
  try dsimp only
  rw [ec]
  exact ⟨v5, br_t (nI_lt hkn (by omega)) ⟨v5, nm_r cs_uu (ha _ h)⟩⟩
theorem cs_yh42 {post : Int32 → SY → Prop} {t n : Nat} {i : Nat} {g0 g1 g2 g3 g4 g5 g6 g7 g8 g9 g10 : Int32} (hi : i < 16) (h0 : m 0 i = g0) (h1 : m 1 i = g1) (h2 : m 2 i = g2) (h3 : m 3 i = g3) (h4 : m 4 i = g4) (h5 : m 5 i = g5) (h6 : m 6 i = g6) (h7 : m 7 i = g7) (h8 : m 8 i = g8) (h9 : m 9 i = g9) (h10 : m 10 i = g10) (hk : g0 = 4) (hc : g1 = nI cfg) (ht : g3 = nI t) (ht5 : t < 5) (hr3 : ro t ≤ 3) (hro : ro t ≠ 2) (hn : g4 = nI n) (hk48 : k t ≤ 48) (hkn : n ≤ k t)
    (h : post 2 (nI srv, nI cap, nI slt, nI cfg, nI cl, (fun ix_ => nI (c ix_)), (fun ix_ => nI (ro ix_)), (fun ix_ => nI (l ix_)), (fun ix_ => nI (k ix_)), (cs_fl 5 E), (cs_fl 6 C), (cs_fl 11 (cs_wm m i (fun _ => 0))))) : wpY_handle post (nI srv, nI cap, nI slt, nI cfg, nI cl, (fun ix_ => nI (c ix_)), (fun ix_ => nI (ro ix_)), (fun ix_ => nI (l ix_)), (fun ix_ => nI (k ix_)), (cs_fl 5 E), (cs_fl 6 C), (cs_fl 11 m)) (nI i) := by
  subst ht hk hn
  have v5 : vp_in (nI t) 5 := vp_in_nI ht5 (by omega)
  have ec : (nI t).toNatClampNeg = t := nI_clamp (by omega)
  have v : ∀ f, f < 11 → vp_in (nI (i * 11 + f)) 176 := fun f hf => vp_in_nI (by omega) (by omega)
  unfold wpY_handle
  refine nm_r (cs_m11 i) ?_
  try dsimp only
  rw [nI_1, cs_p2, cs_p3, cs_p4, cs_p5, cs_p6, cs_p7, cs_p8, cs_p9, cs_p10, nI_clamp (n := i * 11) (by omega), nI_clamp (n := i * 11 + 1) (by omega), nI_clamp (n := i * 11 + 2) (by omega), nI_clamp (n := i * 11 + 3) (by omega), nI_clamp (n := i * 11 + 4) (by omega), nI_clamp (n := i * 11 + 5) (by omega), nI_clamp (n := i * 11 + 6) (by omega), nI_clamp (n := i * 11 + 7) (by omega), nI_clamp (n := i * 11 + 8) (by omega), nI_clamp (n := i * 11 + 9) (by omega), nI_clamp (n := i * 11 + 10) (by omega), cs_fr0 (by decide), cs_fr (f := 1) (by decide), cs_fr (f := 2) (by decide), cs_fr (f := 3) (by decide), cs_fr (f := 4) (by decide), cs_fr (f := 5) (by decide), cs_fr (f := 6) (by decide), cs_fr (f := 7) (by decide), cs_fr (f := 8) (by decide), cs_fr (f := 9) (by decide), cs_fr (f := 10) (by decide)]
  refine ⟨v 0 (by omega), nm_r h0 ⟨v 1 (by omega), nm_r h1 ⟨v 2 (by omega), nm_r h2 ⟨v 3 (by omega), nm_r h3 ⟨v 4 (by omega), nm_r h4 ⟨v 5 (by omega), nm_r h5 ⟨v 6 (by omega), nm_r h6 ⟨v 7 (by omega), nm_r h7 ⟨v 8 (by omega), nm_r h8 ⟨v 9 (by omega), nm_r h9 ⟨v 10 (by omega), nm_r h10 (cs_yclr hi ?_)⟩⟩⟩⟩⟩⟩⟩⟩⟩⟩⟩
  refine br_f (by decide) (br_t hc ⟨v5, br_f (cs_nro' ht5 hr3 hro) (br_f (by decide) (br_f (by decide) (br_f (by decide) ?_)))⟩)
  try dsimp only
  rw [ec]
  exact ⟨v5, br_f (nI_nlt hkn (by omega)) h⟩
end cs_hy
end
section
section cs_hand
variable {srv cap slt cl cfg : Nat} {jn : Int32} {c ro l k : Nat → Nat} {va : Nat → Int32} {E C G m : Nat → Nat → Int32} {mu : Nat} {Mc Mn : Nat → Int32}
theorem cs_h5 (hI : cs_I srv cap slt cl cfg jn c ro l k va E C G m mu Mc Mn) {i q : Nat} (hi : i < 16) (h0 : G 0 i = 5) (hq3 : q < 3) (h3 : G 3 i = nI q) (e0 : G 0 i = m 0 i) (e3 : G 3 i = m 3 i) (e4 : G 4 i = m 4 i) (e5 : G 5 i = m 5 i) :
    cs_O (fun post => wpX_handle post (nI srv, nI cap, nI slt, nI cl, nI cfg, jn, (fun ix_ => nI (c ix_)), (fun ix_ => nI (ro ix_)), (fun ix_ => nI (l ix_)), (fun ix_ => nI (k ix_)), va, (E 0), (E 1), (E 2), (E 3), (E 4), (E 5), (C 0), (C 1), (C 2), (C 3), (C 4), (C 5), (G 0), (G 1), (G 2), (G 3), (G 4), (G 5), (G 6), (G 7), (G 8), (G 9), (G 10)) (nI i)) (fun post => wpY_handle post (nI srv, nI cap, nI slt, nI cfg, nI cl, (fun ix_ => nI (c ix_)), (fun ix_ => nI (ro ix_)), (fun ix_ => nI (l ix_)), (fun ix_ => nI (k ix_)), (cs_fl 5 E), (cs_fl 6 C), (cs_fl 11 m)) (nI i)) := by
  obtain ⟨hA, hE, hC, hG, hq⟩ := hI
  have hqz := cs_Qz (i := i) hq
  by_cases hh : C 0 q = 1 ∧ C 1 q = G 4 i
  · exact ⟨1, _, _, cs_in (C := cs_c2 C q (G 5 i)) ⟨hA, hE, fun j => hC j, hG, hqz⟩,
      fun post hp => cs_xh5 hi h0 rfl rfl h3 rfl rfl rfl rfl rfl rfl rfl rfl (fun p hp' => cs_xrp1 hq3 hh.1 hh.2 hp') hp,
      fun post hp => cs_yh51 hi (e0.symm.trans h0) rfl rfl (e3.symm.trans h3) e4.symm e5.symm rfl rfl rfl rfl rfl rfl rfl hq3 hh.1 hh.2 hp⟩
  · exact ⟨2, _, _, cs_in ⟨hA, hE, hC, hG, hqz⟩,
      fun post hp => cs_xh5 hi h0 rfl rfl h3 rfl rfl rfl rfl rfl rfl rfl rfl (fun p hp' => cs_xrp2 hq3 hh hp') hp,
      fun post hp => cs_yh52 hi (e0.symm.trans h0) rfl rfl (e3.symm.trans h3) e4.symm e5.symm rfl rfl rfl rfl rfl rfl rfl hq3 hh hp⟩
theorem cs_h1 (hI : cs_I srv cap slt cl cfg jn c ro l k va E C G m mu Mc Mn) {i q y t : Nat} (hi : i < 16) (h0 : G 0 i = 1) (h1 : G 1 i = nI cfg) (hq3 : q < 3) (h2 : G 2 i = nI q) (h6 : G 6 i = G 2 i) (h7 : G 7 i = G 4 i) (hy : y < 4) (h9 : G 9 i = nI y) (hts : t < srv) (h3 : G 3 i = nI t) (htc : t = c 0) (hro : ro t ≠ 2)
    (e0 : G 0 i = m 0 i) (e1 : G 1 i = m 1 i) (e3 : G 3 i = m 3 i) (e6 : G 6 i = m 6 i) (e7 : G 7 i = m 7 i) (e8 : G 8 i = m 8 i) (e9 : G 9 i = m 9 i) (e10 : G 10 i = m 10 i) :
    cs_O (fun post => wpX_handle post (nI srv, nI cap, nI slt, nI cl, nI cfg, jn, (fun ix_ => nI (c ix_)), (fun ix_ => nI (ro ix_)), (fun ix_ => nI (l ix_)), (fun ix_ => nI (k ix_)), va, (E 0), (E 1), (E 2), (E 3), (E 4), (E 5), (C 0), (C 1), (C 2), (C 3), (C 4), (C 5), (G 0), (G 1), (G 2), (G 3), (G 4), (G 5), (G 6), (G 7), (G 8), (G 9), (G 10)) (nI i)) (fun post => wpY_handle post (nI srv, nI cap, nI slt, nI cfg, nI cl, (fun ix_ => nI (c ix_)), (fun ix_ => nI (ro ix_)), (fun ix_ => nI (l ix_)), (fun ix_ => nI (k ix_)), (cs_fl 5 E), (cs_fl 6 C), (cs_fl 11 m)) (nI i)) := by
  obtain ⟨hA, hE, hC, hG, hq⟩ := hI
  have hqz := cs_Qz (i := i) hq
  have hA' := hA
  obtain ⟨⟨b1, b2, b3, b4, b5, b6, b7, b8, b9⟩, hc, hrx, hL, hK, hx2, hd, hch, hin, hj⟩ := hA'
  have hr1 : ro t = 1 := by
    rcases hch 0 (by omega) with z | z
    · rw [htc]; exact z
    · exact absurd (by rw [htc]; exact z) hro
  have hc5 : ∀ i, c i < 5 := fun i => by have := hc i; omega
  rcases cs_treq (srv := srv) (cap := cap) (slt := slt) (cl := cl) (cfg := cfg) (jn := jn) (c := c) (ro := ro) (l := l) (k := k) (va := va) (E := E) (C := C) (G := (cs_z G i)) (m := (cs_wm m i (fun _ => 0))) (a := nI q) (b := G 4 i) (op := G 8 i) (ar := G 10 i) hA hE hG hqz hts hr1 hy with ⟨r, G', m', hr, hq', tx, ty⟩ | ⟨hlc, hns, ty, tT, tM⟩
  · exact ⟨r, _, _, cs_in ⟨hA, hE, hC, hG, hq'⟩,
      fun post hp => cs_xh1 hi h0 h1 h2 h3 rfl rfl rfl rfl rfl h9 rfl rfl rfl rfl (by omega) (hrx t) hro tx hp,
      fun post hp => cs_yh1A hi (e0.symm.trans h0) (e1.symm.trans h1) rfl (e3.symm.trans h3) rfl rfl (e6.symm.trans (h6.trans h2)) (e7.symm.trans h7) e8.symm (e9.symm.trans h9) e10.symm rfl rfl rfl (by omega) (hrx t) hro hr ty hp⟩
  · have hA1 := cs_Al hA hro (by omega : l t + 1 ≤ cap)
    have hE1 := cs_Eva (a := nI q) (b := G 4 i) (op := G 8 i) (ar := G 10 i) hE (by omega : t < 5) (by omega) (fun s => by have := hL s; omega) ⟨q, hq3, rfl⟩ hy
    have hG1 := cs_GhR (op := G 8 i) (y := nI y) (ar := G 10 i) (w := va (t * 4 + y)) hA hG htc hr1 hlc hns
    have hq1 := cs_Qi hqz (cs_okR (s := t) (a := nI q) (b := G 4 i))
    by_cases htl : c (cl - 1) = t
    · have hA2 := cs_Ak hA1 hro (by omega : l t + 1 ≤ cap)
      obtain ⟨G', m', hq2, rx, ry⟩ := cs_rep (srv := srv) (cap := cap) (slt := slt) (cl := cl) (cfg := cfg) (jn := jn) (c := c) (ro := ro) (l := (cs_u l t (l t + 1))) (k := (cs_u k t (l t + 1))) (va := (upd va (t * 4 + y) (if G 8 i = 0 then G 10 i else va (t * 4 + y) + G 10 i))) (E := (cs_wm E (t * 48 + l t) (cs_r6 (nI q) (G 4 i) (G 8 i) (nI y) (G 10 i) (va (t * 4 + y))))) (C := C) (G := (cs_z G i)) (m := (cs_wm m i (fun _ => 0))) hA2 hE1 hq1 hts (p := l t) (by rw [cs_us]; omega)
      exact ⟨1, _, _, cs_in ⟨hA2, hE1, hC, hG1, hq2⟩,
        fun post hp => cs_xh1 hi h0 h1 h2 h3 rfl rfl rfl rfl rfl h9 rfl rfl rfl rfl (by omega) (hrx t) hro (fun p hp' => tT htl p G' rx hp') hp,
        fun post hp => cs_yh1T (w := va (t * 4 + y)) hi (e0.symm.trans h0) (e1.symm.trans h1) rfl (e3.symm.trans h3) rfl rfl (e6.symm.trans (h6.trans h2)) (e7.symm.trans h7) e8.symm (e9.symm.trans h9) e10.symm rfl rfl rfl (by omega) (hrx t) hro (by omega) b7 (by omega) htl ty ry hp⟩
    · obtain ⟨r, G', m', hq2, rx, ry⟩ := cs_fwd (srv := srv) (cap := cap) (slt := slt) (cl := cl) (cfg := cfg) (jn := jn) (c := c) (ro := ro) (l := (cs_u l t (l t + 1))) (k := k) (va := (upd va (t * 4 + y) (if G 8 i = 0 then G 10 i else va (t * 4 + y) + G 10 i))) (E := (cs_wm E (t * 48 + l t) (cs_r6 (nI q) (G 4 i) (G 8 i) (nI y) (G 10 i) (va (t * 4 + y))))) (C := C) (G := (cs_z G i)) (m := (cs_wm m i (fun _ => 0))) hA1 hE1 hG1 hq1 hts hr1 (p := l t) (by rw [cs_us]; omega)
      exact ⟨1, _, _, cs_in ⟨hA1, hE1, hC, hG1, hq2⟩,
        fun post hp => cs_xh1 hi h0 h1 h2 h3 rfl rfl rfl rfl rfl h9 rfl rfl rfl rfl (by omega) (hrx t) hro (fun p hp' => tM htl p r G' rx hp') hp,
        fun post hp => cs_yh1M (w := va (t * 4 + y)) hi (e0.symm.trans h0) (e1.symm.trans h1) rfl (e3.symm.trans h3) rfl rfl (e6.symm.trans (h6.trans h2)) (e7.symm.trans h7) e8.symm (e9.symm.trans h9) e10.symm rfl rfl rfl (by omega) (hrx t) hro (by omega) b7 (by omega) hc5 htl ty ry hp⟩
theorem cs_h2 (hI : cs_I srv cap slt cl cfg jn c ro l k va E C G m mu Mc Mn) {i q y t : Nat} (hi : i < 16) (h0 : G 0 i = 2) (h1 : G 1 i = nI cfg) (hq3 : q < 3) (h2 : G 2 i = nI q) (hy : y < 4) (h5 : G 5 i = nI y) (hts : t < srv) (h3 : G 3 i = nI t) (hro : ro t ≠ 2)
    (e0 : G 0 i = m 0 i) (e1 : G 1 i = m 1 i) (e2 : G 2 i = m 2 i) (e3 : G 3 i = m 3 i) (e4 : G 4 i = m 4 i) (e5 : G 5 i = m 5 i) :
    cs_O (fun post => wpX_handle post (nI srv, nI cap, nI slt, nI cl, nI cfg, jn, (fun ix_ => nI (c ix_)), (fun ix_ => nI (ro ix_)), (fun ix_ => nI (l ix_)), (fun ix_ => nI (k ix_)), va, (E 0), (E 1), (E 2), (E 3), (E 4), (E 5), (C 0), (C 1), (C 2), (C 3), (C 4), (C 5), (G 0), (G 1), (G 2), (G 3), (G 4), (G 5), (G 6), (G 7), (G 8), (G 9), (G 10)) (nI i)) (fun post => wpY_handle post (nI srv, nI cap, nI slt, nI cfg, nI cl, (fun ix_ => nI (c ix_)), (fun ix_ => nI (ro ix_)), (fun ix_ => nI (l ix_)), (fun ix_ => nI (k ix_)), (cs_fl 5 E), (cs_fl 6 C), (cs_fl 11 m)) (nI i)) := by
  obtain ⟨hA, hE, hC, hG, hq⟩ := hI
  have hqz := cs_Qz (i := i) hq
  have hA' := hA
  obtain ⟨⟨b1, b2, b3, b4, b5, b6, b7, b8, b9⟩, hc, hrx, hL, hK, hx2, hd, hch, hin, hj⟩ := hA'
  have hLt := hL t
  have ev := hE.2.2.1 t y (by omega) hy
  rcases cs_send (srv := srv) (cap := cap) (slt := slt) (cl := cl) (cfg := cfg) (jn := jn) (c := c) (ro := ro) (l := l) (k := k) (va := va) (E := E) (C := C) (G := (cs_z G i)) (m := (cs_wm m i (fun _ => 0))) hqz b6 5 (nI t) (nI q) (G 4 i) (cs_v E t (nI y) (l t)) with ⟨x, hx16, sx, sy⟩ | ⟨sx, sy⟩
  · exact ⟨1, _, _, cs_in ⟨hA, hE, hC, hG, cs_Qw (i := x) hqz (cs_Rs (g := cs_r11 5 (nI cfg) (nI t) (nI q) (G 4 i) (cs_v E t (nI y) (l t)) 0 0 0 0 0) (by show (5 : Int32) ≠ 0; decide) ⟨cfg, Nat.le_refl _, rfl, Or.inl ⟨rfl, ⟨q, hq3, rfl⟩⟩⟩)⟩,
      fun post hp => cs_xh2 hi h0 h1 h2 h3 rfl h5 rfl rfl rfl rfl rfl rfl rfl rfl (by omega) (hrx t) hro (fun p hp' => cs_xtq (by omega) hy (by rw [ev]; exact sx) hp') hp,
      fun post hp => cs_yh2 hi (e0.symm.trans h0) (e1.symm.trans h1) (e2.symm.trans h2) (e3.symm.trans h3) e4.symm (e5.symm.trans h5) rfl rfl rfl rfl rfl rfl rfl rfl (by omega) (hrx t) hro (by omega) sy hp⟩
  · exact ⟨1, _, _, cs_in ⟨hA, hE, hC, hG, hqz⟩,
      fun post hp => cs_xh2 hi h0 h1 h2 h3 rfl h5 rfl rfl rfl rfl rfl rfl rfl rfl (by omega) (hrx t) hro (fun p hp' => cs_xtq (by omega) hy (by rw [ev]; exact sx) hp') hp,
      fun post hp => cs_yh2 hi (e0.symm.trans h0) (e1.symm.trans h1) (e2.symm.trans h2) (e3.symm.trans h3) e4.symm (e5.symm.trans h5) rfl rfl rfl rfl rfl rfl rfl rfl (by omega) (hrx t) hro (by omega) sy hp⟩
theorem cs_h3 (hI : cs_I srv cap slt cl cfg jn c ro l k va E C G m mu Mc Mn) {i y t n : Nat} (hi : i < 16) (h0 : G 0 i = 3) (h1 : G 1 i = nI cfg) (h6 : cs_lt (G 6 i) 3) (hy : y < 4) (h9 : G 9 i = nI y) (hts : t < srv) (h3 : G 3 i = nI t) (hn1 : 1 ≤ n) (hnc : n ≤ cap) (h4 : G 4 i = nI n) (hF : cs_FW cl c ro l mu Mc Mn t n (G 6 i) (G 7 i)) (hro : ro t ≠ 2)
    (e0 : G 0 i = m 0 i) (e1 : G 1 i = m 1 i) (e3 : G 3 i = m 3 i) (e4 : G 4 i = m 4 i) (e6 : G 6 i = m 6 i) (e7 : G 7 i = m 7 i) (e8 : G 8 i = m 8 i) (e9 : G 9 i = m 9 i) (e10 : G 10 i = m 10 i) :
    cs_O (fun post => wpX_handle post (nI srv, nI cap, nI slt, nI cl, nI cfg, jn, (fun ix_ => nI (c ix_)), (fun ix_ => nI (ro ix_)), (fun ix_ => nI (l ix_)), (fun ix_ => nI (k ix_)), va, (E 0), (E 1), (E 2), (E 3), (E 4), (E 5), (C 0), (C 1), (C 2), (C 3), (C 4), (C 5), (G 0), (G 1), (G 2), (G 3), (G 4), (G 5), (G 6), (G 7), (G 8), (G 9), (G 10)) (nI i)) (fun post => wpY_handle post (nI srv, nI cap, nI slt, nI cfg, nI cl, (fun ix_ => nI (c ix_)), (fun ix_ => nI (ro ix_)), (fun ix_ => nI (l ix_)), (fun ix_ => nI (k ix_)), (cs_fl 5 E), (cs_fl 6 C), (cs_fl 11 m)) (nI i)) := by
  obtain ⟨hA, hE, hC, hG, hq⟩ := hI
  have hqz := cs_Qz (i := i) hq
  have hA' := hA
  obtain ⟨⟨b1, b2, b3, b4, b5, b6, b7, b8, b9⟩, hc, hrx, hL, hK, hx2, hd, hch, hin, hj⟩ := hA'
  have hLt := hL t
  have hc5 : ∀ i, c i < 5 := fun i => by have := hc i; omega
  have hr1 : ro t = 1 := by
    obtain ⟨_, _, _, j, _, f5, f6, _⟩ := hF
    rcases hch j f5 with z | z
    · rw [← f6]; exact z
    · exact absurd (by rw [← f6]; exact z) hro
  by_cases hd1 : n ≤ l t
  · obtain ⟨r, G', m', hq2, ax, ay⟩ := cs_ack (srv := srv) (cap := cap) (slt := slt) (cl := cl) (cfg := cfg) (jn := jn) (c := c) (ro := ro) (l := l) (k := k) (va := va) (E := E) (C := C) (G := (cs_z G i)) (m := (cs_wm m i (fun _ => 0))) hA hqz hts (hK t)
    exact ⟨2, _, _, cs_in ⟨hA, hE, hC, hG, hq2⟩,
      fun post hp => cs_xh3 hi h0 h1 rfl h3 h4 rfl rfl rfl rfl rfl rfl rfl rfl rfl (by omega) (hrx t) hro (fun p hp' => cs_xtfD (by omega) (by omega) hd1 ax hp') hp,
      fun post hp => cs_yh3D hi (e0.symm.trans h0) (e1.symm.trans h1) rfl (e3.symm.trans h3) (e4.symm.trans h4) rfl rfl rfl rfl rfl rfl rfl rfl rfl (by omega) (hrx t) hro rfl (by omega) hd1 ay hp⟩
  · by_cases hg1 : l t + 1 < n
    · exact ⟨3, _, _, cs_in ⟨hA, hE, hC, hG, hqz⟩,
        fun post hp => cs_xh3 hi h0 h1 rfl h3 h4 rfl rfl rfl rfl rfl rfl rfl rfl rfl (by omega) (hrx t) hro (fun p hp' => cs_xtfG (by omega) (by omega) hg1 (by omega) hp') hp,
        fun post hp => cs_yh3G hi (e0.symm.trans h0) (e1.symm.trans h1) rfl (e3.symm.trans h3) (e4.symm.trans h4) rfl rfl rfl rfl rfl rfl rfl rfl rfl (by omega) (hrx t) hro rfl hg1 (by omega) hp⟩
    · obtain rfl : n = l t + 1 := by omega
      have hA1 := cs_Al hA hro (by omega : l t + 1 ≤ cap)
      have hE1 := cs_Eva (a := G 6 i) (b := G 7 i) (op := G 8 i) (ar := G 10 i) hE (by omega : t < 5) (by omega) (fun s => by have := hL s; omega) h6 hy
      have hG1 := cs_GhF (op := G 8 i) (y := nI y) (ar := G 10 i) (w := va (t * 4 + y)) hA hG hr1 (by omega) hF
      have hq1 := cs_Qi hqz (cs_okF (s := t))
      by_cases htl : c (cl - 1) = t
      · have hA2 := cs_Ak hA1 hro (by omega : l t + 1 ≤ cap)
        obtain ⟨G', m', hq2, rx, ry⟩ := cs_rep (srv := srv) (cap := cap) (slt := slt) (cl := cl) (cfg := cfg) (jn := jn) (c := c) (ro := ro) (l := (cs_u l t (l t + 1))) (k := (cs_u k t (l t + 1))) (va := (upd va (t * 4 + y) (if G 8 i = 0 then G 10 i else va (t * 4 + y) + G 10 i))) (E := (cs_wm E (t * 48 + l t) (cs_r6 (G 6 i) (G 7 i) (G 8 i) (nI y) (G 10 i) (va (t * 4 + y))))) (C := C) (G := (cs_z G i)) (m := (cs_wm m i (fun _ => 0))) hA2 hE1 hq1 hts (p := l t) (by rw [cs_us]; omega)
        obtain ⟨r, G'', m'', hq3, ax, ay⟩ := cs_ack (srv := srv) (cap := cap) (slt := slt) (cl := cl) (cfg := cfg) (jn := jn) (c := c) (ro := ro) (l := (cs_u l t (l t + 1))) (k := (cs_u k t (l t + 1))) (va := (upd va (t * 4 + y) (if G 8 i = 0 then G 10 i else va (t * 4 + y) + G 10 i))) (E := (cs_wm E (t * 48 + l t) (cs_r6 (G 6 i) (G 7 i) (G 8 i) (nI y) (G 10 i) (va (t * 4 + y))))) (C := C) (G := G') (m := m') hA2 hq2 hts (n := l t + 1) (by omega)
        exact ⟨1, _, _, cs_in ⟨hA2, hE1, hC, hG1, hq3⟩,
          fun post hp => cs_xh3 hi h0 h1 rfl h3 h4 rfl rfl rfl rfl h9 rfl rfl rfl rfl (by omega) (hrx t) hro (fun p hp' => cs_xtfT (by omega) (by omega) b4 hy b7 (by omega) hc5 htl rx ax hp') hp,
          fun post hp => cs_yh3T (w := va (t * 4 + y)) hi (e0.symm.trans h0) (e1.symm.trans h1) rfl (e3.symm.trans h3) (e4.symm.trans h4) rfl e6.symm e7.symm e8.symm (e9.symm.trans h9) e10.symm rfl rfl rfl (by omega) (hrx t) hro rfl (by omega) b7 (by omega) htl ry ay hp⟩
      · obtain ⟨r, G', m', hq2, rx, ry⟩ := cs_fwd (srv := srv) (cap := cap) (slt := slt) (cl := cl) (cfg := cfg) (jn := jn) (c := c) (ro := ro) (l := (cs_u l t (l t + 1))) (k := k) (va := (upd va (t * 4 + y) (if G 8 i = 0 then G 10 i else va (t * 4 + y) + G 10 i))) (E := (cs_wm E (t * 48 + l t) (cs_r6 (G 6 i) (G 7 i) (G 8 i) (nI y) (G 10 i) (va (t * 4 + y))))) (C := C) (G := (cs_z G i)) (m := (cs_wm m i (fun _ => 0))) hA1 hE1 hG1 hq1 hts hr1 (p := l t) (by rw [cs_us]; omega)
        exact ⟨1, _, _, cs_in ⟨hA1, hE1, hC, hG1, hq2⟩,
          fun post hp => cs_xh3 hi h0 h1 rfl h3 h4 rfl rfl rfl rfl h9 rfl rfl rfl rfl (by omega) (hrx t) hro (fun p hp' => cs_xtfM (by omega) (by omega) b4 hy b7 (by omega) hc5 htl rx hp') hp,
          fun post hp => cs_yh3M (w := va (t * 4 + y)) hi (e0.symm.trans h0) (e1.symm.trans h1) rfl (e3.symm.trans h3) (e4.symm.trans h4) rfl e6.symm e7.symm e8.symm (e9.symm.trans h9) e10.symm rfl rfl rfl (by omega) (hrx t) hro rfl (by omega) b7 (by omega) hc5 htl ry hp⟩
theorem cs_h4 (hI : cs_I srv cap slt cl cfg jn c ro l k va E C G m mu Mc Mn) {i t n : Nat} (hi : i < 16) (h0 : G 0 i = 4) (h1 : G 1 i = nI cfg) (hts : t < srv) (h3 : G 3 i = nI t) (hnc : n ≤ cap) (h4 : G 4 i = nI n) (hro : ro t ≠ 2)
    (e0 : G 0 i = m 0 i) (e1 : G 1 i = m 1 i) (e3 : G 3 i = m 3 i) (e4 : G 4 i = m 4 i) :
    cs_O (fun post => wpX_handle post (nI srv, nI cap, nI slt, nI cl, nI cfg, jn, (fun ix_ => nI (c ix_)), (fun ix_ => nI (ro ix_)), (fun ix_ => nI (l ix_)), (fun ix_ => nI (k ix_)), va, (E 0), (E 1), (E 2), (E 3), (E 4), (E 5), (C 0), (C 1), (C 2), (C 3), (C 4), (C 5), (G 0), (G 1), (G 2), (G 3), (G 4), (G 5), (G 6), (G 7), (G 8), (G 9), (G 10)) (nI i)) (fun post => wpY_handle post (nI srv, nI cap, nI slt, nI cfg, nI cl, (fun ix_ => nI (c ix_)), (fun ix_ => nI (ro ix_)), (fun ix_ => nI (l ix_)), (fun ix_ => nI (k ix_)), (cs_fl 5 E), (cs_fl 6 C), (cs_fl 11 m)) (nI i)) := by
  obtain ⟨hA, hE, hC, hG, hq⟩ := hI
  have hqz := cs_Qz (i := i) hq
  have hA' := hA
  obtain ⟨⟨b1, b2, b3, b4, b5, b6, b7, b8, b9⟩, hc, hrx, hL, hK, hx2, hd, hch, hin, hj⟩ := hA'
  have hKt := hK t
  by_cases hkn : k t < n
  · have hA1 := cs_Ak hA hro hnc
    obtain ⟨r, G', m', hq2, ax, ay⟩ := cs_ack (srv := srv) (cap := cap) (slt := slt) (cl := cl) (cfg := cfg) (jn := jn) (c := c) (ro := ro) (l := l) (k := (cs_u k t n)) (va := va) (E := E) (C := C) (G := (cs_z G i)) (m := (cs_wm m i (fun _ => 0))) hA1 hqz hts hnc
    exact ⟨1, _, _, cs_in ⟨hA1, hE, hC, hG, hq2⟩,
      fun post hp => cs_xh4 hi h0 h1 rfl h3 h4 rfl rfl rfl rfl rfl rfl rfl rfl rfl (by omega) (hrx t) hro (fun p hp' => cs_xta1 (by omega) (by omega) hkn ax hp') hp,
      fun post hp => cs_yh41 hi (e0.symm.trans h0) (e1.symm.trans h1) rfl (e3.symm.trans h3) (e4.symm.trans h4) rfl rfl rfl rfl rfl rfl rfl rfl rfl (by omega) (hrx t) hro rfl (by omega) hkn ay hp⟩
  · exact ⟨2, _, _, cs_in ⟨hA, hE, hC, hG, hqz⟩,
      fun post hp => cs_xh4 hi h0 h1 rfl h3 h4 rfl rfl rfl rfl rfl rfl rfl rfl rfl (by omega) (hrx t) hro (fun p hp' => cs_xta2 (by omega) (by omega) (by omega) hp') hp,
      fun post hp => cs_yh42 hi (e0.symm.trans h0) (e1.symm.trans h1) rfl (e3.symm.trans h3) (e4.symm.trans h4) rfl rfl rfl rfl rfl rfl rfl rfl rfl (by omega) (hrx t) hro rfl (by omega) (by omega) hp⟩
theorem cs_handle (hI : cs_I srv cap slt cl cfg jn c ro l k va E C G m mu Mc Mn) {i : Nat} (hi : i < 16) (hk : G 0 i ≠ 0) : cs_O (fun post => wpX_handle post (nI srv, nI cap, nI slt, nI cl, nI cfg, jn, (fun ix_ => nI (c ix_)), (fun ix_ => nI (ro ix_)), (fun ix_ => nI (l ix_)), (fun ix_ => nI (k ix_)), va, (E 0), (E 1), (E 2), (E 3), (E 4), (E 5), (C 0), (C 1), (C 2), (C 3), (C 4), (C 5), (G 0), (G 1), (G 2), (G 3), (G 4), (G 5), (G 6), (G 7), (G 8), (G 9), (G 10)) (nI i)) (fun post => wpY_handle post (nI srv, nI cap, nI slt, nI cfg, nI cl, (fun ix_ => nI (c ix_)), (fun ix_ => nI (ro ix_)), (fun ix_ => nI (l ix_)), (fun ix_ => nI (k ix_)), (cs_fl 5 E), (cs_fl 6 C), (cs_fl 11 m)) (nI i)) := by
  have hI' := hI
  obtain ⟨hA, hE, hC, hG, hq⟩ := hI'
  have hqz := cs_Qz (i := i) hq
  obtain ⟨⟨b1, b2, b3, b4, b5, b6, b7, b8, b9⟩, hc, hrx, hL, hK, hx2, hd, hch, hin, hj⟩ := hA
  obtain ⟨e0, _, hR⟩ := hq i hi
  obtain ⟨⟨gc, hgc, hg1, hcase⟩, e1, e2, e3, e4, e5, e6⟩ := hR hk
  dsimp only at e0 e1 e2 e3 e4 e5 e6 hg1 hcase
  rcases hcase with ⟨h0, q, hq3, h3⟩ | hcase
  · exact cs_h5 hI hi h0 hq3 h3 e0 e3 e4 e5
  · have hn5 : ¬ G 0 i = 5 := by
      rcases hcase with h | h | h | h <;> (rw [h.1]; decide)
    have ht : ∃ t, t < srv ∧ G 3 i = nI t := by
      rcases hcase with ⟨_, _, _, _, _, t, h1, h2, _⟩ | ⟨_, _, _, h⟩ | ⟨_, _, _, t, n, h1, h2, _⟩ | ⟨_, h, _⟩
      · exact ⟨t, h1, h2⟩
      · exact h
      · exact ⟨t, h1, h2⟩
      · exact h
    obtain ⟨t, hts, h3⟩ := ht
    by_cases hcur : gc = cfg
    · rw [hcur] at hg1 hcase
      by_cases hro : ro t = 2
      · exact ⟨5, _, _, cs_in ⟨⟨⟨b1, b2, b3, b4, b5, b6, b7, b8, b9⟩, hc, hrx, hL, hK, hx2, hd, hch, hin, hj⟩, hE, hC, hG, hqz⟩,
          fun post hp => cs_xhD hi rfl hg1 rfl h3 rfl rfl rfl rfl rfl rfl rfl hn5 rfl rfl (by omega) hro hp,
          fun post hp => cs_yhD hi e0.symm (e1.symm.trans hg1) rfl (e3.symm.trans h3) rfl rfl rfl rfl rfl rfl rfl hn5 rfl rfl (by omega) hro hp⟩
      · rcases hcase with ⟨h0, ⟨q, hq3, h2⟩, h6, h7, ⟨y, hy, h9⟩, t', ht', h3', htc⟩ | ⟨h0, ⟨q, hq3, h2⟩, ⟨y, hy, h5⟩, _⟩ | ⟨h0, h6, ⟨y, hy, h9⟩, t', n, ht', h3', hn1, hnc, h4, hF⟩ | ⟨h0, _, n, hnc, h4⟩
        · have et : t = t' := cs_im (by rw [← h3, h3']) (by omega) (by omega)
          obtain ⟨e6, e7, e8, e9, e10⟩ := e6 (Or.inl h0)
          exact cs_h1 hI hi h0 hg1 hq3 h2 h6 h7 hy h9 hts h3 (by rw [et]; exact htc rfl) hro e0 e1 e3 e6 e7 e8 e9 e10
        · exact cs_h2 hI hi h0 hg1 hq3 h2 hy h5 hts h3 hro e0 e1 e2 e3 e4 e5
        · have et : t = t' := cs_im (by rw [← h3, h3']) (by omega) (by omega)
          obtain ⟨e6, e7, e8, e9, e10⟩ := e6 (Or.inr h0)
          exact cs_h3 hI hi h0 hg1 h6 hy h9 hts h3 hn1 hnc h4 (by rw [et]; exact hF rfl) hro e0 e1 e3 e4 e6 e7 e8 e9 e10
        · exact cs_h4 hI hi h0 hg1 hts h3 hnc h4 hro e0 e1 e3 e4
    · have hne : ¬ nI gc = nI cfg := fun z => hcur (cs_im z (by omega) (by omega))
      exact ⟨4, _, _, cs_in ⟨⟨⟨b1, b2, b3, b4, b5, b6, b7, b8, b9⟩, hc, hrx, hL, hK, hx2, hd, hch, hin, hj⟩, hE, hC, hG, hqz⟩,
        fun post hp => cs_xhS hi rfl hg1 rfl rfl rfl rfl rfl rfl rfl rfl rfl hn5 hne hp,
        fun post hp => cs_yhS hi e0.symm (e1.symm.trans hg1) rfl rfl rfl rfl rfl rfl rfl rfl rfl hn5 hne hp⟩
end cs_hand
end
section
section cs_get
variable {srv cap slt cl cfg : Nat} {jn : Int32} {c ro l k : Nat → Nat} {va : Nat → Int32} {E C G m : Nat → Nat → Int32} {mu : Nat} {Mc Mn : Nat → Int32}
theorem cs_xsv0 {post : Int32 → Prop} {x : Int32} (hb : x < 0 ∨ nI srv ≤ x) (h : post 0) : wpX_isServer post (nI srv, nI cap, nI slt, nI cl, nI cfg, jn, (fun ix_ => nI (c ix_)), (fun ix_ => nI (ro ix_)), (fun ix_ => nI (l ix_)), (fun ix_ => nI (k ix_)), va, (E 0), (E 1), (E 2), (E 3), (E 4), (E 5), (C 0), (C 1), (C 2), (C 3), (C 4), (C 5), (G 0), (G 1), (G 2), (G 3), (G 4), (G 5), (G 6), (G 7), (G 8), (G 9), (G 10)) x := by
  unfold wpX_isServer
  by_cases z : x < 0
  · exact br_t z h
  · exact br_f z (br_t (hb.resolve_left z) h)
theorem cs_xsv1 {post : Int32 → Prop} {s : Nat} (h5 : srv ≤ 5) (hs : s < srv) (h : post 1) : wpX_isServer post (nI srv, nI cap, nI slt, nI cl, nI cfg, jn, (fun ix_ => nI (c ix_)), (fun ix_ => nI (ro ix_)), (fun ix_ => nI (l ix_)), (fun ix_ => nI (k ix_)), va, (E 0), (E 1), (E 2), (E 3), (E 4), (E 5), (C 0), (C 1), (C 2), (C 3), (C 4), (C 5), (G 0), (G 1), (G 2), (G 3), (G 4), (G 5), (G 6), (G 7), (G 8), (G 9), (G 10)) (nI s) := by
  unfold wpX_isServer
  exact br_f (nI_pos (by omega)) (br_f (nI_ge hs (by omega)) h)
theorem cs_you1 {post : Int32 → Prop} {x : Int32} (hb : x < 0 ∨ nI srv ≤ x) (h : post 1) : wpY_outside post (nI srv, nI cap, nI slt, nI cfg, nI cl, (fun ix_ => nI (c ix_)), (fun ix_ => nI (ro ix_)), (fun ix_ => nI (l ix_)), (fun ix_ => nI (k ix_)), (cs_fl 5 E), (cs_fl 6 C), (cs_fl 11 m)) x := by
  unfold wpY_outside
  by_cases z : x < 0
  · exact br_t z h
  · exact br_f z (br_f (Int32.not_lt.mpr (hb.resolve_left z)) h)
theorem cs_you0 {post : Int32 → Prop} {s : Nat} (h5 : srv ≤ 5) (hs : s < srv) (h : post 0) : wpY_outside post (nI srv, nI cap, nI slt, nI cfg, nI cl, (fun ix_ => nI (c ix_)), (fun ix_ => nI (ro ix_)), (fun ix_ => nI (l ix_)), (fun ix_ => nI (k ix_)), (cs_fl 5 E), (cs_fl 6 C), (cs_fl 11 m)) (nI s) := by
  unfold wpY_outside
  exact br_f (nI_pos (by omega)) (br_t (nI_lt hs (by omega)) h)
theorem cs_xsl0 {post : Int32 → Prop} {x : Int32} (hb : x < 0 ∨ nI slt ≤ x) (h : post 0) : wpX_isSlot post (nI srv, nI cap, nI slt, nI cl, nI cfg, jn, (fun ix_ => nI (c ix_)), (fun ix_ => nI (ro ix_)), (fun ix_ => nI (l ix_)), (fun ix_ => nI (k ix_)), va, (E 0), (E 1), (E 2), (E 3), (E 4), (E 5), (C 0), (C 1), (C 2), (C 3), (C 4), (C 5), (G 0), (G 1), (G 2), (G 3), (G 4), (G 5), (G 6), (G 7), (G 8), (G 9), (G 10)) x := by
  unfold wpX_isSlot
  by_cases z : x < 0
  · exact br_t z h
  · exact br_f z (br_t (hb.resolve_left z) h)
theorem cs_xsl1 {post : Int32 → Prop} {s : Nat} (h5 : slt ≤ 16) (hs : s < slt) (h : post 1) : wpX_isSlot post (nI srv, nI cap, nI slt, nI cl, nI cfg, jn, (fun ix_ => nI (c ix_)), (fun ix_ => nI (ro ix_)), (fun ix_ => nI (l ix_)), (fun ix_ => nI (k ix_)), va, (E 0), (E 1), (E 2), (E 3), (E 4), (E 5), (C 0), (C 1), (C 2), (C 3), (C 4), (C 5), (G 0), (G 1), (G 2), (G 3), (G 4), (G 5), (G 6), (G 7), (G 8), (G 9), (G 10)) (nI s) := by
  unfold wpX_isSlot
  exact br_f (nI_pos (by omega)) (br_f (nI_ge hs (by omega)) h)
theorem cs_xcl0 {post : Int32 → Prop} {x : Int32} (hb : x < 0 ∨ nI 3 ≤ x) (h : post 0) : wpX_isClient post (nI srv, nI cap, nI slt, nI cl, nI cfg, jn, (fun ix_ => nI (c ix_)), (fun ix_ => nI (ro ix_)), (fun ix_ => nI (l ix_)), (fun ix_ => nI (k ix_)), va, (E 0), (E 1), (E 2), (E 3), (E 4), (E 5), (C 0), (C 1), (C 2), (C 3), (C 4), (C 5), (G 0), (G 1), (G 2), (G 3), (G 4), (G 5), (G 6), (G 7), (G 8), (G 9), (G 10)) x := by
  unfold wpX_isClient
  by_cases z : x < 0
  · exact br_t z h
  · exact br_f z (br_t (hb.resolve_left z) h)
theorem cs_xcl1 {post : Int32 → Prop} {s : Nat} (hs : s < 3) (h : post 1) : wpX_isClient post (nI srv, nI cap, nI slt, nI cl, nI cfg, jn, (fun ix_ => nI (c ix_)), (fun ix_ => nI (ro ix_)), (fun ix_ => nI (l ix_)), (fun ix_ => nI (k ix_)), va, (E 0), (E 1), (E 2), (E 3), (E 4), (E 5), (C 0), (C 1), (C 2), (C 3), (C 4), (C 5), (G 0), (G 1), (G 2), (G 3), (G 4), (G 5), (G 6), (G 7), (G 8), (G 9), (G 10)) (nI s) := by
  unfold wpX_isClient
  exact br_f (nI_pos (by omega)) (br_f (nI_ge (b := 3) hs (by omega)) h)
theorem cs_xky0 {post : Int32 → Prop} {x : Int32} (hb : x < 0 ∨ nI 4 ≤ x) (h : post 0) : wpX_isKey post (nI srv, nI cap, nI slt, nI cl, nI cfg, jn, (fun ix_ => nI (c ix_)), (fun ix_ => nI (ro ix_)), (fun ix_ => nI (l ix_)), (fun ix_ => nI (k ix_)), va, (E 0), (E 1), (E 2), (E 3), (E 4), (E 5), (C 0), (C 1), (C 2), (C 3), (C 4), (C 5), (G 0), (G 1), (G 2), (G 3), (G 4), (G 5), (G 6), (G 7), (G 8), (G 9), (G 10)) x := by
  unfold wpX_isKey
  by_cases z : x < 0
  · exact br_t z h
  · exact br_f z (br_t (hb.resolve_left z) h)
theorem cs_xky1 {post : Int32 → Prop} {s : Nat} (hs : s < 4) (h : post 1) : wpX_isKey post (nI srv, nI cap, nI slt, nI cl, nI cfg, jn, (fun ix_ => nI (c ix_)), (fun ix_ => nI (ro ix_)), (fun ix_ => nI (l ix_)), (fun ix_ => nI (k ix_)), va, (E 0), (E 1), (E 2), (E 3), (E 4), (E 5), (C 0), (C 1), (C 2), (C 3), (C 4), (C 5), (G 0), (G 1), (G 2), (G 3), (G 4), (G 5), (G 6), (G 7), (G 8), (G 9), (G 10)) (nI s) := by
  unfold wpX_isKey
  exact br_f (nI_pos (by omega)) (br_f (nI_ge (b := 4) hs (by omega)) h)
theorem cs_xliv {post : Int32 → Prop} {s : Nat} (hs : s < 5) (h3 : ro s ≤ 3) (h1 : ro s = 1 ∨ ro s = 3 → post 1) (h0 : ¬ (ro s = 1 ∨ ro s = 3) → post 0) : wpX_isLiving post (nI srv, nI cap, nI slt, nI cl, nI cfg, jn, (fun ix_ => nI (c ix_)), (fun ix_ => nI (ro ix_)), (fun ix_ => nI (l ix_)), (fun ix_ => nI (k ix_)), va, (E 0), (E 1), (E 2), (E 3), (E 4), (E 5), (C 0), (C 1), (C 2), (C 3), (C 4), (C 5), (G 0), (G 1), (G 2), (G 3), (G 4), (G 5), (G 6), (G 7), (G 8), (G 9), (G 10)) (nI s) := by
  have v : vp_in (nI s) 5 := vp_in_nI hs (by omega)
  unfold wpX_isLiving
  try dsimp only
  rw [nI_clamp (n := s) (by omega)]
  exact ⟨v, pk_eq (ro s) 1 (fun z => h1 (Or.inl z)) (fun z => ⟨v, pk_eq (ro s) 3 (fun z2 => h1 (Or.inr z2)) (fun z2 => h0 (by omega))⟩)⟩
theorem cs_yhol {post : Int32 → Prop} {s : Nat} (h5 : srv ≤ 5) (hs : s < srv) (h3 : ro s ≤ 3) (h1 : ro s = 1 ∨ ro s = 3 → post 1) (h0 : ¬ (ro s = 1 ∨ ro s = 3) → post 0) : wpY_holds post (nI srv, nI cap, nI slt, nI cfg, nI cl, (fun ix_ => nI (c ix_)), (fun ix_ => nI (ro ix_)), (fun ix_ => nI (l ix_)), (fun ix_ => nI (k ix_)), (cs_fl 5 E), (cs_fl 6 C), (cs_fl 11 m)) (nI s) := by
  have v : vp_in (nI s) 5 := vp_in_nI (by omega) (by omega)
  unfold wpY_holds
  refine cs_you0 h5 hs (br_t rfl ?_)
  try dsimp only
  rw [nI_clamp (n := s) (by omega)]
  exact ⟨v, pk_eq (ro s) 1 (fun z => h1 (Or.inl z)) (fun z => ⟨v, pk_eq (ro s) 3 (fun z2 => h1 (Or.inr z2)) (fun z2 => h0 (by omega))⟩)⟩
theorem cs_yhol0 {post : Int32 → Prop} {x : Int32} (hb : x < 0 ∨ nI srv ≤ x) (h0 : post 0) : wpY_holds post (nI srv, nI cap, nI slt, nI cfg, nI cl, (fun ix_ => nI (c ix_)), (fun ix_ => nI (ro ix_)), (fun ix_ => nI (l ix_)), (fun ix_ => nI (k ix_)), (cs_fl 5 E), (cs_fl 6 C), (cs_fl 11 m)) x := by
  unfold wpY_holds
  exact cs_you1 hb (br_f (by decide) h0)
theorem cs_ixn {n : Nat} (hn : n < 2 ^ 31) (x : Int32) : (x < 0 ∨ nI n ≤ x) ∨ ∃ j, j < n ∧ x = nI j := by
  rcases pk_ix x hn with h | h | h
  · exact Or.inl (Or.inl h)
  · exact Or.inl (Or.inr h)
  · exact Or.inr h
theorem cs_g_cfg : cs_O1 (fun post => wpX_configuration post (nI srv, nI cap, nI slt, nI cl, nI cfg, jn, (fun ix_ => nI (c ix_)), (fun ix_ => nI (ro ix_)), (fun ix_ => nI (l ix_)), (fun ix_ => nI (k ix_)), va, (E 0), (E 1), (E 2), (E 3), (E 4), (E 5), (C 0), (C 1), (C 2), (C 3), (C 4), (C 5), (G 0), (G 1), (G 2), (G 3), (G 4), (G 5), (G 6), (G 7), (G 8), (G 9), (G 10))) (fun post => wpY_configuration post (nI srv, nI cap, nI slt, nI cfg, nI cl, (fun ix_ => nI (c ix_)), (fun ix_ => nI (ro ix_)), (fun ix_ => nI (l ix_)), (fun ix_ => nI (k ix_)), (cs_fl 5 E), (cs_fl 6 C), (cs_fl 11 m))) := ⟨nI cfg, fun _ h => h, fun _ h => h⟩
theorem cs_g_mem (hI : cs_I srv cap slt cl cfg jn c ro l k va E C G m mu Mc Mn) (x : Int32) : cs_O1 (fun post => wpX_member post (nI srv, nI cap, nI slt, nI cl, nI cfg, jn, (fun ix_ => nI (c ix_)), (fun ix_ => nI (ro ix_)), (fun ix_ => nI (l ix_)), (fun ix_ => nI (k ix_)), va, (E 0), (E 1), (E 2), (E 3), (E 4), (E 5), (C 0), (C 1), (C 2), (C 3), (C 4), (C 5), (G 0), (G 1), (G 2), (G 3), (G 4), (G 5), (G 6), (G 7), (G 8), (G 9), (G 10)) x) (fun post => wpY_member post (nI srv, nI cap, nI slt, nI cfg, nI cl, (fun ix_ => nI (c ix_)), (fun ix_ => nI (ro ix_)), (fun ix_ => nI (l ix_)), (fun ix_ => nI (k ix_)), (cs_fl 5 E), (cs_fl 6 C), (cs_fl 11 m)) x) := by
  obtain ⟨⟨⟨b1, b2, b3, b4, b5, b6, b7, b8, b9⟩, hc, _⟩, _⟩ := hI
  rcases cs_ixn (n := cl) (by omega) x with hb | ⟨i, hi, rfl⟩
  · refine ⟨-1, fun post h => ?_, fun post h => ?_⟩
    · unfold wpX_member
      by_cases z : x < 0
      · exact br_t z h
      · exact br_f z (br_f (Int32.not_lt.mpr (hb.resolve_left z)) h)
    · unfold wpY_member
      by_cases z : x < 0
      · exact br_t z h
      · exact br_f z (br_f (Int32.not_lt.mpr (hb.resolve_left z)) h)
  · have v : vp_in (nI i) 5 := vp_in_nI (by omega) (by omega)
    refine ⟨nI (c i), fun post h => ?_, fun post h => ?_⟩
    · unfold wpX_member
      refine br_f (nI_pos (by omega)) (br_t (nI_lt hi (by omega)) ⟨v, ?_⟩)
      try dsimp only
      rw [nI_clamp (n := i) (by omega)]; exact h
    · unfold wpY_member
      refine br_f (nI_pos (by omega)) (br_t (nI_lt hi (by omega)) ⟨v, ?_⟩)
      try dsimp only
      rw [nI_clamp (n := i) (by omega)]; exact h
theorem cs_g_role (hI : cs_I srv cap slt cl cfg jn c ro l k va E C G m mu Mc Mn) (x : Int32) : cs_O1 (fun post => wpX_role post (nI srv, nI cap, nI slt, nI cl, nI cfg, jn, (fun ix_ => nI (c ix_)), (fun ix_ => nI (ro ix_)), (fun ix_ => nI (l ix_)), (fun ix_ => nI (k ix_)), va, (E 0), (E 1), (E 2), (E 3), (E 4), (E 5), (C 0), (C 1), (C 2), (C 3), (C 4), (C 5), (G 0), (G 1), (G 2), (G 3), (G 4), (G 5), (G 6), (G 7), (G 8), (G 9), (G 10)) x) (fun post => wpY_role post (nI srv, nI cap, nI slt, nI cfg, nI cl, (fun ix_ => nI (c ix_)), (fun ix_ => nI (ro ix_)), (fun ix_ => nI (l ix_)), (fun ix_ => nI (k ix_)), (cs_fl 5 E), (cs_fl 6 C), (cs_fl 11 m)) x) := by
  obtain ⟨⟨⟨b1, b2, b3, b4, b5, b6, b7, b8, b9⟩, hc, hrx, _⟩, _⟩ := hI
  rcases cs_ixn (n := srv) (by omega) x with hb | ⟨s, hs, rfl⟩
  · refine ⟨-1, fun post h => ?_, fun post h => ?_⟩
    · unfold wpX_role
      exact cs_xsv0 hb (br_t rfl h)
    · unfold wpY_role
      exact cs_you1 hb (br_f (by decide) h)
  · have v : vp_in (nI s) 5 := vp_in_nI (by omega) (by omega)
    refine ⟨nI (ro s), fun post h => ?_, fun post h => ?_⟩
    · unfold wpX_role
      refine cs_xsv1 b2 hs (br_f (by decide) ⟨v, ?_⟩)
      try dsimp only
      rw [nI_clamp (n := s) (by omega)]; exact h
    · unfold wpY_role
      refine cs_you0 b2 hs (br_t rfl ⟨v, ?_⟩)
      try dsimp only
      rw [nI_clamp (n := s) (by omega)]; exact h
theorem cs_g_len (hI : cs_I srv cap slt cl cfg jn c ro l k va E C G m mu Mc Mn) (x : Int32) : cs_O1 (fun post => wpX_length post (nI srv, nI cap, nI slt, nI cl, nI cfg, jn, (fun ix_ => nI (c ix_)), (fun ix_ => nI (ro ix_)), (fun ix_ => nI (l ix_)), (fun ix_ => nI (k ix_)), va, (E 0), (E 1), (E 2), (E 3), (E 4), (E 5), (C 0), (C 1), (C 2), (C 3), (C 4), (C 5), (G 0), (G 1), (G 2), (G 3), (G 4), (G 5), (G 6), (G 7), (G 8), (G 9), (G 10)) x) (fun post => wpY_length post (nI srv, nI cap, nI slt, nI cfg, nI cl, (fun ix_ => nI (c ix_)), (fun ix_ => nI (ro ix_)), (fun ix_ => nI (l ix_)), (fun ix_ => nI (k ix_)), (cs_fl 5 E), (cs_fl 6 C), (cs_fl 11 m)) x) := by
  obtain ⟨⟨⟨b1, b2, b3, b4, b5, b6, b7, b8, b9⟩, hc, hrx, _⟩, _⟩ := hI
  rcases cs_ixn (n := srv) (by omega) x with hb | ⟨s, hs, rfl⟩
  · refine ⟨-1, fun post h => ?_, fun post h => ?_⟩
    · unfold wpX_length
      exact cs_xsv0 hb (br_t rfl h)
    · unfold wpY_length
      exact cs_yhol0 hb (br_t rfl h)
  · have v : vp_in (nI s) 5 := vp_in_nI (by omega) (by omega)
    by_cases hv : ro s = 1 ∨ ro s = 3
    · refine ⟨nI (l s), fun post h => ?_, fun post h => ?_⟩
      · unfold wpX_length
        refine cs_xsv1 b2 hs (br_f (by decide) (cs_xliv (by omega) (hrx s) (fun _ => br_f (by decide) ⟨v, ?_⟩) (fun z => absurd hv z)))
        try dsimp only
        rw [nI_clamp (n := s) (by omega)]; exact h
      · unfold wpY_length
        refine cs_yhol b2 hs (hrx s) (fun _ => br_f (by decide) ⟨v, ?_⟩) (fun z => absurd hv z)
        try dsimp only
        rw [nI_clamp (n := s) (by omega)]; exact h
    · refine ⟨-1, fun post h => ?_, fun post h => ?_⟩
      · unfold wpX_length
        exact cs_xsv1 b2 hs (br_f (by decide) (cs_xliv (by omega) (hrx s) (fun z => absurd z hv) (fun _ => br_t rfl h)))
      · unfold wpY_length
        exact cs_yhol b2 hs (hrx s) (fun z => absurd z hv) (fun _ => br_t rfl h)
theorem cs_g_ack (hI : cs_I srv cap slt cl cfg jn c ro l k va E C G m mu Mc Mn) (x : Int32) : cs_O1 (fun post => wpX_acked post (nI srv, nI cap, nI slt, nI cl, nI cfg, jn, (fun ix_ => nI (c ix_)), (fun ix_ => nI (ro ix_)), (fun ix_ => nI (l ix_)), (fun ix_ => nI (k ix_)), va, (E 0), (E 1), (E 2), (E 3), (E 4), (E 5), (C 0), (C 1), (C 2), (C 3), (C 4), (C 5), (G 0), (G 1), (G 2), (G 3), (G 4), (G 5), (G 6), (G 7), (G 8), (G 9), (G 10)) x) (fun post => wpY_acked post (nI srv, nI cap, nI slt, nI cfg, nI cl, (fun ix_ => nI (c ix_)), (fun ix_ => nI (ro ix_)), (fun ix_ => nI (l ix_)), (fun ix_ => nI (k ix_)), (cs_fl 5 E), (cs_fl 6 C), (cs_fl 11 m)) x) := by
  obtain ⟨⟨⟨b1, b2, b3, b4, b5, b6, b7, b8, b9⟩, hc, hrx, _⟩, _⟩ := hI
  rcases cs_ixn (n := srv) (by omega) x with hb | ⟨s, hs, rfl⟩
  · refine ⟨-1, fun post h => ?_, fun post h => ?_⟩
    · unfold wpX_acked
      exact cs_xsv0 hb (br_t rfl h)
    · unfold wpY_acked
      exact cs_yhol0 hb (br_t rfl h)
  · have v : vp_in (nI s) 5 := vp_in_nI (by omega) (by omega)
    by_cases hv : ro s = 1 ∨ ro s = 3
    · refine ⟨nI (k s), fun post h => ?_, fun post h => ?_⟩
      · unfold wpX_acked
        refine cs_xsv1 b2 hs (br_f (by decide) (cs_xliv (by omega) (hrx s) (fun _ => br_f (by decide) ⟨v, ?_⟩) (fun z => absurd hv z)))
        try dsimp only
        rw [nI_clamp (n := s) (by omega)]; exact h
      · unfold wpY_acked
        refine cs_yhol b2 hs (hrx s) (fun _ => br_f (by decide) ⟨v, ?_⟩) (fun z => absurd hv z)
        try dsimp only
        rw [nI_clamp (n := s) (by omega)]; exact h
    · refine ⟨-1, fun post h => ?_, fun post h => ?_⟩
      · unfold wpX_acked
        exact cs_xsv1 b2 hs (br_f (by decide) (cs_xliv (by omega) (hrx s) (fun z => absurd z hv) (fun _ => br_t rfl h)))
      · unfold wpY_acked
        exact cs_yhol b2 hs (hrx s) (fun z => absurd z hv) (fun _ => br_t rfl h)
theorem cs_g_val (hI : cs_I srv cap slt cl cfg jn c ro l k va E C G m mu Mc Mn) (x z : Int32) : cs_O1 (fun post => wpX_value post (nI srv, nI cap, nI slt, nI cl, nI cfg, jn, (fun ix_ => nI (c ix_)), (fun ix_ => nI (ro ix_)), (fun ix_ => nI (l ix_)), (fun ix_ => nI (k ix_)), va, (E 0), (E 1), (E 2), (E 3), (E 4), (E 5), (C 0), (C 1), (C 2), (C 3), (C 4), (C 5), (G 0), (G 1), (G 2), (G 3), (G 4), (G 5), (G 6), (G 7), (G 8), (G 9), (G 10)) x z) (fun post => wpY_value post (nI srv, nI cap, nI slt, nI cfg, nI cl, (fun ix_ => nI (c ix_)), (fun ix_ => nI (ro ix_)), (fun ix_ => nI (l ix_)), (fun ix_ => nI (k ix_)), (cs_fl 5 E), (cs_fl 6 C), (cs_fl 11 m)) x z) := by
  obtain ⟨⟨⟨b1, b2, b3, b4, b5, b6, b7, b8, b9⟩, hc, hrx, hL, _⟩, hE, _⟩ := hI
  rcases cs_ixn (n := srv) (by omega) x with hb | ⟨s, hs, rfl⟩
  · refine ⟨-1, fun post h => ?_, fun post h => ?_⟩
    · unfold wpX_value
      exact cs_xsv0 hb (br_t rfl h)
    · unfold wpY_value
      exact cs_you1 hb (br_f (by decide) h)
  · have v : vp_in (nI s) 5 := vp_in_nI (by omega) (by omega)
    have hLs := hL s
    rcases cs_ixn (n := 4) (by omega) z with hb | ⟨y, hy, rfl⟩
    · refine ⟨-1, fun post h => ?_, fun post h => ?_⟩
      · unfold wpX_value
        exact cs_xsv1 b2 hs (br_f (by decide) (cs_xky0 hb (br_t rfl h)))
      · unfold wpY_value
        refine cs_you0 b2 hs (br_t rfl ?_)
        by_cases z0 : z < 0
        · exact br_t z0 h
        · exact br_f z0 (br_f (Int32.not_lt.mpr (hb.resolve_left z0)) h)
    · by_cases hv : ro s = 1 ∨ ro s = 3
      · refine ⟨va (s * 4 + y), fun post h => ?_, fun post h => ?_⟩
        · unfold wpX_value
          refine cs_xsv1 b2 hs (br_f (by decide) (cs_xky1 hy (br_f (by decide) (cs_xliv (by omega) (hrx s) (fun _ => br_f (by decide) ?_) (fun z => absurd hv z)))))
          rw [cs_vs, nI_clamp (n := s * 4 + y) (by omega)]
          exact ⟨vp_in_nI (by omega) (by omega), h⟩
        · unfold wpY_value
          refine cs_you0 b2 hs (br_t rfl (br_f (nI_pos (by omega)) (br_t (nI_lt (b := 4) hy (by omega)) (cs_yhol b2 hs (hrx s) (fun _ => br_f (by decide) ⟨v, ?_⟩) (fun z => absurd hv z)))))
          try dsimp only
          rw [nI_clamp (n := s) (by omega)]
          refine cs_yval (by omega) (by omega) ?_
          rw [← hE.2.2.1 s y (by omega) hy]
          exact h
      · refine ⟨0, fun post h => ?_, fun post h => ?_⟩
        · unfold wpX_value
          exact cs_xsv1 b2 hs (br_f (by decide) (cs_xky1 hy (br_f (by decide) (cs_xliv (by omega) (hrx s) (fun z => absurd z hv) (fun _ => br_t rfl h)))))
        · unfold wpY_value
          exact cs_you0 b2 hs (br_t rfl (br_f (nI_pos (by omega)) (br_t (nI_lt (b := 4) hy (by omega)) (cs_yhol b2 hs (hrx s) (fun z => absurd z hv) (fun _ => br_t rfl h)))))
theorem cs_n65 {x : Int32} (h : nI 6 ≤ x) : ¬ x ≤ 5 := by
  intro h2
  rw [Int32.le_iff_toInt_le] at h h2
  have e6 : (nI 6).toInt = 6 := by decide
  have e5 : (5 : Int32).toInt = 5 := by decide
  omega
theorem cs_ge1 {x : Int32} (h : ¬ x < 1) : ∃ j, j + 1 < 2 ^ 31 ∧ x = nI (j + 1) := by
  have h0 : ¬ x < 0 := by
    intro z
    apply h
    rw [Int32.lt_iff_toInt_lt] at z ⊢
    have e1 : (1 : Int32).toInt = 1 := by decide
    have e0 : (0 : Int32).toInt = 0 := by decide
    omega
  obtain ⟨j, hj, rfl⟩ := nI_of h0
  cases j with
  | zero => exact absurd (by decide : nI 0 < 1) h
  | succ j => exact ⟨j, hj, rfl⟩
theorem cs_g_ent (hI : cs_I srv cap slt cl cfg jn c ro l k va E C G m mu Mc Mn) (x z w : Int32) : cs_O1 (fun post => wpX_entry post (nI srv, nI cap, nI slt, nI cl, nI cfg, jn, (fun ix_ => nI (c ix_)), (fun ix_ => nI (ro ix_)), (fun ix_ => nI (l ix_)), (fun ix_ => nI (k ix_)), va, (E 0), (E 1), (E 2), (E 3), (E 4), (E 5), (C 0), (C 1), (C 2), (C 3), (C 4), (C 5), (G 0), (G 1), (G 2), (G 3), (G 4), (G 5), (G 6), (G 7), (G 8), (G 9), (G 10)) x z w) (fun post => wpY_entry post (nI srv, nI cap, nI slt, nI cfg, nI cl, (fun ix_ => nI (c ix_)), (fun ix_ => nI (ro ix_)), (fun ix_ => nI (l ix_)), (fun ix_ => nI (k ix_)), (cs_fl 5 E), (cs_fl 6 C), (cs_fl 11 m)) x z w) := by
  obtain ⟨⟨⟨b1, b2, b3, b4, b5, b6, b7, b8, b9⟩, hc, hrx, hL, _⟩, hE, _⟩ := hI
  rcases cs_ixn (n := srv) (by omega) x with hb | ⟨s, hs, rfl⟩
  · refine ⟨-1, fun post h => ?_, fun post h => ?_⟩
    · unfold wpX_entry
      exact cs_xsv0 hb (br_t rfl h)
    · unfold wpY_entry
      exact cs_you1 hb (br_f (by decide) h)
  · have v : vp_in (nI s) 5 := vp_in_nI (by omega) (by omega)
    have hLs := hL s
    have ec : (nI s).toNatClampNeg = s := nI_clamp (by omega)
    rcases pk_ix w (n := 6) (by omega) with hw | hw | ⟨f, hf, rfl⟩
    · exact ⟨-1, fun post h => by unfold wpX_entry; exact cs_xsv1 b2 hs (br_f (by decide) (br_t hw h)), fun post h => by unfold wpY_entry; exact cs_you0 b2 hs (br_t rfl (br_t hw h))⟩
    · have hw0 : ¬ w < 0 := by
        intro z
        rw [Int32.le_iff_toInt_le] at hw
        rw [Int32.lt_iff_toInt_lt] at z
        have e6 : (nI 6).toInt = 6 := by decide
        have e0 : (0 : Int32).toInt = 0 := by decide
        omega
      exact ⟨-1, fun post h => by unfold wpX_entry; exact cs_xsv1 b2 hs (br_f (by decide) (br_f hw0 (br_f (cs_n65 hw) h))), fun post h => by unfold wpY_entry; exact cs_you0 b2 hs (br_t rfl (br_f hw0 (br_f (cs_n65 hw) h)))⟩
    · have f0 : ¬ nI f < 0 := nI_pos (by omega)
      have f5 : nI f ≤ 5 := nI_le (b := 5) (by omega) (by omega)
      by_cases hv : ro s = 1 ∨ ro s = 3
      · by_cases hz : z < 1
        · refine ⟨0, fun post h => ?_, fun post h => ?_⟩
          · unfold wpX_entry
            refine cs_xsv1 b2 hs (br_f (by decide) (br_f f0 (br_t f5 (cs_xliv (by omega) (hrx s) (fun _ => br_f (by decide) ?_) (fun z => absurd hv z)))))
            try dsimp only
            rw [ec]
            exact br_t hz h
          · unfold wpY_entry
            refine cs_you0 b2 hs (br_t rfl (br_f f0 (br_t f5 (cs_yhol b2 hs (hrx s) (fun _ => br_f (by decide) ?_) (fun z => absurd hv z)))))
            try dsimp only
            rw [ec]
            exact br_t hz h
        · obtain ⟨p, hp, rfl⟩ := cs_ge1 hz
          by_cases hpl : p + 1 ≤ l s
          · have hle : nI (p + 1) ≤ nI (l s) := nI_le hpl (by omega)
            have v2 : vp_in (nI (s * 48 + p)) 240 := vp_in_nI (by omega) (by omega)
            have ee : (nI (s * 48 + p)).toNatClampNeg = s * 48 + p := nI_clamp (by omega)
            refine ⟨E f (s * 48 + p), fun post h => ?_, fun post h => ?_⟩
            · unfold wpX_entry
              refine cs_xsv1 b2 hs (br_f (by decide) (br_f f0 (br_t f5 (cs_xliv (by omega) (hrx s) (fun _ => br_f (by decide) ?_) (fun z => absurd hv z)))))
              try dsimp only
              rw [ec]
              refine br_f hz ⟨v, br_t hle (cs_xcell ?_)⟩
              rw [ee]
              rcases (by omega : f = 0 ∨ f = 1 ∨ f = 2 ∨ f = 3 ∨ f = 4 ∨ f = 5) with e | e | e | e | e | e <;> subst e
              · exact br_t rfl ⟨v2, h⟩
              · exact br_f (by decide) (br_t rfl ⟨v2, h⟩)
              · exact br_f (by decide) (br_f (by decide) (br_t rfl ⟨v2, h⟩))
              · exact br_f (by decide) (br_f (by decide) (br_f (by decide) (br_t rfl ⟨v2, h⟩)))
              · exact br_f (by decide) (br_f (by decide) (br_f (by decide) (br_f (by decide) (br_t rfl ⟨v2, h⟩))))
              · exact br_f (by decide) (br_f (by decide) (br_f (by decide) (br_f (by decide) (br_f (by decide) ⟨v2, h⟩))))
            · unfold wpY_entry
              refine cs_you0 b2 hs (br_t rfl (br_f f0 (br_t f5 (cs_yhol b2 hs (hrx s) (fun _ => br_f (by decide) ?_) (fun z => absurd hv z)))))
              try dsimp only
              rw [ec]
              by_cases hf5 : f < 5
              · refine br_f hz ⟨v, br_t hle (br_f (fun z => by have := cs_im (b := 5) z (by omega) (by omega); omega) ?_)⟩
                rw [cs_cell, cs_m5, nI_add, nI_clamp (n := (s * 48 + p) * 5 + f) (by omega), cs_fr hf5]
                exact ⟨vp_in_nI (by omega) (by omega), h⟩
              · obtain rfl : f = 5 := by omega
                refine br_f hz ⟨v, br_t hle (br_t rfl (cs_yres (by omega) (by omega) ?_))⟩
                rw [← hE.2.2.2 s p (by omega) (by omega)]
                exact h
          · have hle : ¬ nI (p + 1) ≤ nI (l s) := nI_ge (by omega) hp
            refine ⟨0, fun post h => ?_, fun post h => ?_⟩
            · unfold wpX_entry
              refine cs_xsv1 b2 hs (br_f (by decide) (br_f f0 (br_t f5 (cs_xliv (by omega) (hrx s) (fun _ => br_f (by decide) ?_) (fun z => absurd hv z)))))
              try dsimp only
              rw [ec]
              exact br_f hz ⟨v, br_f hle h⟩
            · unfold wpY_entry
              refine cs_you0 b2 hs (br_t rfl (br_f f0 (br_t f5 (cs_yhol b2 hs (hrx s) (fun _ => br_f (by decide) ?_) (fun z => absurd hv z)))))
              try dsimp only
              rw [ec]
              exact br_f hz ⟨v, br_f hle h⟩
      · refine ⟨0, fun post h => ?_, fun post h => ?_⟩
        · unfold wpX_entry
          exact cs_xsv1 b2 hs (br_f (by decide) (br_f f0 (br_t f5 (cs_xliv (by omega) (hrx s) (fun z => absurd z hv) (fun _ => br_t rfl h)))))
        · unfold wpY_entry
          exact cs_you0 b2 hs (br_t rfl (br_f f0 (br_t f5 (cs_yhol b2 hs (hrx s) (fun z => absurd z hv) (fun _ => br_t rfl h)))))
theorem cs_g_cli (x w : Int32) : cs_O1 (fun post => wpX_client post (nI srv, nI cap, nI slt, nI cl, nI cfg, jn, (fun ix_ => nI (c ix_)), (fun ix_ => nI (ro ix_)), (fun ix_ => nI (l ix_)), (fun ix_ => nI (k ix_)), va, (E 0), (E 1), (E 2), (E 3), (E 4), (E 5), (C 0), (C 1), (C 2), (C 3), (C 4), (C 5), (G 0), (G 1), (G 2), (G 3), (G 4), (G 5), (G 6), (G 7), (G 8), (G 9), (G 10)) x w) (fun post => wpY_client post (nI srv, nI cap, nI slt, nI cfg, nI cl, (fun ix_ => nI (c ix_)), (fun ix_ => nI (ro ix_)), (fun ix_ => nI (l ix_)), (fun ix_ => nI (k ix_)), (cs_fl 5 E), (cs_fl 6 C), (cs_fl 11 m)) x w) := by
  rcases cs_ixn (n := 3) (by omega) x with hb | ⟨q, hq, rfl⟩
  · refine ⟨-1, fun post h => ?_, fun post h => ?_⟩
    · unfold wpX_client
      exact cs_xcl0 hb (br_t rfl h)
    · unfold wpY_client
      by_cases z0 : x < 0
      · exact br_t z0 h
      · exact br_f z0 (br_t (hb.resolve_left z0) h)
  · have v : vp_in (nI q) 3 := vp_in_nI hq (by omega)
    have ec : (nI q).toNatClampNeg = q := nI_clamp (by omega)
    have q0 : ¬ nI q < 0 := nI_pos (by omega)
    have q3 : ¬ 3 ≤ nI q := nI_ge (b := 3) hq (by omega)
    rcases pk_ix w (n := 6) (by omega) with hw | hw | ⟨f, hf, rfl⟩
    · exact ⟨-1, fun post h => by unfold wpX_client; exact cs_xcl1 hq (br_f (by decide) (br_t hw h)), fun post h => by unfold wpY_client; exact br_f q0 (br_f q3 (br_t hw h))⟩
    · have hw0 : ¬ w < 0 := by
        intro z
        rw [Int32.le_iff_toInt_le] at hw
        rw [Int32.lt_iff_toInt_lt] at z
        have e6 : (nI 6).toInt = 6 := by decide
        have e0 : (0 : Int32).toInt = 0 := by decide
        omega
      exact ⟨-1, fun post h => by unfold wpX_client; exact cs_xcl1 hq (br_f (by decide) (br_f hw0 (br_f (cs_n65 hw) h))), fun post h => by unfold wpY_client; exact br_f q0 (br_f q3 (br_f hw0 (br_f (cs_n65 hw) h)))⟩
    · have f0 : ¬ nI f < 0 := nI_pos (by omega)
      have f5 : nI f ≤ 5 := nI_le (b := 5) (by omega) (by omega)
      refine ⟨C f q, fun post h => ?_, fun post h => ?_⟩
      · unfold wpX_client
        refine cs_xcl1 hq (br_f (by decide) (br_f f0 (br_t f5 ?_)))
        try dsimp only
        rw [ec]
        rcases (by omega : f = 0 ∨ f = 1 ∨ f = 2 ∨ f = 3 ∨ f = 4 ∨ f = 5) with e | e | e | e | e | e <;> subst e
        · exact br_t rfl ⟨v, h⟩
        · exact br_f (by decide) (br_t rfl ⟨v, h⟩)
        · exact br_f (by decide) (br_f (by decide) (br_t rfl ⟨v, h⟩))
        · exact br_f (by decide) (br_f (by decide) (br_f (by decide) (br_t rfl ⟨v, h⟩)))
        · exact br_f (by decide) (br_f (by decide) (br_f (by decide) (br_f (by decide) (br_t rfl ⟨v, h⟩))))
        · exact br_f (by decide) (br_f (by decide) (br_f (by decide) (br_f (by decide) (br_f (by decide) ⟨v, h⟩))))
      · unfold wpY_client
        refine br_f q0 (br_f q3 (br_f f0 (br_t f5 ?_)))
        try dsimp only
        rw [cs_m6, nI_add, nI_clamp (n := q * 6 + f) (by omega), cs_fr hf]
        exact ⟨vp_in_nI (by omega) (by omega), h⟩
theorem cs_g_wir (hI : cs_I srv cap slt cl cfg jn c ro l k va E C G m mu Mc Mn) (x w : Int32) : cs_O1 (fun post => wpX_wire post (nI srv, nI cap, nI slt, nI cl, nI cfg, jn, (fun ix_ => nI (c ix_)), (fun ix_ => nI (ro ix_)), (fun ix_ => nI (l ix_)), (fun ix_ => nI (k ix_)), va, (E 0), (E 1), (E 2), (E 3), (E 4), (E 5), (C 0), (C 1), (C 2), (C 3), (C 4), (C 5), (G 0), (G 1), (G 2), (G 3), (G 4), (G 5), (G 6), (G 7), (G 8), (G 9), (G 10)) x w) (fun post => wpY_wire post (nI srv, nI cap, nI slt, nI cfg, nI cl, (fun ix_ => nI (c ix_)), (fun ix_ => nI (ro ix_)), (fun ix_ => nI (l ix_)), (fun ix_ => nI (k ix_)), (cs_fl 5 E), (cs_fl 6 C), (cs_fl 11 m)) x w) := by
  obtain ⟨⟨⟨b1, b2, b3, b4, b5, b6, b7, b8, b9⟩, _⟩, _, _, _, hq⟩ := hI
  rcases cs_ixn (n := slt) (by omega) x with hb | ⟨i, hi, rfl⟩
  · refine ⟨-1, fun post h => ?_, fun post h => ?_⟩
    · unfold wpX_wire
      exact cs_xsl0 hb (br_t rfl h)
    · unfold wpY_wire
      by_cases z0 : x < 0
      · exact br_t z0 h
      · exact br_f z0 (br_t (hb.resolve_left z0) h)
  · have v : vp_in (nI i) 16 := vp_in_nI (by omega) (by omega)
    have ec : (nI i).toNatClampNeg = i := nI_clamp (by omega)
    have q0 : ¬ nI i < 0 := nI_pos (by omega)
    have q3 : ¬ nI slt ≤ nI i := nI_ge hi (by omega)
    rcases pk_ix w (n := 6) (by omega) with hw | hw | ⟨f, hf, rfl⟩
    · exact ⟨-1, fun post h => by unfold wpX_wire; exact cs_xsl1 b6 hi (br_f (by decide) (br_t hw h)), fun post h => by unfold wpY_wire; exact br_f q0 (br_f q3 (br_t hw h))⟩
    · have hw0 : ¬ w < 0 := by
        intro z
        rw [Int32.le_iff_toInt_le] at hw
        rw [Int32.lt_iff_toInt_lt] at z
        have e6 : (nI 6).toInt = 6 := by decide
        have e0 : (0 : Int32).toInt = 0 := by decide
        omega
      exact ⟨-1, fun post h => by unfold wpX_wire; exact cs_xsl1 b6 hi (br_f (by decide) (br_f hw0 (br_f (cs_n65 hw) h))), fun post h => by unfold wpY_wire; exact br_f q0 (br_f q3 (br_f hw0 (br_f (cs_n65 hw) h)))⟩
    · have f0 : ¬ nI f < 0 := nI_pos (by omega)
      have f5 : nI f ≤ 5 := nI_le (b := 5) (by omega) (by omega)
      have yin : ∀ post : Int32 → Prop, post (m f i) → wpY_wire post (nI srv, nI cap, nI slt, nI cfg, nI cl, (fun ix_ => nI (c ix_)), (fun ix_ => nI (ro ix_)), (fun ix_ => nI (l ix_)), (fun ix_ => nI (k ix_)), (cs_fl 5 E), (cs_fl 6 C), (cs_fl 11 m)) (nI i) (nI f) := by
        intro post h
        unfold wpY_wire
        refine br_f q0 (br_f q3 (br_f f0 (br_t f5 ?_)))
        try dsimp only
        rw [cs_m11, nI_add, nI_clamp (n := i * 11 + f) (by omega), cs_fr (by omega)]
        exact ⟨vp_in_nI (by omega) (by omega), h⟩
      by_cases h0 : G 0 i = 0
      · refine ⟨0, fun post h => ?_, fun post h => yin post (by rw [cs_Qf hq (by omega) h0 f (by omega)]; exact h)⟩
        unfold wpX_wire
        refine cs_xsl1 b6 hi (br_f (by decide) (br_f f0 (br_t f5 ?_)))
        try dsimp only
        rw [ec]
        exact ⟨v, br_t h0 h⟩
      · have hm : m f i = G f i := by
          obtain ⟨e0, _, hR⟩ := hq i (by omega)
          obtain ⟨_, e1, e2, e3, e4, e5, _⟩ := hR h0
          rcases (by omega : f = 0 ∨ f = 1 ∨ f = 2 ∨ f = 3 ∨ f = 4 ∨ f = 5) with e | e | e | e | e | e <;> subst e
          · exact e0.symm
          · exact e1.symm
          · exact e2.symm
          · exact e3.symm
          · exact e4.symm
          · exact e5.symm
        refine ⟨G f i, fun post h => ?_, fun post h => yin post (by rw [hm]; exact h)⟩
        unfold wpX_wire
        refine cs_xsl1 b6 hi (br_f (by decide) (br_f f0 (br_t f5 ?_)))
        try dsimp only
        rw [ec]
        refine ⟨v, br_f h0 ?_⟩
        rcases (by omega : f = 0 ∨ f = 1 ∨ f = 2 ∨ f = 3 ∨ f = 4 ∨ f = 5) with e | e | e | e | e | e <;> subst e
        · exact br_t rfl ⟨v, h⟩
        · exact br_f (by decide) (br_t rfl ⟨v, h⟩)
        · exact br_f (by decide) (br_f (by decide) (br_t rfl ⟨v, h⟩))
        · exact br_f (by decide) (br_f (by decide) (br_f (by decide) (br_t rfl ⟨v, h⟩)))
        · exact br_f (by decide) (br_f (by decide) (br_f (by decide) (br_f (by decide) (br_t rfl ⟨v, h⟩))))
        · exact br_f (by decide) (br_f (by decide) (br_f (by decide) (br_f (by decide) (br_f (by decide) ⟨v, h⟩))))
end cs_get
end
section
section cs_wire
variable {srv cap slt cl cfg : Nat} {jn : Int32} {c ro l k : Nat → Nat} {va : Nat → Int32} {E C G m : Nat → Nat → Int32} {mu : Nat} {Mc Mn : Nat → Int32}
theorem cs_Oel {P : Prop} {WX : (Int32 → SX → Prop) → Prop} {WY : (Int32 → SY → Prop) → Prop} (h : cs_O WX WY)
    (f : ∀ (r : Int32) (srv cap slt cl cfg : Nat) (jn : Int32) (c ro l k : Nat → Nat) (va : Nat → Int32) (E C G m : Nat → Nat → Int32) (mu : Nat) (Mc Mn : Nat → Int32), cs_I srv cap slt cl cfg jn c ro l k va E C G m mu Mc Mn → (∀ post : Int32 → SX → Prop, post r (nI srv, nI cap, nI slt, nI cl, nI cfg, jn, (fun ix_ => nI (c ix_)), (fun ix_ => nI (ro ix_)), (fun ix_ => nI (l ix_)), (fun ix_ => nI (k ix_)), va, (E 0), (E 1), (E 2), (E 3), (E 4), (E 5), (C 0), (C 1), (C 2), (C 3), (C 4), (C 5), (G 0), (G 1), (G 2), (G 3), (G 4), (G 5), (G 6), (G 7), (G 8), (G 9), (G 10)) → WX post) → (∀ post : Int32 → SY → Prop, post r (nI srv, nI cap, nI slt, nI cfg, nI cl, (fun ix_ => nI (c ix_)), (fun ix_ => nI (ro ix_)), (fun ix_ => nI (l ix_)), (fun ix_ => nI (k ix_)), (cs_fl 5 E), (cs_fl 6 C), (cs_fl 11 m)) → WY post) → P) : P := by
  obtain ⟨r, u, v, ⟨srv, cap, slt, cl, cfg, jn, c, ro, l, k, va, E, C, G, m, mu, Mc, Mn, hI, hu, hv⟩, hx, hy⟩ := h
  rw [hu] at hx
  rw [hv] at hy
  exact f r srv cap slt cl cfg jn c ro l k va E C G m mu Mc Mn hI hx hy
theorem cs_yt1 {post : Int32 → Prop} {x : Int32} (hb : x < 0 ∨ nI slt ≤ x) (h : post (-1)) : wpY_testSlot post (nI srv, nI cap, nI slt, nI cfg, nI cl, (fun ix_ => nI (c ix_)), (fun ix_ => nI (ro ix_)), (fun ix_ => nI (l ix_)), (fun ix_ => nI (k ix_)), (cs_fl 5 E), (cs_fl 6 C), (cs_fl 11 m)) x := by
  unfold wpY_testSlot
  by_cases z : x < 0
  · exact br_t z h
  · exact br_f z (br_f (Int32.not_lt.mpr (hb.resolve_left z)) h)
theorem cs_yt2 {post : Int32 → Prop} {i : Nat} (h16 : slt ≤ 16) (hi : i < slt) (h0 : m 0 i = 0 → post (-2)) (h1 : ¬ m 0 i = 0 → post 1) : wpY_testSlot post (nI srv, nI cap, nI slt, nI cfg, nI cl, (fun ix_ => nI (c ix_)), (fun ix_ => nI (ro ix_)), (fun ix_ => nI (l ix_)), (fun ix_ => nI (k ix_)), (cs_fl 5 E), (cs_fl 6 C), (cs_fl 11 m)) (nI i) := by
  unfold wpY_testSlot
  refine br_f (nI_pos (by omega)) (br_t (nI_lt hi (by omega)) ?_)
  try dsimp only
  rw [cs_m11, nI_clamp (n := i * 11) (by omega), cs_fr0 (by decide)]
  exact ⟨vp_in_nI (by omega) (by omega), br_c h0 h1⟩
theorem cs_deliver (hI : cs_I srv cap slt cl cfg jn c ro l k va E C G m mu Mc Mn) (x : Int32) : cs_O (fun post => wpX_deliver post (nI srv, nI cap, nI slt, nI cl, nI cfg, jn, (fun ix_ => nI (c ix_)), (fun ix_ => nI (ro ix_)), (fun ix_ => nI (l ix_)), (fun ix_ => nI (k ix_)), va, (E 0), (E 1), (E 2), (E 3), (E 4), (E 5), (C 0), (C 1), (C 2), (C 3), (C 4), (C 5), (G 0), (G 1), (G 2), (G 3), (G 4), (G 5), (G 6), (G 7), (G 8), (G 9), (G 10)) x) (fun post => wpY_deliver post (nI srv, nI cap, nI slt, nI cfg, nI cl, (fun ix_ => nI (c ix_)), (fun ix_ => nI (ro ix_)), (fun ix_ => nI (l ix_)), (fun ix_ => nI (k ix_)), (cs_fl 5 E), (cs_fl 6 C), (cs_fl 11 m)) x) := by
  have hI' := hI
  obtain ⟨⟨⟨b1, b2, b3, b4, b5, b6, b7, b8, b9⟩, _⟩, _, _, _, hq⟩ := hI'
  rcases cs_ixn (n := slt) (by omega) x with hb | ⟨i, hi, rfl⟩
  · refine cs_o (r := -1) hI (fun post h => ?_) (fun post h => ?_)
    · unfold wpX_deliver
      exact cs_xsl0 hb (br_t rfl h)
    · unfold wpY_deliver
      exact cs_yt1 hb (br_f (by decide) h)
  · have v : vp_in (nI i) 16 := vp_in_nI (by omega) (by omega)
    have ec : (nI i).toNatClampNeg = i := nI_clamp (by omega)
    have em := cs_Q0 hq (i := i) (by omega)
    by_cases h0 : G 0 i = 0
    · refine cs_o (r := -2) hI (fun post h => ?_) (fun post h => ?_)
      · unfold wpX_deliver
        refine cs_xsl1 b6 hi (br_f (by decide) ?_)
        try dsimp only
        rw [ec]
        exact ⟨v, br_t h0 h⟩
      · unfold wpY_deliver
        exact cs_yt2 b6 hi (fun _ => br_f (by decide) h) (fun z => absurd (by rw [← em]; exact h0) z)
    · refine cs_Oel (cs_handle hI (i := i) (by omega) h0) ?_
      intro r srv' cap' slt' cl' cfg' jn' c' ro' l' k' va' E' C' G' m' mu' Mc' Mn' hI2 hx hy
      refine ⟨r, _, _, cs_in hI2, fun post h => ?_, fun post h => ?_⟩
      · unfold wpX_deliver
        refine cs_xsl1 b6 hi (br_f (by decide) ?_)
        try dsimp only
        rw [ec]
        exact ⟨v, br_f h0 (hx _ h)⟩
      · unfold wpY_deliver
        exact cs_yt2 b6 hi (fun z => absurd (by rw [em]; exact z) h0) (fun _ => br_t rfl (hy _ h))
theorem cs_lose (hI : cs_I srv cap slt cl cfg jn c ro l k va E C G m mu Mc Mn) (x : Int32) : cs_O (fun post => wpX_lose post (nI srv, nI cap, nI slt, nI cl, nI cfg, jn, (fun ix_ => nI (c ix_)), (fun ix_ => nI (ro ix_)), (fun ix_ => nI (l ix_)), (fun ix_ => nI (k ix_)), va, (E 0), (E 1), (E 2), (E 3), (E 4), (E 5), (C 0), (C 1), (C 2), (C 3), (C 4), (C 5), (G 0), (G 1), (G 2), (G 3), (G 4), (G 5), (G 6), (G 7), (G 8), (G 9), (G 10)) x) (fun post => wpY_lose post (nI srv, nI cap, nI slt, nI cfg, nI cl, (fun ix_ => nI (c ix_)), (fun ix_ => nI (ro ix_)), (fun ix_ => nI (l ix_)), (fun ix_ => nI (k ix_)), (cs_fl 5 E), (cs_fl 6 C), (cs_fl 11 m)) x) := by
  have hI' := hI
  obtain ⟨hA, hE, hC, hG, hq⟩ := hI'
  have hA' := hA
  obtain ⟨⟨b1, b2, b3, b4, b5, b6, b7, b8, b9⟩, _⟩ := hA'
  rcases cs_ixn (n := slt) (by omega) x with hb | ⟨i, hi, rfl⟩
  · refine cs_o (r := -1) hI (fun post h => ?_) (fun post h => ?_)
    · unfold wpX_lose
      exact cs_xsl0 hb (br_t rfl h)
    · unfold wpY_lose
      exact cs_yt1 hb (br_f (by decide) h)
  · have v : vp_in (nI i) 16 := vp_in_nI (by omega) (by omega)
    have ec : (nI i).toNatClampNeg = i := nI_clamp (by omega)
    have em := cs_Q0 hq (i := i) (by omega)
    by_cases h0 : G 0 i = 0
    · refine cs_o (r := -2) hI (fun post h => ?_) (fun post h => ?_)
      · unfold wpX_lose
        refine cs_xsl1 b6 hi (br_f (by decide) ?_)
        try dsimp only
        rw [ec]
        exact ⟨v, br_t h0 h⟩
      · unfold wpY_lose
        exact cs_yt2 b6 hi (fun _ => br_f (by decide) h) (fun z => absurd (by rw [← em]; exact h0) z)
    · refine ⟨1, _, _, cs_in ⟨hA, hE, hC, hG, cs_Qz (i := i) hq⟩, fun post h => ?_, fun post h => ?_⟩
      · unfold wpX_lose
        refine cs_xsl1 b6 hi (br_f (by decide) ?_)
        try dsimp only
        rw [ec]
        exact ⟨v, br_f h0 ⟨v, nm_r (e' := cs_z G i 0) rfl h⟩⟩
      · unfold wpY_lose
        exact cs_yt2 b6 hi (fun z => absurd (by rw [em]; exact z) h0) (fun _ => br_t rfl (cs_yclr (by omega) h))
theorem cs_yd0 {post : Int32 → SY → Prop} {i j : Nat} (hi : i < 16) (hj : j < 16) (hij : i ≠ j) (h : post (nI j) (nI srv, nI cap, nI slt, nI cfg, nI cl, (fun ix_ => nI (c ix_)), (fun ix_ => nI (ro ix_)), (fun ix_ => nI (l ix_)), (fun ix_ => nI (k ix_)), (cs_fl 5 E), (cs_fl 6 C), (cs_fl 11 (cs_wm m j (fun f => m f i))))) :
    ∀ d f, f + d = 11 → ∀ n, d < n → wY_duplicate_28 post (nI i) (nI j) (nI srv) (nI cap) (nI slt) (nI cfg) (nI cl) n (nI f) (fun ix_ => nI (c ix_)) (fun ix_ => nI (ro ix_)) (fun ix_ => nI (l ix_)) (fun ix_ => nI (k ix_)) (cs_fl 5 E) (cs_fl 6 C) (cs_fl 11 (cs_pw m j (fun f => m f i) 0 f)) := by
  intro d
  induction d with
  | zero =>
    intro f hf n hn
    obtain ⟨n', rfl⟩ := cs_n1 hn
    obtain rfl : f = 11 := by omega
    refine br_t (nI_le (a := 11) (b := 11) (by omega) (by omega)) ?_
    rw [cs_w11]
    exact h
  | succ d ih =>
    intro f hf n hn
    obtain ⟨n', rfl⟩ := cs_n1 hn
    refine br_f (nI_ge (a := f) (b := 11) (by omega) (by omega)) ?_
    rw [cs_m11 i, cs_m11 j, nI_add (i * 11) f, nI_add (j * 11) f, nI_clamp (n := i * 11 + f) (by omega), nI_clamp (n := j * 11 + f) (by omega), cs_fr (by omega), cs_pwn hij]
    refine ⟨vp_in_nI (by omega) (by omega), vp_in_nI (by omega) (by omega), nm_r (e' := cs_fl 11 (cs_pw m j (fun f => m f i) 0 (f + 1))) ?_ (nm_r (nI_1 f) (ih (f + 1) (by omega) n' (by omega)))⟩
    rw [cs_fu (by omega)]
    exact congrArg (cs_fl 11) (cs_pws (r := fun f => m f i) (Nat.zero_le f))
theorem cs_duplicate (hI : cs_I srv cap slt cl cfg jn c ro l k va E C G m mu Mc Mn) (x : Int32) : cs_O (fun post => wpX_duplicate post (nI srv, nI cap, nI slt, nI cl, nI cfg, jn, (fun ix_ => nI (c ix_)), (fun ix_ => nI (ro ix_)), (fun ix_ => nI (l ix_)), (fun ix_ => nI (k ix_)), va, (E 0), (E 1), (E 2), (E 3), (E 4), (E 5), (C 0), (C 1), (C 2), (C 3), (C 4), (C 5), (G 0), (G 1), (G 2), (G 3), (G 4), (G 5), (G 6), (G 7), (G 8), (G 9), (G 10)) x) (fun post => wpY_duplicate post (nI srv, nI cap, nI slt, nI cfg, nI cl, (fun ix_ => nI (c ix_)), (fun ix_ => nI (ro ix_)), (fun ix_ => nI (l ix_)), (fun ix_ => nI (k ix_)), (cs_fl 5 E), (cs_fl 6 C), (cs_fl 11 m)) x) := by
  have hI' := hI
  obtain ⟨hA, hE, hC, hG, hq⟩ := hI'
  have hA' := hA
  obtain ⟨⟨b1, b2, b3, b4, b5, b6, b7, b8, b9⟩, _⟩ := hA'
  rcases cs_ixn (n := slt) (by omega) x with hb | ⟨i, hi, rfl⟩
  · refine cs_o (r := -1) hI (fun post h => ?_) (fun post h => ?_)
    · unfold wpX_duplicate
      exact cs_xsl0 hb (br_t rfl h)
    · unfold wpY_duplicate
      exact cs_yt1 hb (br_f (by decide) h)
  · have v : vp_in (nI i) 16 := vp_in_nI (by omega) (by omega)
    have ec : (nI i).toNatClampNeg = i := nI_clamp (by omega)
    have em := cs_Q0 hq (i := i) (by omega)
    by_cases h0 : G 0 i = 0
    · refine cs_o (r := -2) hI (fun post h => ?_) (fun post h => ?_)
      · unfold wpX_duplicate
        refine cs_xsl1 b6 hi (br_f (by decide) ?_)
        try dsimp only
        rw [ec]
        exact ⟨v, br_t h0 h⟩
      · unfold wpY_duplicate
        exact cs_yt2 b6 hi (fun _ => br_f (by decide) h) (fun z => absurd (by rw [← em]; exact h0) z)
    · rcases cs_fs (srv := srv) (cap := cap) (slt := slt) (cl := cl) (cfg := cfg) (jn := jn) (c := c) (ro := ro) (l := l) (k := k) (va := va) (E := E) (C := C) (G := G) (m := m) hq b6 with ⟨j, hj, hj0, fx, fy⟩ | ⟨fx, fy⟩
      · have w : vp_in (nI j) 16 := vp_in_nI (by omega) (by omega)
        have hij : i ≠ j := fun e => h0 (by rw [e]; exact hj0)
        refine ⟨nI j, _, _, cs_in (G := cs_wm G j (fun f => G f i)) (m := cs_wm m j (fun f => m f i)) ⟨hA, hE, hC, hG, cs_Qw hq (hq i (by omega))⟩, fun post h => ?_, fun post h => ?_⟩
        · unfold wpX_duplicate
          refine cs_xsl1 b6 hi (br_f (by decide) ?_)
          try dsimp only
          rw [ec]
          refine ⟨v, br_f h0 (fx _ (br_t (nI_pos' (by omega)) ?_))⟩
          rw [nI_clamp (n := j) (by omega)]
          exact ⟨v, w, nm_e ⟨v, w, nm_e ⟨v, w, nm_e ⟨v, w, nm_e ⟨v, w, nm_e ⟨v, w, nm_e ⟨v, w, nm_e ⟨v, w, nm_e ⟨v, w, nm_e ⟨v, w, nm_e ⟨v, w, nm_e h⟩⟩⟩⟩⟩⟩⟩⟩⟩⟩⟩
        · unfold wpY_duplicate
          have h9 := cs_yd0 (by omega) (by omega : j < 16) hij h 11 0 (by omega) 12 (by omega)
          rw [cs_pw0] at h9
          exact cs_yt2 b6 hi (fun z => absurd (by rw [em]; exact z) h0) (fun _ => br_t rfl (fy _ (br_t (nI_pos' (by omega)) ⟨12, h9⟩)))
      · refine cs_o (r := -3) hI (fun post h => ?_) (fun post h => ?_)
        · unfold wpX_duplicate
          refine cs_xsl1 b6 hi (br_f (by decide) ?_)
          try dsimp only
          rw [ec]
          exact ⟨v, br_f h0 (fx _ (br_f cs_nm1 h))⟩
        · unfold wpY_duplicate
          exact cs_yt2 b6 hi (fun z => absurd (by rw [em]; exact z) h0) (fun _ => br_t rfl (fy _ (br_f cs_nm1 h)))
/-! pump -/
theorem cs_xu1 {post : Int32 → Prop} {i : Nat} (h16 : slt ≤ 16) (hi : i < slt) (h0 : G 0 i ≠ 0) (hl : ∀ j, j < i → G 0 j = 0) (h : post (nI i)) :
    ∀ d j, j + d = i → ∀ n, d < n → wX_firstUsedSlot_2 post (nI srv) (nI cap) (nI slt) (nI cl) (nI cfg) jn (fun ix_ => nI (c ix_)) (fun ix_ => nI (ro ix_)) (fun ix_ => nI (l ix_)) (fun ix_ => nI (k ix_)) va (E 0) (E 1) (E 2) (E 3) (E 4) (E 5) (C 0) (C 1) (C 2) (C 3) (C 4) (C 5) (G 0) (G 1) (G 2) (G 3) (G 4) (G 5) (G 6) (G 7) (G 8) (G 9) (G 10) n (nI j) := by
  intro d
  induction d with
  | zero =>
    intro j hj n hn
    obtain ⟨n', rfl⟩ := cs_n1 hn
    obtain rfl : j = i := by omega
    exact br_f (nI_ge hi (by omega)) ⟨vp_in_nI (by omega) (by omega), br_f (by rw [nI_clamp (n := j) (by omega)]; exact h0) h⟩
  | succ d ih =>
    intro j hj n hn
    obtain ⟨n', rfl⟩ := cs_n1 hn
    exact br_f (nI_ge (by omega) (by omega)) ⟨vp_in_nI (by omega) (by omega), br_t (by rw [nI_clamp (n := j) (by omega)]; exact hl j (by omega)) (nm_r (nI_1 j) (ih (j + 1) (by omega) n' (by omega)))⟩
theorem cs_xu2 {post : Int32 → Prop} (h16 : slt ≤ 16) (hl : ∀ j, j < slt → G 0 j = 0) (h : post (-1)) :
    ∀ d j, j + d = slt → ∀ n, d < n → wX_firstUsedSlot_2 post (nI srv) (nI cap) (nI slt) (nI cl) (nI cfg) jn (fun ix_ => nI (c ix_)) (fun ix_ => nI (ro ix_)) (fun ix_ => nI (l ix_)) (fun ix_ => nI (k ix_)) va (E 0) (E 1) (E 2) (E 3) (E 4) (E 5) (C 0) (C 1) (C 2) (C 3) (C 4) (C 5) (G 0) (G 1) (G 2) (G 3) (G 4) (G 5) (G 6) (G 7) (G 8) (G 9) (G 10) n (nI j) := by
  intro d
  induction d with
  | zero =>
    intro j hj n hn
    obtain ⟨n', rfl⟩ := cs_n1 hn
    exact br_t (nI_le (by omega) (by omega)) h
  | succ d ih =>
    intro j hj n hn
    obtain ⟨n', rfl⟩ := cs_n1 hn
    exact br_f (nI_ge (by omega) (by omega)) ⟨vp_in_nI (by omega) (by omega), br_t (by rw [nI_clamp (n := j) (by omega)]; exact hl j (by omega)) (nm_r (nI_1 j) (ih (j + 1) (by omega) n' (by omega)))⟩
theorem cs_0m1 : nI 0 + (-1) = -1 := by decide
theorem cs_yu1 {post : Int32 → SY → Prop} {J : Int32 → Int32 → Int32 → Int32 → Int32 → Int32 → (Nat → Int32) → (Nat → Int32) → (Nat → Int32) → (Nat → Int32) → (Nat → Int32) → (Nat → Int32) → (Nat → Int32) → Prop} {x2 x3 x4 : Int32}
    (h : ∀ n', wY_pump_27 post J x2 x3 (nI srv) (nI cap) (nI slt) (nI cfg) (nI cl) (fun ix_ => nI (c ix_)) (fun ix_ => nI (ro ix_)) (fun ix_ => nI (l ix_)) (fun ix_ => nI (k ix_)) (cs_fl 5 E) (cs_fl 6 C) (cs_fl 11 m) (n' + 1) x4 (-1)) :
    ∀ j, j < 16 → (∀ j', j' ≤ j → m 0 j' = 0) → ∀ n, j + 1 < n → wY_pump_27 post J x2 x3 (nI srv) (nI cap) (nI slt) (nI cfg) (nI cl) (fun ix_ => nI (c ix_)) (fun ix_ => nI (ro ix_)) (fun ix_ => nI (l ix_)) (fun ix_ => nI (k ix_)) (cs_fl 5 E) (cs_fl 6 C) (cs_fl 11 m) n x4 (nI j) := by
  intro j
  induction j with
  | zero =>
    intro hj hz n hn
    obtain ⟨n', rfl⟩ : ∃ n', n = n' + 1 + 1 := ⟨n - 2, by omega⟩
    refine br_f (nI_pos (by omega)) ?_
    rw [cs_m11, nI_clamp (n := 0 * 11) (by omega), cs_fr0 (by decide)]
    exact ⟨vp_in_nI (by omega) (by omega), br_t (hz 0 (by omega)) (nm_r cs_0m1 (h n'))⟩
  | succ j ih =>
    intro hj hz n hn
    obtain ⟨n', rfl⟩ : ∃ n', n = n' + 1 := ⟨n - 1, by omega⟩
    refine br_f (nI_pos (by omega)) ?_
    rw [cs_m11, nI_clamp (n := (j + 1) * 11) (by omega), cs_fr0 (by decide)]
    exact ⟨vp_in_nI (by omega) (by omega), br_t (hz (j + 1) (by omega)) (nm_r (pk_m1 j) (ih (by omega) (fun j' hj' => hz j' (by omega)) n' (by omega)))⟩
theorem cs_yu2 {post : Int32 → SY → Prop} {J : Int32 → Int32 → Int32 → Int32 → Int32 → Int32 → (Nat → Int32) → (Nat → Int32) → (Nat → Int32) → (Nat → Int32) → (Nat → Int32) → (Nat → Int32) → (Nat → Int32) → Prop} {x2 x3 : Int32} {i : Nat} (h0 : m 0 i ≠ 0) (hl : ∀ j, j < i → m 0 j = 0)
    (h : ∀ n', wY_pump_27 post J x2 x3 (nI srv) (nI cap) (nI slt) (nI cfg) (nI cl) (fun ix_ => nI (c ix_)) (fun ix_ => nI (ro ix_)) (fun ix_ => nI (l ix_)) (fun ix_ => nI (k ix_)) (cs_fl 5 E) (cs_fl 6 C) (cs_fl 11 m) (n' + 1) (nI i) (-1)) :
    ∀ d x4 n, i + d < 16 → i + d + 1 < n → wY_pump_27 post J x2 x3 (nI srv) (nI cap) (nI slt) (nI cfg) (nI cl) (fun ix_ => nI (c ix_)) (fun ix_ => nI (ro ix_)) (fun ix_ => nI (l ix_)) (fun ix_ => nI (k ix_)) (cs_fl 5 E) (cs_fl 6 C) (cs_fl 11 m) n x4 (nI (i + d)) := by
  intro d
  induction d with
  | zero =>
    intro x4 n hj hn
    obtain ⟨n', rfl⟩ : ∃ n', n = n' + 1 + 1 := ⟨n - 2, by omega⟩
    refine br_f (nI_pos (by omega)) ?_
    rw [cs_m11, nI_clamp (n := (i + 0) * 11) (by omega), cs_fr0 (by decide)]
    refine ⟨vp_in_nI (by omega) (by omega), br_f h0 ?_⟩
    cases i with
    | zero => exact nm_r cs_0m1 (h n')
    | succ i => exact nm_r (pk_m1 i) (cs_yu1 h i (by omega) (fun j' hj' => hl j' (by omega)) (n' + 1) (by omega))
  | succ d ih =>
    intro x4 n hj hn
    obtain ⟨n', rfl⟩ : ∃ n', n = n' + 1 := ⟨n - 1, by omega⟩
    refine br_f (nI_pos (by omega)) ?_
    rw [cs_m11, nI_clamp (n := (i + (d + 1)) * 11) (by omega), cs_fr0 (by decide)]
    exact ⟨vp_in_nI (by omega) (by omega), br_c (fun _ => nm_r (pk_m1 (i + d)) (ih _ n' (by omega) (by omega))) (fun _ => nm_r (pk_m1 (i + d)) (ih _ n' (by omega) (by omega)))⟩
theorem cs_least {P : Nat → Prop} (n : Nat) : (∃ i, i < n ∧ P i ∧ ∀ j, j < i → ¬ P j) ∨ (∀ j, j < n → ¬ P j) := by
  induction n with
  | zero => exact Or.inr (fun j hj => absurd hj (by omega))
  | succ n ih =>
    rcases ih with ⟨i, h1, h2, h3⟩ | h
    · exact Or.inl ⟨i, by omega, h2, h3⟩
    · by_cases z : P n
      · exact Or.inl ⟨n, by omega, z, h⟩
      · refine Or.inr (fun j hj => ?_)
        by_cases e : j = n
        · rw [e]; exact z
        · exact h j (by omega)
theorem cs_pu {N : Nat} (hN : N ≤ 64) : ∀ d h, h + d = N → ∀ {srv cap slt cl cfg : Nat} {jn : Int32} {c ro l k : Nat → Nat} {va : Nat → Int32} {E C G m : Nat → Nat → Int32} {mu : Nat} {Mc Mn : Nat → Int32}, cs_I srv cap slt cl cfg jn c ro l k va E C G m mu Mc Mn →
    ∃ r u v, cs_Re u v ∧ (∀ (post : Int32 → SX → Prop) n, d < n → post r u → wX_pump_11 post (nI N) n (nI h) (nI srv) (nI cap) (nI slt) (nI cl) (nI cfg) jn (fun ix_ => nI (c ix_)) (fun ix_ => nI (ro ix_)) (fun ix_ => nI (l ix_)) (fun ix_ => nI (k ix_)) va (E 0) (E 1) (E 2) (E 3) (E 4) (E 5) (C 0) (C 1) (C 2) (C 3) (C 4) (C 5) (G 0) (G 1) (G 2) (G 3) (G 4) (G 5) (G 6) (G 7) (G 8) (G 9) (G 10)) ∧ (∀ (post : Int32 → SY → Prop) n, d < n → post r v → wY_pump_11 post (nI N) n (nI h) (nI srv) (nI cap) (nI slt) (nI cfg) (nI cl) (fun ix_ => nI (c ix_)) (fun ix_ => nI (ro ix_)) (fun ix_ => nI (l ix_)) (fun ix_ => nI (k ix_)) (cs_fl 5 E) (cs_fl 6 C) (cs_fl 11 m)) := by
  intro d
  induction d with
  | zero =>
    intro h hh srv cap slt cl cfg jn c ro l k va E C G m mu Mc Mn hI
    refine ⟨nI N, _, _, cs_in hI, fun post n hn hp => ?_, fun post n hn hp => ?_⟩
    · obtain ⟨n', rfl⟩ := cs_n1 hn
      exact br_t (nI_le (by omega) (by omega)) hp
    · obtain ⟨n', rfl⟩ := cs_n1 hn
      exact br_t (nI_le (by omega) (by omega)) hp
  | succ d ih =>
    intro h hh srv cap slt cl cfg jn c ro l k va E C G m mu Mc Mn hI
    have hI' := hI
    obtain ⟨⟨⟨b1, b2, b3, b4, b5, b6, b7, b8, b9⟩, _⟩, _, _, _, hq⟩ := hI'
    have hlt : ¬ nI N ≤ nI h := nI_ge (by omega) (by omega)
    have es : nI slt - 1 = nI (slt - 1) := cs_s1 (by omega)
    rcases cs_least (P := fun i => G 0 i ≠ 0) slt with ⟨i, hi, h0, hl⟩ | hl
    · have hl' : ∀ j, j < i → G 0 j = 0 := fun j hj => Classical.byContradiction (hl j hj)
      have hm0 : m 0 i ≠ 0 := by rw [← cs_Q0 hq (by omega)]; exact h0
      have hml : ∀ j, j < i → m 0 j = 0 := fun j hj => by rw [← cs_Q0 hq (by omega)]; exact hl' j hj
      refine cs_Oel (cs_handle hI (i := i) (by omega) h0) ?_
      intro r1 srv' cap' slt' cl' cfg' jn' c' ro' l' k' va' E' C' G' m' mu' Mc' Mn' hI2 hx hy
      obtain ⟨r, u, v, R, ix, iy⟩ := ih (h + 1) (by omega) hI2
      refine ⟨r, u, v, R, fun post n hn hp => ?_, fun post n hn hp => ?_⟩
      · obtain ⟨n', rfl⟩ := cs_n1 hn
        refine br_f hlt ⟨17, cs_xu1 b6 hi h0 hl' ?_ i 0 (by omega) 17 (by omega)⟩
        exact br_t (nI_pos' (by omega)) (hx _ (nm_r (nI_1 h) (ix post n' (by omega) hp)))
      · obtain ⟨n', rfl⟩ := cs_n1 hn
        refine br_f hlt (nm_r es ⟨18, ?_⟩)
        obtain ⟨d', hd'⟩ : ∃ d', slt - 1 = i + d' := ⟨slt - 1 - i, by omega⟩
        rw [hd']
        refine cs_yu2 hm0 hml (fun n'' => ?_) d' (-1) 18 (by omega) (by omega)
        exact br_t cs_m1lt (br_t (nI_pos' (by omega)) (hy _ (nm_r (nI_1 h) (iy post n' (by omega) hp))))
    · have hl' : ∀ j, j < slt → G 0 j = 0 := fun j hj => Classical.byContradiction (hl j hj)
      have hml : ∀ j, j < slt → m 0 j = 0 := fun j hj => by rw [← cs_Q0 hq (by omega)]; exact hl' j hj
      refine ⟨nI h, _, _, cs_in hI, fun post n hn hp => ?_, fun post n hn hp => ?_⟩
      · obtain ⟨n', rfl⟩ := cs_n1 hn
        refine br_f hlt ⟨17, cs_xu2 b6 hl' ?_ slt 0 (by omega) 17 (by omega)⟩
        exact br_f cs_nm1 hp
      · obtain ⟨n', rfl⟩ := cs_n1 hn
        refine br_f hlt (nm_r es ⟨18, ?_⟩)
        refine cs_yu1 (fun n'' => ?_) (slt - 1) (by omega) (fun j hj => hml j (by omega)) 18 (by omega)
        exact br_t cs_m1lt (br_f cs_nm1 hp)
theorem cs_clmp {lo hi : Nat} (h : lo ≤ hi) (hh : hi < 2 ^ 31) (x : Int32) : ∃ n, lo ≤ n ∧ n ≤ hi ∧ ∀ post : Int32 → Prop, post (nI n) → ((nI lo ≤ x → (((x ≤ nI hi → (post x)) ∧ (¬ x ≤ nI hi → (post (nI hi)))))) ∧ (¬ nI lo ≤ x → (post (nI lo)))) := by
  by_cases h1 : nI lo ≤ x
  · by_cases h2 : x ≤ nI hi
    · have h0 : ¬ x < 0 := by
        intro z
        rw [Int32.le_iff_toInt_le] at h1
        rw [Int32.lt_iff_toInt_lt] at z
        rw [nI_toInt (by omega)] at h1
        have e0 : (0 : Int32).toInt = 0 := by decide
        omega
      obtain ⟨j, hj, rfl⟩ := nI_of h0
      rw [nI_leI (by omega) hj] at h1
      rw [nI_leI hj hh] at h2
      exact ⟨j, h1, h2, fun post hp => br_t (nI_le h1 hj) (br_t (nI_le h2 hh) hp)⟩
    · exact ⟨hi, h, Nat.le_refl _, fun post hp => br_t h1 (br_f h2 hp)⟩
  · exact ⟨lo, Nat.le_refl _, h, fun post hp => br_f h1 hp⟩
theorem cs_pump (hI : cs_I srv cap slt cl cfg jn c ro l k va E C G m mu Mc Mn) (x : Int32) : cs_O (fun post => wpX_pump post (nI srv, nI cap, nI slt, nI cl, nI cfg, jn, (fun ix_ => nI (c ix_)), (fun ix_ => nI (ro ix_)), (fun ix_ => nI (l ix_)), (fun ix_ => nI (k ix_)), va, (E 0), (E 1), (E 2), (E 3), (E 4), (E 5), (C 0), (C 1), (C 2), (C 3), (C 4), (C 5), (G 0), (G 1), (G 2), (G 3), (G 4), (G 5), (G 6), (G 7), (G 8), (G 9), (G 10)) x) (fun post => wpY_pump post (nI srv, nI cap, nI slt, nI cfg, nI cl, (fun ix_ => nI (c ix_)), (fun ix_ => nI (ro ix_)), (fun ix_ => nI (l ix_)), (fun ix_ => nI (k ix_)), (cs_fl 5 E), (cs_fl 6 C), (cs_fl 11 m)) x) := by
  obtain ⟨N, _, hN, hcl⟩ := cs_clmp (lo := 0) (hi := 64) (by omega) (by omega) x
  obtain ⟨r, u, v, R, hx, hy⟩ := cs_pu hN N 0 (by omega) hI
  refine ⟨r, u, v, R, fun post hp => ?_, fun post hp => ?_⟩
  · unfold wpX_pump
    exact hcl (fun r => ∃ n11 : Nat, wX_pump_11 post r n11 0 (nI srv) (nI cap) (nI slt) (nI cl) (nI cfg) jn (fun ix_ => nI (c ix_)) (fun ix_ => nI (ro ix_)) (fun ix_ => nI (l ix_)) (fun ix_ => nI (k ix_)) va (E 0) (E 1) (E 2) (E 3) (E 4) (E 5) (C 0) (C 1) (C 2) (C 3) (C 4) (C 5) (G 0) (G 1) (G 2) (G 3) (G 4) (G 5) (G 6) (G 7) (G 8) (G 9) (G 10)) ⟨N + 1, hx post (N + 1) (by omega) hp⟩
  · unfold wpY_pump
    exact hcl (fun r => ∃ n11 : Nat, wY_pump_11 post r n11 0 (nI srv) (nI cap) (nI slt) (nI cfg) (nI cl) (fun ix_ => nI (c ix_)) (fun ix_ => nI (ro ix_)) (fun ix_ => nI (l ix_)) (fun ix_ => nI (k ix_)) (cs_fl 5 E) (cs_fl 6 C) (cs_fl 11 m)) ⟨N + 1, hy post (N + 1) (by omega) hp⟩
end cs_wire
end
section
section cs_clo
variable {srv cap slt cl cfg : Nat} {jn : Int32} {c ro l k : Nat → Nat} {va : Nat → Int32} {E C G m : Nat → Nat → Int32} {mu : Nat} {Mc Mn : Nat → Int32}
theorem cs_write (hI : cs_I srv cap slt cl cfg jn c ro l k va E C G m mu Mc Mn) (x op z ar : Int32) : cs_O (fun post => wpX_write post (nI srv, nI cap, nI slt, nI cl, nI cfg, jn, (fun ix_ => nI (c ix_)), (fun ix_ => nI (ro ix_)), (fun ix_ => nI (l ix_)), (fun ix_ => nI (k ix_)), va, (E 0), (E 1), (E 2), (E 3), (E 4), (E 5), (C 0), (C 1), (C 2), (C 3), (C 4), (C 5), (G 0), (G 1), (G 2), (G 3), (G 4), (G 5), (G 6), (G 7), (G 8), (G 9), (G 10)) x op z ar) (fun post => wpY_write post (nI srv, nI cap, nI slt, nI cfg, nI cl, (fun ix_ => nI (c ix_)), (fun ix_ => nI (ro ix_)), (fun ix_ => nI (l ix_)), (fun ix_ => nI (k ix_)), (cs_fl 5 E), (cs_fl 6 C), (cs_fl 11 m)) x op z ar) := by
  rcases cs_ixn (n := 3) (by omega) x with hb | ⟨q, hq, rfl⟩
  · refine cs_o (r := -1) hI (fun post h => ?_) (fun post h => ?_)
    · unfold wpX_write
      exact cs_xcl0 hb (br_t rfl h)
    · unfold wpY_write
      by_cases z0 : x < 0
      · exact br_t z0 h
      · exact br_f z0 (br_t (hb.resolve_left z0) h)
  · have q0 : ¬ nI q < 0 := nI_pos (by omega)
    have q3 : ¬ 3 ≤ nI q := nI_ge (b := 3) hq (by omega)
    by_cases ho : op = 0 ∨ op = 1
    · have xin : ∀ post : Int32 → SX → Prop, wX_write_17 post (nI q) op z ar (nI srv) (nI cap) (nI slt) (nI cl) (nI cfg) jn (fun ix_ => nI (c ix_)) (fun ix_ => nI (ro ix_)) (fun ix_ => nI (l ix_)) (fun ix_ => nI (k ix_)) va (E 0) (E 1) (E 2) (E 3) (E 4) (E 5) (C 0) (C 1) (C 2) (C 3) (C 4) (C 5) (G 0) (G 1) (G 2) (G 3) (G 4) (G 5) (G 6) (G 7) (G 8) (G 9) (G 10) → wpX_write post (nI srv, nI cap, nI slt, nI cl, nI cfg, jn, (fun ix_ => nI (c ix_)), (fun ix_ => nI (ro ix_)), (fun ix_ => nI (l ix_)), (fun ix_ => nI (k ix_)), va, (E 0), (E 1), (E 2), (E 3), (E 4), (E 5), (C 0), (C 1), (C 2), (C 3), (C 4), (C 5), (G 0), (G 1), (G 2), (G 3), (G 4), (G 5), (G 6), (G 7), (G 8), (G 9), (G 10)) (nI q) op z ar := by
        intro post h
        unfold wpX_write
        exact cs_xcl1 hq (br_f (by decide) (br_c (fun _ => h) (fun n0 => br_t (ho.resolve_left n0) h)))
      have yin : ∀ post : Int32 → SY → Prop, wY_write_18 post (nI q) op z ar (nI srv) (nI cap) (nI slt) (nI cfg) (nI cl) (fun ix_ => nI (c ix_)) (fun ix_ => nI (ro ix_)) (fun ix_ => nI (l ix_)) (fun ix_ => nI (k ix_)) (cs_fl 5 E) (cs_fl 6 C) (cs_fl 11 m) → wpY_write post (nI srv, nI cap, nI slt, nI cfg, nI cl, (fun ix_ => nI (c ix_)), (fun ix_ => nI (ro ix_)), (fun ix_ => nI (l ix_)), (fun ix_ => nI (k ix_)), (cs_fl 5 E), (cs_fl 6 C), (cs_fl 11 m)) (nI q) op z ar := by
        intro post h
        unfold wpY_write
        exact br_f q0 (br_f q3 (br_c (fun _ => h) (fun n0 => br_t (ho.resolve_left n0) h)))
      rcases cs_ixn (n := 4) (by omega) z with hb | ⟨y, hy, rfl⟩
      · refine cs_o (r := -1) hI (fun post h => xin post ?_) (fun post h => yin post ?_)
        · unfold wX_write_17
          exact cs_xky0 hb (br_t rfl h)
        · unfold wY_write_18
          by_cases z0 : z < 0
          · exact br_t z0 h
          · exact br_f z0 (br_f (Int32.not_lt.mpr (hb.resolve_left z0)) h)
      · refine cs_Oel (cs_begin hI hq hy op ar) ?_
        intro r srv' cap' slt' cl' cfg' jn' c' ro' l' k' va' E' C' G' m' mu' Mc' Mn' hI2 hx hy2
        refine ⟨r, _, _, cs_in hI2, fun post h => xin post ?_, fun post h => yin post ?_⟩
        · unfold wX_write_17
          exact cs_xky1 hy (br_f (by decide) (hx _ h))
        · unfold wY_write_18
          exact br_f (nI_pos (by omega)) (br_t (nI_lt (b := 4) hy (by omega)) (hy2 _ h))
    · have h0 : ¬ op = 0 := fun e => ho (Or.inl e)
      have h1 : ¬ op = 1 := fun e => ho (Or.inr e)
      refine cs_o (r := -1) hI (fun post h => ?_) (fun post h => ?_)
      · unfold wpX_write
        exact cs_xcl1 hq (br_f (by decide) (br_f h0 (br_f h1 h)))
      · unfold wpY_write
        exact br_f q0 (br_f q3 (br_f h0 (br_f h1 h)))
theorem cs_read (hI : cs_I srv cap slt cl cfg jn c ro l k va E C G m mu Mc Mn) (x z : Int32) : cs_O (fun post => wpX_read post (nI srv, nI cap, nI slt, nI cl, nI cfg, jn, (fun ix_ => nI (c ix_)), (fun ix_ => nI (ro ix_)), (fun ix_ => nI (l ix_)), (fun ix_ => nI (k ix_)), va, (E 0), (E 1), (E 2), (E 3), (E 4), (E 5), (C 0), (C 1), (C 2), (C 3), (C 4), (C 5), (G 0), (G 1), (G 2), (G 3), (G 4), (G 5), (G 6), (G 7), (G 8), (G 9), (G 10)) x z) (fun post => wpY_read post (nI srv, nI cap, nI slt, nI cfg, nI cl, (fun ix_ => nI (c ix_)), (fun ix_ => nI (ro ix_)), (fun ix_ => nI (l ix_)), (fun ix_ => nI (k ix_)), (cs_fl 5 E), (cs_fl 6 C), (cs_fl 11 m)) x z) := by
  rcases cs_ixn (n := 3) (by omega) x with hb | ⟨q, hq, rfl⟩
  · refine cs_o (r := -1) hI (fun post h => ?_) (fun post h => ?_)
    · unfold wpX_read
      exact cs_xcl0 hb (br_t rfl h)
    · unfold wpY_read
      by_cases z0 : x < 0
      · exact br_t z0 h
      · exact br_f z0 (br_t (hb.resolve_left z0) h)
  · have q0 : ¬ nI q < 0 := nI_pos (by omega)
    have q3 : ¬ 3 ≤ nI q := nI_ge (b := 3) hq (by omega)
    rcases cs_ixn (n := 4) (by omega) z with hb | ⟨y, hy, rfl⟩
    · refine cs_o (r := -1) hI (fun post h => ?_) (fun post h => ?_)
      · unfold wpX_read
        exact cs_xcl1 hq (br_f (by decide) (cs_xky0 hb (br_t rfl h)))
      · unfold wpY_read
        refine br_f q0 (br_f q3 ?_)
        by_cases z0 : z < 0
        · exact br_t z0 h
        · exact br_f z0 (br_f (Int32.not_lt.mpr (hb.resolve_left z0)) h)
    · refine cs_Oel (cs_begin hI hq hy 2 0) ?_
      intro r srv' cap' slt' cl' cfg' jn' c' ro' l' k' va' E' C' G' m' mu' Mc' Mn' hI2 hx hy2
      refine ⟨r, _, _, cs_in hI2, fun post h => ?_, fun post h => ?_⟩
      · unfold wpX_read
        exact cs_xcl1 hq (br_f (by decide) (cs_xky1 hy (br_f (by decide) (hx _ h))))
      · unfold wpY_read
        exact br_f q0 (br_f q3 (br_f (nI_pos (by omega)) (br_t (nI_lt (b := 4) hy (by omega)) (hy2 _ h))))
theorem cs_retry (hI : cs_I srv cap slt cl cfg jn c ro l k va E C G m mu Mc Mn) (x : Int32) : cs_O (fun post => wpX_retry post (nI srv, nI cap, nI slt, nI cl, nI cfg, jn, (fun ix_ => nI (c ix_)), (fun ix_ => nI (ro ix_)), (fun ix_ => nI (l ix_)), (fun ix_ => nI (k ix_)), va, (E 0), (E 1), (E 2), (E 3), (E 4), (E 5), (C 0), (C 1), (C 2), (C 3), (C 4), (C 5), (G 0), (G 1), (G 2), (G 3), (G 4), (G 5), (G 6), (G 7), (G 8), (G 9), (G 10)) x) (fun post => wpY_retry post (nI srv, nI cap, nI slt, nI cfg, nI cl, (fun ix_ => nI (c ix_)), (fun ix_ => nI (ro ix_)), (fun ix_ => nI (l ix_)), (fun ix_ => nI (k ix_)), (cs_fl 5 E), (cs_fl 6 C), (cs_fl 11 m)) x) := by
  rcases cs_ixn (n := 3) (by omega) x with hb | ⟨q, hq, rfl⟩
  · refine cs_o (r := -1) hI (fun post h => ?_) (fun post h => ?_)
    · unfold wpX_retry
      exact cs_xcl0 hb (br_t rfl h)
    · unfold wpY_retry
      by_cases z0 : x < 0
      · exact br_t z0 h
      · exact br_f z0 (br_f (Int32.not_lt.mpr (hb.resolve_left z0)) h)
  · have q0 : ¬ nI q < 0 := nI_pos (by omega)
    have q3 : nI q < 3 := nI_lt (b := 3) hq (by omega)
    have v : vp_in (nI q) 3 := vp_in_nI hq (by omega)
    have w : vp_in (nI (q * 6)) 18 := vp_in_nI (by omega) (by omega)
    have ec : (nI q).toNatClampNeg = q := nI_clamp (by omega)
    by_cases h0 : C 0 q = 1
    · have hI' := hI
      obtain ⟨hA, hE, hC, hG, hQ⟩ := hI'
      obtain ⟨r, G', m', hq', sx, sy⟩ := cs_lat (srv := srv) (cap := cap) (slt := slt) (cl := cl) (cfg := cfg) (jn := jn) (c := c) (ro := ro) (l := l) (k := k) (va := va) (E := E) (C := C) (G := G) (m := m) hA hC hQ hq
      refine ⟨r, _, _, cs_in ⟨hA, hE, hC, hG, hq'⟩, fun post h => ?_, fun post h => ?_⟩
      · unfold wpX_retry
        refine cs_xcl1 hq (br_f (by decide) ?_)
        try dsimp only
        rw [ec]
        exact ⟨v, br_t h0 (sx _ h)⟩
      · unfold wpY_retry
        refine br_f q0 (br_t q3 ?_)
        try dsimp only
        rw [cs_m6, nI_clamp (n := q * 6) (by omega), cs_fr0 (by decide)]
        exact ⟨w, br_t h0 (sy _ h)⟩
    · refine cs_o (r := -2) hI (fun post h => ?_) (fun post h => ?_)
      · unfold wpX_retry
        refine cs_xcl1 hq (br_f (by decide) ?_)
        try dsimp only
        rw [ec]
        exact ⟨v, br_f h0 h⟩
      · unfold wpY_retry
        refine br_f q0 (br_t q3 ?_)
        try dsimp only
        rw [cs_m6, nI_clamp (n := q * 6) (by omega), cs_fr0 (by decide)]
        exact ⟨w, br_f h0 h⟩
/-! rows of forwards and replies -/
theorem cs_fwds (hA : cs_A srv cap slt cl cfg jn c ro l k) (hE : cs_Ev l va E) (hG : cs_Gh srv cl c ro l E mu Mc Mn) {s : Nat} (hs : s < srv) (hr1 : ro s = 1) :
    ∀ d p (sm : Int32), l s - p = d → p ≤ 48 → ∀ {G m : Nat → Nat → Int32}, cs_Q (cs_ok srv cap cfg cl c ro l mu Mc Mn) G m → ∃ r G' m', cs_Q (cs_ok srv cap cfg cl c ro l mu Mc Mn) G' m' ∧
      (∀ (post : Int32 → SX → Prop) n, d < n → post r (nI srv, nI cap, nI slt, nI cl, nI cfg, jn, (fun ix_ => nI (c ix_)), (fun ix_ => nI (ro ix_)), (fun ix_ => nI (l ix_)), (fun ix_ => nI (k ix_)), va, (E 0), (E 1), (E 2), (E 3), (E 4), (E 5), (C 0), (C 1), (C 2), (C 3), (C 4), (C 5), (G' 0), (G' 1), (G' 2), (G' 3), (G' 4), (G' 5), (G' 6), (G' 7), (G' 8), (G' 9), (G' 10)) → wX_sendForwards_13 post (nI s) (nI (l s)) n sm (nI (p + 1)) (nI srv) (nI cap) (nI slt) (nI cl) (nI cfg) jn (fun ix_ => nI (c ix_)) (fun ix_ => nI (ro ix_)) (fun ix_ => nI (l ix_)) (fun ix_ => nI (k ix_)) va (E 0) (E 1) (E 2) (E 3) (E 4) (E 5) (C 0) (C 1) (C 2) (C 3) (C 4) (C 5) (G 0) (G 1) (G 2) (G 3) (G 4) (G 5) (G 6) (G 7) (G 8) (G 9) (G 10)) ∧
      (∀ (post : Int32 → SY → Prop) n, d < n → post r (nI srv, nI cap, nI slt, nI cfg, nI cl, (fun ix_ => nI (c ix_)), (fun ix_ => nI (ro ix_)), (fun ix_ => nI (l ix_)), (fun ix_ => nI (k ix_)), (cs_fl 5 E), (cs_fl 6 C), (cs_fl 11 m')) → wY_resend_57 post (nI s) (nI (l s)) n sm (nI (p + 1)) (nI srv) (nI cap) (nI slt) (nI cfg) (nI cl) (fun ix_ => nI (c ix_)) (fun ix_ => nI (ro ix_)) (fun ix_ => nI (l ix_)) (fun ix_ => nI (k ix_)) (cs_fl 5 E) (cs_fl 6 C) (cs_fl 11 m)) ∧
      (∀ (post : Int32 → SY → Prop) x5 n, d < n → (∀ n' P, l s < P → P ≤ 49 → wY_remove_251 post (nI s) (nI (l s)) x5 (n' + 1) (nI P) (nI srv) (nI cap) (nI slt) (nI cfg) (nI cl) (fun ix_ => nI (c ix_)) (fun ix_ => nI (ro ix_)) (fun ix_ => nI (l ix_)) (fun ix_ => nI (k ix_)) (cs_fl 5 E) (cs_fl 6 C) (cs_fl 11 m')) → wY_remove_251 post (nI s) (nI (l s)) x5 n (nI (p + 1)) (nI srv) (nI cap) (nI slt) (nI cfg) (nI cl) (fun ix_ => nI (c ix_)) (fun ix_ => nI (ro ix_)) (fun ix_ => nI (l ix_)) (fun ix_ => nI (k ix_)) (cs_fl 5 E) (cs_fl 6 C) (cs_fl 11 m)) := by
  have hls : l s ≤ 48 := by have := hA.1; have := hA.2.2.2.1 s; omega
  intro d
  induction d with
  | zero =>
    intro p sm hd hp G m hq
    have hlt : nI (l s) < nI (p + 1) := nI_lt (by omega) (by omega)
    refine ⟨sm, G, m, hq, fun post n hn h => ?_, fun post n hn h => ?_, fun post x5 n hn h => ?_⟩
    · obtain ⟨n', rfl⟩ := cs_n1 hn
      exact br_t hlt h
    · obtain ⟨n', rfl⟩ := cs_n1 hn
      exact br_t hlt h
    · obtain ⟨n', rfl⟩ := cs_n1 hn
      exact h n' (p + 1) (by omega) (by omega)
  | succ d ih =>
    intro p sm hd hp G m hq
    have hlt : ¬ nI (l s) < nI (p + 1) := nI_nlt (by omega) (by omega)
    obtain ⟨r1, G1, m1, hq1, fx, fy⟩ := cs_fwd (srv := srv) (cap := cap) (slt := slt) (cl := cl) (cfg := cfg) (jn := jn) (c := c) (ro := ro) (l := l) (k := k) (va := va) (E := E) (C := C) (G := G) (m := m) hA hE hG hq hs hr1 (p := p) (by omega)
    obtain ⟨r, G', m', hq', ix, iy, iz⟩ := ih (p + 1) (sm + r1) (by omega) (by omega) hq1
    refine ⟨r, G', m', hq', fun post n hn h => ?_, fun post n hn h => ?_, fun post x5 n hn h => ?_⟩
    · obtain ⟨n', rfl⟩ := cs_n1 hn
      exact br_f hlt (fx _ (nm_e (nm_r (nI_1 (p + 1)) (ix post n' (by omega) h))))
    · obtain ⟨n', rfl⟩ := cs_n1 hn
      exact br_f hlt (fy _ (nm_e (nm_r (nI_1 (p + 1)) (iy post n' (by omega) h))))
    · obtain ⟨n', rfl⟩ := cs_n1 hn
      exact br_f hlt (fy _ (nm_r (nI_1 (p + 1)) (iz post x5 n' (by omega) h)))
theorem cs_reps (hA : cs_A srv cap slt cl cfg jn c ro l k) (hE : cs_Ev l va E) {s : Nat} (hs : s < srv) :
    ∀ d p, l s - p = d → p ≤ 48 → ∀ {G m : Nat → Nat → Int32}, cs_Q (cs_ok srv cap cfg cl c ro l mu Mc Mn) G m → ∃ G' m', cs_Q (cs_ok srv cap cfg cl c ro l mu Mc Mn) G' m' ∧
      (∀ (post : SX → Prop) n, d < n → (∀ n' P, l s < P → P ≤ 49 → wX_settleNewTail_49 post (nI s) (nI (l s)) (n' + 1) (nI P) (nI srv) (nI cap) (nI slt) (nI cl) (nI cfg) jn (fun ix_ => nI (c ix_)) (fun ix_ => nI (ro ix_)) (fun ix_ => nI (l ix_)) (fun ix_ => nI (k ix_)) va (E 0) (E 1) (E 2) (E 3) (E 4) (E 5) (C 0) (C 1) (C 2) (C 3) (C 4) (C 5) (G' 0) (G' 1) (G' 2) (G' 3) (G' 4) (G' 5) (G' 6) (G' 7) (G' 8) (G' 9) (G' 10)) → wX_settleNewTail_49 post (nI s) (nI (l s)) n (nI (p + 1)) (nI srv) (nI cap) (nI slt) (nI cl) (nI cfg) jn (fun ix_ => nI (c ix_)) (fun ix_ => nI (ro ix_)) (fun ix_ => nI (l ix_)) (fun ix_ => nI (k ix_)) va (E 0) (E 1) (E 2) (E 3) (E 4) (E 5) (C 0) (C 1) (C 2) (C 3) (C 4) (C 5) (G 0) (G 1) (G 2) (G 3) (G 4) (G 5) (G 6) (G 7) (G 8) (G 9) (G 10)) ∧
      (∀ (post : Int32 → SY → Prop) n, d < n → (∀ n' P, l s < P → P ≤ 49 → wY_remove_183 post (nI s) (nI (l s)) (n' + 1) (nI P) (nI srv) (nI cap) (nI slt) (nI cfg) (nI cl) (fun ix_ => nI (c ix_)) (fun ix_ => nI (ro ix_)) (fun ix_ => nI (l ix_)) (fun ix_ => nI (k ix_)) (cs_fl 5 E) (cs_fl 6 C) (cs_fl 11 m')) → wY_remove_183 post (nI s) (nI (l s)) n (nI (p + 1)) (nI srv) (nI cap) (nI slt) (nI cfg) (nI cl) (fun ix_ => nI (c ix_)) (fun ix_ => nI (ro ix_)) (fun ix_ => nI (l ix_)) (fun ix_ => nI (k ix_)) (cs_fl 5 E) (cs_fl 6 C) (cs_fl 11 m)) := by
  have hls : l s ≤ 48 := by have := hA.1; have := hA.2.2.2.1 s; omega
  intro d
  induction d with
  | zero =>
    intro p hd hp G m hq
    refine ⟨G, m, hq, fun post n hn h => ?_, fun post n hn h => ?_⟩
    · obtain ⟨n', rfl⟩ := cs_n1 hn
      exact h n' (p + 1) (by omega) (by omega)
    · obtain ⟨n', rfl⟩ := cs_n1 hn
      exact h n' (p + 1) (by omega) (by omega)
  | succ d ih =>
    intro p hd hp G m hq
    have hlt : ¬ nI (l s) < nI (p + 1) := nI_nlt (by omega) (by omega)
    obtain ⟨G1, m1, hq1, fx, fy⟩ := cs_rep (srv := srv) (cap := cap) (slt := slt) (cl := cl) (cfg := cfg) (jn := jn) (c := c) (ro := ro) (l := l) (k := k) (va := va) (E := E) (C := C) (G := G) (m := m) hA hE hq hs (p := p) (by omega)
    obtain ⟨G', m', hq', ix, iy⟩ := ih (p + 1) (by omega) (by omega) hq1
    refine ⟨G', m', hq', fun post n hn h => ?_, fun post n hn h => ?_⟩
    · obtain ⟨n', rfl⟩ := cs_n1 hn
      exact br_f hlt (fx _ (nm_r (nI_1 (p + 1)) (ix post n' (by omega) h)))
    · obtain ⟨n', rfl⟩ := cs_n1 hn
      exact br_f hlt (fy _ (nm_r (nI_1 (p + 1)) (iy post n' (by omega) h)))
theorem cs_resend (hI : cs_I srv cap slt cl cfg jn c ro l k va E C G m mu Mc Mn) (x : Int32) : cs_O (fun post => wpX_resend post (nI srv, nI cap, nI slt, nI cl, nI cfg, jn, (fun ix_ => nI (c ix_)), (fun ix_ => nI (ro ix_)), (fun ix_ => nI (l ix_)), (fun ix_ => nI (k ix_)), va, (E 0), (E 1), (E 2), (E 3), (E 4), (E 5), (C 0), (C 1), (C 2), (C 3), (C 4), (C 5), (G 0), (G 1), (G 2), (G 3), (G 4), (G 5), (G 6), (G 7), (G 8), (G 9), (G 10)) x) (fun post => wpY_resend post (nI srv, nI cap, nI slt, nI cfg, nI cl, (fun ix_ => nI (c ix_)), (fun ix_ => nI (ro ix_)), (fun ix_ => nI (l ix_)), (fun ix_ => nI (k ix_)), (cs_fl 5 E), (cs_fl 6 C), (cs_fl 11 m)) x) := by
  have hI' := hI
  obtain ⟨hA, hE, hC, hG, hq⟩ := hI'
  have hA' := hA
  obtain ⟨⟨b1, b2, b3, b4, b5, b6, b7, b8, b9⟩, hc, hrx, hL, hK, _⟩ := hA'
  have hc5 : ∀ i, c i < 5 := fun i => by have := hc i; omega
  rcases cs_ixn (n := srv) (by omega) x with hb | ⟨s, hs, rfl⟩
  · refine cs_o (r := -1) hI (fun post h => ?_) (fun post h => ?_)
    · unfold wpX_resend
      exact cs_xsv0 hb (br_t rfl h)
    · unfold wpY_resend
      exact cs_you1 hb (br_f (by decide) h)
  · have v : vp_in (nI s) 5 := vp_in_nI (by omega) (by omega)
    have ec : (nI s).toNatClampNeg = s := nI_clamp (by omega)
    have hls := hL s
    have hks := hK s
    by_cases hr1 : ro s = 1
    · have hr1' : nI (ro s) = 1 := by rw [hr1]; rfl
      by_cases htl : c (cl - 1) = s
      · obtain ⟨r, G', m', hq', ax, ay⟩ := cs_ack (srv := srv) (cap := cap) (slt := slt) (cl := cl) (cfg := cfg) (jn := jn) (c := c) (ro := ro) (l := l) (k := k) (va := va) (E := E) (C := C) (G := G) (m := m) hA hq hs hls
        refine ⟨r, _, _, cs_in ⟨hA, hE, hC, hG, hq'⟩, fun post h => ?_, fun post h => ?_⟩
        · unfold wpX_resend
          refine cs_xsv1 b2 hs (br_f (by decide) ?_)
          try dsimp only
          rw [ec]
          exact ⟨v, br_t hr1' (cs_xtail b7 (by omega) hc5 (by omega) (fun _ => br_f (by decide) ⟨v, ax _ h⟩) (fun z => absurd htl z))⟩
        · unfold wpY_resend
          refine cs_you0 b2 hs (br_t rfl ?_)
          try dsimp only
          rw [ec]
          exact ⟨v, br_t hr1' ⟨v, nm_e (cs_ytail b7 (by omega) (br_t (by rw [htl]) (ay _ h)))⟩⟩
      · have hne : ¬ nI s = nI (c (cl - 1)) := fun z => htl (by have := hc5 (cl - 1); exact (cs_im z (by omega) (by omega)).symm)
        obtain ⟨r, G', m', hq', ix, iy, _⟩ := cs_fwds (jn := jn) (k := k) (C := C) (slt := slt) hA hE hG hs hr1 (l s - k s) (k s) 0 rfl (by omega) hq
        refine ⟨r, _, _, cs_in ⟨hA, hE, hC, hG, hq'⟩, fun post h => ?_, fun post h => ?_⟩
        · unfold wpX_resend
          refine cs_xsv1 b2 hs (br_f (by decide) ?_)
          try dsimp only
          rw [ec]
          refine ⟨v, br_t hr1' (cs_xtail b7 (by omega) hc5 (by omega) (fun z => absurd z htl) (fun _ => br_t rfl ⟨v, ?_⟩))⟩
          unfold wpX_sendForwards
          try dsimp only
          rw [ec, nI_1]
          exact ⟨v, nm_e ⟨49, ix _ 49 (by omega) h⟩⟩
        · unfold wpY_resend
          refine cs_you0 b2 hs (br_t rfl ?_)
          try dsimp only
          rw [ec]
          refine ⟨v, br_t hr1' ⟨v, nm_e (cs_ytail b7 (by omega) (br_f hne ⟨v, nm_r (nI_1 (k s)) ⟨49, iy _ 49 (by omega) h⟩⟩))⟩⟩
    · have hr1' : ¬ nI (ro s) = 1 := fun z => hr1 (by have := hrx s; exact cs_im (b := 1) z (by omega) (by omega))
      refine cs_o (r := -2) hI (fun post h => ?_) (fun post h => ?_)
      · unfold wpX_resend
        refine cs_xsv1 b2 hs (br_f (by decide) ?_)
        try dsimp only
        rw [ec]
        exact ⟨v, br_f hr1' h⟩
      · unfold wpY_resend
        refine cs_you0 b2 hs (br_t rfl ?_)
        try dsimp only
        rw [ec]
        exact ⟨v, br_f hr1' h⟩
end cs_clo
end
section
section cs_srv
variable {srv cap slt cl cfg : Nat} {jn : Int32} {c ro l k : Nat → Nat} {va : Nat → Int32} {E C G m : Nat → Nat → Int32} {mu : Nat} {Mc Mn : Nat → Int32}
def cs_clr (va : Nat → Int32) (s : Nat) : Nat → Int32 := fun i => if s * 4 ≤ i ∧ i < s * 4 + 4 then 0 else va i
theorem cs_clr4 {s : Nat} : upd (upd (upd (upd va (s * 4) 0) (s * 4 + 1) 0) (s * 4 + 2) 0) (s * 4 + 3) 0 = cs_clr va s := by
  funext i
  unfold upd cs_clr
  by_cases h3 : i = s * 4 + 3
  · rw [if_pos h3, if_pos (by omega)]
  · rw [if_neg h3]
    by_cases h2 : i = s * 4 + 2
    · rw [if_pos h2, if_pos (by omega)]
    · rw [if_neg h2]
      by_cases h1 : i = s * 4 + 1
      · rw [if_pos h1, if_pos (by omega)]
      · rw [if_neg h1]
        by_cases h0 : i = s * 4
        · rw [if_pos h0, if_pos (by omega)]
        · rw [if_neg h0, if_neg (by omega)]
theorem cs_xclr {post : SX → Prop} {s : Nat} (hs : s < 5) (h : post (nI srv, nI cap, nI slt, nI cl, nI cfg, jn, (fun ix_ => nI (c ix_)), (fun ix_ => nI (ro ix_)), (fun ix_ => nI ((cs_u l s 0) ix_)), (fun ix_ => nI ((cs_u k s 0) ix_)), (cs_clr va s), (E 0), (E 1), (E 2), (E 3), (E 4), (E 5), (C 0), (C 1), (C 2), (C 3), (C 4), (C 5), (G 0), (G 1), (G 2), (G 3), (G 4), (G 5), (G 6), (G 7), (G 8), (G 9), (G 10))) : wpX_clearServer post (nI srv, nI cap, nI slt, nI cl, nI cfg, jn, (fun ix_ => nI (c ix_)), (fun ix_ => nI (ro ix_)), (fun ix_ => nI (l ix_)), (fun ix_ => nI (k ix_)), va, (E 0), (E 1), (E 2), (E 3), (E 4), (E 5), (C 0), (C 1), (C 2), (C 3), (C 4), (C 5), (G 0), (G 1), (G 2), (G 3), (G 4), (G 5), (G 6), (G 7), (G 8), (G 9), (G 10)) (nI s) := by
  have v : vp_in (nI s) 5 := vp_in_nI hs (by omega)
  have a0 : nI s * 4 + nI 0 = nI (s * 4) := by rw [cs_vs]; rfl
  have a1 := cs_vs s 1
  have a2 := cs_vs s 2
  have a3 := cs_vs s 3
  have w : ∀ y, y < 4 → vp_in (nI (s * 4 + y)) 20 := fun y hy => vp_in_nI (by omega) (by omega)
  have h' := h
  rw [← cs_clr4] at h'
  unfold wpX_clearServer
  try dsimp only
  rw [nI_clamp (n := s) (by omega)]
  refine ⟨v, nm_r (e' := fun i => nI (cs_u l s 0 i)) (cs_uu (v := 0)) ⟨v, nm_r (e' := fun i => nI (cs_u k s 0 i)) (cs_uu (v := 0)) ⟨5, ?_⟩⟩⟩
  show wX_clearServer_16 post (nI s) (nI srv) (nI cap) (nI slt) (nI cl) (nI cfg) jn (4 + 1) (nI 0) (fun ix_ => nI (c ix_)) (fun ix_ => nI (ro ix_)) (fun ix_ => nI ((cs_u l s 0) ix_)) (fun ix_ => nI ((cs_u k s 0) ix_)) va (E 0) (E 1) (E 2) (E 3) (E 4) (E 5) (C 0) (C 1) (C 2) (C 3) (C 4) (C 5) (G 0) (G 1) (G 2) (G 3) (G 4) (G 5) (G 6) (G 7) (G 8) (G 9) (G 10)
  refine br_f (nI_ge (a := 0) (b := 4) (by omega) (by omega)) ?_
  rw [a0, nI_clamp (n := s * 4) (by omega)]
  refine ⟨w 0 (by omega), nm_e (nm_r (nI_1 0) ?_)⟩
  show wX_clearServer_16 post (nI s) (nI srv) (nI cap) (nI slt) (nI cl) (nI cfg) jn (3 + 1) (nI 1) (fun ix_ => nI (c ix_)) (fun ix_ => nI (ro ix_)) (fun ix_ => nI ((cs_u l s 0) ix_)) (fun ix_ => nI ((cs_u k s 0) ix_)) (upd va (s * 4) 0) (E 0) (E 1) (E 2) (E 3) (E 4) (E 5) (C 0) (C 1) (C 2) (C 3) (C 4) (C 5) (G 0) (G 1) (G 2) (G 3) (G 4) (G 5) (G 6) (G 7) (G 8) (G 9) (G 10)
  refine br_f (nI_ge (a := 1) (b := 4) (by omega) (by omega)) ?_
  rw [a1, nI_clamp (n := s * 4 + 1) (by omega)]
  refine ⟨w 1 (by omega), nm_e (nm_r (nI_1 1) ?_)⟩
  show wX_clearServer_16 post (nI s) (nI srv) (nI cap) (nI slt) (nI cl) (nI cfg) jn (2 + 1) (nI 2) (fun ix_ => nI (c ix_)) (fun ix_ => nI (ro ix_)) (fun ix_ => nI ((cs_u l s 0) ix_)) (fun ix_ => nI ((cs_u k s 0) ix_)) (upd (upd va (s * 4) 0) (s * 4 + 1) 0) (E 0) (E 1) (E 2) (E 3) (E 4) (E 5) (C 0) (C 1) (C 2) (C 3) (C 4) (C 5) (G 0) (G 1) (G 2) (G 3) (G 4) (G 5) (G 6) (G 7) (G 8) (G 9) (G 10)
  refine br_f (nI_ge (a := 2) (b := 4) (by omega) (by omega)) ?_
  rw [a2, nI_clamp (n := s * 4 + 2) (by omega)]
  refine ⟨w 2 (by omega), nm_e (nm_r (nI_1 2) ?_)⟩
  show wX_clearServer_16 post (nI s) (nI srv) (nI cap) (nI slt) (nI cl) (nI cfg) jn (1 + 1) (nI 3) (fun ix_ => nI (c ix_)) (fun ix_ => nI (ro ix_)) (fun ix_ => nI ((cs_u l s 0) ix_)) (fun ix_ => nI ((cs_u k s 0) ix_)) (upd (upd (upd va (s * 4) 0) (s * 4 + 1) 0) (s * 4 + 2) 0) (E 0) (E 1) (E 2) (E 3) (E 4) (E 5) (C 0) (C 1) (C 2) (C 3) (C 4) (C 5) (G 0) (G 1) (G 2) (G 3) (G 4) (G 5) (G 6) (G 7) (G 8) (G 9) (G 10)
  refine br_f (nI_ge (a := 3) (b := 4) (by omega) (by omega)) ?_
  rw [a3, nI_clamp (n := s * 4 + 3) (by omega)]
  refine ⟨w 3 (by omega), nm_e (nm_r (nI_1 3) ?_)⟩
  show wX_clearServer_16 post (nI s) (nI srv) (nI cap) (nI slt) (nI cl) (nI cfg) jn (0 + 1) (nI 4) (fun ix_ => nI (c ix_)) (fun ix_ => nI (ro ix_)) (fun ix_ => nI ((cs_u l s 0) ix_)) (fun ix_ => nI ((cs_u k s 0) ix_)) (upd (upd (upd (upd va (s * 4) 0) (s * 4 + 1) 0) (s * 4 + 2) 0) (s * 4 + 3) 0) (E 0) (E 1) (E 2) (E 3) (E 4) (E 5) (C 0) (C 1) (C 2) (C 3) (C 4) (C 5) (G 0) (G 1) (G 2) (G 3) (G 4) (G 5) (G 6) (G 7) (G 8) (G 9) (G 10)
  exact br_t (nI_le (a := 4) (b := 4) (by omega) (by omega)) h'
theorem cs_Evc (hE : cs_Ev l va E) (s : Nat) : cs_Ev (cs_u l s 0) (cs_clr va s) E := by
  obtain ⟨h1, h2, h3, h4⟩ := hE
  refine ⟨h1, h2, fun s' y hs' hy => ?_, fun s' p hs' hp => ?_⟩
  · by_cases e : s' = s
    · subst e
      rw [cs_us]
      unfold cs_clr
      rw [if_pos (by omega)]
      rfl
    · rw [cs_un e]
      unfold cs_clr
      rw [if_neg (by omega)]
      exact h3 s' y hs' hy
  · by_cases e : s' = s
    · subst e
      rw [cs_us] at hp
      omega
    · rw [cs_un e] at hp
      exact h4 s' p hs' hp
theorem cs_Acl (hA : cs_A srv cap slt cl cfg jn c ro l k) {jn' : Int32} {s v : Nat} (hv3 : v ≤ 3) (hv1 : v ≠ 1) (hci : ∀ i, i < cl → c i = s → v = 2) (hic : v = 2 → ∃ i, i < cl ∧ c i = s) (hJ : cs_J srv jn' (cs_u ro s v)) : cs_A srv cap slt cl cfg jn' c (cs_u ro s v) (cs_u l s 0) (cs_u k s 0) := by
  obtain ⟨hb, hc, hro, hl, hk, h2, hd, hch, hin, hj⟩ := hA
  refine ⟨hb, hc, fun x => ?_, fun x => ?_, fun x => ?_, fun x hx => ?_, hd, fun i hi => ?_, fun x hx hr => ?_, hJ⟩
  · by_cases e : x = s
    · rw [e, cs_us]; exact hv3
    · rw [cs_un e]; exact hro x
  · by_cases e : x = s
    · rw [e, cs_us]; omega
    · rw [cs_un e]; exact hl x
  · by_cases e : x = s
    · rw [e, cs_us]; omega
    · rw [cs_un e]; exact hk x
  · by_cases e : x = s
    · rw [e, cs_us, cs_us]; exact ⟨rfl, rfl⟩
    · rw [cs_un e] at hx
      rw [cs_un e, cs_un e]; exact h2 x hx
  · by_cases e : c i = s
    · rw [e, cs_us]; exact Or.inr (hci i hi e)
    · rw [cs_un e]; exact hch i hi
  · by_cases e : x = s
    · rw [e, cs_us] at hr
      rw [e]
      exact hic (hr.resolve_left hv1)
    · rw [cs_un e] at hr
      exact hin x hx hr
theorem cs_Gcl (hG : cs_Gh srv cl c ro l E mu Mc Mn) {s v : Nat} (hv1 : v ≠ 1) : cs_Gh srv cl c (cs_u ro s v) (cs_u l s 0) E mu Mc Mn := by
  obtain ⟨g1, g2, g3, g4, g5⟩ := hG
  have hne : ∀ x, cs_u ro s v x = 1 → x ≠ s := fun x h e => hv1 (by rw [e, cs_us] at h; exact h)
  refine ⟨g1, fun x hx hr => ?_, fun i j hij hj hi1 hj1 => ?_, fun j i hj hj3 hi hi1 => ?_, fun h0 => ?_⟩
  · by_cases e : x = s
    · rw [e, cs_us]
      exact ⟨Nat.zero_le _, fun p hp => absurd hp (by omega)⟩
    · rw [cs_un e] at hr ⊢
      exact g2 x hx hr
  · have ei := hne _ hi1
    have ej := hne _ hj1
    rw [cs_un ei] at hi1 ⊢
    rw [cs_un ej] at hj1 ⊢
    exact g3 i j hij hj hi1 hj1
  · have ei := hne _ hi1
    rw [cs_un ei] at hi1
    rw [cs_un ei]
    by_cases e : j = s
    · rw [e, cs_us]; exact Nat.zero_le _
    · rw [cs_un e] at hj3
      rw [cs_un e]
      exact g4 j i hj hj3 hi hi1
  · have ei := hne _ h0
    rw [cs_un ei] at h0 ⊢
    exact g5 h0
theorem cs_okcl {s v : Nat} (hv1 : v ≠ 1) (g : Nat → Int32) (hg : cs_ok srv cap cfg cl c ro l mu Mc Mn g) : cs_ok srv cap cfg cl c (cs_u ro s v) (cs_u l s 0) mu Mc Mn g := by
  refine cs_okm (fun t n x y hn h => ?_) g hg
  obtain ⟨h1, h2, h3, j, h4, h5, h6, h7⟩ := h
  refine ⟨h1, h2, h3, j, h4, h5, h6, fun i hi hi1 => ?_⟩
  have e : c i ≠ s := fun e => hv1 (by rw [e, cs_us] at hi1; exact hi1)
  rw [cs_un e] at hi1 ⊢
  exact h7 i hi hi1
theorem cs_Icl (hI : cs_I srv cap slt cl cfg jn c ro l k va E C G m mu Mc Mn) {jn' : Int32} {s v : Nat} (hv3 : v ≤ 3) (hv1 : v ≠ 1) (hci : ∀ i, i < cl → c i = s → v = 2) (hic : v = 2 → ∃ i, i < cl ∧ c i = s) (hJ : cs_J srv jn' (cs_u ro s v)) :
    cs_I srv cap slt cl cfg jn' c (cs_u ro s v) (cs_u l s 0) (cs_u k s 0) (cs_clr va s) E C G m mu Mc Mn := by
  obtain ⟨hA, hE, hC, hG, hq⟩ := hI
  exact ⟨cs_Acl hA hv3 hv1 hci hic hJ, cs_Evc hE s, hC, cs_Gcl hG hv1, cs_Qi hq (cs_okcl hv1)⟩
theorem cs_y41 {post : Int32 → SY → Prop} {s v : Nat} (hs : s < 5) (h : post 1 (nI srv, nI cap, nI slt, nI cfg, nI cl, (fun ix_ => nI (c ix_)), (fun ix_ => nI ((cs_u ro s v) ix_)), (fun ix_ => nI ((cs_u l s 0) ix_)), (fun ix_ => nI ((cs_u k s 0) ix_)), (cs_fl 5 E), (cs_fl 6 C), (cs_fl 11 m))) : wY_crash_41 post (nI s) (nI v) (nI s) (nI srv) (nI cap) (nI slt) (nI cfg) (nI cl) (fun ix_ => nI (c ix_)) (fun ix_ => nI (ro ix_)) (fun ix_ => nI (l ix_)) (fun ix_ => nI (k ix_)) (cs_fl 5 E) (cs_fl 6 C) (cs_fl 11 m) := by
  have w : vp_in (nI s) 5 := vp_in_nI hs (by omega)
  unfold wY_crash_41
  rw [nI_clamp (n := s) (by omega)]
  exact ⟨w, nm_r cs_uu ⟨w, nm_r (e' := fun i => nI (cs_u l s 0 i)) (cs_uu (v := 0)) ⟨w, nm_r (e' := fun i => nI (cs_u k s 0 i)) (cs_uu (v := 0)) h⟩⟩⟩
theorem cs_crash (hI : cs_I srv cap slt cl cfg jn c ro l k va E C G m mu Mc Mn) (x : Int32) : cs_O (fun post => wpX_crash post (nI srv, nI cap, nI slt, nI cl, nI cfg, jn, (fun ix_ => nI (c ix_)), (fun ix_ => nI (ro ix_)), (fun ix_ => nI (l ix_)), (fun ix_ => nI (k ix_)), va, (E 0), (E 1), (E 2), (E 3), (E 4), (E 5), (C 0), (C 1), (C 2), (C 3), (C 4), (C 5), (G 0), (G 1), (G 2), (G 3), (G 4), (G 5), (G 6), (G 7), (G 8), (G 9), (G 10)) x) (fun post => wpY_crash post (nI srv, nI cap, nI slt, nI cfg, nI cl, (fun ix_ => nI (c ix_)), (fun ix_ => nI (ro ix_)), (fun ix_ => nI (l ix_)), (fun ix_ => nI (k ix_)), (cs_fl 5 E), (cs_fl 6 C), (cs_fl 11 m)) x) := by
  have hI' := hI
  obtain ⟨hA, hE, hC, hG, hq⟩ := hI'
  obtain ⟨⟨b1, b2, b3, b4, b5, b6, b7, b8, b9⟩, hc, hrx, hL, hK, h2, hd, hch, hin, hj⟩ := hA
  rcases cs_ixn (n := srv) (by omega) x with hb | ⟨s, hs, rfl⟩
  · refine cs_o (r := -1) hI (fun post h => ?_) (fun post h => ?_)
    · unfold wpX_crash
      exact cs_xsv0 hb (br_t rfl h)
    · unfold wpY_crash
      exact cs_you1 hb (br_f (by decide) h)
  · have v : vp_in (nI s) 5 := vp_in_nI (by omega) (by omega)
    have ec : (nI s).toNatClampNeg = s := nI_clamp (by omega)
    have hr3 := hrx s
    by_cases hv : ro s = 1 ∨ ro s = 3
    · rcases hv with hr | hr
      · -- a member
        have hJ : cs_J srv jn (cs_u ro s 2) := by
          rcases hj with ⟨e, hn⟩ | ⟨j, hjs, e, hj3, hu⟩
          · refine Or.inl ⟨e, fun y hy => ?_⟩
            by_cases ey : y = s
            · rw [ey, cs_us]; decide
            · rw [cs_un ey]; exact hn y hy
          · have ej : j ≠ s := fun z => by rw [z, hr] at hj3; omega
            refine Or.inr ⟨j, hjs, e, by rw [cs_un ej]; exact hj3, fun y hy hy3 => ?_⟩
            by_cases ey : y = s
            · rw [ey, cs_us] at hy3; omega
            · rw [cs_un ey] at hy3; exact hu y hy hy3
        refine ⟨1, _, _, cs_in (cs_Icl hI (v := 2) (s := s) (by omega) (by omega) (fun _ _ _ => rfl) (fun _ => hin s hs (Or.inl hr)) hJ), fun post h => ?_, fun post h => ?_⟩
        · unfold wpX_crash
          refine cs_xsv1 b2 hs (br_f (by decide) ?_)
          try dsimp only
          rw [ec, hr]
          exact ⟨v, br_f (by decide) ⟨v, br_f (by decide) ⟨v, br_f (by decide) ⟨v, nm_r (e' := fun i => nI (cs_u ro s 2 i)) (cs_uu (v := 2)) (cs_xclr (by omega) h)⟩⟩⟩⟩
        · unfold wpY_crash
          refine cs_you0 b2 hs (br_t rfl (cs_yhol b2 hs hr3 (fun _ => br_f (by decide) ?_) (fun z => absurd (Or.inl hr) z)))
          try dsimp only
          rw [ec, hr]
          exact ⟨v, br_t rfl (cs_y41 (by omega) h)⟩
      · -- the joining server
        have hJ : cs_J srv (-1) (cs_u ro s 0) := by
          refine Or.inl ⟨rfl, fun y hy => ?_⟩
          by_cases ey : y = s
          · rw [ey, cs_us]; decide
          · rw [cs_un ey]
            rcases hj with ⟨e, hn⟩ | ⟨j, hjs, e, hj3, hu⟩
            · exact hn y hy
            · exact fun z => ey (by rw [hu y hy z, hu s hs hr])
        have hci : ∀ i, i < cl → c i = s → (0 : Nat) = 2 := fun i hi e => by
          rcases hch i hi with z | z <;> (rw [e, hr] at z; omega)
        refine ⟨1, _, _, cs_in (cs_Icl hI (v := 0) (s := s) (by omega) (by omega) hci (fun z => absurd z (by decide)) hJ), fun post h => ?_, fun post h => ?_⟩
        · unfold wpX_crash
          refine cs_xsv1 b2 hs (br_f (by decide) ?_)
          try dsimp only
          rw [ec, hr]
          exact ⟨v, br_f (by decide) ⟨v, br_f (by decide) ⟨v, br_t rfl ⟨v, nm_r (e' := fun i => nI (cs_u ro s 0 i)) (cs_uu (v := 0)) (cs_xclr (by omega) h)⟩⟩⟩⟩
        · unfold wpY_crash
          refine cs_you0 b2 hs (br_t rfl (cs_yhol b2 hs hr3 (fun _ => br_f (by decide) ?_) (fun z => absurd (Or.inr hr) z)))
          try dsimp only
          rw [ec, hr]
          exact ⟨v, br_f (by decide) (cs_y41 (by omega) h)⟩
    · refine cs_o (r := -2) hI (fun post h => ?_) (fun post h => ?_)
      · unfold wpX_crash
        refine cs_xsv1 b2 hs (br_f (by decide) ?_)
        try dsimp only
        rw [ec]
        exact ⟨v, pk_eq (ro s) 0 (fun _ => h) (fun z0 => ⟨v, pk_eq (ro s) 2 (fun _ => h) (fun z2 => absurd (by omega) hv)⟩)⟩
      · unfold wpY_crash
        exact cs_you0 b2 hs (br_t rfl (cs_yhol b2 hs hr3 (fun z => absurd z hv) (fun _ => br_t rfl h)))
theorem cs_yj0 {post : Int32 → Prop} (h5 : srv ≤ 5) (hr : ∀ s, ro s ≤ 3) (hn : ∀ s, s < srv → ro s ≠ 3) (h : post (-1)) : ∀ d j, j + d = srv → ∀ n, d < n → wY_joiningServer_2 post (nI srv) (nI cap) (nI slt) (nI cfg) (nI cl) (fun ix_ => nI (c ix_)) (fun ix_ => nI (ro ix_)) (fun ix_ => nI (l ix_)) (fun ix_ => nI (k ix_)) (cs_fl 5 E) (cs_fl 6 C) (cs_fl 11 m) n (nI j) := by
  intro d
  induction d with
  | zero =>
    intro j hj n hn
    obtain ⟨n', rfl⟩ := cs_n1 hn
    exact br_t (nI_le (by omega) (by omega)) h
  | succ d ih =>
    intro j hj n hn'
    obtain ⟨n', rfl⟩ := cs_n1 hn'
    have hrj := hr j
    have z : ¬ nI (ro (nI j).toNatClampNeg) = 3 := by
      rw [nI_clamp (n := j) (by omega)]
      exact fun z => hn j (by omega) (cs_im (b := 3) z (by omega) (by omega))
    exact br_f (nI_ge (by omega) (by omega)) ⟨vp_in_nI (by omega) (by omega), br_f z (nm_r (nI_1 j) (ih (j + 1) (by omega) n' (by omega)))⟩
theorem cs_yj1 {post : Int32 → Prop} {s : Nat} (h5 : srv ≤ 5) (hr : ∀ s, ro s ≤ 3) (hs : s < srv) (hs3 : ro s = 3) (hu : ∀ y, y < srv → ro y = 3 → y = s) (h : post (nI s)) : ∀ d j, j + d = s → ∀ n, d < n → wY_joiningServer_2 post (nI srv) (nI cap) (nI slt) (nI cfg) (nI cl) (fun ix_ => nI (c ix_)) (fun ix_ => nI (ro ix_)) (fun ix_ => nI (l ix_)) (fun ix_ => nI (k ix_)) (cs_fl 5 E) (cs_fl 6 C) (cs_fl 11 m) n (nI j) := by
  intro d
  induction d with
  | zero =>
    intro j hj n hn
    obtain ⟨n', rfl⟩ := cs_n1 hn
    obtain rfl : j = s := by omega
    exact br_f (nI_ge hs (by omega)) ⟨vp_in_nI (by omega) (by omega), br_t (by show nI (ro (nI j).toNatClampNeg) = 3; rw [nI_clamp (n := j) (by omega), hs3]; rfl) h⟩
  | succ d ih =>
    intro j hj n hn'
    obtain ⟨n', rfl⟩ := cs_n1 hn'
    have hrj := hr j
    have z : ¬ nI (ro (nI j).toNatClampNeg) = 3 := by
      rw [nI_clamp (n := j) (by omega)]
      intro z
      have := hu j (by omega) (cs_im (b := 3) z (by omega) (by omega))
      omega
    exact br_f (nI_ge (by omega) (by omega)) ⟨vp_in_nI (by omega) (by omega), br_f z (nm_r (nI_1 j) (ih (j + 1) (by omega) n' (by omega)))⟩
/-- Y's search for the joining server gives X's field -/
theorem cs_yjs {post : Int32 → Prop} (h5 : srv ≤ 5) (hr : ∀ s, ro s ≤ 3) (hj : cs_J srv jn ro) (h : post jn) : wpY_joiningServer post (nI srv, nI cap, nI slt, nI cfg, nI cl, (fun ix_ => nI (c ix_)), (fun ix_ => nI (ro ix_)), (fun ix_ => nI (l ix_)), (fun ix_ => nI (k ix_)), (cs_fl 5 E), (cs_fl 6 C), (cs_fl 11 m)) := by
  rcases hj with ⟨e, hn⟩ | ⟨j, hjs, e, hj3, hu⟩
  · exact ⟨6, cs_yj0 h5 hr hn (by rw [← e]; exact h) srv 0 (by omega) 6 (by omega)⟩
  · exact ⟨6, cs_yj1 h5 hr hjs hj3 hu (by rw [← e]; exact h) j 0 (by omega) 6 (by omega)⟩
theorem cs_join (hI : cs_I srv cap slt cl cfg jn c ro l k va E C G m mu Mc Mn) (x : Int32) : cs_O (fun post => wpX_join post (nI srv, nI cap, nI slt, nI cl, nI cfg, jn, (fun ix_ => nI (c ix_)), (fun ix_ => nI (ro ix_)), (fun ix_ => nI (l ix_)), (fun ix_ => nI (k ix_)), va, (E 0), (E 1), (E 2), (E 3), (E 4), (E 5), (C 0), (C 1), (C 2), (C 3), (C 4), (C 5), (G 0), (G 1), (G 2), (G 3), (G 4), (G 5), (G 6), (G 7), (G 8), (G 9), (G 10)) x) (fun post => wpY_join post (nI srv, nI cap, nI slt, nI cfg, nI cl, (fun ix_ => nI (c ix_)), (fun ix_ => nI (ro ix_)), (fun ix_ => nI (l ix_)), (fun ix_ => nI (k ix_)), (cs_fl 5 E), (cs_fl 6 C), (cs_fl 11 m)) x) := by
  have hI' := hI
  obtain ⟨hA, hE, hC, hG, hq⟩ := hI'
  obtain ⟨⟨b1, b2, b3, b4, b5, b6, b7, b8, b9⟩, hc, hrx, hL, hK, h2, hd, hch, hin, hj⟩ := hA
  rcases cs_ixn (n := srv) (by omega) x with hb | ⟨s, hs, rfl⟩
  · refine cs_o (r := -1) hI (fun post h => ?_) (fun post h => ?_)
    · unfold wpX_join
      exact cs_xsv0 hb (br_t rfl h)
    · unfold wpY_join
      exact cs_you1 hb (br_f (by decide) h)
  · have v : vp_in (nI s) 5 := vp_in_nI (by omega) (by omega)
    have ec : (nI s).toNatClampNeg = s := nI_clamp (by omega)
    have hr3 := hrx s
    by_cases hr : ro s = 0
    · by_cases hjn : jn < 0
      · have hnone : ∀ y, y < srv → ro y ≠ 3 := by
          rcases hj with ⟨e, hn⟩ | ⟨j, hjs, e, hj3, hu⟩
          · exact hn
          · rw [e] at hjn; exact absurd hjn (nI_pos (by omega))
        have hJ : cs_J srv (nI s) (cs_u ro s 3) := by
          refine Or.inr ⟨s, hs, rfl, cs_us, fun y hy hy3 => ?_⟩
          by_cases ey : y = s
          · exact ey
          · rw [cs_un ey] at hy3; exact absurd hy3 (hnone y hy)
        have hci : ∀ i, i < cl → c i = s → (3 : Nat) = 2 := fun i hi e => by
          rcases hch i hi with z | z <;> (rw [e, hr] at z; omega)
        refine ⟨1, _, _, cs_in (cs_Icl hI (v := 3) (s := s) (by omega) (by omega) hci (fun z => absurd z (by decide)) hJ), fun post h => ?_, fun post h => ?_⟩
        · unfold wpX_join
          refine cs_xsv1 b2 hs (br_f (by decide) ?_)
          try dsimp only
          rw [ec, hr]
          exact ⟨v, br_t rfl (br_t hjn ⟨v, nm_r (e' := fun i => nI (cs_u ro s 3 i)) (cs_uu (v := 3)) (cs_xclr (by omega) h)⟩)⟩
        · unfold wpY_join
          refine cs_you0 b2 hs (br_t rfl ?_)
          try dsimp only
          rw [ec, hr]
          exact ⟨v, br_t rfl (cs_yjs b2 hrx hj (br_t hjn ⟨v, nm_r (e' := fun i => nI (cs_u ro s 3 i)) (cs_uu (v := 3)) ⟨v, nm_r (e' := fun i => nI (cs_u l s 0 i)) (cs_uu (v := 0)) ⟨v, nm_r (e' := fun i => nI (cs_u k s 0 i)) (cs_uu (v := 0)) h⟩⟩⟩))⟩
      · refine cs_o (r := -2) hI (fun post h => ?_) (fun post h => ?_)
        · unfold wpX_join
          refine cs_xsv1 b2 hs (br_f (by decide) ?_)
          try dsimp only
          rw [ec, hr]
          exact ⟨v, br_t rfl (br_f hjn h)⟩
        · unfold wpY_join
          refine cs_you0 b2 hs (br_t rfl ?_)
          try dsimp only
          rw [ec, hr]
          exact ⟨v, br_t rfl (cs_yjs b2 hrx hj (br_f hjn h))⟩
    · have hr' : ¬ nI (ro s) = 0 := nI_ne0 (by omega) (by omega)
      refine cs_o (r := -2) hI (fun post h => ?_) (fun post h => ?_)
      · unfold wpX_join
        refine cs_xsv1 b2 hs (br_f (by decide) ?_)
        try dsimp only
        rw [ec]
        exact ⟨v, br_f hr' h⟩
      · unfold wpY_join
        refine cs_you0 b2 hs (br_t rfl ?_)
        try dsimp only
        rw [ec]
        exact ⟨v, br_f hr' h⟩
end cs_srv
end
section
section cs_adm
variable {srv cap slt cl cfg : Nat} {jn : Int32} {c ro l k : Nat → Nat} {va : Nat → Int32} {E C G m : Nat → Nat → Int32} {mu : Nat} {Mc Mn : Nat → Int32}
/-- n different numbers below n are all of them -/
theorem cs_ph : ∀ (n : Nat) (f : Nat → Nat), (∀ i, i < n → f i < n) → (∀ i j, i < n → j < n → f i = f j → i = j) → ∀ y, y < n → ∃ i, i < n ∧ f i = y := by
  intro n
  induction n with
  | zero => intro f _ _ y hy; omega
  | succ n ih =>
    intro f hf hinj y hy
    by_cases e : f n = y
    · exact ⟨n, by omega, e⟩
    · by_cases hn : ∃ i, i < n ∧ f i = n
      · obtain ⟨i0, hi0, e0⟩ := hn
        by_cases ey : y = n
        · exact ⟨i0, by omega, by rw [e0, ey]⟩
        · have hfn : f n ≠ n := fun z => by
            have := hinj i0 n (by omega) (by omega) (by rw [e0, z])
            omega
          have hfn' := hf n (by omega)
          obtain ⟨i, hi, hiy⟩ := ih (fun i => if f i = n then f n else f i) (fun i hi => by
            have := hf i (by omega)
            by_cases z : f i = n
            · simp only [if_pos z]; omega
            · simp only [if_neg z]; omega) (fun i j hi hj h => by
            by_cases zi : f i = n
            · by_cases zj : f j = n
              · exact hinj i j (by omega) (by omega) (by rw [zi, zj])
              · rw [if_pos zi, if_neg zj] at h
                have := hinj n j (by omega) (by omega) h
                omega
            · by_cases zj : f j = n
              · rw [if_neg zi, if_pos zj] at h
                have := hinj i n (by omega) (by omega) h
                omega
              · rw [if_neg zi, if_neg zj] at h
                exact hinj i j (by omega) (by omega) h) y (by omega)
          by_cases z : f i = n
          · rw [if_pos z] at hiy; exact absurd hiy e
          · rw [if_neg z] at hiy; exact ⟨i, by omega, hiy⟩
      · have hlt : ∀ i, i < n → f i < n := fun i hi => by
          have h1 := hf i (by omega)
          have h2 : f i ≠ n := fun z => hn ⟨i, hi, z⟩
          omega
        by_cases hfn : f n = n
        · obtain ⟨i, hi, hiy⟩ := ih f hlt (fun i j hi hj => hinj i j (by omega) (by omega)) y (by omega)
          exact ⟨i, by omega, hiy⟩
        · have hfn' := hf n (by omega)
          obtain ⟨i, hi, hiy⟩ := ih f hlt (fun i j hi hj => hinj i j (by omega) (by omega)) (f n) (by omega)
          have := hinj i n (by omega) (by omega) hiy
          omega
theorem cs_room (hA : cs_A srv cap slt cl cfg jn c ro l k) {j : Nat} (hj : j < srv) (hj3 : ro j = 3) : cl < srv := by
  obtain ⟨⟨b1, b2, b3, b4, b5, b6, b7, b8, b9⟩, hc, hrx, hL, hK, h2, hd, hch, hin, _⟩ := hA
  apply Classical.byContradiction
  intro hn
  have e : cl = srv := by omega
  obtain ⟨i, hi, hij⟩ := cs_ph cl c (fun i _ => by rw [e]; exact hc i) hd j (by omega)
  rcases hch i hi with z | z <;> (rw [hij, hj3] at z; omega)
/-- the joining server becomes the tail -/
theorem cs_Iad (hI : cs_I srv cap slt cl cfg jn c ro l k va E C G m mu Mc Mn) {j t : Nat} (hj : j < srv) (hjn : jn = nI j) (hj3 : ro j = 3) (hu : ∀ s, s < srv → ro s = 3 → s = j) (ht : t = c (cl - 1)) (ht2 : ro t ≠ 2) (hlt : l t ≤ l j) (hcf : cfg < 40) :
    cs_I srv cap slt (cl + 1) (cfg + 1) (-1) (cs_u c cl j) (cs_u ro j 1) l (cs_u k j (l j)) va E C G m mu Mc Mn := by
  obtain ⟨hA, hE, hC, hG, hq⟩ := hI
  have hroom := cs_room hA hj hj3
  obtain ⟨⟨b1, b2, b3, b4, b5, b6, b7, b8, b9⟩, hc, hrx, hL, hK, h2, hd, hch, hin, _⟩ := hA
  obtain ⟨g1, g2, g3, g4, g5⟩ := hG
  have hcj : ∀ i, i < cl → c i ≠ j := fun i hi z => by
    rcases hch i hi with h | h <;> (rw [z, hj3] at h; omega)
  have hcn : ∀ i, i < cl → cs_u c cl j i = c i := fun i hi => cs_un (by omega)
  have hcc : cs_u c cl j cl = j := cs_us
  have hrn : ∀ i, i < cl → cs_u ro j 1 (c i) = ro (c i) := fun i hi => cs_un (hcj i hi)
  have hrj : cs_u ro j 1 j = 1 := cs_us
  refine ⟨⟨⟨b1, b2, b3, b4, b5, b6, by omega, by omega, by omega⟩, fun i => ?_, fun s => ?_, hL, fun s => ?_, fun s hs => ?_, fun i i' hi hi' h => ?_, fun i hi => ?_, fun s hs hr => ?_, Or.inl ⟨rfl, fun s hs => ?_⟩⟩, hE, hC, ⟨g1, fun s hs hr => ?_, fun i i' hii hi' h1 h1' => ?_, fun j' i hj' hj3' => ?_, fun h0 => ?_⟩, cs_Qi hq cs_okc⟩
  · by_cases e : i = cl
    · rw [e, hcc]; exact hj
    · rw [cs_un e]; exact hc i
  · by_cases e : s = j
    · rw [e, cs_us]; omega
    · rw [cs_un e]; exact hrx s
  · by_cases e : s = j
    · rw [e, cs_us]; exact hL j
    · rw [cs_un e]; exact hK s
  · have e : s ≠ j := fun e => by rw [e, cs_us] at hs; omega
    rw [cs_un e] at hs
    rw [cs_un e]
    exact h2 s hs
  · by_cases e : i = cl
    · by_cases e' : i' = cl
      · omega
      · rw [e, hcc, hcn i' (by omega)] at h
        exact absurd h.symm (hcj i' (by omega))
    · by_cases e' : i' = cl
      · rw [e', hcc, hcn i (by omega)] at h
        exact absurd h (hcj i (by omega))
      · rw [hcn i (by omega), hcn i' (by omega)] at h
        exact hd i i' (by omega) (by omega) h
  · by_cases e : i = cl
    · rw [e, hcc, hrj]; exact Or.inl rfl
    · rw [hcn i (by omega), hrn i (by omega)]; exact hch i (by omega)
  · by_cases e : s = j
    · exact ⟨cl, by omega, by rw [hcc, e]⟩
    · rw [cs_un e] at hr
      obtain ⟨i, hi, hci⟩ := hin s hs hr
      exact ⟨i, by omega, by rw [hcn i hi]; exact hci⟩
  · by_cases e : s = j
    · rw [e, cs_us]; decide
    · rw [cs_un e]; exact fun z => e (hu s hs z)
  · by_cases e : s = j
    · rw [e]; exact g2 j hj (Or.inr hj3)
    · rw [cs_un e] at hr; exact g2 s hs hr
  · by_cases e' : i' = cl
    · rw [hcn i (by omega), hrn i (by omega)] at h1
      rw [hcn i (by omega), e', hcc]
      exact g4 j i hj hj3 (by omega) h1
    · rw [hcn i (by omega), hrn i (by omega)] at h1
      rw [hcn i' (by omega), hrn i' (by omega)] at h1'
      rw [hcn i (by omega), hcn i' (by omega)]
      exact g3 i i' hii (by omega) h1 h1'
  · exfalso
    by_cases e : j' = j
    · rw [e, cs_us] at hj3'; omega
    · rw [cs_un e] at hj3'; exact e (hu j' hj' hj3')
  · rw [hcn 0 (by omega), hrn 0 (by omega)] at h0
    rw [hcn 0 (by omega)]
    exact g5 h0
theorem cs_admit (hI : cs_I srv cap slt cl cfg jn c ro l k va E C G m mu Mc Mn) : cs_O (fun post => wpX_admit post (nI srv, nI cap, nI slt, nI cl, nI cfg, jn, (fun ix_ => nI (c ix_)), (fun ix_ => nI (ro ix_)), (fun ix_ => nI (l ix_)), (fun ix_ => nI (k ix_)), va, (E 0), (E 1), (E 2), (E 3), (E 4), (E 5), (C 0), (C 1), (C 2), (C 3), (C 4), (C 5), (G 0), (G 1), (G 2), (G 3), (G 4), (G 5), (G 6), (G 7), (G 8), (G 9), (G 10))) (fun post => wpY_admit post (nI srv, nI cap, nI slt, nI cfg, nI cl, (fun ix_ => nI (c ix_)), (fun ix_ => nI (ro ix_)), (fun ix_ => nI (l ix_)), (fun ix_ => nI (k ix_)), (cs_fl 5 E), (cs_fl 6 C), (cs_fl 11 m))) := by
  have hI' := hI
  obtain ⟨hA, hE, hC, hG, hq⟩ := hI'
  have hA' := hA
  obtain ⟨⟨b1, b2, b3, b4, b5, b6, b7, b8, b9⟩, hc, hrx, hL, hK, h2, hd, hch, hin, hj⟩ := hA'
  have v4 : vp_in (nI (cl - 1)) 5 := vp_in_nI (by omega) (by omega)
  have ht5 := hc (cl - 1)
  have vt : vp_in (nI (c (cl - 1))) 5 := vp_in_nI (by omega) (by omega)
  have et : (nI (c (cl - 1))).toNatClampNeg = c (cl - 1) := nI_clamp (by omega)
  rcases hj with ⟨e, hn⟩ | ⟨j, hjs, e, hj3, hu⟩
  · have hjn : jn < 0 := by rw [e]; decide
    refine cs_o (r := -2) hI (fun post h => ?_) (fun post h => ?_)
    · unfold wpX_admit
      try dsimp only
      rw [cs_s1 b7, nI_clamp (n := cl - 1) (by omega)]
      exact ⟨v4, nm_e (br_t hjn h)⟩
    · unfold wpY_admit
      exact cs_yjs b2 hrx (Or.inl ⟨e, hn⟩) (cs_ytail b7 (by omega) (br_t hjn h))
  · have hJ : cs_J srv jn ro := Or.inr ⟨j, hjs, e, hj3, hu⟩
    subst e
    have hjn : ¬ nI j < 0 := nI_pos (by omega)
    have vj : vp_in (nI j) 5 := vp_in_nI (by omega) (by omega)
    have ej : (nI j).toNatClampNeg = j := nI_clamp (by omega)
    have hlj := hL j
    have hlt := hL (c (cl - 1))
    by_cases hr2 : ro (c (cl - 1)) = 2
    · refine cs_o (r := -2) hI (fun post h => ?_) (fun post h => ?_)
      · unfold wpX_admit
        try dsimp only
        rw [cs_s1 b7, nI_clamp (n := cl - 1) (by omega)]
        exact ⟨v4, nm_e (br_f hjn ⟨vt, br_t (by rw [et, hr2]; rfl) h⟩)⟩
      · unfold wpY_admit
        refine cs_yjs b2 hrx hJ (cs_ytail b7 (by omega) (br_f hjn ?_))
        try dsimp only
        rw [et, hr2]
        exact ⟨vt, br_t rfl h⟩
    · have hr2' : ¬ nI (ro (c (cl - 1))) = 2 := cs_nro (hrx _) hr2
      by_cases hle : l (c (cl - 1)) ≤ l j
      · have hle' : nI (l (c (cl - 1))) ≤ nI (l j) := nI_le hle (by omega)
        by_cases hcf : cfg < 40
        · have hcf' : nI cfg < 40 := nI_lt (b := 40) hcf (by omega)
          have hroom := cs_room hA hjs hj3
          have vc : vp_in (nI cl) 5 := vp_in_nI (by omega) (by omega)
          have ecl : (nI cl).toNatClampNeg = cl := nI_clamp (by omega)
          refine ⟨nI (cfg + 1), _, _, cs_in (cs_Iad hI hjs rfl hj3 hu rfl hr2 hle hcf), fun post h => ?_, fun post h => ?_⟩
          · unfold wpX_admit
            try dsimp only
            rw [cs_s1 b7, nI_clamp (n := cl - 1) (by omega)]
            refine ⟨v4, nm_e (br_f hjn ?_)⟩
            rw [et, ej, ecl]
            exact ⟨vt, br_f hr2' ⟨vj, vt, br_t hle' (br_t hcf' (br_t (nI_lt hroom (by omega)) (nm_r (nI_1 cfg) ⟨vc, nm_r cs_uu (nm_r (nI_1 cl) ⟨vj, nm_r (e' := fun i => nI (cs_u ro j 1 i)) (cs_uu (v := 1)) ⟨vj, vj, nm_r cs_uu h⟩⟩)⟩)))⟩⟩
          · unfold wpY_admit
            refine cs_yjs b2 hrx hJ (cs_ytail b7 (by omega) (br_f hjn ?_))
            try dsimp only
            rw [et, ej, ecl]
            exact ⟨vt, br_f hr2' ⟨vj, vt, br_t hle' (br_t hcf' (br_t (nI_lt (b := 5) (by omega) (by omega)) (nm_r (nI_1 cfg) ⟨vc, nm_r cs_uu (nm_r (nI_1 cl) ⟨vj, nm_r (e' := fun i => nI (cs_u ro j 1 i)) (cs_uu (v := 1)) ⟨vj, vj, nm_r cs_uu h⟩⟩)⟩)))⟩⟩
        · have hcf' : ¬ nI cfg < 40 := nI_nlt (b := 40) (by omega) (by omega)
          refine cs_o (r := -3) hI (fun post h => ?_) (fun post h => ?_)
          · unfold wpX_admit
            try dsimp only
            rw [cs_s1 b7, nI_clamp (n := cl - 1) (by omega)]
            refine ⟨v4, nm_e (br_f hjn ?_)⟩
            rw [et, ej]
            exact ⟨vt, br_f hr2' ⟨vj, vt, br_t hle' (br_f hcf' h)⟩⟩
          · unfold wpY_admit
            refine cs_yjs b2 hrx hJ (cs_ytail b7 (by omega) (br_f hjn ?_))
            try dsimp only
            rw [et, ej]
            exact ⟨vt, br_f hr2' ⟨vj, vt, br_t hle' (br_f hcf' h)⟩⟩
      · have hle' : ¬ nI (l (c (cl - 1))) ≤ nI (l j) := nI_ge (by omega) (by omega)
        refine cs_o (r := -4) hI (fun post h => ?_) (fun post h => ?_)
        · unfold wpX_admit
          try dsimp only
          rw [cs_s1 b7, nI_clamp (n := cl - 1) (by omega)]
          refine ⟨v4, nm_e (br_f hjn ?_)⟩
          rw [et, ej]
          exact ⟨vt, br_f hr2' ⟨vj, vt, br_f hle' h⟩⟩
        · unfold wpY_admit
          refine cs_yjs b2 hrx hJ (cs_ytail b7 (by omega) (br_f hjn ?_))
          try dsimp only
          rw [et, ej]
          exact ⟨vt, br_f hr2' ⟨vj, vt, br_f hle' h⟩⟩
end cs_adm
end
section
section cs_tra
variable {srv cap slt cl cfg : Nat} {jn : Int32} {c ro l k : Nat → Nat} {va : Nat → Int32} {E C G m : Nat → Nat → Int32} {mu : Nat} {Mc Mn : Nat → Int32}
theorem cs_GhJ (hA : cs_A srv cap slt cl cfg jn c ro l k) (hG : cs_Gh srv cl c ro l E mu Mc Mn) {j t : Nat} {op y ar w : Int32} (hj : j < srv) (hj3 : ro j = 3) (ht : t = c (cl - 1)) (ht1 : ro t = 1) (hlt : l j < l t) :
    cs_Gh srv cl c ro (cs_u l j (l j + 1)) (cs_wm E (j * 48 + l j) (cs_r6 (E 0 (t * 48 + l j)) (E 1 (t * 48 + l j)) op y ar w)) mu Mc Mn := by
  obtain ⟨⟨b1, b2, b3, b4, b5, b6, b7, b8, b9⟩, hc, hro, hL, hk, h2, hd, hch, hin, _⟩ := hA
  obtain ⟨g1, g2, g3, g4, g5⟩ := hG
  have hts : t < srv := by rw [ht]; exact hc _
  obtain ⟨t1, t2⟩ := g2 t hts (Or.inl ht1)
  have hLt := hL t
  have hcj : ∀ i, ro (c i) = 1 → c i ≠ j := fun i h z => by rw [z, hj3] at h; omega
  have e0 : cs_wm E (j * 48 + l j) (cs_r6 (E 0 (t * 48 + l j)) (E 1 (t * 48 + l j)) op y ar w) 0 (j * 48 + l j) = E 0 (t * 48 + l j) := cs_wms
  have e1 : cs_wm E (j * 48 + l j) (cs_r6 (E 0 (t * 48 + l j)) (E 1 (t * 48 + l j)) op y ar w) 1 (j * 48 + l j) = E 1 (t * 48 + l j) := cs_wms
  refine ⟨g1, fun x hx hrx => ?_, fun i i' hii hi' h1 h1' => ?_, fun j' i hj' hj3' hi hi1 => ?_, fun h0 => ?_⟩
  · by_cases e : x = j
    · subst e
      rw [cs_us]
      refine ⟨by omega, fun p hp => ?_⟩
      by_cases ep : p = l x
      · subst ep
        rw [e0, e1]
        exact t2 (l x) hlt
      · rw [cs_wmn (by omega), cs_wmn (by omega)]
        exact (g2 x hx hrx).2 p (by omega)
    · rw [cs_un e]
      obtain ⟨g8, g9⟩ := g2 x hx hrx
      have hLx := hL x
      refine ⟨by omega, fun p hp => ?_⟩
      rw [cs_wmn (by omega), cs_wmn (by omega)]
      exact g9 p hp
  · rw [cs_un (hcj i h1), cs_un (hcj i' h1')]
    exact g3 i i' hii hi' h1 h1'
  · rw [cs_un (hcj i hi1)]
    by_cases e : j' = j
    · rw [e, cs_us]
      by_cases ei : i = cl - 1
      · rw [ei, ← ht]; omega
      · have := g3 i (cl - 1) (by omega) (by omega) hi1 (by rw [← ht]; exact ht1)
        rw [← ht] at this
        omega
    · rw [cs_un e]
      exact g4 j' i hj' hj3' hi hi1
  · rw [cs_un (hcj 0 h0)]
    exact g5 h0
theorem cs_tfl {j t h0 T cnt N : Nat} (hj : j < srv) (hj3 : ro j = 3) (ht : t = c (cl - 1)) (ht1 : ro t = 1) (hN : h0 + N ≤ T) (hNc : N ≤ cnt) (hcnt : cnt < 2 ^ 31) (hor : N = cnt ∨ h0 + N = T) :
    ∀ d i, i + d = N → ∀ {l : Nat → Nat} {va : Nat → Int32} {E : Nat → Nat → Int32}, cs_I srv cap slt cl cfg (nI j) c ro l k va E C G m mu Mc Mn → l j = h0 + i → l t = T →
    ∃ u v, cs_Re u v ∧ (∀ (post : Int32 → SX → Prop) n, d < n → post (nI N) u → wX_transfer_79 post (nI t) (nI h0) (nI N) n (nI (i + 1)) (nI srv) (nI cap) (nI slt) (nI cl) (nI cfg) (nI j) (fun ix_ => nI (c ix_)) (fun ix_ => nI (ro ix_)) (fun ix_ => nI (l ix_)) (fun ix_ => nI (k ix_)) va (E 0) (E 1) (E 2) (E 3) (E 4) (E 5) (C 0) (C 1) (C 2) (C 3) (C 4) (C 5) (G 0) (G 1) (G 2) (G 3) (G 4) (G 5) (G 6) (G 7) (G 8) (G 9) (G 10)) ∧
      (∀ (post : Int32 → SY → Prop) n, d < n → post (nI N) v → wY_transfer_55 post (nI cnt) (nI j) (nI t) (nI T) n (nI i) (nI (h0 + i + 1)) (nI srv) (nI cap) (nI slt) (nI cfg) (nI cl) (fun ix_ => nI (c ix_)) (fun ix_ => nI (ro ix_)) (fun ix_ => nI (l ix_)) (fun ix_ => nI (k ix_)) (cs_fl 5 E) (cs_fl 6 C) (cs_fl 11 m)) := by
  intro d
  induction d with
  | zero =>
    intro i hi l va E hI hlj hlt
    have hI' := hI
    obtain ⟨⟨⟨b1, b2, b3, b4, b5, b6, b7, b8, b9⟩, hc, hrx, hL, _⟩, _⟩ := hI'
    have hLt := hL t
    refine ⟨_, _, cs_in hI, fun post n hn hp => ?_, fun post n hn hp => ?_⟩
    · obtain ⟨n', rfl⟩ := cs_n1 hn
      exact br_t (nI_lt (by omega) (by omega)) hp
    · obtain ⟨n', rfl⟩ := cs_n1 hn
      obtain rfl : i = N := by omega
      by_cases hT : h0 + i = T
      · exact br_t (nI_lt (by omega) (by omega)) hp
      · exact br_f (nI_nlt (by omega) (by omega)) (br_t (nI_le (by omega) (by omega)) hp)
  | succ d ih =>
    intro i hi l va E hI hlj hlt
    have hI' := hI
    obtain ⟨hA, hE, hC, hG, hq⟩ := hI'
    have hA' := hA
    obtain ⟨⟨b1, b2, b3, b4, b5, b6, b7, b8, b9⟩, hc, hrx, hL, hK, h2, hd, hch, hin, _⟩ := hA'
    have hLt := hL t
    have hts : t < srv := by rw [ht]; exact hc _
    have htj : t ≠ j := fun z => by rw [z, hj3] at ht1; omega
    obtain ⟨y, hy, ey⟩ := hE.2.1 (t * 48 + (h0 + i))
    have hA1 := cs_Al hA (s := j) (n := l j + 1) (by omega) (by omega)
    have hE1 := cs_Eva (s := j) (y := y) (a := E 0 (t * 48 + l j)) (b := E 1 (t * 48 + l j)) (op := E 2 (t * 48 + l j)) (ar := E 4 (t * 48 + l j)) hE (by omega) (by omega) (fun s => by have := hL s; omega) (hE.1 _) hy
    have hG1 := cs_GhJ (op := E 2 (t * 48 + l j)) (y := nI y) (ar := E 4 (t * 48 + l j)) (w := va (j * 4 + y)) hA hG hj hj3 ht ht1 (by omega)
    have hq1 := cs_Qi hq (cs_okF (s := j))
    obtain ⟨u, v, R, ix, iy⟩ := ih (i + 1) (by omega) ⟨hA1, hE1, hC, hG1, hq1⟩ (by rw [cs_us, hlj]; omega) (by rw [cs_un htj]; exact hlt)
    rw [hlj] at ix iy
    have v2 : vp_in (nI (t * 48 + (h0 + i))) 240 := vp_in_nI (by omega) (by omega)
    refine ⟨u, v, R, fun post n hn hp => ?_, fun post n hn hp => ?_⟩
    · obtain ⟨n', rfl⟩ := cs_n1 hn
      refine br_f (nI_nlt (by omega) (by omega)) ?_
      rw [nI_add h0 (i + 1)]
      refine cs_xcell (p := h0 + i) ?_
      rw [nI_clamp (n := t * 48 + (h0 + i)) (by omega), ey]
      refine ⟨v2, v2, v2, v2, v2, cs_xapp (y := y) (by omega) (by omega) b4 hy ?_⟩
      rw [hlj]
      exact nm_r (nI_1 (i + 1)) (ix post n' (by omega) hp)
    · obtain ⟨n', rfl⟩ := cs_n1 hn
      refine br_f (nI_nlt (by omega) (by omega)) (br_f (nI_ge (by omega) (by omega)) (nm_r (e' := nI ((t * 48 + (h0 + i)) * 5)) (by rw [cs_cell, cs_m5]) ?_))
      rw [nI_1 ((t * 48 + (h0 + i)) * 5), cs_p2, cs_p3, cs_p4, nI_clamp (n := (t * 48 + (h0 + i)) * 5) (by omega), nI_clamp (n := (t * 48 + (h0 + i)) * 5 + 1) (by omega), nI_clamp (n := (t * 48 + (h0 + i)) * 5 + 2) (by omega), nI_clamp (n := (t * 48 + (h0 + i)) * 5 + 3) (by omega), nI_clamp (n := (t * 48 + (h0 + i)) * 5 + 4) (by omega), cs_fr0 (by decide), cs_fr (f := 1) (by decide), cs_fr (f := 2) (by decide), cs_fr (f := 3) (by decide), cs_fr (f := 4) (by decide), ey]
      refine ⟨vp_in_nI (by omega) (by omega), vp_in_nI (by omega) (by omega), vp_in_nI (by omega) (by omega), vp_in_nI (by omega) (by omega), vp_in_nI (by omega) (by omega), cs_yapp (w := va (j * 4 + y)) (by omega) (by omega) ?_⟩
      rw [hlj]
      exact nm_r (nI_1 i) (nm_r (nI_1 (h0 + i + 1)) (iy post n' (by omega) hp))
theorem cs_transfer (hI : cs_I srv cap slt cl cfg jn c ro l k va E C G m mu Mc Mn) (x : Int32) : cs_O (fun post => wpX_transfer post (nI srv, nI cap, nI slt, nI cl, nI cfg, jn, (fun ix_ => nI (c ix_)), (fun ix_ => nI (ro ix_)), (fun ix_ => nI (l ix_)), (fun ix_ => nI (k ix_)), va, (E 0), (E 1), (E 2), (E 3), (E 4), (E 5), (C 0), (C 1), (C 2), (C 3), (C 4), (C 5), (G 0), (G 1), (G 2), (G 3), (G 4), (G 5), (G 6), (G 7), (G 8), (G 9), (G 10)) x) (fun post => wpY_transfer post (nI srv, nI cap, nI slt, nI cfg, nI cl, (fun ix_ => nI (c ix_)), (fun ix_ => nI (ro ix_)), (fun ix_ => nI (l ix_)), (fun ix_ => nI (k ix_)), (cs_fl 5 E), (cs_fl 6 C), (cs_fl 11 m)) x) := by
  have hI' := hI
  obtain ⟨hA, hE, hC, hG, hq⟩ := hI'
  have hA' := hA
  obtain ⟨⟨b1, b2, b3, b4, b5, b6, b7, b8, b9⟩, hc, hrx, hL, hK, h2, hd, hch, hin, hj⟩ := hA'
  have v4 : vp_in (nI (cl - 1)) 5 := vp_in_nI (by omega) (by omega)
  have ht5 := hc (cl - 1)
  have vt : vp_in (nI (c (cl - 1))) 5 := vp_in_nI (by omega) (by omega)
  have et : (nI (c (cl - 1))).toNatClampNeg = c (cl - 1) := nI_clamp (by omega)
  by_cases hx : 1 ≤ x
  · obtain ⟨cnt', hcnt, rfl⟩ := cs_ge1 (Int32.not_lt.mpr hx)
    rcases hj with ⟨e, hn⟩ | ⟨j, hjs, e, hj3, hu⟩
    · have hjn : jn < 0 := by rw [e]; decide
      refine cs_o (r := -2) hI (fun post h => ?_) (fun post h => ?_)
      · unfold wpX_transfer
        try dsimp only
        rw [cs_s1 b7, nI_clamp (n := cl - 1) (by omega)]
        exact br_t hx ⟨v4, nm_e (br_t hjn h)⟩
      · unfold wpY_transfer
        exact br_t hx (cs_yjs b2 hrx (Or.inl ⟨e, hn⟩) (cs_ytail b7 (by omega) (br_t hjn h)))
    · have hJ : cs_J srv jn ro := Or.inr ⟨j, hjs, e, hj3, hu⟩
      subst e
      have hjn : ¬ nI j < 0 := nI_pos (by omega)
      have vj : vp_in (nI j) 5 := vp_in_nI (by omega) (by omega)
      have ej : (nI j).toNatClampNeg = j := nI_clamp (by omega)
      have hlj := hL j
      have hlt := hL (c (cl - 1))
      by_cases hr2 : ro (c (cl - 1)) = 2
      · refine cs_o (r := -2) hI (fun post h => ?_) (fun post h => ?_)
        · unfold wpX_transfer
          try dsimp only
          rw [cs_s1 b7, nI_clamp (n := cl - 1) (by omega)]
          exact br_t hx ⟨v4, nm_e (br_f hjn ⟨vt, br_t (by rw [et, hr2]; rfl) h⟩)⟩
        · unfold wpY_transfer
          refine br_t hx (cs_yjs b2 hrx hJ (cs_ytail b7 (by omega) (br_f hjn ?_)))
          try dsimp only
          rw [et, hr2]
          exact ⟨vt, br_t rfl h⟩
      · have hr2' : ¬ nI (ro (c (cl - 1))) = 2 := cs_nro (hrx _) hr2
        have hr1 : ro (c (cl - 1)) = 1 := (hch (cl - 1) (by omega)).resolve_right hr2
        have hle : l j ≤ l (c (cl - 1)) := hG.2.2.2.1 j (cl - 1) hjs hj3 (by omega) hr1
        have key : ∀ N, N ≤ l (c (cl - 1)) - l j → N ≤ cnt' + 1 → (N = cnt' + 1 ∨ N = l (c (cl - 1)) - l j) →
            cs_O (fun post => wpX_transfer post (nI srv, nI cap, nI slt, nI cl, nI cfg, (nI j), (fun ix_ => nI (c ix_)), (fun ix_ => nI (ro ix_)), (fun ix_ => nI (l ix_)), (fun ix_ => nI (k ix_)), va, (E 0), (E 1), (E 2), (E 3), (E 4), (E 5), (C 0), (C 1), (C 2), (C 3), (C 4), (C 5), (G 0), (G 1), (G 2), (G 3), (G 4), (G 5), (G 6), (G 7), (G 8), (G 9), (G 10)) (nI (cnt' + 1))) (fun post => wpY_transfer post (nI srv, nI cap, nI slt, nI cfg, nI cl, (fun ix_ => nI (c ix_)), (fun ix_ => nI (ro ix_)), (fun ix_ => nI (l ix_)), (fun ix_ => nI (k ix_)), (cs_fl 5 E), (cs_fl 6 C), (cs_fl 11 m)) (nI (cnt' + 1))) := by
          intro N hN1 hN2 hor
          obtain ⟨u, v, R, ix, iy⟩ := cs_tfl (h0 := l j) (T := l (c (cl - 1))) (cnt := cnt' + 1) (N := N) hjs hj3 rfl hr1 (by omega) hN2 hcnt (by omega) N 0 (by omega) hI (by omega) rfl
          refine ⟨nI N, u, v, R, fun post h => ?_, fun post h => ?_⟩
          · unfold wpX_transfer
            try dsimp only
            rw [cs_s1 b7, nI_clamp (n := cl - 1) (by omega)]
            refine br_t hx ⟨v4, nm_e (br_f hjn ?_)⟩
            rw [et, ej]
            refine ⟨vt, br_f hr2' ⟨vj, nm_e ⟨vt, nm_r (pk_sub hle) ?_⟩⟩⟩
            have hl68 : wX_transfer_68 post (nI (c (cl - 1))) (nI (l j)) (nI N) (nI srv) (nI cap) (nI slt) (nI cl) (nI cfg) (nI j) (fun ix_ => nI (c ix_)) (fun ix_ => nI (ro ix_)) (fun ix_ => nI (l ix_)) (fun ix_ => nI (k ix_)) va (E 0) (E 1) (E 2) (E 3) (E 4) (E 5) (C 0) (C 1) (C 2) (C 3) (C 4) (C 5) (G 0) (G 1) (G 2) (G 3) (G 4) (G 5) (G 6) (G 7) (G 8) (G 9) (G 10) := br_t (nI_pos' (by omega)) ⟨49, ix post 49 (by omega) h⟩
            refine pk_le (l (c (cl - 1)) - l j) (cnt' + 1) (fun z => ?_) (fun z => ?_)
            · obtain rfl : N = l (c (cl - 1)) - l j := by omega
              exact hl68
            · obtain rfl : N = cnt' + 1 := by omega
              exact hl68
          · unfold wpY_transfer
            refine br_t hx (cs_yjs b2 hrx hJ (cs_ytail b7 (by omega) (br_f hjn ?_)))
            try dsimp only
            rw [et, ej]
            exact ⟨vt, br_f hr2' ⟨vt, nm_e ⟨vj, nm_r (nI_1 (l j)) ⟨49, iy post 49 (by omega) h⟩⟩⟩⟩
        by_cases hm : l (c (cl - 1)) - l j ≤ cnt' + 1
        · exact key (l (c (cl - 1)) - l j) (by omega) hm (Or.inr rfl)
        · exact key (cnt' + 1) (by omega) (by omega) (Or.inl rfl)
  · refine cs_o (r := -1) hI (fun post h => ?_) (fun post h => ?_)
    · unfold wpX_transfer
      exact br_f hx h
    · unfold wpY_transfer
      exact br_f hx h
end cs_tra
end
section
section cs_rem
variable {srv cap slt cl cfg : Nat} {jn : Int32} {c ro ro0 l k : Nat → Nat} {va : Nat → Int32} {E C G m : Nat → Nat → Int32} {mu : Nat} {Mc Mn : Nat → Int32}
def cs_rm (c : Nat → Nat) (p e : Nat) : Nat → Nat := fun i => if p ≤ i ∧ i + 1 < e then c (i + 1) else c i
theorem cs_rm0 {p : Nat} : cs_rm c p (p + 1) = c := by
  funext i
  unfold cs_rm
  rw [if_neg (by omega)]
theorem cs_rms {p i : Nat} (h : p ≤ i) : cs_u (cs_rm c p (i + 1)) i (cs_rm c p (i + 1) (i + 1)) = cs_rm c p (i + 1 + 1) := by
  funext j
  have e : cs_rm c p (i + 1) (i + 1) = c (i + 1) := if_neg (by omega)
  rw [e]
  by_cases hj : j = i
  · subst hj
    rw [cs_us]
    exact (if_pos (by omega)).symm
  · rw [cs_un hj]
    unfold cs_rm
    by_cases h1 : p ≤ j ∧ j + 1 < i + 1
    · rw [if_pos h1, if_pos (by omega)]
    · rw [if_neg h1, if_neg (by omega)]
theorem cs_xtk {post : SX → Prop} {p : Nat} (h5 : cl ≤ 5) (h : post (nI srv, nI cap, nI slt, nI (cl - 1), nI cfg, jn, (fun ix_ => nI ((cs_rm c p cl) ix_)), (fun ix_ => nI (ro ix_)), (fun ix_ => nI (l ix_)), (fun ix_ => nI (k ix_)), va, (E 0), (E 1), (E 2), (E 3), (E 4), (E 5), (C 0), (C 1), (C 2), (C 3), (C 4), (C 5), (G 0), (G 1), (G 2), (G 3), (G 4), (G 5), (G 6), (G 7), (G 8), (G 9), (G 10))) :
    ∀ d i, i + d + 1 = cl → p ≤ i → ∀ n, d < n → wX_takeOutOfChain_2 post (nI srv) (nI cap) (nI slt) (nI cl) (nI cfg) jn n (nI i) (fun ix_ => nI ((cs_rm c p (i + 1)) ix_)) (fun ix_ => nI (ro ix_)) (fun ix_ => nI (l ix_)) (fun ix_ => nI (k ix_)) va (E 0) (E 1) (E 2) (E 3) (E 4) (E 5) (C 0) (C 1) (C 2) (C 3) (C 4) (C 5) (G 0) (G 1) (G 2) (G 3) (G 4) (G 5) (G 6) (G 7) (G 8) (G 9) (G 10) := by
  intro d
  induction d with
  | zero =>
    intro i hi hp n hn
    obtain ⟨n', rfl⟩ := cs_n1 hn
    obtain rfl : cl = i + 1 := by omega
    exact br_t (by rw [nI_1]; exact nI_le (by omega) (by omega)) (nm_r (cs_s1 (by omega)) h)
  | succ d ih =>
    intro i hi hp n hn
    obtain ⟨n', rfl⟩ := cs_n1 hn
    refine br_f (by rw [nI_1]; exact nI_ge (by omega) (by omega)) ?_
    try dsimp only
    rw [nI_1, nI_clamp (n := i) (by omega), nI_clamp (n := i + 1) (by omega)]
    exact ⟨vp_in_nI (by omega) (by omega), vp_in_nI (by omega) (by omega), nm_r (cs_uu.trans (by rw [cs_rms hp])) (nm_e (ih (i + 1) (by omega) (by omega) n' (by omega)))⟩
theorem cs_xtake {post : SX → Prop} {p : Nat} (h5 : cl ≤ 5) (hp : p < cl) (h : post (nI srv, nI cap, nI slt, nI (cl - 1), nI cfg, jn, (fun ix_ => nI ((cs_rm c p cl) ix_)), (fun ix_ => nI (ro ix_)), (fun ix_ => nI (l ix_)), (fun ix_ => nI (k ix_)), va, (E 0), (E 1), (E 2), (E 3), (E 4), (E 5), (C 0), (C 1), (C 2), (C 3), (C 4), (C 5), (G 0), (G 1), (G 2), (G 3), (G 4), (G 5), (G 6), (G 7), (G 8), (G 9), (G 10))) : wpX_takeOutOfChain post (nI srv, nI cap, nI slt, nI cl, nI cfg, jn, (fun ix_ => nI (c ix_)), (fun ix_ => nI (ro ix_)), (fun ix_ => nI (l ix_)), (fun ix_ => nI (k ix_)), va, (E 0), (E 1), (E 2), (E 3), (E 4), (E 5), (C 0), (C 1), (C 2), (C 3), (C 4), (C 5), (G 0), (G 1), (G 2), (G 3), (G 4), (G 5), (G 6), (G 7), (G 8), (G 9), (G 10)) (nI p) := by
  have h9 := cs_xtk h5 h (cl - 1 - p) p (by omega) (by omega) 6 (by omega)
  rw [cs_rm0] at h9
  exact ⟨6, h9⟩
theorem cs_yrl {post : Int32 → SY → Prop} {p : Nat} {x1 : Int32} (h5 : cl ≤ 5) (h : ∀ n', wY_remove_65 post x1 (nI p) (nI srv) (nI cap) (nI slt) (nI cfg) (nI cl) (n' + 1) (nI (cl - 1)) (fun ix_ => nI ((cs_rm c p cl) ix_)) (fun ix_ => nI (ro ix_)) (fun ix_ => nI (l ix_)) (fun ix_ => nI (k ix_)) (cs_fl 5 E) (cs_fl 6 C) (cs_fl 11 m)) :
    ∀ d i, i + d + 1 = cl → p ≤ i → ∀ n, d < n → wY_remove_65 post x1 (nI p) (nI srv) (nI cap) (nI slt) (nI cfg) (nI cl) n (nI i) (fun ix_ => nI ((cs_rm c p (i + 1)) ix_)) (fun ix_ => nI (ro ix_)) (fun ix_ => nI (l ix_)) (fun ix_ => nI (k ix_)) (cs_fl 5 E) (cs_fl 6 C) (cs_fl 11 m) := by
  intro d
  induction d with
  | zero =>
    intro i hi hp n hn
    obtain ⟨n', rfl⟩ := cs_n1 hn
    obtain rfl : cl = i + 1 := by omega
    exact h n'
  | succ d ih =>
    intro i hi hp n hn
    obtain ⟨n', rfl⟩ := cs_n1 hn
    refine br_f (by rw [nI_1]; exact nI_ge (by omega) (by omega)) ?_
    try dsimp only
    rw [nI_1, nI_clamp (n := i) (by omega), nI_clamp (n := i + 1) (by omega)]
    exact ⟨vp_in_nI (by omega) (by omega), vp_in_nI (by omega) (by omega), nm_r (cs_uu.trans (by rw [cs_rms hp])) (nm_e (ih (i + 1) (by omega) (by omega) n' (by omega)))⟩
/-- a crashed server leaves the chain -/
theorem cs_Irm (hI : cs_I srv cap slt cl cfg jn c ro l k va E C G m mu Mc Mn) {s p : Nat} (hp : p < cl) (hcp : c p = s) (hs2 : ro s = 2) (h1 : 1 < cl) (hcf : cfg < 40) :
    ∃ mu', cs_I srv cap slt (cl - 1) (cfg + 1) jn (cs_rm c p cl) (cs_u ro s 0) l k (cs_clr va s) E C G m mu' Mc Mn := by
  obtain ⟨hA, hE, hC, hG, hq⟩ := hI
  obtain ⟨⟨b1, b2, b3, b4, b5, b6, b7, b8, b9⟩, hc, hrx, hL, hK, h2, hd, hch, hin, hj⟩ := hA
  obtain ⟨g1, g2, g3, g4, g5⟩ := hG
  have hlo : ∀ i, i < p → cs_rm c p cl i = c i := fun i hi => if_neg (by omega)
  have hhi : ∀ i, p ≤ i → i + 1 < cl → cs_rm c p cl i = c (i + 1) := fun i h hi => if_pos ⟨h, hi⟩
  -- each new place is an old one, in order, and not p
  have hσ : ∀ i, i < cl - 1 → ∃ j, j < cl ∧ j ≠ p ∧ cs_rm c p cl i = c j ∧ i ≤ j ∧ j ≤ i + 1 ∧ (j = i ∨ p ≤ i) ∧ (j = i + 1 ∨ i < p) := by
    intro i hi
    by_cases e : i < p
    · exact ⟨i, by omega, by omega, hlo i e, by omega, by omega, Or.inl rfl, Or.inr e⟩
    · exact ⟨i + 1, by omega, by omega, hhi i (by omega) (by omega), by omega, by omega, Or.inr (by omega), Or.inl rfl⟩
  have hne : ∀ j, j < cl → j ≠ p → c j ≠ s := fun j hj hjp z => hjp (hd j p hj hp (by rw [z, hcp]))
  have hr1 : ∀ x, cs_u ro s 0 x = 1 ∨ cs_u ro s 0 x = 2 ∨ cs_u ro s 0 x = 3 → x ≠ s := fun x h e => by rw [e, cs_us] at h; omega
  have hEv : cs_Ev l (cs_clr va s) E := by
    have h9 := cs_Evc hE s
    rw [cs_ue (h2 s hs2).1] at h9
    exact h9
  have hA' : cs_A srv cap slt (cl - 1) (cfg + 1) jn (cs_rm c p cl) (cs_u ro s 0) l k := by
    refine ⟨⟨b1, b2, b3, b4, b5, b6, by omega, by omega, by omega⟩, fun i => ?_, fun x => ?_, hL, hK, fun x hx => ?_, fun i i' hi hi' h => ?_, fun i hi => ?_, fun x hx hr => ?_, ?_⟩
    · unfold cs_rm
      by_cases z : p ≤ i ∧ i + 1 < cl
      · rw [if_pos z]; exact hc _
      · rw [if_neg z]; exact hc _
    · by_cases e : x = s
      · rw [e, cs_us]; omega
      · rw [cs_un e]; exact hrx x
    · have e := hr1 x (Or.inr (Or.inl hx))
      rw [cs_un e] at hx
      exact h2 x hx
    · obtain ⟨j, j1, j2, j3, j4, j5, j6, j7⟩ := hσ i hi
      obtain ⟨j', j1', j2', j3', j4', j5', j6', j7'⟩ := hσ i' hi'
      rw [j3, j3'] at h
      have := hd j j' j1 j1' h
      omega
    · obtain ⟨j, j1, j2, j3, _⟩ := hσ i hi
      rw [j3, cs_un (hne j j1 j2)]
      exact hch j j1
    · have e := hr1 x (by omega)
      rw [cs_un e] at hr
      obtain ⟨j, hj1, hj2⟩ := hin x hx hr
      have hjp : j ≠ p := fun z => e (by rw [← hj2, z, hcp])
      by_cases hjl : j < p
      · exact ⟨j, by omega, by rw [hlo j hjl]; exact hj2⟩
      · refine ⟨j - 1, by omega, ?_⟩
        rw [hhi (j - 1) (by omega) (by omega), Nat.sub_add_cancel (by omega)]
        exact hj2
    · rcases hj with ⟨e, hn⟩ | ⟨j, hjs, e, hj3, hu⟩
      · refine Or.inl ⟨e, fun y hy => ?_⟩
        by_cases ey : y = s
        · rw [ey, cs_us]; decide
        · rw [cs_un ey]; exact hn y hy
      · have ej : j ≠ s := fun z => by rw [z, hs2] at hj3; omega
        refine Or.inr ⟨j, hjs, e, by rw [cs_un ej]; exact hj3, fun y hy hy3 => ?_⟩
        have ey := hr1 y (Or.inr (Or.inr hy3))
        rw [cs_un ey] at hy3
        exact hu y hy hy3
  have hG3 : ∀ i j, i < j → j < cl - 1 → cs_u ro s 0 (cs_rm c p cl i) = 1 → cs_u ro s 0 (cs_rm c p cl j) = 1 → l (cs_rm c p cl j) ≤ l (cs_rm c p cl i) := by
    intro i i' hii hi' hr hr'
    obtain ⟨j, j1, j2, j3, j4, j5, j6, j7⟩ := hσ i (by omega)
    obtain ⟨j', j1', j2', j3', j4', j5', j6', j7'⟩ := hσ i' hi'
    rw [j3, cs_un (hne j j1 j2)] at hr
    rw [j3', cs_un (hne j' j1' j2')] at hr'
    rw [j3, j3']
    exact g3 j j' (by omega) j1' hr hr'
  have hG4 : ∀ j i, j < srv → cs_u ro s 0 j = 3 → i < cl - 1 → cs_u ro s 0 (cs_rm c p cl i) = 1 → l j ≤ l (cs_rm c p cl i) := by
    intro j' i hj' hr3 hi hr
    have ej := hr1 j' (Or.inr (Or.inr hr3))
    rw [cs_un ej] at hr3
    obtain ⟨j, j1, j2, j3, _⟩ := hσ i hi
    rw [j3, cs_un (hne j j1 j2)] at hr
    rw [j3]
    exact g4 j' j hj' hr3 j1 hr
  have hG2 : ∀ x, x < srv → cs_u ro s 0 x = 1 ∨ cs_u ro s 0 x = 3 → l x ≤ mu ∧ ∀ q, q < l x → E 0 (x * 48 + q) = Mc q ∧ E 1 (x * 48 + q) = Mn q := by
    intro x hx hr
    have e := hr1 x (by omega)
    rw [cs_un e] at hr
    exact g2 x hx hr
  by_cases hh : cs_u ro s 0 (cs_rm c p cl 0) = 1
  · have hm := (hG2 (cs_rm c p cl 0) (hA'.2.1 0) (Or.inl hh)).1
    refine ⟨l (cs_rm c p cl 0), hA', hEv, hC, ⟨fun a b ha hb => g1 a b (by omega) (by omega), fun x hx hr => ⟨?_, (hG2 x hx hr).2⟩, hG3, hG4, fun _ => rfl⟩, cs_Qi hq cs_okc⟩
    rcases hr with hr | hr
    · obtain ⟨i, hi, hix⟩ := hA'.2.2.2.2.2.2.2.2.1 x hx (Or.inl hr)
      by_cases e0 : i = 0
      · rw [← hix, e0]; exact Nat.le_refl _
      · rw [← hix]
        exact hG3 0 i (by omega) hi hh (by rw [hix]; exact hr)
    · exact hG4 x 0 hx hr (by omega) hh
  · exact ⟨mu, hA', hEv, hC, ⟨g1, hG2, hG3, hG4, fun z => absurd z hh⟩, cs_Qi hq cs_okc⟩
/-! what follows the removal -/
theorem cs_yrm0 {post : Int32 → SY → Prop} {s : Nat} (hs : s < 5) (h5 : cl ≤ 5) (n' : Nat) (h : post (nI cfg) (nI srv, nI cap, nI slt, nI cfg, nI cl, (fun ix_ => nI (c ix_)), (fun ix_ => nI ((cs_u ro s 0) ix_)), (fun ix_ => nI (l ix_)), (fun ix_ => nI (k ix_)), (cs_fl 5 E), (cs_fl 6 C), (cs_fl 11 m))) : wY_remove_65 post (nI s) (nI 0) (nI srv) (nI cap) (nI slt) (nI cfg) (nI (cl + 1)) (n' + 1) (nI cl) (fun ix_ => nI (c ix_)) (fun ix_ => nI (ro ix_)) (fun ix_ => nI (l ix_)) (fun ix_ => nI (k ix_)) (cs_fl 5 E) (cs_fl 6 C) (cs_fl 11 m) := by
  refine br_t (by rw [nI_1]; exact nI_le (by omega) (by omega)) (nm_r (e' := nI cl) (nI_pred cl) ?_)
  rw [nI_clamp (n := s) (by omega)]
  exact ⟨vp_in_nI hs (by omega), nm_r (e' := fun i => nI (cs_u ro s 0 i)) (cs_uu (v := 0)) (br_t rfl h)⟩
theorem cs_settle (hI : cs_I srv cap slt cl cfg jn c ro l k va E C G m mu Mc Mn) {s : Nat} (hs : s < 5) (hr0 : cs_u ro0 s 0 = ro) :
    ∃ k' G' m', cs_I srv cap slt cl cfg jn c ro l k' va E C G' m' mu Mc Mn ∧ (∀ post : SX → Prop, post (nI srv, nI cap, nI slt, nI cl, nI cfg, jn, (fun ix_ => nI (c ix_)), (fun ix_ => nI (ro ix_)), (fun ix_ => nI (l ix_)), (fun ix_ => nI (k' ix_)), va, (E 0), (E 1), (E 2), (E 3), (E 4), (E 5), (C 0), (C 1), (C 2), (C 3), (C 4), (C 5), (G' 0), (G' 1), (G' 2), (G' 3), (G' 4), (G' 5), (G' 6), (G' 7), (G' 8), (G' 9), (G' 10)) → wpX_settleNewTail post (nI srv, nI cap, nI slt, nI cl, nI cfg, jn, (fun ix_ => nI (c ix_)), (fun ix_ => nI (ro ix_)), (fun ix_ => nI (l ix_)), (fun ix_ => nI (k ix_)), va, (E 0), (E 1), (E 2), (E 3), (E 4), (E 5), (C 0), (C 1), (C 2), (C 3), (C 4), (C 5), (G 0), (G 1), (G 2), (G 3), (G 4), (G 5), (G 6), (G 7), (G 8), (G 9), (G 10))) ∧
      (∀ (post : Int32 → SY → Prop) (n' : Nat), post (nI cfg) (nI srv, nI cap, nI slt, nI cfg, nI cl, (fun ix_ => nI (c ix_)), (fun ix_ => nI (ro ix_)), (fun ix_ => nI (l ix_)), (fun ix_ => nI (k' ix_)), (cs_fl 5 E), (cs_fl 6 C), (cs_fl 11 m')) → wY_remove_65 post (nI s) (nI cl) (nI srv) (nI cap) (nI slt) (nI cfg) (nI (cl + 1)) (n' + 1) (nI cl) (fun ix_ => nI (c ix_)) (fun ix_ => nI (ro0 ix_)) (fun ix_ => nI (l ix_)) (fun ix_ => nI (k ix_)) (cs_fl 5 E) (cs_fl 6 C) (cs_fl 11 m)) := by
  subst hr0
  have hI' := hI
  obtain ⟨hA, hE, hC, hG, hq⟩ := hI'
  have hA' := hA
  obtain ⟨⟨b1, b2, b3, b4, b5, b6, b7, b8, b9⟩, hc, hrx, hL, hK, h2, hd, hch, hin, hj⟩ := hA'
  have v4 : vp_in (nI (cl - 1)) 5 := vp_in_nI (by omega) (by omega)
  have ht5 := hc (cl - 1)
  have vt : vp_in (nI (c (cl - 1))) 5 := vp_in_nI (by omega) (by omega)
  have et : (nI (c (cl - 1))).toNatClampNeg = c (cl - 1) := nI_clamp (by omega)
  have z0 : ¬ nI cl = 0 := nI_ne0 (by omega) (by omega)
  have hLt := hL (c (cl - 1))
  have hKt := hK (c (cl - 1))
  by_cases hr1 : cs_u ro0 s 0 (c (cl - 1)) = 1
  · have hr1' : nI (cs_u ro0 s 0 (c (cl - 1))) = 1 := by rw [hr1]; rfl
    have hA1 := cs_Ak hA (s := c (cl - 1)) (n := l (c (cl - 1))) (by omega) hLt
    obtain ⟨G1, m1, hq1, ix, iy⟩ := cs_reps (C := C) (jn := jn) (k := cs_u k (c (cl - 1)) (l (c (cl - 1)))) (slt := slt) hA1 hE ht5 (l (c (cl - 1)) - k (c (cl - 1))) (k (c (cl - 1))) rfl (by omega) hq
    obtain ⟨r, G', m', hq2, ax, ay⟩ := cs_ack (srv := srv) (cap := cap) (slt := slt) (cl := cl) (cfg := cfg) (jn := jn) (c := c) (ro := (cs_u ro0 s 0)) (l := l) (k := (cs_u k (c (cl - 1)) (l (c (cl - 1))))) (va := va) (E := E) (C := C) (G := G1) (m := m1) hA1 hq1 ht5 hLt
    refine ⟨cs_u k (c (cl - 1)) (l (c (cl - 1))), G', m', ⟨hA1, hE, hC, hG, hq2⟩, fun post h => ?_, fun post n' h => ?_⟩
    · unfold wpX_settleNewTail
      try dsimp only
      rw [cs_s1 b7, nI_clamp (n := cl - 1) (by omega)]
      refine ⟨v4, nm_e ?_⟩
      rw [et]
      refine ⟨vt, br_t hr1' ⟨vt, nm_e ⟨vt, nm_e ⟨vt, nm_r cs_uu (nm_r (nI_1 (k (c (cl - 1)))) ⟨49, ix post 49 (by omega) (fun n'' P hP hP2 => ?_)⟩)⟩⟩⟩⟩
      exact br_t (nI_lt hP (by omega)) (ax _ h)
    · refine br_t (by rw [nI_1]; exact nI_le (by omega) (by omega)) (nm_r (e' := nI cl) (nI_pred cl) ?_)
      rw [nI_clamp (n := s) (by omega)]
      refine ⟨vp_in_nI hs (by omega), nm_r (e' := fun i => nI (cs_u ro0 s 0 i)) (cs_uu (v := 0)) (br_f z0 ?_)⟩
      try dsimp only
      rw [cs_s1 b7, nI_clamp (n := cl - 1) (by omega)]
      refine ⟨v4, nm_e ?_⟩
      rw [et]
      refine ⟨vt, br_t hr1' ⟨vt, nm_e (br_t rfl ⟨vt, nm_e ⟨vt, nm_r cs_uu (nm_r (nI_1 (k (c (cl - 1)))) ⟨49, iy post 49 (by omega) (fun n'' P hP hP2 => ?_)⟩)⟩⟩)⟩⟩
      exact br_t (nI_lt hP (by omega)) (ay _ h)
  · have hr1' : ¬ nI (cs_u ro0 s 0 (c (cl - 1))) = 1 := fun z => hr1 (by have := hrx (c (cl - 1)); exact cs_im (b := 1) z (by omega) (by omega))
    refine ⟨k, G, m, hI, fun post h => ?_, fun post n' h => ?_⟩
    · unfold wpX_settleNewTail
      try dsimp only
      rw [cs_s1 b7, nI_clamp (n := cl - 1) (by omega)]
      refine ⟨v4, nm_e ?_⟩
      rw [et]
      exact ⟨vt, br_f hr1' h⟩
    · refine br_t (by rw [nI_1]; exact nI_le (by omega) (by omega)) (nm_r (e' := nI cl) (nI_pred cl) ?_)
      rw [nI_clamp (n := s) (by omega)]
      refine ⟨vp_in_nI hs (by omega), nm_r (e' := fun i => nI (cs_u ro0 s 0 i)) (cs_uu (v := 0)) (br_f z0 ?_)⟩
      try dsimp only
      rw [cs_s1 b7, nI_clamp (n := cl - 1) (by omega)]
      refine ⟨v4, nm_e ?_⟩
      rw [et]
      exact ⟨vt, br_f hr1' h⟩
theorem cs_splice (hI : cs_I srv cap slt cl cfg jn c ro l k va E C G m mu Mc Mn) {s p : Nat} (hs : s < 5) (hr0 : cs_u ro0 s 0 = ro) (hp1 : 1 ≤ p) (hp : p < cl) :
    ∃ G' m', cs_I srv cap slt cl cfg jn c ro l k va E C G' m' mu Mc Mn ∧ (∀ post : SX → Prop, post (nI srv, nI cap, nI slt, nI cl, nI cfg, jn, (fun ix_ => nI (c ix_)), (fun ix_ => nI (ro ix_)), (fun ix_ => nI (l ix_)), (fun ix_ => nI (k ix_)), va, (E 0), (E 1), (E 2), (E 3), (E 4), (E 5), (C 0), (C 1), (C 2), (C 3), (C 4), (C 5), (G' 0), (G' 1), (G' 2), (G' 3), (G' 4), (G' 5), (G' 6), (G' 7), (G' 8), (G' 9), (G' 10)) → wpX_splice post (nI srv, nI cap, nI slt, nI cl, nI cfg, jn, (fun ix_ => nI (c ix_)), (fun ix_ => nI (ro ix_)), (fun ix_ => nI (l ix_)), (fun ix_ => nI (k ix_)), va, (E 0), (E 1), (E 2), (E 3), (E 4), (E 5), (C 0), (C 1), (C 2), (C 3), (C 4), (C 5), (G 0), (G 1), (G 2), (G 3), (G 4), (G 5), (G 6), (G 7), (G 8), (G 9), (G 10)) (nI p)) ∧
      (∀ (post : Int32 → SY → Prop) (n' : Nat), post (nI cfg) (nI srv, nI cap, nI slt, nI cfg, nI cl, (fun ix_ => nI (c ix_)), (fun ix_ => nI (ro ix_)), (fun ix_ => nI (l ix_)), (fun ix_ => nI (k ix_)), (cs_fl 5 E), (cs_fl 6 C), (cs_fl 11 m')) → wY_remove_65 post (nI s) (nI p) (nI srv) (nI cap) (nI slt) (nI cfg) (nI (cl + 1)) (n' + 1) (nI cl) (fun ix_ => nI (c ix_)) (fun ix_ => nI (ro0 ix_)) (fun ix_ => nI (l ix_)) (fun ix_ => nI (k ix_)) (cs_fl 5 E) (cs_fl 6 C) (cs_fl 11 m)) := by
  subst hr0
  have hI' := hI
  obtain ⟨hA, hE, hC, hG, hq⟩ := hI'
  have hA' := hA
  obtain ⟨⟨b1, b2, b3, b4, b5, b6, b7, b8, b9⟩, hc, hrx, hL, hK, h2, hd, hch, hin, hj⟩ := hA'
  have v4 : vp_in (nI (p - 1)) 5 := vp_in_nI (by omega) (by omega)
  have vp : vp_in (nI p) 5 := vp_in_nI (by omega) (by omega)
  have ep : (nI p).toNatClampNeg = p := nI_clamp (by omega)
  have ha5 := hc (p - 1)
  have hb5 := hc p
  have va1 : vp_in (nI (c (p - 1))) 5 := vp_in_nI (by omega) (by omega)
  have vb : vp_in (nI (c p)) 5 := vp_in_nI (by omega) (by omega)
  have ea : (nI (c (p - 1))).toNatClampNeg = c (p - 1) := nI_clamp (by omega)
  have eb : (nI (c p)).toNatClampNeg = c p := nI_clamp (by omega)
  have z0 : ¬ nI p = 0 := nI_ne0 (by omega) (by omega)
  have zc : ¬ nI p = nI cl := fun z => by have := cs_im z (by omega) (by omega); omega
  have hLa := hL (c (p - 1))
  have hLb := hL (c p)
  have hra := hrx (c (p - 1))
  have hrb := hrx (c p)
  by_cases hr1 : cs_u ro0 s 0 (c (p - 1)) = 1
  · have hr1' : nI (cs_u ro0 s 0 (c (p - 1))) = 1 := by rw [hr1]; rfl
    by_cases hr2 : cs_u ro0 s 0 (c p) = 1
    · have hr2' : nI (cs_u ro0 s 0 (c p)) = 1 := by rw [hr2]; rfl
      obtain ⟨r1, G1, m1, hq1, ix, _, iz⟩ := cs_fwds (C := C) (jn := jn) (k := k) (slt := slt) hA hE hG ha5 hr1 (l (c (p - 1)) - l (c p)) (l (c p)) 0 rfl (by omega) hq
      obtain ⟨r, G', m', hq2, ax, ay⟩ := cs_ack (srv := srv) (cap := cap) (slt := slt) (cl := cl) (cfg := cfg) (jn := jn) (c := c) (ro := (cs_u ro0 s 0)) (l := l) (k := k) (va := va) (E := E) (C := C) (G := G1) (m := m1) hA hq1 hb5 (hK (c p))
      refine ⟨G', m', ⟨hA, hE, hC, hG, hq2⟩, fun post h => ?_, fun post n' h => ?_⟩
      · unfold wpX_splice
        try dsimp only
        rw [cs_s1 hp1, nI_clamp (n := p - 1) (by omega), ep]
        refine ⟨v4, nm_e ⟨vp, nm_e ?_⟩⟩
        rw [ea, eb]
        refine ⟨va1, br_t hr1' ⟨vb, br_t hr2' ⟨vb, ?_⟩⟩⟩
        unfold wpX_sendForwards
        try dsimp only
        rw [ea, nI_1]
        refine ⟨va1, nm_e ⟨49, ix _ 49 (by omega) ?_⟩⟩
        exact ⟨vb, ax _ h⟩
      · refine br_t (by rw [nI_1]; exact nI_le (by omega) (by omega)) (nm_r (e' := nI cl) (nI_pred cl) ?_)
        rw [nI_clamp (n := s) (by omega)]
        refine ⟨vp_in_nI hs (by omega), nm_r (e' := fun i => nI (cs_u ro0 s 0 i)) (cs_uu (v := 0)) (br_f z0 ?_)⟩
        try dsimp only
        rw [cs_s1 hp1, nI_clamp (n := p - 1) (by omega), ep]
        refine ⟨v4, nm_e ?_⟩
        rw [ea]
        refine ⟨va1, br_t hr1' ⟨va1, nm_e (br_f zc ⟨vp, nm_e ?_⟩)⟩⟩
        rw [eb]
        refine ⟨vb, br_t hr2' ⟨vb, nm_r (nI_1 (l (c p))) ⟨49, iz post (nI (c p)) 49 (by omega) (fun n'' P hP hP2 => br_t (nI_lt hP (by omega)) ?_)⟩⟩⟩
        try dsimp only
        rw [eb]
        exact ⟨vb, ay _ h⟩
    · have hr2' : ¬ nI (cs_u ro0 s 0 (c p)) = 1 := fun z => hr2 (cs_im (b := 1) z (by omega) (by omega))
      refine ⟨G, m, hI, fun post h => ?_, fun post n' h => ?_⟩
      · unfold wpX_splice
        try dsimp only
        rw [cs_s1 hp1, nI_clamp (n := p - 1) (by omega), ep]
        refine ⟨v4, nm_e ⟨vp, nm_e ?_⟩⟩
        rw [ea, eb]
        exact ⟨va1, br_t hr1' ⟨vb, br_f hr2' h⟩⟩
      · refine br_t (by rw [nI_1]; exact nI_le (by omega) (by omega)) (nm_r (e' := nI cl) (nI_pred cl) ?_)
        rw [nI_clamp (n := s) (by omega)]
        refine ⟨vp_in_nI hs (by omega), nm_r (e' := fun i => nI (cs_u ro0 s 0 i)) (cs_uu (v := 0)) (br_f z0 ?_)⟩
        try dsimp only
        rw [cs_s1 hp1, nI_clamp (n := p - 1) (by omega), ep]
        refine ⟨v4, nm_e ?_⟩
        rw [ea]
        refine ⟨va1, br_t hr1' ⟨va1, nm_e (br_f zc ⟨vp, nm_e ?_⟩)⟩⟩
        rw [eb]
        exact ⟨vb, br_f hr2' h⟩
  · have hr1' : ¬ nI (cs_u ro0 s 0 (c (p - 1))) = 1 := fun z => hr1 (cs_im (b := 1) z (by omega) (by omega))
    refine ⟨G, m, hI, fun post h => ?_, fun post n' h => ?_⟩
    · unfold wpX_splice
      try dsimp only
      rw [cs_s1 hp1, nI_clamp (n := p - 1) (by omega), ep]
      refine ⟨v4, nm_e ⟨vp, nm_e ?_⟩⟩
      rw [ea]
      exact ⟨va1, br_f hr1' h⟩
    · refine br_t (by rw [nI_1]; exact nI_le (by omega) (by omega)) (nm_r (e' := nI cl) (nI_pred cl) ?_)
      rw [nI_clamp (n := s) (by omega)]
      refine ⟨vp_in_nI hs (by omega), nm_r (e' := fun i => nI (cs_u ro0 s 0 i)) (cs_uu (v := 0)) (br_f z0 ?_)⟩
      try dsimp only
      rw [cs_s1 hp1, nI_clamp (n := p - 1) (by omega)]
      refine ⟨v4, nm_e ?_⟩
      rw [ea]
      exact ⟨va1, br_f hr1' h⟩
end cs_rem
end
section
section cs_rmv
variable {srv cap slt cl cfg : Nat} {jn : Int32} {c ro l k : Nat → Nat} {va : Nat → Int32} {E C G m : Nat → Nat → Int32} {mu : Nat} {Mc Mn : Nat → Int32} {k' : Nat → Nat} {G' : Nat → Nat → Int32}
theorem cs_xrmT {post : Int32 → SX → Prop} {s p : Nat} (b2 : srv ≤ 5) (hs : s < srv) (hr2 : ro s = 2) (hl0 : l s = 0) (hk0 : k s = 0) (h1 : 1 < cl) (h5 : cl ≤ 5) (hcf : cfg < 40) (hp : p < cl)
    (plx : ∀ post : Int32 → Prop, post (nI p) → wpX_placeOf post (nI srv, nI cap, nI slt, nI cl, nI cfg, jn, (fun ix_ => nI (c ix_)), (fun ix_ => nI (ro ix_)), (fun ix_ => nI (l ix_)), (fun ix_ => nI (k ix_)), va, (E 0), (E 1), (E 2), (E 3), (E 4), (E 5), (C 0), (C 1), (C 2), (C 3), (C 4), (C 5), (G 0), (G 1), (G 2), (G 3), (G 4), (G 5), (G 6), (G 7), (G 8), (G 9), (G 10)) (nI s)) (hpt : p = cl - 1)
    (sx : ∀ q : SX → Prop, q (nI srv, nI cap, nI slt, nI (cl - 1), nI (cfg + 1), jn, (fun ix_ => nI ((cs_rm c p cl) ix_)), (fun ix_ => nI ((cs_u ro s 0) ix_)), (fun ix_ => nI (l ix_)), (fun ix_ => nI (k' ix_)), (cs_clr va s), (E 0), (E 1), (E 2), (E 3), (E 4), (E 5), (C 0), (C 1), (C 2), (C 3), (C 4), (C 5), (G' 0), (G' 1), (G' 2), (G' 3), (G' 4), (G' 5), (G' 6), (G' 7), (G' 8), (G' 9), (G' 10)) → wpX_settleNewTail q (nI srv, nI cap, nI slt, nI (cl - 1), nI (cfg + 1), jn, (fun ix_ => nI ((cs_rm c p cl) ix_)), (fun ix_ => nI ((cs_u ro s 0) ix_)), (fun ix_ => nI (l ix_)), (fun ix_ => nI (k ix_)), (cs_clr va s), (E 0), (E 1), (E 2), (E 3), (E 4), (E 5), (C 0), (C 1), (C 2), (C 3), (C 4), (C 5), (G 0), (G 1), (G 2), (G 3), (G 4), (G 5), (G 6), (G 7), (G 8), (G 9), (G 10)))
    (h : post (nI (cfg + 1)) (nI srv, nI cap, nI slt, nI (cl - 1), nI (cfg + 1), jn, (fun ix_ => nI ((cs_rm c p cl) ix_)), (fun ix_ => nI ((cs_u ro s 0) ix_)), (fun ix_ => nI (l ix_)), (fun ix_ => nI (k' ix_)), (cs_clr va s), (E 0), (E 1), (E 2), (E 3), (E 4), (E 5), (C 0), (C 1), (C 2), (C 3), (C 4), (C 5), (G' 0), (G' 1), (G' 2), (G' 3), (G' 4), (G' 5), (G' 6), (G' 7), (G' 8), (G' 9), (G' 10))) : wpX_remove post (nI srv, nI cap, nI slt, nI cl, nI cfg, jn, (fun ix_ => nI (c ix_)), (fun ix_ => nI (ro ix_)), (fun ix_ => nI (l ix_)), (fun ix_ => nI (k ix_)), va, (E 0), (E 1), (E 2), (E 3), (E 4), (E 5), (C 0), (C 1), (C 2), (C 3), (C 4), (C 5), (G 0), (G 1), (G 2), (G 3), (G 4), (G 5), (G 6), (G 7), (G 8), (G 9), (G 10)) (nI s) := by
  have v : vp_in (nI s) 5 := vp_in_nI (by omega) (by omega)
  have ec : (nI s).toNatClampNeg = s := nI_clamp (by omega)
  unfold wpX_remove
  refine cs_xsv1 b2 hs (br_f (by decide) ?_)
  try dsimp only
  rw [ec, hr2]
  refine ⟨v, br_t rfl (br_t (nI_lt (a := 1) h1 (by omega)) (br_t (nI_lt (b := 40) hcf (by omega)) (plx _ (br_t (nI_pos' (by omega)) (nm_r (nI_1 cfg) (cs_xtake h5 hp ?_))))))⟩
  try dsimp only
  refine ⟨v, nm_r (e' := fun i => nI (cs_u ro s 0 i)) (cs_uu (v := 0)) (cs_xclr (by omega) ?_)⟩
  rw [cs_ue hl0, cs_ue hk0]
  exact br_t (by rw [hpt]) (sx _ h)
theorem cs_xrm0 {post : Int32 → SX → Prop} {s p : Nat} (b2 : srv ≤ 5) (hs : s < srv) (hr2 : ro s = 2) (hl0 : l s = 0) (hk0 : k s = 0) (h1 : 1 < cl) (h5 : cl ≤ 5) (hcf : cfg < 40) (hp : p < cl)
    (plx : ∀ post : Int32 → Prop, post (nI p) → wpX_placeOf post (nI srv, nI cap, nI slt, nI cl, nI cfg, jn, (fun ix_ => nI (c ix_)), (fun ix_ => nI (ro ix_)), (fun ix_ => nI (l ix_)), (fun ix_ => nI (k ix_)), va, (E 0), (E 1), (E 2), (E 3), (E 4), (E 5), (C 0), (C 1), (C 2), (C 3), (C 4), (C 5), (G 0), (G 1), (G 2), (G 3), (G 4), (G 5), (G 6), (G 7), (G 8), (G 9), (G 10)) (nI s)) (hpt : p = 0)
    (h : post (nI (cfg + 1)) (nI srv, nI cap, nI slt, nI (cl - 1), nI (cfg + 1), jn, (fun ix_ => nI ((cs_rm c p cl) ix_)), (fun ix_ => nI ((cs_u ro s 0) ix_)), (fun ix_ => nI (l ix_)), (fun ix_ => nI (k ix_)), (cs_clr va s), (E 0), (E 1), (E 2), (E 3), (E 4), (E 5), (C 0), (C 1), (C 2), (C 3), (C 4), (C 5), (G 0), (G 1), (G 2), (G 3), (G 4), (G 5), (G 6), (G 7), (G 8), (G 9), (G 10))) : wpX_remove post (nI srv, nI cap, nI slt, nI cl, nI cfg, jn, (fun ix_ => nI (c ix_)), (fun ix_ => nI (ro ix_)), (fun ix_ => nI (l ix_)), (fun ix_ => nI (k ix_)), va, (E 0), (E 1), (E 2), (E 3), (E 4), (E 5), (C 0), (C 1), (C 2), (C 3), (C 4), (C 5), (G 0), (G 1), (G 2), (G 3), (G 4), (G 5), (G 6), (G 7), (G 8), (G 9), (G 10)) (nI s) := by
  have v : vp_in (nI s) 5 := vp_in_nI (by omega) (by omega)
  have ec : (nI s).toNatClampNeg = s := nI_clamp (by omega)
  unfold wpX_remove
  refine cs_xsv1 b2 hs (br_f (by decide) ?_)
  try dsimp only
  rw [ec, hr2]
  refine ⟨v, br_t rfl (br_t (nI_lt (a := 1) h1 (by omega)) (br_t (nI_lt (b := 40) hcf (by omega)) (plx _ (br_t (nI_pos' (by omega)) (nm_r (nI_1 cfg) (cs_xtake h5 hp ?_))))))⟩
  try dsimp only
  refine ⟨v, nm_r (e' := fun i => nI (cs_u ro s 0 i)) (cs_uu (v := 0)) (cs_xclr (by omega) ?_)⟩
  rw [cs_ue hl0, cs_ue hk0]
  exact br_f (fun z => by have := cs_im z (by omega) (by omega); omega) (br_t (by rw [hpt]; decide) h)
theorem cs_xrmS {post : Int32 → SX → Prop} {s p : Nat} (b2 : srv ≤ 5) (hs : s < srv) (hr2 : ro s = 2) (hl0 : l s = 0) (hk0 : k s = 0) (h1 : 1 < cl) (h5 : cl ≤ 5) (hcf : cfg < 40) (hp : p < cl)
    (plx : ∀ post : Int32 → Prop, post (nI p) → wpX_placeOf post (nI srv, nI cap, nI slt, nI cl, nI cfg, jn, (fun ix_ => nI (c ix_)), (fun ix_ => nI (ro ix_)), (fun ix_ => nI (l ix_)), (fun ix_ => nI (k ix_)), va, (E 0), (E 1), (E 2), (E 3), (E 4), (E 5), (C 0), (C 1), (C 2), (C 3), (C 4), (C 5), (G 0), (G 1), (G 2), (G 3), (G 4), (G 5), (G 6), (G 7), (G 8), (G 9), (G 10)) (nI s)) (hp1 : 1 ≤ p) (hpt : p < cl - 1)
    (sx : ∀ q : SX → Prop, q (nI srv, nI cap, nI slt, nI (cl - 1), nI (cfg + 1), jn, (fun ix_ => nI ((cs_rm c p cl) ix_)), (fun ix_ => nI ((cs_u ro s 0) ix_)), (fun ix_ => nI (l ix_)), (fun ix_ => nI (k ix_)), (cs_clr va s), (E 0), (E 1), (E 2), (E 3), (E 4), (E 5), (C 0), (C 1), (C 2), (C 3), (C 4), (C 5), (G' 0), (G' 1), (G' 2), (G' 3), (G' 4), (G' 5), (G' 6), (G' 7), (G' 8), (G' 9), (G' 10)) → wpX_splice q (nI srv, nI cap, nI slt, nI (cl - 1), nI (cfg + 1), jn, (fun ix_ => nI ((cs_rm c p cl) ix_)), (fun ix_ => nI ((cs_u ro s 0) ix_)), (fun ix_ => nI (l ix_)), (fun ix_ => nI (k ix_)), (cs_clr va s), (E 0), (E 1), (E 2), (E 3), (E 4), (E 5), (C 0), (C 1), (C 2), (C 3), (C 4), (C 5), (G 0), (G 1), (G 2), (G 3), (G 4), (G 5), (G 6), (G 7), (G 8), (G 9), (G 10)) (nI p))
    (h : post (nI (cfg + 1)) (nI srv, nI cap, nI slt, nI (cl - 1), nI (cfg + 1), jn, (fun ix_ => nI ((cs_rm c p cl) ix_)), (fun ix_ => nI ((cs_u ro s 0) ix_)), (fun ix_ => nI (l ix_)), (fun ix_ => nI (k ix_)), (cs_clr va s), (E 0), (E 1), (E 2), (E 3), (E 4), (E 5), (C 0), (C 1), (C 2), (C 3), (C 4), (C 5), (G' 0), (G' 1), (G' 2), (G' 3), (G' 4), (G' 5), (G' 6), (G' 7), (G' 8), (G' 9), (G' 10))) : wpX_remove post (nI srv, nI cap, nI slt, nI cl, nI cfg, jn, (fun ix_ => nI (c ix_)), (fun ix_ => nI (ro ix_)), (fun ix_ => nI (l ix_)), (fun ix_ => nI (k ix_)), va, (E 0), (E 1), (E 2), (E 3), (E 4), (E 5), (C 0), (C 1), (C 2), (C 3), (C 4), (C 5), (G 0), (G 1), (G 2), (G 3), (G 4), (G 5), (G 6), (G 7), (G 8), (G 9), (G 10)) (nI s) := by
  have v : vp_in (nI s) 5 := vp_in_nI (by omega) (by omega)
  have ec : (nI s).toNatClampNeg = s := nI_clamp (by omega)
  unfold wpX_remove
  refine cs_xsv1 b2 hs (br_f (by decide) ?_)
  try dsimp only
  rw [ec, hr2]
  refine ⟨v, br_t rfl (br_t (nI_lt (a := 1) h1 (by omega)) (br_t (nI_lt (b := 40) hcf (by omega)) (plx _ (br_t (nI_pos' (by omega)) (nm_r (nI_1 cfg) (cs_xtake h5 hp ?_))))))⟩
  try dsimp only
  refine ⟨v, nm_r (e' := fun i => nI (cs_u ro s 0 i)) (cs_uu (v := 0)) (cs_xclr (by omega) ?_)⟩
  rw [cs_ue hl0, cs_ue hk0]
  exact br_f (fun z => by have := cs_im z (by omega) (by omega); omega) (br_f (nI_nle (by omega) (by omega)) (sx _ h))
theorem cs_yrm {post : Int32 → SY → Prop} {s p : Nat} (b2 : srv ≤ 5) (hs : s < srv) (hr2 : ro s = 2) (h1 : 1 < cl) (h5 : cl ≤ 5) (hcf : cfg < 40) (hp : p < cl)
    (ply : ∀ post : Int32 → Prop, post (nI p) → wpY_placeOf post (nI srv, nI cap, nI slt, nI cfg, nI cl, (fun ix_ => nI (c ix_)), (fun ix_ => nI (ro ix_)), (fun ix_ => nI (l ix_)), (fun ix_ => nI (k ix_)), (cs_fl 5 E), (cs_fl 6 C), (cs_fl 11 m)) (nI s))
    (h : ∀ n', wY_remove_65 post (nI s) (nI p) (nI srv) (nI cap) (nI slt) (nI (cfg + 1)) (nI cl) (n' + 1) (nI (cl - 1)) (fun ix_ => nI ((cs_rm c p cl) ix_)) (fun ix_ => nI (ro ix_)) (fun ix_ => nI (l ix_)) (fun ix_ => nI (k ix_)) (cs_fl 5 E) (cs_fl 6 C) (cs_fl 11 m)) : wpY_remove post (nI srv, nI cap, nI slt, nI cfg, nI cl, (fun ix_ => nI (c ix_)), (fun ix_ => nI (ro ix_)), (fun ix_ => nI (l ix_)), (fun ix_ => nI (k ix_)), (cs_fl 5 E), (cs_fl 6 C), (cs_fl 11 m)) (nI s) := by
  have v : vp_in (nI s) 5 := vp_in_nI (by omega) (by omega)
  have ec : (nI s).toNatClampNeg = s := nI_clamp (by omega)
  have h9 := cs_yrl h5 h (cl - 1 - p) p (by omega) (by omega) 6 (by omega)
  rw [cs_rm0] at h9
  unfold wpY_remove
  refine cs_you0 b2 hs (br_t rfl (ply _ ?_))
  try dsimp only
  rw [ec, hr2]
  exact ⟨v, br_t rfl (br_f (nI_pos (by omega)) (br_f (fun z => by have := cs_im (b := 1) z (by omega) (by omega); omega) (br_t (nI_lt (b := 40) hcf (by omega)) (nm_r (nI_1 cfg) ⟨6, h9⟩))))⟩
theorem cs_remove (hI : cs_I srv cap slt cl cfg jn c ro l k va E C G m mu Mc Mn) (x : Int32) : cs_O (fun post => wpX_remove post (nI srv, nI cap, nI slt, nI cl, nI cfg, jn, (fun ix_ => nI (c ix_)), (fun ix_ => nI (ro ix_)), (fun ix_ => nI (l ix_)), (fun ix_ => nI (k ix_)), va, (E 0), (E 1), (E 2), (E 3), (E 4), (E 5), (C 0), (C 1), (C 2), (C 3), (C 4), (C 5), (G 0), (G 1), (G 2), (G 3), (G 4), (G 5), (G 6), (G 7), (G 8), (G 9), (G 10)) x) (fun post => wpY_remove post (nI srv, nI cap, nI slt, nI cfg, nI cl, (fun ix_ => nI (c ix_)), (fun ix_ => nI (ro ix_)), (fun ix_ => nI (l ix_)), (fun ix_ => nI (k ix_)), (cs_fl 5 E), (cs_fl 6 C), (cs_fl 11 m)) x) := by
  have hI' := hI
  obtain ⟨hA, hE, hC, hG, hq⟩ := hI'
  obtain ⟨⟨b1, b2, b3, b4, b5, b6, b7, b8, b9⟩, hc, hrx, hL, hK, h2, hd, hch, hin, hj⟩ := hA
  have hc5 : ∀ i, c i < 5 := fun i => by have := hc i; omega
  rcases cs_ixn (n := srv) (by omega) x with hb | ⟨s, hs, rfl⟩
  · refine cs_o (r := -1) hI (fun post h => ?_) (fun post h => ?_)
    · unfold wpX_remove
      exact cs_xsv0 hb (br_t rfl h)
    · unfold wpY_remove
      exact cs_you1 hb (br_f (by decide) h)
  · have v : vp_in (nI s) 5 := vp_in_nI (by omega) (by omega)
    have ec : (nI s).toNatClampNeg = s := nI_clamp (by omega)
    by_cases hr2 : ro s = 2
    · rcases cs_pl (srv := srv) (cap := cap) (slt := slt) (cl := cl) (cfg := cfg) (jn := jn) (c := c) (ro := ro) (l := l) (k := k) (va := va) (E := E) (C := C) (G := G) (m := m) (by omega) hc5 (by omega : s < 5) with ⟨p, hp, hcp, plx, ply⟩ | ⟨hno, _, _⟩
      · by_cases h1 : 1 < cl
        · by_cases hcf : cfg < 40
          · obtain ⟨mu', hI1⟩ := cs_Irm hI hp hcp hr2 h1 hcf
            have e1 : cl - 1 + 1 = cl := by omega
            have hl0 := (h2 s hr2).1
            have hk0 := (h2 s hr2).2
            by_cases hpt : p = cl - 1
            · obtain ⟨k', G', m', hI2, sx, sy⟩ := cs_settle hI1 (s := s) (ro0 := ro) (by omega) rfl
              rw [e1] at sy
              exact ⟨nI (cfg + 1), _, _, cs_in hI2, fun post h => cs_xrmT b2 hs hr2 hl0 hk0 h1 (by omega) hcf hp plx hpt sx h,
                fun post h => cs_yrm b2 hs hr2 h1 (by omega) hcf hp ply (fun n' => by rw [show nI p = nI (cl - 1) from by rw [hpt]]; exact sy post n' h)⟩
            · by_cases hp0 : p = 0
              · refine ⟨nI (cfg + 1), _, _, cs_in hI1, fun post h => cs_xrm0 b2 hs hr2 hl0 hk0 h1 (by omega) hcf hp plx hp0 h, fun post h => cs_yrm b2 hs hr2 h1 (by omega) hcf hp ply (fun n' => ?_)⟩
                have h9 := cs_yrm0 (cl := cl - 1) (by omega : s < 5) (by omega) n' h
                rw [e1] at h9
                rw [show nI p = nI 0 from by rw [hp0]]
                exact h9
              · obtain ⟨G', m', hI2, sx, sy⟩ := cs_splice hI1 (s := s) (ro0 := ro) (p := p) (by omega) rfl (by omega) (by omega)
                rw [e1] at sy
                exact ⟨nI (cfg + 1), _, _, cs_in hI2, fun post h => cs_xrmS b2 hs hr2 hl0 hk0 h1 (by omega) hcf hp plx (by omega) (by omega) sx h,
                  fun post h => cs_yrm b2 hs hr2 h1 (by omega) hcf hp ply (fun n' => sy post n' h)⟩
          · have hcf' : ¬ nI cfg < 40 := nI_nlt (b := 40) (by omega) (by omega)
            refine cs_o (r := -3) hI (fun post h => ?_) (fun post h => ?_)
            · unfold wpX_remove
              refine cs_xsv1 b2 hs (br_f (by decide) ?_)
              try dsimp only
              rw [ec, hr2]
              exact ⟨v, br_t rfl (br_t (nI_lt (a := 1) h1 (by omega)) (br_f hcf' h))⟩
            · unfold wpY_remove
              refine cs_you0 b2 hs (br_t rfl (ply _ ?_))
              try dsimp only
              rw [ec, hr2]
              exact ⟨v, br_t rfl (br_f (nI_pos (by omega)) (br_f (fun z => by have := cs_im (b := 1) z (by omega) (by omega); omega) (br_f hcf' h)))⟩
        · obtain rfl : cl = 1 := by omega
          refine cs_o (r := -2) hI (fun post h => ?_) (fun post h => ?_)
          · unfold wpX_remove
            refine cs_xsv1 b2 hs (br_f (by decide) ?_)
            try dsimp only
            rw [ec, hr2]
            exact ⟨v, br_t rfl (br_f (by decide) h)⟩
          · unfold wpY_remove
            refine cs_you0 b2 hs (br_t rfl (ply _ ?_))
            try dsimp only
            rw [ec, hr2]
            exact ⟨v, br_t rfl (br_f (nI_pos (by omega)) (br_t rfl h))⟩
      · obtain ⟨i, hi, hic⟩ := hin s hs (Or.inr hr2)
        exact absurd hic (hno i hi)
    · have hr2' : ¬ nI (ro s) = 2 := cs_nro (hrx s) hr2
      refine cs_o (r := -2) hI (fun post h => ?_) (fun post h => ?_)
      · unfold wpX_remove
        refine cs_xsv1 b2 hs (br_f (by decide) ?_)
        try dsimp only
        rw [ec]
        exact ⟨v, br_f hr2' h⟩
      · unfold wpY_remove
        refine cs_you0 b2 hs (br_t rfl ?_)
        rcases cs_pl (srv := srv) (cap := cap) (slt := slt) (cl := cl) (cfg := cfg) (jn := jn) (c := c) (ro := ro) (l := l) (k := k) (va := va) (E := E) (C := C) (G := G) (m := m) (by omega) hc5 (by omega : s < 5) with ⟨p, hp, hcp, plx, ply⟩ | ⟨hno, plx, ply⟩
        · refine ply _ ?_
          try dsimp only
          rw [ec]
          exact ⟨v, br_f hr2' h⟩
        · refine ply _ ?_
          try dsimp only
          rw [ec]
          exact ⟨v, br_f hr2' h⟩
end cs_rmv
end
section
section cs_ini
variable {srv cap slt cl : Nat}
def cs_c0 (e : Nat) : Nat → Nat := fun i => if i < e then i else 0
def cs_r0 (e : Nat) : Nat → Nat := fun i => if i < e then 1 else 0
theorem cs_c00 : cs_c0 0 = fun _ => 0 := funext fun i => if_neg (by omega)
theorem cs_r00 : cs_r0 0 = fun _ => 0 := funext fun i => if_neg (by omega)
theorem cs_c0s {e : Nat} : cs_u (cs_c0 e) e e = cs_c0 (e + 1) := by
  funext i
  by_cases h : i = e
  · subst h; rw [cs_us]; exact (if_pos (by omega)).symm
  · rw [cs_un h]
    unfold cs_c0
    by_cases h2 : i < e
    · rw [if_pos h2, if_pos (by omega)]
    · rw [if_neg h2, if_neg (by omega)]
theorem cs_r0s {e : Nat} : cs_u (cs_r0 e) e 1 = cs_r0 (e + 1) := by
  funext i
  by_cases h : i = e
  · subst h; rw [cs_us]; exact (if_pos (by omega)).symm
  · rw [cs_un h]
    unfold cs_r0
    by_cases h2 : i < e
    · rw [if_pos h2, if_pos (by omega)]
    · rw [if_neg h2, if_neg (by omega)]
theorem cs_x0 {post : SX → Prop} (h5 : cl ≤ 5) (h : post (nI srv, nI cap, nI slt, nI cl, nI 1, (-1), (fun ix_ => nI ((cs_c0 cl) ix_)), (fun ix_ => nI ((cs_r0 cl) ix_)), (fun ix_ => nI ((fun _ => 0) ix_)), (fun ix_ => nI ((fun _ => 0) ix_)), (fun _ => 0), ((fun _ _ => 0) 0), ((fun _ _ => 0) 1), ((fun _ _ => 0) 2), ((fun _ _ => 0) 3), ((fun _ _ => 0) 4), ((fun _ _ => 0) 5), ((fun _ _ => 0) 0), ((fun _ _ => 0) 1), ((fun _ _ => 0) 2), ((fun _ _ => 0) 3), ((fun _ _ => 0) 4), ((fun _ _ => 0) 5), ((fun _ _ => 0) 0), ((fun _ _ => 0) 1), ((fun _ _ => 0) 2), ((fun _ _ => 0) 3), ((fun _ _ => 0) 4), ((fun _ _ => 0) 5), ((fun _ _ => 0) 6), ((fun _ _ => 0) 7), ((fun _ _ => 0) 8), ((fun _ _ => 0) 9), ((fun _ _ => 0) 10))) :
    ∀ d e, e + d = cl → ∀ n, d < n → wX_init_287 post (nI srv) (nI cap) (nI slt) (nI cl) (nI 1) (-1) n (nI e) (fun ix_ => nI ((cs_c0 e) ix_)) (fun ix_ => nI ((cs_r0 e) ix_)) (fun ix_ => nI ((fun _ => 0) ix_)) (fun ix_ => nI ((fun _ => 0) ix_)) (fun _ => 0) ((fun _ _ => 0) 0) ((fun _ _ => 0) 1) ((fun _ _ => 0) 2) ((fun _ _ => 0) 3) ((fun _ _ => 0) 4) ((fun _ _ => 0) 5) ((fun _ _ => 0) 0) ((fun _ _ => 0) 1) ((fun _ _ => 0) 2) ((fun _ _ => 0) 3) ((fun _ _ => 0) 4) ((fun _ _ => 0) 5) ((fun _ _ => 0) 0) ((fun _ _ => 0) 1) ((fun _ _ => 0) 2) ((fun _ _ => 0) 3) ((fun _ _ => 0) 4) ((fun _ _ => 0) 5) ((fun _ _ => 0) 6) ((fun _ _ => 0) 7) ((fun _ _ => 0) 8) ((fun _ _ => 0) 9) ((fun _ _ => 0) 10) := by
  intro d
  induction d with
  | zero =>
    intro e he n hn
    obtain ⟨n', rfl⟩ := cs_n1 hn
    obtain rfl : e = cl := by omega
    exact br_t (nI_le (by omega) (by omega)) h
  | succ d ih =>
    intro e he n hn
    obtain ⟨n', rfl⟩ := cs_n1 hn
    have v : vp_in (nI e) 5 := vp_in_nI (by omega) (by omega)
    refine br_f (nI_ge (by omega) (by omega)) ?_
    rw [nI_clamp (n := e) (by omega)]
    exact ⟨v, nm_r (cs_uu.trans (by rw [cs_c0s])) ⟨v, nm_r (e' := fun i => nI (cs_r0 (e + 1) i)) ((cs_uu (v := 1)).trans (by rw [cs_r0s])) (nm_r (nI_1 e) (ih (e + 1) (by omega) n' (by omega)))⟩⟩
theorem cs_y0 {post : SY → Prop} (h5 : cl ≤ 5) (h : post (nI srv, nI cap, nI slt, nI 1, nI cl, (fun ix_ => nI ((cs_c0 cl) ix_)), (fun ix_ => nI ((cs_r0 cl) ix_)), (fun ix_ => nI ((fun _ => 0) ix_)), (fun ix_ => nI ((fun _ => 0) ix_)), (cs_fl 5 (fun _ _ => 0)), (cs_fl 6 (fun _ _ => 0)), (cs_fl 11 (fun _ _ => 0)))) :
    ∀ d e, e + d = cl → ∀ n, d < n → wY_init_120 post (nI cl) (nI srv) (nI cap) (nI slt) (nI 1) (nI cl) n (nI e) (fun ix_ => nI ((cs_c0 e) ix_)) (fun ix_ => nI ((cs_r0 e) ix_)) (fun ix_ => nI ((fun _ => 0) ix_)) (fun ix_ => nI ((fun _ => 0) ix_)) (cs_fl 5 (fun _ _ => 0)) (cs_fl 6 (fun _ _ => 0)) (cs_fl 11 (fun _ _ => 0)) := by
  intro d
  induction d with
  | zero =>
    intro e he n hn
    obtain ⟨n', rfl⟩ := cs_n1 hn
    obtain rfl : e = cl := by omega
    exact br_t (nI_le (by omega) (by omega)) h
  | succ d ih =>
    intro e he n hn
    obtain ⟨n', rfl⟩ := cs_n1 hn
    have v : vp_in (nI e) 5 := vp_in_nI (by omega) (by omega)
    refine br_f (nI_ge (by omega) (by omega)) ?_
    rw [nI_clamp (n := e) (by omega)]
    exact ⟨v, nm_r (cs_uu.trans (by rw [cs_c0s])) ⟨v, nm_r (e' := fun i => nI (cs_r0 (e + 1) i)) ((cs_uu (v := 1)).trans (by rw [cs_r0s])) (nm_r (nI_1 e) (ih (e + 1) (by omega) n' (by omega)))⟩⟩
theorem cs_I0 (b1 : 2 ≤ srv) (b2 : srv ≤ 5) (b3 : 4 ≤ cap) (b4 : cap ≤ 48) (b5 : 4 ≤ slt) (b6 : slt ≤ 16) (b7 : 1 ≤ cl) (b8 : cl ≤ srv) :
    cs_I srv cap slt cl 1 (-1) (cs_c0 cl) (cs_r0 cl) (fun _ => 0) (fun _ => 0) (fun _ => 0) (fun _ _ => 0) (fun _ _ => 0) (fun _ _ => 0) (fun _ _ => 0) 0 (fun _ => 0) (fun _ => 0) := by
  have hc1 : ∀ i, i < cl → cs_c0 cl i = i := fun i hi => if_pos hi
  have hr1 : ∀ i, i < cl → cs_r0 cl i = 1 := fun i hi => if_pos hi
  have hr0 : ∀ i, ¬ i < cl → cs_r0 cl i = 0 := fun i hi => if_neg hi
  refine ⟨⟨⟨b1, b2, b3, b4, b5, b6, b7, b8, by omega⟩, fun i => ?_, fun s => ?_, fun _ => Nat.zero_le _, fun _ => Nat.zero_le _, fun _ _ => ⟨rfl, rfl⟩, fun i j hi hj h => ?_, fun i hi => ?_, fun s hs hr => ?_, Or.inl ⟨rfl, fun s hs => ?_⟩⟩,
    ⟨fun _ => ⟨0, by omega, rfl⟩, fun _ => ⟨0, by omega, rfl⟩, fun s y _ _ => rfl, fun s p _ hp => absurd hp (Nat.not_lt_zero _)⟩, fun _ => ⟨0, by omega, rfl⟩,
    ⟨fun p q hp => absurd hp (Nat.not_lt_zero _), fun s _ _ => ⟨Nat.le_refl _, fun p hp => absurd hp (Nat.not_lt_zero _)⟩, fun _ _ _ _ _ _ => Nat.le_refl _, fun _ _ _ _ _ _ => Nat.le_refl _, fun _ => rfl⟩, fun i hi => ⟨rfl, fun _ _ _ => rfl, fun h => absurd rfl h⟩⟩
  · by_cases h : i < cl
    · rw [hc1 i h]; omega
    · rw [show cs_c0 cl i = 0 from if_neg h]; omega
  · by_cases h : s < cl
    · rw [hr1 s h]; omega
    · rw [hr0 s h]; omega
  · rw [hc1 i hi, hc1 j hj] at h; exact h
  · rw [hc1 i hi, hr1 i hi]; exact Or.inl rfl
  · by_cases h : s < cl
    · exact ⟨s, h, hc1 s h⟩
    · rw [hr0 s h] at hr; omega
  · by_cases h : s < cl
    · rw [hr1 s h]; omega
    · rw [hr0 s h]; omega
theorem cs_xcm {post : Int32 → Prop} {u : SX} {x : Int32} {lo hi n : Nat} (hcl : ∀ post : Int32 → Prop, post (nI n) → ((nI lo ≤ x → (((x ≤ nI hi → (post x)) ∧ (¬ x ≤ nI hi → (post (nI hi)))))) ∧ (¬ nI lo ≤ x → (post (nI lo))))) (h : post (nI n)) : wpX_clamp post u x (nI lo) (nI hi) := hcl post h
theorem cs_ycm {post : Int32 → Prop} {u : SY} {x : Int32} {lo hi n : Nat} (hcl : ∀ post : Int32 → Prop, post (nI n) → ((nI lo ≤ x → (((x ≤ nI hi → (post x)) ∧ (¬ x ≤ nI hi → (post (nI hi)))))) ∧ (¬ nI lo ≤ x → (post (nI lo))))) (h : post (nI n)) : wpY_clamp post u x (nI lo) (nI hi) := hcl post h
theorem cs_init (k0 k1 k2 k3 : Int32) : ∃ u v, cs_Re u v ∧ (∀ post : SX → Prop, post u → wpX_init post k0 k1 k2 k3) ∧ (∀ post : SY → Prop, post v → wpY_init post k0 k1 k2 k3) := by
  obtain ⟨srv, b1, b2, c1⟩ := cs_clmp (lo := 2) (hi := 5) (by omega) (by omega) k0
  obtain ⟨cap, b3, b4, c2⟩ := cs_clmp (lo := 4) (hi := 48) (by omega) (by omega) k2
  obtain ⟨slt, b5, b6, c3⟩ := cs_clmp (lo := 4) (hi := 16) (by omega) (by omega) k3
  obtain ⟨cl, b7, b8, c4⟩ := cs_clmp (lo := 1) (hi := srv) (by omega) (by omega) k1
  refine ⟨_, _, cs_in (cs_I0 b1 b2 b3 b4 b5 b6 b7 b8), fun post h => ?_, fun post h => ?_⟩
  · have h9 := cs_x0 (by omega) h cl 0 (by omega) (cl + 1) (by omega)
    rw [cs_c00, cs_r00] at h9
    unfold wpX_init
    refine cs_xcm (lo := 2) (hi := 5) c1 ?_
    refine cs_xcm (lo := 4) (hi := 48) c2 ?_
    refine cs_xcm (lo := 4) (hi := 16) c3 ?_
    refine cs_xcm (lo := 1) (hi := srv) c4 ?_
    exact ⟨cl + 1, h9⟩
  · have h9 := cs_y0 (by omega) h cl 0 (by omega) (cl + 1) (by omega)
    rw [cs_c00, cs_r00] at h9
    unfold wpY_init
    refine cs_ycm (lo := 2) (hi := 5) c1 ?_
    refine cs_ycm (lo := 4) (hi := 48) c2 ?_
    refine cs_ycm (lo := 4) (hi := 16) c3 ?_
    refine cs_ycm (lo := 1) (hi := srv) c4 ?_
    exact ⟨cl + 1, h9⟩
end cs_ini
end
section
theorem i_vc0 (k0 : Int32) (k1 : Int32) (k2 : Int32) (k3 : Int32) : wpX_init (fun u => wpY_init (fun v => i_Rel 4 u v) k0 k1 k2 k3) k0 k1 k2 k3 := by
  obtain ⟨u, v, R, hx, hy⟩ := cs_init k0 k1 k2 k3
  exact hx _ (hy _ R)
theorem i_vc_write {k : Nat} {u : SX} {v : SY} (I : i_Rel k u v) (hk : k + 5 ≤ 2564) (v1 : Int32) (v2 : Int32) (v3 : Int32) (v4 : Int32) : wpX_write (fun r u' => wpY_write (fun r' v' => r' = r ∧ i_Rel (k + 5) u' v') v v1 v2 v3 v4) u v1 v2 v3 v4 :=
  cs_fin (WX := fun post => wpX_write post u v1 v2 v3 v4) (WY := fun post => wpY_write post v v1 v2 v3 v4) (cs_el (P := fun u v => cs_O (fun post => wpX_write post u v1 v2 v3 v4) (fun post => wpY_write post v v1 v2 v3 v4)) (fun srv cap slt cl cfg jn c ro l k va E C G m mu Mc Mn hI => cs_write hI v1 v2 v3 v4) I)
theorem i_vc_read {k : Nat} {u : SX} {v : SY} (I : i_Rel k u v) (hk : k + 5 ≤ 2564) (v1 : Int32) (v2 : Int32) : wpX_read (fun r u' => wpY_read (fun r' v' => r' = r ∧ i_Rel (k + 5) u' v') v v1 v2) u v1 v2 :=
  cs_fin (WX := fun post => wpX_read post u v1 v2) (WY := fun post => wpY_read post v v1 v2) (cs_el (P := fun u v => cs_O (fun post => wpX_read post u v1 v2) (fun post => wpY_read post v v1 v2)) (fun srv cap slt cl cfg jn c ro l k va E C G m mu Mc Mn hI => cs_read hI v1 v2) I)
theorem i_vc_retry {k : Nat} {u : SX} {v : SY} (I : i_Rel k u v) (hk : k + 5 ≤ 2564) (v1 : Int32) : wpX_retry (fun r u' => wpY_retry (fun r' v' => r' = r ∧ i_Rel (k + 5) u' v') v v1) u v1 :=
  cs_fin (WX := fun post => wpX_retry post u v1) (WY := fun post => wpY_retry post v v1) (cs_el (P := fun u v => cs_O (fun post => wpX_retry post u v1) (fun post => wpY_retry post v v1)) (fun srv cap slt cl cfg jn c ro l k va E C G m mu Mc Mn hI => cs_retry hI v1) I)
theorem i_vc_deliver {k : Nat} {u : SX} {v : SY} (I : i_Rel k u v) (hk : k + 5 ≤ 2564) (v1 : Int32) : wpX_deliver (fun r u' => wpY_deliver (fun r' v' => r' = r ∧ i_Rel (k + 5) u' v') v v1) u v1 :=
  cs_fin (WX := fun post => wpX_deliver post u v1) (WY := fun post => wpY_deliver post v v1) (cs_el (P := fun u v => cs_O (fun post => wpX_deliver post u v1) (fun post => wpY_deliver post v v1)) (fun srv cap slt cl cfg jn c ro l k va E C G m mu Mc Mn hI => cs_deliver hI v1) I)
theorem i_vc_lose {k : Nat} {u : SX} {v : SY} (I : i_Rel k u v) (hk : k + 5 ≤ 2564) (v1 : Int32) : wpX_lose (fun r u' => wpY_lose (fun r' v' => r' = r ∧ i_Rel (k + 5) u' v') v v1) u v1 :=
  cs_fin (WX := fun post => wpX_lose post u v1) (WY := fun post => wpY_lose post v v1) (cs_el (P := fun u v => cs_O (fun post => wpX_lose post u v1) (fun post => wpY_lose post v v1)) (fun srv cap slt cl cfg jn c ro l k va E C G m mu Mc Mn hI => cs_lose hI v1) I)
theorem i_vc_duplicate {k : Nat} {u : SX} {v : SY} (I : i_Rel k u v) (hk : k + 5 ≤ 2564) (v1 : Int32) : wpX_duplicate (fun r u' => wpY_duplicate (fun r' v' => r' = r ∧ i_Rel (k + 5) u' v') v v1) u v1 :=
  cs_fin (WX := fun post => wpX_duplicate post u v1) (WY := fun post => wpY_duplicate post v v1) (cs_el (P := fun u v => cs_O (fun post => wpX_duplicate post u v1) (fun post => wpY_duplicate post v v1)) (fun srv cap slt cl cfg jn c ro l k va E C G m mu Mc Mn hI => cs_duplicate hI v1) I)
theorem i_vc_pump {k : Nat} {u : SX} {v : SY} (I : i_Rel k u v) (hk : k + 5 ≤ 2564) (v1 : Int32) : wpX_pump (fun r u' => wpY_pump (fun r' v' => r' = r ∧ i_Rel (k + 5) u' v') v v1) u v1 :=
  cs_fin (WX := fun post => wpX_pump post u v1) (WY := fun post => wpY_pump post v v1) (cs_el (P := fun u v => cs_O (fun post => wpX_pump post u v1) (fun post => wpY_pump post v v1)) (fun srv cap slt cl cfg jn c ro l k va E C G m mu Mc Mn hI => cs_pump hI v1) I)
theorem i_vc_resend {k : Nat} {u : SX} {v : SY} (I : i_Rel k u v) (hk : k + 5 ≤ 2564) (v1 : Int32) : wpX_resend (fun r u' => wpY_resend (fun r' v' => r' = r ∧ i_Rel (k + 5) u' v') v v1) u v1 :=
  cs_fin (WX := fun post => wpX_resend post u v1) (WY := fun post => wpY_resend post v v1) (cs_el (P := fun u v => cs_O (fun post => wpX_resend post u v1) (fun post => wpY_resend post v v1)) (fun srv cap slt cl cfg jn c ro l k va E C G m mu Mc Mn hI => cs_resend hI v1) I)
theorem i_vc_crash {k : Nat} {u : SX} {v : SY} (I : i_Rel k u v) (hk : k + 5 ≤ 2564) (v1 : Int32) : wpX_crash (fun r u' => wpY_crash (fun r' v' => r' = r ∧ i_Rel (k + 5) u' v') v v1) u v1 :=
  cs_fin (WX := fun post => wpX_crash post u v1) (WY := fun post => wpY_crash post v v1) (cs_el (P := fun u v => cs_O (fun post => wpX_crash post u v1) (fun post => wpY_crash post v v1)) (fun srv cap slt cl cfg jn c ro l k va E C G m mu Mc Mn hI => cs_crash hI v1) I)
theorem i_vc_remove {k : Nat} {u : SX} {v : SY} (I : i_Rel k u v) (hk : k + 5 ≤ 2564) (v1 : Int32) : wpX_remove (fun r u' => wpY_remove (fun r' v' => r' = r ∧ i_Rel (k + 5) u' v') v v1) u v1 :=
  cs_fin (WX := fun post => wpX_remove post u v1) (WY := fun post => wpY_remove post v v1) (cs_el (P := fun u v => cs_O (fun post => wpX_remove post u v1) (fun post => wpY_remove post v v1)) (fun srv cap slt cl cfg jn c ro l k va E C G m mu Mc Mn hI => cs_remove hI v1) I)
theorem i_vc_join {k : Nat} {u : SX} {v : SY} (I : i_Rel k u v) (hk : k + 5 ≤ 2564) (v1 : Int32) : wpX_join (fun r u' => wpY_join (fun r' v' => r' = r ∧ i_Rel (k + 5) u' v') v v1) u v1 :=
  cs_fin (WX := fun post => wpX_join post u v1) (WY := fun post => wpY_join post v v1) (cs_el (P := fun u v => cs_O (fun post => wpX_join post u v1) (fun post => wpY_join post v v1)) (fun srv cap slt cl cfg jn c ro l k va E C G m mu Mc Mn hI => cs_join hI v1) I)
theorem i_vc_transfer {k : Nat} {u : SX} {v : SY} (I : i_Rel k u v) (hk : k + 5 ≤ 2564) (v1 : Int32) : wpX_transfer (fun r u' => wpY_transfer (fun r' v' => r' = r ∧ i_Rel (k + 5) u' v') v v1) u v1 :=
  cs_fin (WX := fun post => wpX_transfer post u v1) (WY := fun post => wpY_transfer post v v1) (cs_el (P := fun u v => cs_O (fun post => wpX_transfer post u v1) (fun post => wpY_transfer post v v1)) (fun srv cap slt cl cfg jn c ro l k va E C G m mu Mc Mn hI => cs_transfer hI v1) I)
theorem i_vc_admit {k : Nat} {u : SX} {v : SY} (I : i_Rel k u v) (hk : k + 5 ≤ 2564) : wpX_admit (fun r u' => wpY_admit (fun r' v' => r' = r ∧ i_Rel (k + 5) u' v') v) u :=
  cs_fin (WX := fun post => wpX_admit post u) (WY := fun post => wpY_admit post v) (cs_el (P := fun u v => cs_O (fun post => wpX_admit post u) (fun post => wpY_admit post v)) (fun srv cap slt cl cfg jn c ro l k va E C G m mu Mc Mn hI => cs_admit hI) I)
theorem i_vc_configuration {k : Nat} {u : SX} {v : SY} (I : i_Rel k u v) (hk : k + 5 ≤ 2564) : wpX_configuration (fun r => wpY_configuration (fun r' => r' = r ∧ i_Rel (k + 5) u v) v) u :=
  cs_fin1 (WX := fun post => wpX_configuration post u) (WY := fun post => wpY_configuration post v) I (cs_el (P := fun u v => cs_O1 (fun post => wpX_configuration post u) (fun post => wpY_configuration post v)) (fun srv cap slt cl cfg jn c ro l k va E C G m mu Mc Mn hI => cs_g_cfg) I)
theorem i_vc_member {k : Nat} {u : SX} {v : SY} (I : i_Rel k u v) (hk : k + 5 ≤ 2564) (v1 : Int32) : wpX_member (fun r => wpY_member (fun r' => r' = r ∧ i_Rel (k + 5) u v) v v1) u v1 :=
  cs_fin1 (WX := fun post => wpX_member post u v1) (WY := fun post => wpY_member post v v1) I (cs_el (P := fun u v => cs_O1 (fun post => wpX_member post u v1) (fun post => wpY_member post v v1)) (fun srv cap slt cl cfg jn c ro l k va E C G m mu Mc Mn hI => cs_g_mem hI v1) I)
theorem i_vc_role {k : Nat} {u : SX} {v : SY} (I : i_Rel k u v) (hk : k + 5 ≤ 2564) (v1 : Int32) : wpX_role (fun r => wpY_role (fun r' => r' = r ∧ i_Rel (k + 5) u v) v v1) u v1 :=
  cs_fin1 (WX := fun post => wpX_role post u v1) (WY := fun post => wpY_role post v v1) I (cs_el (P := fun u v => cs_O1 (fun post => wpX_role post u v1) (fun post => wpY_role post v v1)) (fun srv cap slt cl cfg jn c ro l k va E C G m mu Mc Mn hI => cs_g_role hI v1) I)
theorem i_vc_length {k : Nat} {u : SX} {v : SY} (I : i_Rel k u v) (hk : k + 5 ≤ 2564) (v1 : Int32) : wpX_length (fun r => wpY_length (fun r' => r' = r ∧ i_Rel (k + 5) u v) v v1) u v1 :=
  cs_fin1 (WX := fun post => wpX_length post u v1) (WY := fun post => wpY_length post v v1) I (cs_el (P := fun u v => cs_O1 (fun post => wpX_length post u v1) (fun post => wpY_length post v v1)) (fun srv cap slt cl cfg jn c ro l k va E C G m mu Mc Mn hI => cs_g_len hI v1) I)
theorem i_vc_acked {k : Nat} {u : SX} {v : SY} (I : i_Rel k u v) (hk : k + 5 ≤ 2564) (v1 : Int32) : wpX_acked (fun r => wpY_acked (fun r' => r' = r ∧ i_Rel (k + 5) u v) v v1) u v1 :=
  cs_fin1 (WX := fun post => wpX_acked post u v1) (WY := fun post => wpY_acked post v v1) I (cs_el (P := fun u v => cs_O1 (fun post => wpX_acked post u v1) (fun post => wpY_acked post v v1)) (fun srv cap slt cl cfg jn c ro l k va E C G m mu Mc Mn hI => cs_g_ack hI v1) I)
theorem i_vc_value {k : Nat} {u : SX} {v : SY} (I : i_Rel k u v) (hk : k + 5 ≤ 2564) (v1 : Int32) (v2 : Int32) : wpX_value (fun r => wpY_value (fun r' => r' = r ∧ i_Rel (k + 5) u v) v v1 v2) u v1 v2 :=
  cs_fin1 (WX := fun post => wpX_value post u v1 v2) (WY := fun post => wpY_value post v v1 v2) I (cs_el (P := fun u v => cs_O1 (fun post => wpX_value post u v1 v2) (fun post => wpY_value post v v1 v2)) (fun srv cap slt cl cfg jn c ro l k va E C G m mu Mc Mn hI => cs_g_val hI v1 v2) I)
theorem i_vc_entry {k : Nat} {u : SX} {v : SY} (I : i_Rel k u v) (hk : k + 5 ≤ 2564) (v1 : Int32) (v2 : Int32) (v3 : Int32) : wpX_entry (fun r => wpY_entry (fun r' => r' = r ∧ i_Rel (k + 5) u v) v v1 v2 v3) u v1 v2 v3 :=
  cs_fin1 (WX := fun post => wpX_entry post u v1 v2 v3) (WY := fun post => wpY_entry post v v1 v2 v3) I (cs_el (P := fun u v => cs_O1 (fun post => wpX_entry post u v1 v2 v3) (fun post => wpY_entry post v v1 v2 v3)) (fun srv cap slt cl cfg jn c ro l k va E C G m mu Mc Mn hI => cs_g_ent hI v1 v2 v3) I)
theorem i_vc_client {k : Nat} {u : SX} {v : SY} (I : i_Rel k u v) (hk : k + 5 ≤ 2564) (v1 : Int32) (v2 : Int32) : wpX_client (fun r => wpY_client (fun r' => r' = r ∧ i_Rel (k + 5) u v) v v1 v2) u v1 v2 :=
  cs_fin1 (WX := fun post => wpX_client post u v1 v2) (WY := fun post => wpY_client post v v1 v2) I (cs_el (P := fun u v => cs_O1 (fun post => wpX_client post u v1 v2) (fun post => wpY_client post v v1 v2)) (fun srv cap slt cl cfg jn c ro l k va E C G m mu Mc Mn hI => cs_g_cli v1 v2) I)
theorem i_vc_wire {k : Nat} {u : SX} {v : SY} (I : i_Rel k u v) (hk : k + 5 ≤ 2564) (v1 : Int32) (v2 : Int32) : wpX_wire (fun r => wpY_wire (fun r' => r' = r ∧ i_Rel (k + 5) u v) v v1 v2) u v1 v2 :=
  cs_fin1 (WX := fun post => wpX_wire post u v1 v2) (WY := fun post => wpY_wire post v v1 v2) I (cs_el (P := fun u v => cs_O1 (fun post => wpX_wire post u v1 v2) (fun post => wpY_wire post v v1 v2)) (fun srv cap slt cl cfg jn c ro l k va E C G m mu Mc Mn hI => cs_g_wir hI v1 v2) I)
end
